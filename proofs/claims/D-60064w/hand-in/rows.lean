section
-- ===== PART A: goes FIRST, ahead of the names: the tables' words, and 'selects' of the private methods out of them =====
/-- a private method of a class that the tables say can be made, by its rows of tables_1 -/
def lw_okq (q : MethodName × Nat) : Prop := (q.1.cls ≠ "java/lang/invoke/MethodHandle" ∧ q.1.cls ≠ "java/lang/invoke/VarHandle") ∧ Cond.instantiable q.1.cls q.2 ∈ tables_1 ∧ Cond.privateMethod q.1 ∈ tables_1 ∧ Cond.instanceMethod q.1 ∈ tables_1
set_option maxRecDepth 100000
theorem lw_p0 : lw_okq (⟨"HeapGame", "reckonWorths", "()V"⟩, 6) := ⟨⟨by decide +kernel, by decide +kernel⟩, List.mem_of_getElem? (i := 5) rfl, List.mem_of_getElem? (i := 13) rfl, List.mem_of_getElem? (i := 14) rfl⟩
theorem lw_p1 : lw_okq (⟨"HeapGame", "allowed", "(I)Z"⟩, 6) := ⟨⟨by decide +kernel, by decide +kernel⟩, List.mem_of_getElem? (i := 5) rfl, List.mem_of_getElem? (i := 17) rfl, List.mem_of_getElem? (i := 18) rfl⟩
theorem lw_p2 : lw_okq (⟨"HeapGame", "wins", "(III)Z"⟩, 6) := ⟨⟨by decide +kernel, by decide +kernel⟩, List.mem_of_getElem? (i := 5) rfl, List.mem_of_getElem? (i := 62) rfl, List.mem_of_getElem? (i := 63) rfl⟩
theorem lw_p3 : lw_okq (⟨"HeapGame", "reckonTurned", "()V"⟩, 6) := ⟨⟨by decide +kernel, by decide +kernel⟩, List.mem_of_getElem? (i := 5) rfl, List.mem_of_getElem? (i := 66) rfl, List.mem_of_getElem? (i := 67) rfl⟩
theorem lw_p4 : lw_okq (⟨"HeapGame", "leads", "(III)I"⟩, 6) := ⟨⟨by decide +kernel, by decide +kernel⟩, List.mem_of_getElem? (i := 5) rfl, List.mem_of_getElem? (i := 70) rfl, List.mem_of_getElem? (i := 71) rfl⟩
theorem lw_p5 : lw_okq (⟨"HeapGame", "good", "(II)Z"⟩, 6) := ⟨⟨by decide +kernel, by decide +kernel⟩, List.mem_of_getElem? (i := 5) rfl, List.mem_of_getElem? (i := 81) rfl, List.mem_of_getElem? (i := 82) rfl⟩
theorem lw_p6 : lw_okq (⟨"HeapGameModel", "reckon", "()V"⟩, 6) := ⟨⟨by decide +kernel, by decide +kernel⟩, List.mem_of_getElem? (i := 99) rfl, List.mem_of_getElem? (i := 141) rfl, List.mem_of_getElem? (i := 142) rfl⟩
def lw_privs_1 : List (MethodName × Nat) := [(⟨"HeapGame", "reckonWorths", "()V"⟩, 6), (⟨"HeapGame", "allowed", "(I)Z"⟩, 6), (⟨"HeapGame", "wins", "(III)Z"⟩, 6), (⟨"HeapGame", "reckonTurned", "()V"⟩, 6), (⟨"HeapGame", "leads", "(III)I"⟩, 6), (⟨"HeapGame", "good", "(II)Z"⟩, 6), (⟨"HeapGameModel", "reckon", "()V"⟩, 6)]
theorem lw_r1 : ∀ q ∈ lw_privs_1, lw_okq q := List.forall_mem_cons.mpr ⟨lw_p0, List.forall_mem_cons.mpr ⟨lw_p1, List.forall_mem_cons.mpr ⟨lw_p2, List.forall_mem_cons.mpr ⟨lw_p3, List.forall_mem_cons.mpr ⟨lw_p4, List.forall_mem_cons.mpr ⟨lw_p5, List.forall_mem_cons.mpr ⟨lw_p6, fun _ h => absurd h List.not_mem_nil⟩⟩⟩⟩⟩⟩⟩
def lw_privs : List (MethodName × Nat) := lw_privs_1
def lw_tbl : List Cond := k2_sels lw_privs ++ tables_1
theorem lw_privs_ok : ∀ q ∈ lw_privs, lw_okq q := lw_r1
-- ===== ONE list of words for every method: the tables' words that hold all through a run =====
def lw_all : List Cond := lw_tbl.filter goodWord
/-- a word of the tables by its place: claim/WORDS.tsv -/
theorem lw_w {w : Cond} (i : Nat) (h : lw_tbl[i]? = some w) (g : goodWord w = true) : w ∈ lw_all := List.mem_filter.mpr ⟨List.mem_of_getElem? h, g⟩
theorem lw_all_tbl {w : Cond} (h : w ∈ lw_all) : w ∈ lw_tbl := (List.mem_filter.mp h).1
theorem lw_self : GoodIn lw_all lw_all := fun w h => ⟨h, good_of_word (List.mem_filter.mp h).2⟩
/-- a class's field words, by their places -/
theorem lw_in (ws : List Cond) (ps : List Nat) (hp : ws = ps.filterMap (fun i => lw_tbl[i]?)) (hg : ws.all goodWord = true) : ∀ w ∈ ws, w ∈ lw_all := by
  intro w h
  have h1 := List.all_eq_true.mp hg w h
  rw [hp] at h
  obtain ⟨i, -, hi⟩ := List.mem_filterMap.mp h
  exact lw_w i hi h1
/-- the words of a contract for the method y with code b, L locals, answer r -/
abbrev ws_ (y : MethodName) (b : ByteArray) (L : Nat) (r : Option FieldType) : List Cond := Cond.code y b L r :: lw_all
theorem lw_meth {y : MethodName} {b : ByteArray} {L : Nat} {r : Option FieldType} (h : Cond.code y b L r ∈ lw_all) : GoodIn lw_all (ws_ y b L r) := by
  intro w hw
  rcases List.mem_cons.mp hw with e | e
  · rw [e]
    exact lw_self _ h
  · exact lw_self _ e
theorem lw_app {a c : List Cond} (ha : ∀ w ∈ a, w ∈ lw_all) (hc : GoodIn lw_all c) : GoodIn lw_all (a ++ c) := by
  intro w hw
  rcases List.mem_append.mp hw with e | e
  · exact lw_self w (ha w e)
  · exact hc w e
/-- what a call through an object asks: cwV n hts (lw_V ..) -/
theorem lw_V {own : String} {idx : Nat} {C : String} {y : MethodName} {b : ByteArray} {L : Nat} {r : Option FieldType} (h1 : Cond.methodLink own idx y ∈ lw_all) (h2 : Cond.instanceMethod y ∈ lw_all) (h3 : Cond.selects C y y ∈ lw_all) (h4 : Cond.initialized C ∈ lw_all) (h5 : Cond.code y b L r ∈ lw_all) : GoodIn lw_all (wsV own idx C y (ws_ y b L r)) := by
  refine lw_app ?_ (lw_meth h5)
  intro w hw
  simp only [List.mem_cons, List.not_mem_nil, or_false] at hw
  rcases hw with e | e | e | e
  · rw [e]; exact h1
  · rw [e]; exact h2
  · rw [e]; exact h3
  · rw [e]; exact h4
/-- what a static call asks: va_cwS n hts (lw_S ..) -/
theorem lw_S {own : String} {idx : Nat} {y : MethodName} {b : ByteArray} {L : Nat} {r : Option FieldType} (h1 : Cond.methodLink own idx y ∈ lw_all) (h2 : Cond.static y ∈ lw_all) (h3 : Cond.initialized y.cls ∈ lw_all) (h4 : Cond.code y b L r ∈ lw_all) : GoodIn lw_all (va_wsS own idx y (ws_ y b L r)) := by
  refine lw_app ?_ (lw_meth h4)
  intro w hw
  simp only [List.mem_cons, List.not_mem_nil, or_false] at hw
  rcases hw with e | e | e
  · rw [e]; exact h1
  · rw [e]; exact h2
  · rw [e]; exact h3
/-- the words of a contract for a method WITH HANDLERS (hh: its table) -/
abbrev wsW_ (y : MethodName) (b : ByteArray) (L : Nat) (r : Option FieldType) (hh : List (Nat × Nat × Nat × Nat)) : List Cond := Cond.codeWith y b L r hh :: lw_all
theorem lw_methW {y : MethodName} {b : ByteArray} {L : Nat} {r : Option FieldType} {hh : List (Nat × Nat × Nat × Nat)} (h : Cond.codeWith y b L r hh ∈ lw_all) : GoodIn lw_all (wsW_ y b L r hh) := by
  intro w hw
  rcases List.mem_cons.mp hw with e | e
  · rw [e]
    exact lw_self _ h
  · exact lw_self _ e
/-- any list of words by their places (lw_in), good -/
theorem lw_good {ws : List Cond} (h : ∀ w ∈ ws, w ∈ lw_all) : GoodIn lw_all ws := fun w hw => lw_self w (h w hw)
/-- what a call of a method with handlers asks: vx_cwVW n hts (lw_VW ..), vx_cwSW n hts (lw_SW ..) -/
theorem lw_VW {own : String} {idx : Nat} {C : String} {y : MethodName} {b : ByteArray} {L : Nat} {r : Option FieldType} {hh : List (Nat × Nat × Nat × Nat)} (h1 : Cond.methodLink own idx y ∈ lw_all) (h2 : Cond.instanceMethod y ∈ lw_all) (h3 : Cond.selects C y y ∈ lw_all) (h4 : Cond.initialized C ∈ lw_all) (h5 : Cond.codeWith y b L r hh ∈ lw_all) : GoodIn lw_all (wsV own idx C y (wsW_ y b L r hh)) := by
  refine lw_app ?_ (lw_methW h5)
  intro w hw
  simp only [List.mem_cons, List.not_mem_nil, or_false] at hw
  rcases hw with e | e | e | e
  · rw [e]; exact h1
  · rw [e]; exact h2
  · rw [e]; exact h3
  · rw [e]; exact h4
theorem lw_SW {own : String} {idx : Nat} {y : MethodName} {b : ByteArray} {L : Nat} {r : Option FieldType} {hh : List (Nat × Nat × Nat × Nat)} (h1 : Cond.methodLink own idx y ∈ lw_all) (h2 : Cond.static y ∈ lw_all) (h3 : Cond.initialized y.cls ∈ lw_all) (h4 : Cond.codeWith y b L r hh ∈ lw_all) : GoodIn lw_all (va_wsS own idx y (wsW_ y b L r hh)) := by
  refine lw_app ?_ (lw_methW h4)
  intro w hw
  simp only [List.mem_cons, List.not_mem_nil, or_false] at hw
  rcases hw with e | e | e
  · rw [e]; exact h1
  · rw [e]; exact h2
  · rw [e]; exact h3
/-- a word by its place in its run of the tables -/
theorem lw_at {r : List Cond} (hr : ∀ w ∈ r, w ∈ lw_tbl) {w : Cond} (i : Nat) (h : r[i]? = some w) : w ∈ lw_tbl := hr w (List.mem_of_getElem? h)
theorem lw_g {w : Cond} (h : w ∈ lw_tbl) (g : goodWord w = true) : w ∈ lw_all := List.mem_filter.mpr ⟨h, g⟩
theorem lw_ms : ∀ w ∈ k2_sels lw_privs, w ∈ lw_tbl := fun w h => show w ∈ k2_sels lw_privs ++ tables_1 from List.mem_append_left _ h
theorem lw_m0 : ∀ w ∈ tables_1, w ∈ lw_tbl := fun w h => show w ∈ k2_sels lw_privs ++ tables_1 from List.mem_append_right (k2_sels lw_privs) h
theorem qs0 : (Cond.selects "HeapGame" ⟨"HeapGame", "reckonWorths", "()V"⟩ ⟨"HeapGame", "reckonWorths", "()V"⟩) ∈ lw_all := lw_g (lw_at lw_ms 0 rfl) rfl
theorem qs1 : (Cond.selects "HeapGame" ⟨"HeapGame", "allowed", "(I)Z"⟩ ⟨"HeapGame", "allowed", "(I)Z"⟩) ∈ lw_all := lw_g (lw_at lw_ms 1 rfl) rfl
theorem qs2 : (Cond.selects "HeapGame" ⟨"HeapGame", "wins", "(III)Z"⟩ ⟨"HeapGame", "wins", "(III)Z"⟩) ∈ lw_all := lw_g (lw_at lw_ms 2 rfl) rfl
theorem qs3 : (Cond.selects "HeapGame" ⟨"HeapGame", "reckonTurned", "()V"⟩ ⟨"HeapGame", "reckonTurned", "()V"⟩) ∈ lw_all := lw_g (lw_at lw_ms 3 rfl) rfl
theorem qs4 : (Cond.selects "HeapGame" ⟨"HeapGame", "leads", "(III)I"⟩ ⟨"HeapGame", "leads", "(III)I"⟩) ∈ lw_all := lw_g (lw_at lw_ms 4 rfl) rfl
theorem qs5 : (Cond.selects "HeapGame" ⟨"HeapGame", "good", "(II)Z"⟩ ⟨"HeapGame", "good", "(II)Z"⟩) ∈ lw_all := lw_g (lw_at lw_ms 5 rfl) rfl
theorem qs6 : (Cond.selects "HeapGameModel" ⟨"HeapGameModel", "reckon", "()V"⟩ ⟨"HeapGameModel", "reckon", "()V"⟩) ∈ lw_all := lw_g (lw_at lw_ms 6 rfl) rfl
end
section
/-! HeapGame -/
set_option maxRecDepth 100000
def RX0 : String := "HeapGame"
def TX0 : u_T := fun k => match k with
  | 0 => ("HeapGame", "rules", "I", false)
  | 1 => ("HeapGame", "turned", "Z", false)
  | 2 => ("HeapGame", "heap", "[I", true)
  | 3 => ("HeapGame", "worth", "[I", true)
  | 4 => ("HeapGame", "loses", "[B", true)
  | _ => ("HeapGame", "known", "Z", false)
def tyX0 : Nat → FieldType := fun k => match k with
  | 0 => .int
  | 1 => .boolean
  | 2 => .array .int
  | 3 => .array .int
  | 4 => .array .byte
  | _ => .boolean
abbrev wsX00 : List Cond := u_ws RX0 TX0 6
theorem nmX0 : ∀ a, a < 6 → ∀ b, b < 6 → a ≠ b → (TX0 a).2.1 ≠ (TX0 b).2.1 := by decide +kernel
theorem tyX0_ok : ∀ k, k < 6 → parseFieldDescriptor (TX0 k).2.2.1 = some (tyX0 k) := by decide +kernel
abbrev cX0_init : ByteArray := prog_1_method_1_code
def yX0_init : MethodName := ⟨RX0, "<init>", "()V"⟩
theorem dX0_init_0 : decode cX0_init 0 = .ok (.aload_n 0, 1) := by decide +kernel
theorem dX0_init_1 : decode cX0_init 1 = .ok (.invokespecial 3, 3) := by decide +kernel
theorem dX0_init_4 : decode cX0_init 4 = .ok (.aload_n 0, 1) := by decide +kernel
theorem dX0_init_5 : decode cX0_init 5 = .ok (.bipush 6, 2) := by decide +kernel
theorem dX0_init_7 : decode cX0_init 7 = .ok (.putfield 9, 3) := by decide +kernel
theorem dX0_init_10 : decode cX0_init 10 = .ok (.aload_n 0, 1) := by decide +kernel
theorem dX0_init_11 : decode cX0_init 11 = .ok (.iconst 3, 1) := by decide +kernel
theorem dX0_init_12 : decode cX0_init 12 = .ok (.newarray .int, 2) := by decide +kernel
theorem dX0_init_14 : decode cX0_init 14 = .ok (.putfield 13, 3) := by decide +kernel
theorem dX0_init_17 : decode cX0_init 17 = .ok (.aload_n 0, 1) := by decide +kernel
theorem dX0_init_18 : decode cX0_init 18 = .ok (.bipush 16, 2) := by decide +kernel
theorem dX0_init_20 : decode cX0_init 20 = .ok (.newarray .int, 2) := by decide +kernel
theorem dX0_init_22 : decode cX0_init 22 = .ok (.putfield 17, 3) := by decide +kernel
theorem dX0_init_25 : decode cX0_init 25 = .ok (.aload_n 0, 1) := by decide +kernel
theorem dX0_init_26 : decode cX0_init 26 = .ok (.sipush 4096, 3) := by decide +kernel
theorem dX0_init_29 : decode cX0_init 29 = .ok (.newarray .byte, 2) := by decide +kernel
theorem dX0_init_31 : decode cX0_init 31 = .ok (.putfield 20, 3) := by decide +kernel
theorem dX0_init_34 : decode cX0_init 34 = .ok (.aload_n 0, 1) := by decide +kernel
theorem dX0_init_35 : decode cX0_init 35 = .ok (.invokevirtual 24, 3) := by decide +kernel
theorem dX0_init_38 : decode cX0_init 38 = .ok (.return_, 1) := by decide +kernel
abbrev cX0_reckonWorths : ByteArray := prog_1_method_3_code
def yX0_reckonWorths : MethodName := ⟨RX0, "reckonWorths", "()V"⟩
theorem dX0_reckonWorths_0 : decode cX0_reckonWorths 0 = .ok (.iconst 0, 1) := by decide +kernel
theorem dX0_reckonWorths_1 : decode cX0_reckonWorths 1 = .ok (.istore_n 1, 1) := by decide +kernel
theorem dX0_reckonWorths_2 : decode cX0_reckonWorths 2 = .ok (.iload_n 1, 1) := by decide +kernel
theorem dX0_reckonWorths_3 : decode cX0_reckonWorths 3 = .ok (.bipush 16, 2) := by decide +kernel
theorem dX0_reckonWorths_5 : decode cX0_reckonWorths 5 = .ok (.if_icmp .ge 57, 3) := by decide +kernel
theorem dX0_reckonWorths_8 : decode cX0_reckonWorths 8 = .ok (.iconst 0, 1) := by decide +kernel
theorem dX0_reckonWorths_9 : decode cX0_reckonWorths 9 = .ok (.istore_n 2, 1) := by decide +kernel
theorem dX0_reckonWorths_10 : decode cX0_reckonWorths 10 = .ok (.iconst 1, 1) := by decide +kernel
theorem dX0_reckonWorths_11 : decode cX0_reckonWorths 11 = .ok (.istore_n 3, 1) := by decide +kernel
theorem dX0_reckonWorths_12 : decode cX0_reckonWorths 12 = .ok (.iload_n 3, 1) := by decide +kernel
theorem dX0_reckonWorths_13 : decode cX0_reckonWorths 13 = .ok (.iload_n 1, 1) := by decide +kernel
theorem dX0_reckonWorths_14 : decode cX0_reckonWorths 14 = .ok (.if_icmp .gt 30, 3) := by decide +kernel
theorem dX0_reckonWorths_17 : decode cX0_reckonWorths 17 = .ok (.aload_n 0, 1) := by decide +kernel
theorem dX0_reckonWorths_18 : decode cX0_reckonWorths 18 = .ok (.iload_n 3, 1) := by decide +kernel
theorem dX0_reckonWorths_19 : decode cX0_reckonWorths 19 = .ok (.invokevirtual 27, 3) := by decide +kernel
theorem dX0_reckonWorths_22 : decode cX0_reckonWorths 22 = .ok (.ifCond .eq 16, 3) := by decide +kernel
theorem dX0_reckonWorths_25 : decode cX0_reckonWorths 25 = .ok (.iload_n 2, 1) := by decide +kernel
theorem dX0_reckonWorths_26 : decode cX0_reckonWorths 26 = .ok (.iconst 1, 1) := by decide +kernel
theorem dX0_reckonWorths_27 : decode cX0_reckonWorths 27 = .ok (.aload_n 0, 1) := by decide +kernel
theorem dX0_reckonWorths_28 : decode cX0_reckonWorths 28 = .ok (.getfield 17, 3) := by decide +kernel
theorem dX0_reckonWorths_31 : decode cX0_reckonWorths 31 = .ok (.iload_n 1, 1) := by decide +kernel
theorem dX0_reckonWorths_32 : decode cX0_reckonWorths 32 = .ok (.iload_n 3, 1) := by decide +kernel
theorem dX0_reckonWorths_33 : decode cX0_reckonWorths 33 = .ok (.isub, 1) := by decide +kernel
theorem dX0_reckonWorths_34 : decode cX0_reckonWorths 34 = .ok (.iaload, 1) := by decide +kernel
theorem dX0_reckonWorths_35 : decode cX0_reckonWorths 35 = .ok (.ishl, 1) := by decide +kernel
theorem dX0_reckonWorths_36 : decode cX0_reckonWorths 36 = .ok (.ior, 1) := by decide +kernel
theorem dX0_reckonWorths_37 : decode cX0_reckonWorths 37 = .ok (.istore_n 2, 1) := by decide +kernel
theorem dX0_reckonWorths_38 : decode cX0_reckonWorths 38 = .ok (.iinc 3 1, 3) := by decide +kernel
theorem dX0_reckonWorths_41 : decode cX0_reckonWorths 41 = .ok (.goto (-29), 3) := by decide +kernel
theorem dX0_reckonWorths_44 : decode cX0_reckonWorths 44 = .ok (.aload_n 0, 1) := by decide +kernel
theorem dX0_reckonWorths_45 : decode cX0_reckonWorths 45 = .ok (.getfield 17, 3) := by decide +kernel
theorem dX0_reckonWorths_48 : decode cX0_reckonWorths 48 = .ok (.iload_n 1, 1) := by decide +kernel
theorem dX0_reckonWorths_49 : decode cX0_reckonWorths 49 = .ok (.iload_n 2, 1) := by decide +kernel
theorem dX0_reckonWorths_50 : decode cX0_reckonWorths 50 = .ok (.iconst (-1), 1) := by decide +kernel
theorem dX0_reckonWorths_51 : decode cX0_reckonWorths 51 = .ok (.ixor, 1) := by decide +kernel
theorem dX0_reckonWorths_52 : decode cX0_reckonWorths 52 = .ok (.invokestatic 31, 3) := by decide +kernel
theorem dX0_reckonWorths_55 : decode cX0_reckonWorths 55 = .ok (.iastore, 1) := by decide +kernel
theorem dX0_reckonWorths_56 : decode cX0_reckonWorths 56 = .ok (.iinc 1 1, 3) := by decide +kernel
theorem dX0_reckonWorths_59 : decode cX0_reckonWorths 59 = .ok (.goto (-57), 3) := by decide +kernel
theorem dX0_reckonWorths_62 : decode cX0_reckonWorths 62 = .ok (.return_, 1) := by decide +kernel
abbrev cX0_allowed : ByteArray := prog_1_method_2_code
def yX0_allowed : MethodName := ⟨RX0, "allowed", "(I)Z"⟩
theorem dX0_allowed_0 : decode cX0_allowed 0 = .ok (.aload_n 0, 1) := by decide +kernel
theorem dX0_allowed_1 : decode cX0_allowed 1 = .ok (.getfield 9, 3) := by decide +kernel
theorem dX0_allowed_4 : decode cX0_allowed 4 = .ok (.iload_n 1, 1) := by decide +kernel
theorem dX0_allowed_5 : decode cX0_allowed 5 = .ok (.ishr, 1) := by decide +kernel
theorem dX0_allowed_6 : decode cX0_allowed 6 = .ok (.iconst 1, 1) := by decide +kernel
theorem dX0_allowed_7 : decode cX0_allowed 7 = .ok (.iand, 1) := by decide +kernel
theorem dX0_allowed_8 : decode cX0_allowed 8 = .ok (.iconst 1, 1) := by decide +kernel
theorem dX0_allowed_9 : decode cX0_allowed 9 = .ok (.if_icmp .ne 18, 3) := by decide +kernel
theorem dX0_allowed_12 : decode cX0_allowed 12 = .ok (.iload_n 1, 1) := by decide +kernel
theorem dX0_allowed_13 : decode cX0_allowed 13 = .ok (.iconst 1, 1) := by decide +kernel
theorem dX0_allowed_14 : decode cX0_allowed 14 = .ok (.if_icmp .lt 13, 3) := by decide +kernel
theorem dX0_allowed_17 : decode cX0_allowed 17 = .ok (.iload_n 1, 1) := by decide +kernel
theorem dX0_allowed_18 : decode cX0_allowed 18 = .ok (.bipush 14, 2) := by decide +kernel
theorem dX0_allowed_20 : decode cX0_allowed 20 = .ok (.if_icmp .gt 7, 3) := by decide +kernel
theorem dX0_allowed_23 : decode cX0_allowed 23 = .ok (.iconst 1, 1) := by decide +kernel
theorem dX0_allowed_24 : decode cX0_allowed 24 = .ok (.goto 4, 3) := by decide +kernel
theorem dX0_allowed_27 : decode cX0_allowed 27 = .ok (.iconst 0, 1) := by decide +kernel
theorem dX0_allowed_28 : decode cX0_allowed 28 = .ok (.ireturn, 1) := by decide +kernel
abbrev cX0_rules : ByteArray := prog_1_method_8_code
def yX0_rules : MethodName := ⟨RX0, "rules", "(I)V"⟩
theorem dX0_rules_0 : decode cX0_rules 0 = .ok (.aload_n 0, 1) := by decide +kernel
theorem dX0_rules_1 : decode cX0_rules 1 = .ok (.iload_n 1, 1) := by decide +kernel
theorem dX0_rules_2 : decode cX0_rules 2 = .ok (.putfield 9, 3) := by decide +kernel
theorem dX0_rules_5 : decode cX0_rules 5 = .ok (.aload_n 0, 1) := by decide +kernel
theorem dX0_rules_6 : decode cX0_rules 6 = .ok (.iconst 0, 1) := by decide +kernel
theorem dX0_rules_7 : decode cX0_rules 7 = .ok (.putfield 37, 3) := by decide +kernel
theorem dX0_rules_10 : decode cX0_rules 10 = .ok (.aload_n 0, 1) := by decide +kernel
theorem dX0_rules_11 : decode cX0_rules 11 = .ok (.invokevirtual 24, 3) := by decide +kernel
theorem dX0_rules_14 : decode cX0_rules 14 = .ok (.return_, 1) := by decide +kernel
abbrev cX0_turned : ByteArray := prog_1_method_9_code
def yX0_turned : MethodName := ⟨RX0, "turned", "(I)V"⟩
theorem dX0_turned_0 : decode cX0_turned 0 = .ok (.aload_n 0, 1) := by decide +kernel
theorem dX0_turned_1 : decode cX0_turned 1 = .ok (.iload_n 1, 1) := by decide +kernel
theorem dX0_turned_2 : decode cX0_turned 2 = .ok (.iconst 1, 1) := by decide +kernel
theorem dX0_turned_3 : decode cX0_turned 3 = .ok (.iand, 1) := by decide +kernel
theorem dX0_turned_4 : decode cX0_turned 4 = .ok (.iconst 1, 1) := by decide +kernel
theorem dX0_turned_5 : decode cX0_turned 5 = .ok (.if_icmp .ne 7, 3) := by decide +kernel
theorem dX0_turned_8 : decode cX0_turned 8 = .ok (.iconst 1, 1) := by decide +kernel
theorem dX0_turned_9 : decode cX0_turned 9 = .ok (.goto 4, 3) := by decide +kernel
theorem dX0_turned_12 : decode cX0_turned 12 = .ok (.iconst 0, 1) := by decide +kernel
theorem dX0_turned_13 : decode cX0_turned 13 = .ok (.putfield 45, 3) := by decide +kernel
theorem dX0_turned_16 : decode cX0_turned 16 = .ok (.return_, 1) := by decide +kernel
abbrev cX0_heaps : ByteArray := prog_1_method_10_code
def yX0_heaps : MethodName := ⟨RX0, "heaps", "(III)V"⟩
theorem dX0_heaps_0 : decode cX0_heaps 0 = .ok (.aload_n 0, 1) := by decide +kernel
theorem dX0_heaps_1 : decode cX0_heaps 1 = .ok (.getfield 13, 3) := by decide +kernel
theorem dX0_heaps_4 : decode cX0_heaps 4 = .ok (.iconst 0, 1) := by decide +kernel
theorem dX0_heaps_5 : decode cX0_heaps 5 = .ok (.iload_n 1, 1) := by decide +kernel
theorem dX0_heaps_6 : decode cX0_heaps 6 = .ok (.bipush 15, 2) := by decide +kernel
theorem dX0_heaps_8 : decode cX0_heaps 8 = .ok (.iand, 1) := by decide +kernel
theorem dX0_heaps_9 : decode cX0_heaps 9 = .ok (.iastore, 1) := by decide +kernel
theorem dX0_heaps_10 : decode cX0_heaps 10 = .ok (.aload_n 0, 1) := by decide +kernel
theorem dX0_heaps_11 : decode cX0_heaps 11 = .ok (.getfield 13, 3) := by decide +kernel
theorem dX0_heaps_14 : decode cX0_heaps 14 = .ok (.iconst 1, 1) := by decide +kernel
theorem dX0_heaps_15 : decode cX0_heaps 15 = .ok (.iload_n 2, 1) := by decide +kernel
theorem dX0_heaps_16 : decode cX0_heaps 16 = .ok (.bipush 15, 2) := by decide +kernel
theorem dX0_heaps_18 : decode cX0_heaps 18 = .ok (.iand, 1) := by decide +kernel
theorem dX0_heaps_19 : decode cX0_heaps 19 = .ok (.iastore, 1) := by decide +kernel
theorem dX0_heaps_20 : decode cX0_heaps 20 = .ok (.aload_n 0, 1) := by decide +kernel
theorem dX0_heaps_21 : decode cX0_heaps 21 = .ok (.getfield 13, 3) := by decide +kernel
theorem dX0_heaps_24 : decode cX0_heaps 24 = .ok (.iconst 2, 1) := by decide +kernel
theorem dX0_heaps_25 : decode cX0_heaps 25 = .ok (.iload_n 3, 1) := by decide +kernel
theorem dX0_heaps_26 : decode cX0_heaps 26 = .ok (.bipush 15, 2) := by decide +kernel
theorem dX0_heaps_28 : decode cX0_heaps 28 = .ok (.iand, 1) := by decide +kernel
theorem dX0_heaps_29 : decode cX0_heaps 29 = .ok (.iastore, 1) := by decide +kernel
theorem dX0_heaps_30 : decode cX0_heaps 30 = .ok (.return_, 1) := by decide +kernel
abbrev cX0_first : ByteArray := prog_1_method_11_code
def yX0_first : MethodName := ⟨RX0, "first", "()Z"⟩
theorem dX0_first_0 : decode cX0_first 0 = .ok (.aload_n 0, 1) := by decide +kernel
theorem dX0_first_1 : decode cX0_first 1 = .ok (.aload_n 0, 1) := by decide +kernel
theorem dX0_first_2 : decode cX0_first 2 = .ok (.getfield 13, 3) := by decide +kernel
theorem dX0_first_5 : decode cX0_first 5 = .ok (.iconst 0, 1) := by decide +kernel
theorem dX0_first_6 : decode cX0_first 6 = .ok (.iaload, 1) := by decide +kernel
theorem dX0_first_7 : decode cX0_first 7 = .ok (.aload_n 0, 1) := by decide +kernel
theorem dX0_first_8 : decode cX0_first 8 = .ok (.getfield 13, 3) := by decide +kernel
theorem dX0_first_11 : decode cX0_first 11 = .ok (.iconst 1, 1) := by decide +kernel
theorem dX0_first_12 : decode cX0_first 12 = .ok (.iaload, 1) := by decide +kernel
theorem dX0_first_13 : decode cX0_first 13 = .ok (.aload_n 0, 1) := by decide +kernel
theorem dX0_first_14 : decode cX0_first 14 = .ok (.getfield 13, 3) := by decide +kernel
theorem dX0_first_17 : decode cX0_first 17 = .ok (.iconst 2, 1) := by decide +kernel
theorem dX0_first_18 : decode cX0_first 18 = .ok (.iaload, 1) := by decide +kernel
theorem dX0_first_19 : decode cX0_first 19 = .ok (.invokevirtual 54, 3) := by decide +kernel
theorem dX0_first_22 : decode cX0_first 22 = .ok (.ireturn, 1) := by decide +kernel
abbrev cX0_wins : ByteArray := prog_1_method_7_code
def yX0_wins : MethodName := ⟨RX0, "wins", "(III)Z"⟩
theorem dX0_wins_0 : decode cX0_wins 0 = .ok (.aload_n 0, 1) := by decide +kernel
theorem dX0_wins_1 : decode cX0_wins 1 = .ok (.getfield 45, 3) := by decide +kernel
theorem dX0_wins_4 : decode cX0_wins 4 = .ok (.ifCond .ne 32, 3) := by decide +kernel
theorem dX0_wins_7 : decode cX0_wins 7 = .ok (.aload_n 0, 1) := by decide +kernel
theorem dX0_wins_8 : decode cX0_wins 8 = .ok (.getfield 17, 3) := by decide +kernel
theorem dX0_wins_11 : decode cX0_wins 11 = .ok (.iload_n 1, 1) := by decide +kernel
theorem dX0_wins_12 : decode cX0_wins 12 = .ok (.iaload, 1) := by decide +kernel
theorem dX0_wins_13 : decode cX0_wins 13 = .ok (.aload_n 0, 1) := by decide +kernel
theorem dX0_wins_14 : decode cX0_wins 14 = .ok (.getfield 17, 3) := by decide +kernel
theorem dX0_wins_17 : decode cX0_wins 17 = .ok (.iload_n 2, 1) := by decide +kernel
theorem dX0_wins_18 : decode cX0_wins 18 = .ok (.iaload, 1) := by decide +kernel
theorem dX0_wins_19 : decode cX0_wins 19 = .ok (.ixor, 1) := by decide +kernel
theorem dX0_wins_20 : decode cX0_wins 20 = .ok (.aload_n 0, 1) := by decide +kernel
theorem dX0_wins_21 : decode cX0_wins 21 = .ok (.getfield 17, 3) := by decide +kernel
theorem dX0_wins_24 : decode cX0_wins 24 = .ok (.iload_n 3, 1) := by decide +kernel
theorem dX0_wins_25 : decode cX0_wins 25 = .ok (.iaload, 1) := by decide +kernel
theorem dX0_wins_26 : decode cX0_wins 26 = .ok (.ixor, 1) := by decide +kernel
theorem dX0_wins_27 : decode cX0_wins 27 = .ok (.ifCond .eq 7, 3) := by decide +kernel
theorem dX0_wins_30 : decode cX0_wins 30 = .ok (.iconst 1, 1) := by decide +kernel
theorem dX0_wins_31 : decode cX0_wins 31 = .ok (.goto 4, 3) := by decide +kernel
theorem dX0_wins_34 : decode cX0_wins 34 = .ok (.iconst 0, 1) := by decide +kernel
theorem dX0_wins_35 : decode cX0_wins 35 = .ok (.ireturn, 1) := by decide +kernel
theorem dX0_wins_36 : decode cX0_wins 36 = .ok (.aload_n 0, 1) := by decide +kernel
theorem dX0_wins_37 : decode cX0_wins 37 = .ok (.invokevirtual 48, 3) := by decide +kernel
theorem dX0_wins_40 : decode cX0_wins 40 = .ok (.aload_n 0, 1) := by decide +kernel
theorem dX0_wins_41 : decode cX0_wins 41 = .ok (.getfield 20, 3) := by decide +kernel
theorem dX0_wins_44 : decode cX0_wins 44 = .ok (.iload_n 1, 1) := by decide +kernel
theorem dX0_wins_45 : decode cX0_wins 45 = .ok (.iload_n 2, 1) := by decide +kernel
theorem dX0_wins_46 : decode cX0_wins 46 = .ok (.iload_n 3, 1) := by decide +kernel
theorem dX0_wins_47 : decode cX0_wins 47 = .ok (.invokestatic 51, 3) := by decide +kernel
theorem dX0_wins_50 : decode cX0_wins 50 = .ok (.baload, 1) := by decide +kernel
theorem dX0_wins_51 : decode cX0_wins 51 = .ok (.ifCond .ne 7, 3) := by decide +kernel
theorem dX0_wins_54 : decode cX0_wins 54 = .ok (.iconst 1, 1) := by decide +kernel
theorem dX0_wins_55 : decode cX0_wins 55 = .ok (.goto 4, 3) := by decide +kernel
theorem dX0_wins_58 : decode cX0_wins 58 = .ok (.iconst 0, 1) := by decide +kernel
theorem dX0_wins_59 : decode cX0_wins 59 = .ok (.ireturn, 1) := by decide +kernel
abbrev cX0_reckonTurned : ByteArray := prog_1_method_6_code
def yX0_reckonTurned : MethodName := ⟨RX0, "reckonTurned", "()V"⟩
theorem dX0_reckonTurned_0 : decode cX0_reckonTurned 0 = .ok (.aload_n 0, 1) := by decide +kernel
theorem dX0_reckonTurned_1 : decode cX0_reckonTurned 1 = .ok (.getfield 37, 3) := by decide +kernel
theorem dX0_reckonTurned_4 : decode cX0_reckonTurned 4 = .ok (.ifCond .eq 4, 3) := by decide +kernel
theorem dX0_reckonTurned_7 : decode cX0_reckonTurned 7 = .ok (.return_, 1) := by decide +kernel
theorem dX0_reckonTurned_8 : decode cX0_reckonTurned 8 = .ok (.aload_n 0, 1) := by decide +kernel
theorem dX0_reckonTurned_9 : decode cX0_reckonTurned 9 = .ok (.iconst 1, 1) := by decide +kernel
theorem dX0_reckonTurned_10 : decode cX0_reckonTurned 10 = .ok (.putfield 37, 3) := by decide +kernel
theorem dX0_reckonTurned_13 : decode cX0_reckonTurned 13 = .ok (.iconst 0, 1) := by decide +kernel
theorem dX0_reckonTurned_14 : decode cX0_reckonTurned 14 = .ok (.istore_n 1, 1) := by decide +kernel
theorem dX0_reckonTurned_15 : decode cX0_reckonTurned 15 = .ok (.iload_n 1, 1) := by decide +kernel
theorem dX0_reckonTurned_16 : decode cX0_reckonTurned 16 = .ok (.sipush 4096, 3) := by decide +kernel
theorem dX0_reckonTurned_19 : decode cX0_reckonTurned 19 = .ok (.if_icmp .ge 68, 3) := by decide +kernel
theorem dX0_reckonTurned_22 : decode cX0_reckonTurned 22 = .ok (.aload_n 0, 1) := by decide +kernel
theorem dX0_reckonTurned_23 : decode cX0_reckonTurned 23 = .ok (.iload_n 1, 1) := by decide +kernel
theorem dX0_reckonTurned_24 : decode cX0_reckonTurned 24 = .ok (.iconst 1, 1) := by decide +kernel
theorem dX0_reckonTurned_25 : decode cX0_reckonTurned 25 = .ok (.iload_n 1, 1) := by decide +kernel
theorem dX0_reckonTurned_26 : decode cX0_reckonTurned 26 = .ok (.bipush 16, 2) := by decide +kernel
theorem dX0_reckonTurned_28 : decode cX0_reckonTurned 28 = .ok (.irem, 1) := by decide +kernel
theorem dX0_reckonTurned_29 : decode cX0_reckonTurned 29 = .ok (.invokevirtual 41, 3) := by decide +kernel
theorem dX0_reckonTurned_32 : decode cX0_reckonTurned 32 = .ok (.aload_n 0, 1) := by decide +kernel
theorem dX0_reckonTurned_33 : decode cX0_reckonTurned 33 = .ok (.iload_n 1, 1) := by decide +kernel
theorem dX0_reckonTurned_34 : decode cX0_reckonTurned 34 = .ok (.bipush 16, 2) := by decide +kernel
theorem dX0_reckonTurned_36 : decode cX0_reckonTurned 36 = .ok (.iload_n 1, 1) := by decide +kernel
theorem dX0_reckonTurned_37 : decode cX0_reckonTurned 37 = .ok (.bipush 16, 2) := by decide +kernel
theorem dX0_reckonTurned_39 : decode cX0_reckonTurned 39 = .ok (.idiv, 1) := by decide +kernel
theorem dX0_reckonTurned_40 : decode cX0_reckonTurned 40 = .ok (.bipush 16, 2) := by decide +kernel
theorem dX0_reckonTurned_42 : decode cX0_reckonTurned 42 = .ok (.irem, 1) := by decide +kernel
theorem dX0_reckonTurned_43 : decode cX0_reckonTurned 43 = .ok (.invokevirtual 41, 3) := by decide +kernel
theorem dX0_reckonTurned_46 : decode cX0_reckonTurned 46 = .ok (.ior, 1) := by decide +kernel
theorem dX0_reckonTurned_47 : decode cX0_reckonTurned 47 = .ok (.aload_n 0, 1) := by decide +kernel
theorem dX0_reckonTurned_48 : decode cX0_reckonTurned 48 = .ok (.iload_n 1, 1) := by decide +kernel
theorem dX0_reckonTurned_49 : decode cX0_reckonTurned 49 = .ok (.sipush 256, 3) := by decide +kernel
theorem dX0_reckonTurned_52 : decode cX0_reckonTurned 52 = .ok (.iload_n 1, 1) := by decide +kernel
theorem dX0_reckonTurned_53 : decode cX0_reckonTurned 53 = .ok (.bipush 16, 2) := by decide +kernel
theorem dX0_reckonTurned_55 : decode cX0_reckonTurned 55 = .ok (.idiv, 1) := by decide +kernel
theorem dX0_reckonTurned_56 : decode cX0_reckonTurned 56 = .ok (.bipush 16, 2) := by decide +kernel
theorem dX0_reckonTurned_58 : decode cX0_reckonTurned 58 = .ok (.idiv, 1) := by decide +kernel
theorem dX0_reckonTurned_59 : decode cX0_reckonTurned 59 = .ok (.invokevirtual 41, 3) := by decide +kernel
theorem dX0_reckonTurned_62 : decode cX0_reckonTurned 62 = .ok (.ior, 1) := by decide +kernel
theorem dX0_reckonTurned_63 : decode cX0_reckonTurned 63 = .ok (.istore_n 2, 1) := by decide +kernel
theorem dX0_reckonTurned_64 : decode cX0_reckonTurned 64 = .ok (.aload_n 0, 1) := by decide +kernel
theorem dX0_reckonTurned_65 : decode cX0_reckonTurned 65 = .ok (.getfield 20, 3) := by decide +kernel
theorem dX0_reckonTurned_68 : decode cX0_reckonTurned 68 = .ok (.iload_n 1, 1) := by decide +kernel
theorem dX0_reckonTurned_69 : decode cX0_reckonTurned 69 = .ok (.iload_n 2, 1) := by decide +kernel
theorem dX0_reckonTurned_70 : decode cX0_reckonTurned 70 = .ok (.iconst 1, 1) := by decide +kernel
theorem dX0_reckonTurned_71 : decode cX0_reckonTurned 71 = .ok (.if_icmp .ne 7, 3) := by decide +kernel
theorem dX0_reckonTurned_74 : decode cX0_reckonTurned 74 = .ok (.iconst 1, 1) := by decide +kernel
theorem dX0_reckonTurned_75 : decode cX0_reckonTurned 75 = .ok (.goto 4, 3) := by decide +kernel
theorem dX0_reckonTurned_78 : decode cX0_reckonTurned 78 = .ok (.iconst 0, 1) := by decide +kernel
theorem dX0_reckonTurned_79 : decode cX0_reckonTurned 79 = .ok (.i2b, 1) := by decide +kernel
theorem dX0_reckonTurned_80 : decode cX0_reckonTurned 80 = .ok (.bastore, 1) := by decide +kernel
theorem dX0_reckonTurned_81 : decode cX0_reckonTurned 81 = .ok (.iinc 1 1, 3) := by decide +kernel
theorem dX0_reckonTurned_84 : decode cX0_reckonTurned 84 = .ok (.goto (-69), 3) := by decide +kernel
theorem dX0_reckonTurned_87 : decode cX0_reckonTurned 87 = .ok (.return_, 1) := by decide +kernel
abbrev cX0_leads : ByteArray := prog_1_method_5_code
def yX0_leads : MethodName := ⟨RX0, "leads", "(III)I"⟩
theorem dX0_leads_0 : decode cX0_leads 0 = .ok (.iconst 0, 1) := by decide +kernel
theorem dX0_leads_1 : decode cX0_leads 1 = .ok (.istore 4, 2) := by decide +kernel
theorem dX0_leads_3 : decode cX0_leads 3 = .ok (.iconst 1, 1) := by decide +kernel
theorem dX0_leads_4 : decode cX0_leads 4 = .ok (.istore 5, 2) := by decide +kernel
theorem dX0_leads_6 : decode cX0_leads 6 = .ok (.iload 5, 2) := by decide +kernel
theorem dX0_leads_8 : decode cX0_leads 8 = .ok (.iload_n 3, 1) := by decide +kernel
theorem dX0_leads_9 : decode cX0_leads 9 = .ok (.if_icmp .gt 48, 3) := by decide +kernel
theorem dX0_leads_12 : decode cX0_leads 12 = .ok (.aload_n 0, 1) := by decide +kernel
theorem dX0_leads_13 : decode cX0_leads 13 = .ok (.iload 5, 2) := by decide +kernel
theorem dX0_leads_15 : decode cX0_leads 15 = .ok (.invokevirtual 27, 3) := by decide +kernel
theorem dX0_leads_18 : decode cX0_leads 18 = .ok (.ifCond .ne 6, 3) := by decide +kernel
theorem dX0_leads_21 : decode cX0_leads 21 = .ok (.goto 30, 3) := by decide +kernel
theorem dX0_leads_24 : decode cX0_leads 24 = .ok (.iload 4, 2) := by decide +kernel
theorem dX0_leads_26 : decode cX0_leads 26 = .ok (.iconst 1, 1) := by decide +kernel
theorem dX0_leads_27 : decode cX0_leads 27 = .ok (.ior, 1) := by decide +kernel
theorem dX0_leads_28 : decode cX0_leads 28 = .ok (.istore 4, 2) := by decide +kernel
theorem dX0_leads_30 : decode cX0_leads 30 = .ok (.aload_n 0, 1) := by decide +kernel
theorem dX0_leads_31 : decode cX0_leads 31 = .ok (.getfield 20, 3) := by decide +kernel
theorem dX0_leads_34 : decode cX0_leads 34 = .ok (.iload_n 1, 1) := by decide +kernel
theorem dX0_leads_35 : decode cX0_leads 35 = .ok (.iload 5, 2) := by decide +kernel
theorem dX0_leads_37 : decode cX0_leads 37 = .ok (.iload_n 2, 1) := by decide +kernel
theorem dX0_leads_38 : decode cX0_leads 38 = .ok (.imul, 1) := by decide +kernel
theorem dX0_leads_39 : decode cX0_leads 39 = .ok (.isub, 1) := by decide +kernel
theorem dX0_leads_40 : decode cX0_leads 40 = .ok (.baload, 1) := by decide +kernel
theorem dX0_leads_41 : decode cX0_leads 41 = .ok (.iconst 1, 1) := by decide +kernel
theorem dX0_leads_42 : decode cX0_leads 42 = .ok (.if_icmp .ne 9, 3) := by decide +kernel
theorem dX0_leads_45 : decode cX0_leads 45 = .ok (.iload 4, 2) := by decide +kernel
theorem dX0_leads_47 : decode cX0_leads 47 = .ok (.iconst 2, 1) := by decide +kernel
theorem dX0_leads_48 : decode cX0_leads 48 = .ok (.ior, 1) := by decide +kernel
theorem dX0_leads_49 : decode cX0_leads 49 = .ok (.istore 4, 2) := by decide +kernel
theorem dX0_leads_51 : decode cX0_leads 51 = .ok (.iinc 5 1, 3) := by decide +kernel
theorem dX0_leads_54 : decode cX0_leads 54 = .ok (.goto (-48), 3) := by decide +kernel
theorem dX0_leads_57 : decode cX0_leads 57 = .ok (.iload 4, 2) := by decide +kernel
theorem dX0_leads_59 : decode cX0_leads 59 = .ok (.ireturn, 1) := by decide +kernel
abbrev cX0_index : ByteArray := prog_1_method_4_code
def yX0_index : MethodName := ⟨RX0, "index", "(III)I"⟩
theorem dX0_index_0 : decode cX0_index 0 = .ok (.iload_n 0, 1) := by decide +kernel
theorem dX0_index_1 : decode cX0_index 1 = .ok (.bipush 16, 2) := by decide +kernel
theorem dX0_index_3 : decode cX0_index 3 = .ok (.imul, 1) := by decide +kernel
theorem dX0_index_4 : decode cX0_index 4 = .ok (.iload_n 1, 1) := by decide +kernel
theorem dX0_index_5 : decode cX0_index 5 = .ok (.iadd, 1) := by decide +kernel
theorem dX0_index_6 : decode cX0_index 6 = .ok (.bipush 16, 2) := by decide +kernel
theorem dX0_index_8 : decode cX0_index 8 = .ok (.imul, 1) := by decide +kernel
theorem dX0_index_9 : decode cX0_index 9 = .ok (.iload_n 2, 1) := by decide +kernel
theorem dX0_index_10 : decode cX0_index 10 = .ok (.iadd, 1) := by decide +kernel
theorem dX0_index_11 : decode cX0_index 11 = .ok (.ireturn, 1) := by decide +kernel
abbrev cX0_move : ByteArray := prog_1_method_13_code
def yX0_move : MethodName := ⟨RX0, "move", "()I"⟩
theorem dX0_move_0 : decode cX0_move 0 = .ok (.iconst 0, 1) := by decide +kernel
theorem dX0_move_1 : decode cX0_move 1 = .ok (.istore_n 1, 1) := by decide +kernel
theorem dX0_move_2 : decode cX0_move 2 = .ok (.iload_n 1, 1) := by decide +kernel
theorem dX0_move_3 : decode cX0_move 3 = .ok (.iconst 3, 1) := by decide +kernel
theorem dX0_move_4 : decode cX0_move 4 = .ok (.if_icmp .ge 51, 3) := by decide +kernel
theorem dX0_move_7 : decode cX0_move 7 = .ok (.iconst 1, 1) := by decide +kernel
theorem dX0_move_8 : decode cX0_move 8 = .ok (.istore_n 2, 1) := by decide +kernel
theorem dX0_move_9 : decode cX0_move 9 = .ok (.iload_n 2, 1) := by decide +kernel
theorem dX0_move_10 : decode cX0_move 10 = .ok (.aload_n 0, 1) := by decide +kernel
theorem dX0_move_11 : decode cX0_move 11 = .ok (.getfield 13, 3) := by decide +kernel
theorem dX0_move_14 : decode cX0_move 14 = .ok (.iload_n 1, 1) := by decide +kernel
theorem dX0_move_15 : decode cX0_move 15 = .ok (.iaload, 1) := by decide +kernel
theorem dX0_move_16 : decode cX0_move 16 = .ok (.if_icmp .gt 33, 3) := by decide +kernel
theorem dX0_move_19 : decode cX0_move 19 = .ok (.aload_n 0, 1) := by decide +kernel
theorem dX0_move_20 : decode cX0_move 20 = .ok (.iload_n 2, 1) := by decide +kernel
theorem dX0_move_21 : decode cX0_move 21 = .ok (.invokevirtual 27, 3) := by decide +kernel
theorem dX0_move_24 : decode cX0_move 24 = .ok (.ifCond .eq 19, 3) := by decide +kernel
theorem dX0_move_27 : decode cX0_move 27 = .ok (.aload_n 0, 1) := by decide +kernel
theorem dX0_move_28 : decode cX0_move 28 = .ok (.iload_n 1, 1) := by decide +kernel
theorem dX0_move_29 : decode cX0_move 29 = .ok (.iload_n 2, 1) := by decide +kernel
theorem dX0_move_30 : decode cX0_move 30 = .ok (.invokevirtual 62, 3) := by decide +kernel
theorem dX0_move_33 : decode cX0_move 33 = .ok (.ifCond .eq 10, 3) := by decide +kernel
theorem dX0_move_36 : decode cX0_move 36 = .ok (.bipush 16, 2) := by decide +kernel
theorem dX0_move_38 : decode cX0_move 38 = .ok (.iload_n 1, 1) := by decide +kernel
theorem dX0_move_39 : decode cX0_move 39 = .ok (.imul, 1) := by decide +kernel
theorem dX0_move_40 : decode cX0_move 40 = .ok (.iload_n 2, 1) := by decide +kernel
theorem dX0_move_41 : decode cX0_move 41 = .ok (.iadd, 1) := by decide +kernel
theorem dX0_move_42 : decode cX0_move 42 = .ok (.ireturn, 1) := by decide +kernel
theorem dX0_move_43 : decode cX0_move 43 = .ok (.iinc 2 1, 3) := by decide +kernel
theorem dX0_move_46 : decode cX0_move 46 = .ok (.goto (-37), 3) := by decide +kernel
theorem dX0_move_49 : decode cX0_move 49 = .ok (.iinc 1 1, 3) := by decide +kernel
theorem dX0_move_52 : decode cX0_move 52 = .ok (.goto (-50), 3) := by decide +kernel
theorem dX0_move_55 : decode cX0_move 55 = .ok (.iconst (-1), 1) := by decide +kernel
theorem dX0_move_56 : decode cX0_move 56 = .ok (.ireturn, 1) := by decide +kernel
abbrev cX0_good : ByteArray := prog_1_method_12_code
def yX0_good : MethodName := ⟨RX0, "good", "(II)Z"⟩
theorem dX0_good_0 : decode cX0_good 0 = .ok (.aload_n 0, 1) := by decide +kernel
theorem dX0_good_1 : decode cX0_good 1 = .ok (.getfield 13, 3) := by decide +kernel
theorem dX0_good_4 : decode cX0_good 4 = .ok (.iload_n 1, 1) := by decide +kernel
theorem dX0_good_5 : decode cX0_good 5 = .ok (.dup2, 1) := by decide +kernel
theorem dX0_good_6 : decode cX0_good 6 = .ok (.iaload, 1) := by decide +kernel
theorem dX0_good_7 : decode cX0_good 7 = .ok (.iload_n 2, 1) := by decide +kernel
theorem dX0_good_8 : decode cX0_good 8 = .ok (.isub, 1) := by decide +kernel
theorem dX0_good_9 : decode cX0_good 9 = .ok (.iastore, 1) := by decide +kernel
theorem dX0_good_10 : decode cX0_good 10 = .ok (.aload_n 0, 1) := by decide +kernel
theorem dX0_good_11 : decode cX0_good 11 = .ok (.invokevirtual 58, 3) := by decide +kernel
theorem dX0_good_14 : decode cX0_good 14 = .ok (.ifCond .ne 7, 3) := by decide +kernel
theorem dX0_good_17 : decode cX0_good 17 = .ok (.iconst 1, 1) := by decide +kernel
theorem dX0_good_18 : decode cX0_good 18 = .ok (.goto 4, 3) := by decide +kernel
theorem dX0_good_21 : decode cX0_good 21 = .ok (.iconst 0, 1) := by decide +kernel
theorem dX0_good_22 : decode cX0_good 22 = .ok (.istore_n 3, 1) := by decide +kernel
theorem dX0_good_23 : decode cX0_good 23 = .ok (.aload_n 0, 1) := by decide +kernel
theorem dX0_good_24 : decode cX0_good 24 = .ok (.getfield 13, 3) := by decide +kernel
theorem dX0_good_27 : decode cX0_good 27 = .ok (.iload_n 1, 1) := by decide +kernel
theorem dX0_good_28 : decode cX0_good 28 = .ok (.dup2, 1) := by decide +kernel
theorem dX0_good_29 : decode cX0_good 29 = .ok (.iaload, 1) := by decide +kernel
theorem dX0_good_30 : decode cX0_good 30 = .ok (.iload_n 2, 1) := by decide +kernel
theorem dX0_good_31 : decode cX0_good 31 = .ok (.iadd, 1) := by decide +kernel
theorem dX0_good_32 : decode cX0_good 32 = .ok (.iastore, 1) := by decide +kernel
theorem dX0_good_33 : decode cX0_good 33 = .ok (.iload_n 3, 1) := by decide +kernel
theorem dX0_good_34 : decode cX0_good 34 = .ok (.ireturn, 1) := by decide +kernel
abbrev cX0_take : ByteArray := prog_1_method_14_code
def yX0_take : MethodName := ⟨RX0, "take", "(II)Z"⟩
theorem dX0_take_0 : decode cX0_take 0 = .ok (.iload_n 1, 1) := by decide +kernel
theorem dX0_take_1 : decode cX0_take 1 = .ok (.ldc 66, 2) := by decide +kernel
theorem dX0_take_3 : decode cX0_take 3 = .ok (.iand, 1) := by decide +kernel
theorem dX0_take_4 : decode cX0_take 4 = .ok (.iconst 3, 1) := by decide +kernel
theorem dX0_take_5 : decode cX0_take 5 = .ok (.irem, 1) := by decide +kernel
theorem dX0_take_6 : decode cX0_take 6 = .ok (.istore_n 3, 1) := by decide +kernel
theorem dX0_take_7 : decode cX0_take 7 = .ok (.iconst 1, 1) := by decide +kernel
theorem dX0_take_8 : decode cX0_take 8 = .ok (.iload_n 2, 1) := by decide +kernel
theorem dX0_take_9 : decode cX0_take 9 = .ok (.ldc 66, 2) := by decide +kernel
theorem dX0_take_11 : decode cX0_take 11 = .ok (.iand, 1) := by decide +kernel
theorem dX0_take_12 : decode cX0_take 12 = .ok (.bipush 14, 2) := by decide +kernel
theorem dX0_take_14 : decode cX0_take 14 = .ok (.irem, 1) := by decide +kernel
theorem dX0_take_15 : decode cX0_take 15 = .ok (.iadd, 1) := by decide +kernel
theorem dX0_take_16 : decode cX0_take 16 = .ok (.istore 4, 2) := by decide +kernel
theorem dX0_take_18 : decode cX0_take 18 = .ok (.aload_n 0, 1) := by decide +kernel
theorem dX0_take_19 : decode cX0_take 19 = .ok (.iload 4, 2) := by decide +kernel
theorem dX0_take_21 : decode cX0_take 21 = .ok (.invokevirtual 27, 3) := by decide +kernel
theorem dX0_take_24 : decode cX0_take 24 = .ok (.ifCond .eq 14, 3) := by decide +kernel
theorem dX0_take_27 : decode cX0_take 27 = .ok (.aload_n 0, 1) := by decide +kernel
theorem dX0_take_28 : decode cX0_take 28 = .ok (.getfield 13, 3) := by decide +kernel
theorem dX0_take_31 : decode cX0_take 31 = .ok (.iload_n 3, 1) := by decide +kernel
theorem dX0_take_32 : decode cX0_take 32 = .ok (.iaload, 1) := by decide +kernel
theorem dX0_take_33 : decode cX0_take 33 = .ok (.iload 4, 2) := by decide +kernel
theorem dX0_take_35 : decode cX0_take 35 = .ok (.if_icmp .ge 5, 3) := by decide +kernel
theorem dX0_take_38 : decode cX0_take 38 = .ok (.iconst 0, 1) := by decide +kernel
theorem dX0_take_39 : decode cX0_take 39 = .ok (.ireturn, 1) := by decide +kernel
theorem dX0_take_40 : decode cX0_take 40 = .ok (.aload_n 0, 1) := by decide +kernel
theorem dX0_take_41 : decode cX0_take 41 = .ok (.getfield 13, 3) := by decide +kernel
theorem dX0_take_44 : decode cX0_take 44 = .ok (.iload_n 3, 1) := by decide +kernel
theorem dX0_take_45 : decode cX0_take 45 = .ok (.dup2, 1) := by decide +kernel
theorem dX0_take_46 : decode cX0_take 46 = .ok (.iaload, 1) := by decide +kernel
theorem dX0_take_47 : decode cX0_take 47 = .ok (.iload 4, 2) := by decide +kernel
theorem dX0_take_49 : decode cX0_take 49 = .ok (.isub, 1) := by decide +kernel
theorem dX0_take_50 : decode cX0_take 50 = .ok (.iastore, 1) := by decide +kernel
theorem dX0_take_51 : decode cX0_take 51 = .ok (.iconst 1, 1) := by decide +kernel
theorem dX0_take_52 : decode cX0_take 52 = .ok (.ireturn, 1) := by decide +kernel
abbrev cX0_heap : ByteArray := prog_1_method_15_code
def yX0_heap : MethodName := ⟨RX0, "heap", "(I)I"⟩
theorem dX0_heap_0 : decode cX0_heap 0 = .ok (.aload_n 0, 1) := by decide +kernel
theorem dX0_heap_1 : decode cX0_heap 1 = .ok (.getfield 13, 3) := by decide +kernel
theorem dX0_heap_4 : decode cX0_heap 4 = .ok (.iload_n 1, 1) := by decide +kernel
theorem dX0_heap_5 : decode cX0_heap 5 = .ok (.ldc 66, 2) := by decide +kernel
theorem dX0_heap_7 : decode cX0_heap 7 = .ok (.iand, 1) := by decide +kernel
theorem dX0_heap_8 : decode cX0_heap 8 = .ok (.iconst 3, 1) := by decide +kernel
theorem dX0_heap_9 : decode cX0_heap 9 = .ok (.irem, 1) := by decide +kernel
theorem dX0_heap_10 : decode cX0_heap 10 = .ok (.iaload, 1) := by decide +kernel
theorem dX0_heap_11 : decode cX0_heap 11 = .ok (.ireturn, 1) := by decide +kernel
abbrev cX0_lost : ByteArray := prog_1_method_16_code
def yX0_lost : MethodName := ⟨RX0, "lost", "()I"⟩
theorem dX0_lost_0 : decode cX0_lost 0 = .ok (.iconst 0, 1) := by decide +kernel
theorem dX0_lost_1 : decode cX0_lost 1 = .ok (.istore_n 1, 1) := by decide +kernel
theorem dX0_lost_2 : decode cX0_lost 2 = .ok (.iconst 0, 1) := by decide +kernel
theorem dX0_lost_3 : decode cX0_lost 3 = .ok (.istore_n 2, 1) := by decide +kernel
theorem dX0_lost_4 : decode cX0_lost 4 = .ok (.iload_n 2, 1) := by decide +kernel
theorem dX0_lost_5 : decode cX0_lost 5 = .ok (.bipush 16, 2) := by decide +kernel
theorem dX0_lost_7 : decode cX0_lost 7 = .ok (.if_icmp .ge 58, 3) := by decide +kernel
theorem dX0_lost_10 : decode cX0_lost 10 = .ok (.iconst 0, 1) := by decide +kernel
theorem dX0_lost_11 : decode cX0_lost 11 = .ok (.istore_n 3, 1) := by decide +kernel
theorem dX0_lost_12 : decode cX0_lost 12 = .ok (.iload_n 3, 1) := by decide +kernel
theorem dX0_lost_13 : decode cX0_lost 13 = .ok (.bipush 16, 2) := by decide +kernel
theorem dX0_lost_15 : decode cX0_lost 15 = .ok (.if_icmp .ge 44, 3) := by decide +kernel
theorem dX0_lost_18 : decode cX0_lost 18 = .ok (.iconst 0, 1) := by decide +kernel
theorem dX0_lost_19 : decode cX0_lost 19 = .ok (.istore 4, 2) := by decide +kernel
theorem dX0_lost_21 : decode cX0_lost 21 = .ok (.iload 4, 2) := by decide +kernel
theorem dX0_lost_23 : decode cX0_lost 23 = .ok (.bipush 16, 2) := by decide +kernel
theorem dX0_lost_25 : decode cX0_lost 25 = .ok (.if_icmp .ge 28, 3) := by decide +kernel
theorem dX0_lost_28 : decode cX0_lost 28 = .ok (.iload_n 1, 1) := by decide +kernel
theorem dX0_lost_29 : decode cX0_lost 29 = .ok (.aload_n 0, 1) := by decide +kernel
theorem dX0_lost_30 : decode cX0_lost 30 = .ok (.iload_n 2, 1) := by decide +kernel
theorem dX0_lost_31 : decode cX0_lost 31 = .ok (.iload_n 3, 1) := by decide +kernel
theorem dX0_lost_32 : decode cX0_lost 32 = .ok (.iload 4, 2) := by decide +kernel
theorem dX0_lost_34 : decode cX0_lost 34 = .ok (.invokevirtual 54, 3) := by decide +kernel
theorem dX0_lost_37 : decode cX0_lost 37 = .ok (.ifCond .eq 7, 3) := by decide +kernel
theorem dX0_lost_40 : decode cX0_lost 40 = .ok (.iconst 0, 1) := by decide +kernel
theorem dX0_lost_41 : decode cX0_lost 41 = .ok (.goto 4, 3) := by decide +kernel
theorem dX0_lost_44 : decode cX0_lost 44 = .ok (.iconst 1, 1) := by decide +kernel
theorem dX0_lost_45 : decode cX0_lost 45 = .ok (.iadd, 1) := by decide +kernel
theorem dX0_lost_46 : decode cX0_lost 46 = .ok (.istore_n 1, 1) := by decide +kernel
theorem dX0_lost_47 : decode cX0_lost 47 = .ok (.iinc 4 1, 3) := by decide +kernel
theorem dX0_lost_50 : decode cX0_lost 50 = .ok (.goto (-29), 3) := by decide +kernel
theorem dX0_lost_53 : decode cX0_lost 53 = .ok (.iinc 3 1, 3) := by decide +kernel
theorem dX0_lost_56 : decode cX0_lost 56 = .ok (.goto (-44), 3) := by decide +kernel
theorem dX0_lost_59 : decode cX0_lost 59 = .ok (.iinc 2 1, 3) := by decide +kernel
theorem dX0_lost_62 : decode cX0_lost 62 = .ok (.goto (-58), 3) := by decide +kernel
theorem dX0_lost_65 : decode cX0_lost 65 = .ok (.iload_n 1, 1) := by decide +kernel
theorem dX0_lost_66 : decode cX0_lost 66 = .ok (.ireturn, 1) := by decide +kernel
theorem q8 : (Jvm.Cond.initialized "HeapGame") ∈ lw_all := lw_g (lw_at lw_m0 1 rfl) rfl
theorem q12 : (Jvm.Cond.instantiable "HeapGame" (6 : Nat)) ∈ lw_all := lw_g (lw_at lw_m0 5 rfl) rfl
theorem q14 : (Jvm.Cond.instanceMethod ({ cls := "HeapGame", name := "<init>", desc := "()V" } : Jvm.MethodName)) ∈ lw_all := lw_g (lw_at lw_m0 7 rfl) rfl
theorem q15 : (Jvm.Cond.code ({ cls := "HeapGame", name := "<init>", desc := "()V" } : Jvm.MethodName) prog_1_method_1_code (1 : Nat) (Option.none : Option Jvm.ClassFile.FieldType)) ∈ lw_all := lw_g (lw_at lw_m0 8 rfl) rfl
theorem q16 : (Jvm.Cond.methodLink "HeapGame" (3 : Nat) ({ cls := "java/lang/Object", name := "<init>", desc := "()V" } : Jvm.MethodName)) ∈ lw_all := lw_g (lw_at lw_m0 9 rfl) rfl
theorem q19 : (Jvm.Cond.methodLink "HeapGame" (24 : Nat) ({ cls := "HeapGame", name := "reckonWorths", desc := "()V" } : Jvm.MethodName)) ∈ lw_all := lw_g (lw_at lw_m0 12 rfl) rfl
theorem q20 : (Jvm.Cond.privateMethod ({ cls := "HeapGame", name := "reckonWorths", desc := "()V" } : Jvm.MethodName)) ∈ lw_tbl := lw_at lw_m0 13 rfl
theorem q21 : (Jvm.Cond.instanceMethod ({ cls := "HeapGame", name := "reckonWorths", desc := "()V" } : Jvm.MethodName)) ∈ lw_all := lw_g (lw_at lw_m0 14 rfl) rfl
theorem q22 : (Jvm.Cond.code ({ cls := "HeapGame", name := "reckonWorths", desc := "()V" } : Jvm.MethodName) prog_1_method_3_code (4 : Nat) (Option.none : Option Jvm.ClassFile.FieldType)) ∈ lw_all := lw_g (lw_at lw_m0 15 rfl) rfl
theorem q23 : (Jvm.Cond.methodLink "HeapGame" (27 : Nat) ({ cls := "HeapGame", name := "allowed", desc := "(I)Z" } : Jvm.MethodName)) ∈ lw_all := lw_g (lw_at lw_m0 16 rfl) rfl
theorem q24 : (Jvm.Cond.privateMethod ({ cls := "HeapGame", name := "allowed", desc := "(I)Z" } : Jvm.MethodName)) ∈ lw_tbl := lw_at lw_m0 17 rfl
theorem q25 : (Jvm.Cond.instanceMethod ({ cls := "HeapGame", name := "allowed", desc := "(I)Z" } : Jvm.MethodName)) ∈ lw_all := lw_g (lw_at lw_m0 18 rfl) rfl
theorem q26 : (Jvm.Cond.code ({ cls := "HeapGame", name := "allowed", desc := "(I)Z" } : Jvm.MethodName) prog_1_method_2_code (2 : Nat) (Option.some Jvm.ClassFile.FieldType.boolean)) ∈ lw_all := lw_g (lw_at lw_m0 19 rfl) rfl
theorem q27 : (Jvm.Cond.methodLink "HeapGame" (31 : Nat) ({ cls := "java/lang/Integer", name := "numberOfTrailingZeros", desc := "(I)I" } : Jvm.MethodName)) ∈ lw_all := lw_g (lw_at lw_m0 20 rfl) rfl
theorem q31 : (Jvm.Cond.fieldLink "HeapGame" (9 : Nat) "HeapGame" "rules" "I") ∈ lw_all := lw_g (lw_at lw_m0 24 rfl) rfl
theorem q32 : (Jvm.Cond.fieldLink "HeapGame" (45 : Nat) "HeapGame" "turned" "Z") ∈ lw_all := lw_g (lw_at lw_m0 25 rfl) rfl
theorem q33 : (Jvm.Cond.fieldLink "HeapGame" (13 : Nat) "HeapGame" "heap" "[I") ∈ lw_all := lw_g (lw_at lw_m0 26 rfl) rfl
theorem q34 : (Jvm.Cond.fieldLink "HeapGame" (17 : Nat) "HeapGame" "worth" "[I") ∈ lw_all := lw_g (lw_at lw_m0 27 rfl) rfl
theorem q35 : (Jvm.Cond.fieldLink "HeapGame" (20 : Nat) "HeapGame" "loses" "[B") ∈ lw_all := lw_g (lw_at lw_m0 28 rfl) rfl
theorem q36 : (Jvm.Cond.fieldLink "HeapGame" (37 : Nat) "HeapGame" "known" "Z") ∈ lw_all := lw_g (lw_at lw_m0 29 rfl) rfl
theorem q37 : (Jvm.Cond.lays "HeapGame" "HeapGame" "rules" "I") ∈ lw_all := lw_g (lw_at lw_m0 30 rfl) rfl
theorem q38 : (Jvm.Cond.soleField "HeapGame" "rules") ∈ lw_all := lw_g (lw_at lw_m0 31 rfl) rfl
theorem q39 : (Jvm.Cond.lays "HeapGame" "HeapGame" "turned" "Z") ∈ lw_all := lw_g (lw_at lw_m0 32 rfl) rfl
theorem q40 : (Jvm.Cond.soleField "HeapGame" "turned") ∈ lw_all := lw_g (lw_at lw_m0 33 rfl) rfl
theorem q41 : (Jvm.Cond.laysFinal "HeapGame" "HeapGame" "heap" "[I") ∈ lw_all := lw_g (lw_at lw_m0 34 rfl) rfl
theorem q42 : (Jvm.Cond.soleField "HeapGame" "heap") ∈ lw_all := lw_g (lw_at lw_m0 35 rfl) rfl
theorem q43 : (Jvm.Cond.laysFinal "HeapGame" "HeapGame" "worth" "[I") ∈ lw_all := lw_g (lw_at lw_m0 36 rfl) rfl
theorem q44 : (Jvm.Cond.soleField "HeapGame" "worth") ∈ lw_all := lw_g (lw_at lw_m0 37 rfl) rfl
theorem q45 : (Jvm.Cond.laysFinal "HeapGame" "HeapGame" "loses" "[B") ∈ lw_all := lw_g (lw_at lw_m0 38 rfl) rfl
theorem q46 : (Jvm.Cond.soleField "HeapGame" "loses") ∈ lw_all := lw_g (lw_at lw_m0 39 rfl) rfl
theorem q47 : (Jvm.Cond.lays "HeapGame" "HeapGame" "known" "Z") ∈ lw_all := lw_g (lw_at lw_m0 40 rfl) rfl
theorem q48 : (Jvm.Cond.soleField "HeapGame" "known") ∈ lw_all := lw_g (lw_at lw_m0 41 rfl) rfl
theorem q49 : (Jvm.Cond.superclass "HeapGame" "java/lang/Object") ∈ lw_all := lw_g (lw_at lw_m0 42 rfl) rfl
theorem q53 : (Jvm.Cond.instanceMethod ({ cls := "HeapGame", name := "rules", desc := "(I)V" } : Jvm.MethodName)) ∈ lw_all := lw_g (lw_at lw_m0 46 rfl) rfl
theorem q54 : (Jvm.Cond.selects "HeapGame" ({ cls := "HeapGame", name := "rules", desc := "(I)V" } : Jvm.MethodName) ({ cls := "HeapGame", name := "rules", desc := "(I)V" } : Jvm.MethodName)) ∈ lw_all := lw_g (lw_at lw_m0 47 rfl) rfl
theorem q55 : (Jvm.Cond.code ({ cls := "HeapGame", name := "rules", desc := "(I)V" } : Jvm.MethodName) prog_1_method_8_code (2 : Nat) (Option.none : Option Jvm.ClassFile.FieldType)) ∈ lw_all := lw_g (lw_at lw_m0 48 rfl) rfl
theorem q57 : (Jvm.Cond.instanceMethod ({ cls := "HeapGame", name := "turned", desc := "(I)V" } : Jvm.MethodName)) ∈ lw_all := lw_g (lw_at lw_m0 50 rfl) rfl
theorem q58 : (Jvm.Cond.selects "HeapGame" ({ cls := "HeapGame", name := "turned", desc := "(I)V" } : Jvm.MethodName) ({ cls := "HeapGame", name := "turned", desc := "(I)V" } : Jvm.MethodName)) ∈ lw_all := lw_g (lw_at lw_m0 51 rfl) rfl
theorem q59 : (Jvm.Cond.code ({ cls := "HeapGame", name := "turned", desc := "(I)V" } : Jvm.MethodName) prog_1_method_9_code (2 : Nat) (Option.none : Option Jvm.ClassFile.FieldType)) ∈ lw_all := lw_g (lw_at lw_m0 52 rfl) rfl
theorem q61 : (Jvm.Cond.instanceMethod ({ cls := "HeapGame", name := "heaps", desc := "(III)V" } : Jvm.MethodName)) ∈ lw_all := lw_g (lw_at lw_m0 54 rfl) rfl
theorem q62 : (Jvm.Cond.selects "HeapGame" ({ cls := "HeapGame", name := "heaps", desc := "(III)V" } : Jvm.MethodName) ({ cls := "HeapGame", name := "heaps", desc := "(III)V" } : Jvm.MethodName)) ∈ lw_all := lw_g (lw_at lw_m0 55 rfl) rfl
theorem q63 : (Jvm.Cond.code ({ cls := "HeapGame", name := "heaps", desc := "(III)V" } : Jvm.MethodName) prog_1_method_10_code (4 : Nat) (Option.none : Option Jvm.ClassFile.FieldType)) ∈ lw_all := lw_g (lw_at lw_m0 56 rfl) rfl
theorem q65 : (Jvm.Cond.instanceMethod ({ cls := "HeapGame", name := "first", desc := "()Z" } : Jvm.MethodName)) ∈ lw_all := lw_g (lw_at lw_m0 58 rfl) rfl
theorem q66 : (Jvm.Cond.selects "HeapGame" ({ cls := "HeapGame", name := "first", desc := "()Z" } : Jvm.MethodName) ({ cls := "HeapGame", name := "first", desc := "()Z" } : Jvm.MethodName)) ∈ lw_all := lw_g (lw_at lw_m0 59 rfl) rfl
theorem q67 : (Jvm.Cond.code ({ cls := "HeapGame", name := "first", desc := "()Z" } : Jvm.MethodName) prog_1_method_11_code (1 : Nat) (Option.some Jvm.ClassFile.FieldType.boolean)) ∈ lw_all := lw_g (lw_at lw_m0 60 rfl) rfl
theorem q68 : (Jvm.Cond.methodLink "HeapGame" (54 : Nat) ({ cls := "HeapGame", name := "wins", desc := "(III)Z" } : Jvm.MethodName)) ∈ lw_all := lw_g (lw_at lw_m0 61 rfl) rfl
theorem q69 : (Jvm.Cond.privateMethod ({ cls := "HeapGame", name := "wins", desc := "(III)Z" } : Jvm.MethodName)) ∈ lw_tbl := lw_at lw_m0 62 rfl
theorem q70 : (Jvm.Cond.instanceMethod ({ cls := "HeapGame", name := "wins", desc := "(III)Z" } : Jvm.MethodName)) ∈ lw_all := lw_g (lw_at lw_m0 63 rfl) rfl
theorem q71 : (Jvm.Cond.code ({ cls := "HeapGame", name := "wins", desc := "(III)Z" } : Jvm.MethodName) prog_1_method_7_code (4 : Nat) (Option.some Jvm.ClassFile.FieldType.boolean)) ∈ lw_all := lw_g (lw_at lw_m0 64 rfl) rfl
theorem q72 : (Jvm.Cond.methodLink "HeapGame" (48 : Nat) ({ cls := "HeapGame", name := "reckonTurned", desc := "()V" } : Jvm.MethodName)) ∈ lw_all := lw_g (lw_at lw_m0 65 rfl) rfl
theorem q73 : (Jvm.Cond.privateMethod ({ cls := "HeapGame", name := "reckonTurned", desc := "()V" } : Jvm.MethodName)) ∈ lw_tbl := lw_at lw_m0 66 rfl
theorem q74 : (Jvm.Cond.instanceMethod ({ cls := "HeapGame", name := "reckonTurned", desc := "()V" } : Jvm.MethodName)) ∈ lw_all := lw_g (lw_at lw_m0 67 rfl) rfl
theorem q75 : (Jvm.Cond.code ({ cls := "HeapGame", name := "reckonTurned", desc := "()V" } : Jvm.MethodName) prog_1_method_6_code (3 : Nat) (Option.none : Option Jvm.ClassFile.FieldType)) ∈ lw_all := lw_g (lw_at lw_m0 68 rfl) rfl
theorem q76 : (Jvm.Cond.methodLink "HeapGame" (41 : Nat) ({ cls := "HeapGame", name := "leads", desc := "(III)I" } : Jvm.MethodName)) ∈ lw_all := lw_g (lw_at lw_m0 69 rfl) rfl
theorem q77 : (Jvm.Cond.privateMethod ({ cls := "HeapGame", name := "leads", desc := "(III)I" } : Jvm.MethodName)) ∈ lw_tbl := lw_at lw_m0 70 rfl
theorem q78 : (Jvm.Cond.instanceMethod ({ cls := "HeapGame", name := "leads", desc := "(III)I" } : Jvm.MethodName)) ∈ lw_all := lw_g (lw_at lw_m0 71 rfl) rfl
theorem q79 : (Jvm.Cond.code ({ cls := "HeapGame", name := "leads", desc := "(III)I" } : Jvm.MethodName) prog_1_method_5_code (6 : Nat) (Option.some Jvm.ClassFile.FieldType.int)) ∈ lw_all := lw_g (lw_at lw_m0 72 rfl) rfl
theorem q80 : (Jvm.Cond.methodLink "HeapGame" (51 : Nat) ({ cls := "HeapGame", name := "index", desc := "(III)I" } : Jvm.MethodName)) ∈ lw_all := lw_g (lw_at lw_m0 73 rfl) rfl
theorem q81 : (Jvm.Cond.static ({ cls := "HeapGame", name := "index", desc := "(III)I" } : Jvm.MethodName)) ∈ lw_all := lw_g (lw_at lw_m0 74 rfl) rfl
theorem q82 : (Jvm.Cond.code ({ cls := "HeapGame", name := "index", desc := "(III)I" } : Jvm.MethodName) prog_1_method_4_code (3 : Nat) (Option.some Jvm.ClassFile.FieldType.int)) ∈ lw_all := lw_g (lw_at lw_m0 75 rfl) rfl
theorem q84 : (Jvm.Cond.instanceMethod ({ cls := "HeapGame", name := "move", desc := "()I" } : Jvm.MethodName)) ∈ lw_all := lw_g (lw_at lw_m0 77 rfl) rfl
theorem q85 : (Jvm.Cond.selects "HeapGame" ({ cls := "HeapGame", name := "move", desc := "()I" } : Jvm.MethodName) ({ cls := "HeapGame", name := "move", desc := "()I" } : Jvm.MethodName)) ∈ lw_all := lw_g (lw_at lw_m0 78 rfl) rfl
theorem q86 : (Jvm.Cond.code ({ cls := "HeapGame", name := "move", desc := "()I" } : Jvm.MethodName) prog_1_method_13_code (3 : Nat) (Option.some Jvm.ClassFile.FieldType.int)) ∈ lw_all := lw_g (lw_at lw_m0 79 rfl) rfl
theorem q87 : (Jvm.Cond.methodLink "HeapGame" (62 : Nat) ({ cls := "HeapGame", name := "good", desc := "(II)Z" } : Jvm.MethodName)) ∈ lw_all := lw_g (lw_at lw_m0 80 rfl) rfl
theorem q88 : (Jvm.Cond.privateMethod ({ cls := "HeapGame", name := "good", desc := "(II)Z" } : Jvm.MethodName)) ∈ lw_tbl := lw_at lw_m0 81 rfl
theorem q89 : (Jvm.Cond.instanceMethod ({ cls := "HeapGame", name := "good", desc := "(II)Z" } : Jvm.MethodName)) ∈ lw_all := lw_g (lw_at lw_m0 82 rfl) rfl
theorem q90 : (Jvm.Cond.code ({ cls := "HeapGame", name := "good", desc := "(II)Z" } : Jvm.MethodName) prog_1_method_12_code (4 : Nat) (Option.some Jvm.ClassFile.FieldType.boolean)) ∈ lw_all := lw_g (lw_at lw_m0 83 rfl) rfl
theorem q91 : (Jvm.Cond.methodLink "HeapGame" (58 : Nat) ({ cls := "HeapGame", name := "first", desc := "()Z" } : Jvm.MethodName)) ∈ lw_all := lw_g (lw_at lw_m0 84 rfl) rfl
theorem q93 : (Jvm.Cond.instanceMethod ({ cls := "HeapGame", name := "take", desc := "(II)Z" } : Jvm.MethodName)) ∈ lw_all := lw_g (lw_at lw_m0 86 rfl) rfl
theorem q94 : (Jvm.Cond.selects "HeapGame" ({ cls := "HeapGame", name := "take", desc := "(II)Z" } : Jvm.MethodName) ({ cls := "HeapGame", name := "take", desc := "(II)Z" } : Jvm.MethodName)) ∈ lw_all := lw_g (lw_at lw_m0 87 rfl) rfl
theorem q95 : (Jvm.Cond.code ({ cls := "HeapGame", name := "take", desc := "(II)Z" } : Jvm.MethodName) prog_1_method_14_code (5 : Nat) (Option.some Jvm.ClassFile.FieldType.boolean)) ∈ lw_all := lw_g (lw_at lw_m0 88 rfl) rfl
theorem q96 : (Jvm.Cond.constant "HeapGame" (66 : Nat) (2147483647 : Int32)) ∈ lw_all := lw_g (lw_at lw_m0 89 rfl) rfl
theorem q98 : (Jvm.Cond.instanceMethod ({ cls := "HeapGame", name := "heap", desc := "(I)I" } : Jvm.MethodName)) ∈ lw_all := lw_g (lw_at lw_m0 91 rfl) rfl
theorem q99 : (Jvm.Cond.selects "HeapGame" ({ cls := "HeapGame", name := "heap", desc := "(I)I" } : Jvm.MethodName) ({ cls := "HeapGame", name := "heap", desc := "(I)I" } : Jvm.MethodName)) ∈ lw_all := lw_g (lw_at lw_m0 92 rfl) rfl
theorem q100 : (Jvm.Cond.code ({ cls := "HeapGame", name := "heap", desc := "(I)I" } : Jvm.MethodName) prog_1_method_15_code (2 : Nat) (Option.some Jvm.ClassFile.FieldType.int)) ∈ lw_all := lw_g (lw_at lw_m0 93 rfl) rfl
theorem q102 : (Jvm.Cond.instanceMethod ({ cls := "HeapGame", name := "lost", desc := "()I" } : Jvm.MethodName)) ∈ lw_all := lw_g (lw_at lw_m0 95 rfl) rfl
theorem q103 : (Jvm.Cond.selects "HeapGame" ({ cls := "HeapGame", name := "lost", desc := "()I" } : Jvm.MethodName) ({ cls := "HeapGame", name := "lost", desc := "()I" } : Jvm.MethodName)) ∈ lw_all := lw_g (lw_at lw_m0 96 rfl) rfl
theorem q104 : (Jvm.Cond.code ({ cls := "HeapGame", name := "lost", desc := "()I" } : Jvm.MethodName) prog_1_method_16_code (5 : Nat) (Option.some Jvm.ClassFile.FieldType.int)) ∈ lw_all := lw_g (lw_at lw_m0 97 rfl) rfl
theorem in_X0 : ∀ w ∈ wsX00, w ∈ lw_all := lw_in wsX00 [37, 39, 41, 43, 45, 47] (by decide +kernel) (by decide +kernel)
/-! java/lang/Integer -/
set_option maxRecDepth 100000
def RJ0 : String := "java/lang/Integer"
abbrev cJ0_numberOfTrailingZeros : ByteArray := prog_4_method_48_code
def yJ0_numberOfTrailingZeros : MethodName := ⟨RJ0, "numberOfTrailingZeros", "(I)I"⟩
theorem dJ0_numberOfTrailingZeros_0 : decode cJ0_numberOfTrailingZeros 0 = .ok (.iload_n 0, 1) := by decide +kernel
theorem dJ0_numberOfTrailingZeros_1 : decode cJ0_numberOfTrailingZeros 1 = .ok (.iconst (-1), 1) := by decide +kernel
theorem dJ0_numberOfTrailingZeros_2 : decode cJ0_numberOfTrailingZeros 2 = .ok (.ixor, 1) := by decide +kernel
theorem dJ0_numberOfTrailingZeros_3 : decode cJ0_numberOfTrailingZeros 3 = .ok (.iload_n 0, 1) := by decide +kernel
theorem dJ0_numberOfTrailingZeros_4 : decode cJ0_numberOfTrailingZeros 4 = .ok (.iconst 1, 1) := by decide +kernel
theorem dJ0_numberOfTrailingZeros_5 : decode cJ0_numberOfTrailingZeros 5 = .ok (.isub, 1) := by decide +kernel
theorem dJ0_numberOfTrailingZeros_6 : decode cJ0_numberOfTrailingZeros 6 = .ok (.iand, 1) := by decide +kernel
theorem dJ0_numberOfTrailingZeros_7 : decode cJ0_numberOfTrailingZeros 7 = .ok (.istore_n 0, 1) := by decide +kernel
theorem dJ0_numberOfTrailingZeros_8 : decode cJ0_numberOfTrailingZeros 8 = .ok (.iload_n 0, 1) := by decide +kernel
theorem dJ0_numberOfTrailingZeros_9 : decode cJ0_numberOfTrailingZeros 9 = .ok (.ifCond .gt 8, 3) := by decide +kernel
theorem dJ0_numberOfTrailingZeros_12 : decode cJ0_numberOfTrailingZeros 12 = .ok (.iload_n 0, 1) := by decide +kernel
theorem dJ0_numberOfTrailingZeros_13 : decode cJ0_numberOfTrailingZeros 13 = .ok (.bipush 32, 2) := by decide +kernel
theorem dJ0_numberOfTrailingZeros_15 : decode cJ0_numberOfTrailingZeros 15 = .ok (.iand, 1) := by decide +kernel
theorem dJ0_numberOfTrailingZeros_16 : decode cJ0_numberOfTrailingZeros 16 = .ok (.ireturn, 1) := by decide +kernel
theorem dJ0_numberOfTrailingZeros_17 : decode cJ0_numberOfTrailingZeros 17 = .ok (.iconst 1, 1) := by decide +kernel
theorem dJ0_numberOfTrailingZeros_18 : decode cJ0_numberOfTrailingZeros 18 = .ok (.istore_n 1, 1) := by decide +kernel
theorem dJ0_numberOfTrailingZeros_19 : decode cJ0_numberOfTrailingZeros 19 = .ok (.iload_n 0, 1) := by decide +kernel
theorem dJ0_numberOfTrailingZeros_20 : decode cJ0_numberOfTrailingZeros 20 = .ok (.ldc_w 264, 3) := by decide +kernel
theorem dJ0_numberOfTrailingZeros_23 : decode cJ0_numberOfTrailingZeros 23 = .ok (.if_icmp .le 11, 3) := by decide +kernel
theorem dJ0_numberOfTrailingZeros_26 : decode cJ0_numberOfTrailingZeros 26 = .ok (.iinc 1 16, 3) := by decide +kernel
theorem dJ0_numberOfTrailingZeros_29 : decode cJ0_numberOfTrailingZeros 29 = .ok (.iload_n 0, 1) := by decide +kernel
theorem dJ0_numberOfTrailingZeros_30 : decode cJ0_numberOfTrailingZeros 30 = .ok (.bipush 16, 2) := by decide +kernel
theorem dJ0_numberOfTrailingZeros_32 : decode cJ0_numberOfTrailingZeros 32 = .ok (.iushr, 1) := by decide +kernel
theorem dJ0_numberOfTrailingZeros_33 : decode cJ0_numberOfTrailingZeros 33 = .ok (.istore_n 0, 1) := by decide +kernel
theorem dJ0_numberOfTrailingZeros_34 : decode cJ0_numberOfTrailingZeros 34 = .ok (.iload_n 0, 1) := by decide +kernel
theorem dJ0_numberOfTrailingZeros_35 : decode cJ0_numberOfTrailingZeros 35 = .ok (.sipush 256, 3) := by decide +kernel
theorem dJ0_numberOfTrailingZeros_38 : decode cJ0_numberOfTrailingZeros 38 = .ok (.if_icmp .le 11, 3) := by decide +kernel
theorem dJ0_numberOfTrailingZeros_41 : decode cJ0_numberOfTrailingZeros 41 = .ok (.iinc 1 8, 3) := by decide +kernel
theorem dJ0_numberOfTrailingZeros_44 : decode cJ0_numberOfTrailingZeros 44 = .ok (.iload_n 0, 1) := by decide +kernel
theorem dJ0_numberOfTrailingZeros_45 : decode cJ0_numberOfTrailingZeros 45 = .ok (.bipush 8, 2) := by decide +kernel
theorem dJ0_numberOfTrailingZeros_47 : decode cJ0_numberOfTrailingZeros 47 = .ok (.iushr, 1) := by decide +kernel
theorem dJ0_numberOfTrailingZeros_48 : decode cJ0_numberOfTrailingZeros 48 = .ok (.istore_n 0, 1) := by decide +kernel
theorem dJ0_numberOfTrailingZeros_49 : decode cJ0_numberOfTrailingZeros 49 = .ok (.iload_n 0, 1) := by decide +kernel
theorem dJ0_numberOfTrailingZeros_50 : decode cJ0_numberOfTrailingZeros 50 = .ok (.bipush 16, 2) := by decide +kernel
theorem dJ0_numberOfTrailingZeros_52 : decode cJ0_numberOfTrailingZeros 52 = .ok (.if_icmp .le 10, 3) := by decide +kernel
theorem dJ0_numberOfTrailingZeros_55 : decode cJ0_numberOfTrailingZeros 55 = .ok (.iinc 1 4, 3) := by decide +kernel
theorem dJ0_numberOfTrailingZeros_58 : decode cJ0_numberOfTrailingZeros 58 = .ok (.iload_n 0, 1) := by decide +kernel
theorem dJ0_numberOfTrailingZeros_59 : decode cJ0_numberOfTrailingZeros 59 = .ok (.iconst 4, 1) := by decide +kernel
theorem dJ0_numberOfTrailingZeros_60 : decode cJ0_numberOfTrailingZeros 60 = .ok (.iushr, 1) := by decide +kernel
theorem dJ0_numberOfTrailingZeros_61 : decode cJ0_numberOfTrailingZeros 61 = .ok (.istore_n 0, 1) := by decide +kernel
theorem dJ0_numberOfTrailingZeros_62 : decode cJ0_numberOfTrailingZeros 62 = .ok (.iload_n 0, 1) := by decide +kernel
theorem dJ0_numberOfTrailingZeros_63 : decode cJ0_numberOfTrailingZeros 63 = .ok (.iconst 4, 1) := by decide +kernel
theorem dJ0_numberOfTrailingZeros_64 : decode cJ0_numberOfTrailingZeros 64 = .ok (.if_icmp .le 10, 3) := by decide +kernel
theorem dJ0_numberOfTrailingZeros_67 : decode cJ0_numberOfTrailingZeros 67 = .ok (.iinc 1 2, 3) := by decide +kernel
theorem dJ0_numberOfTrailingZeros_70 : decode cJ0_numberOfTrailingZeros 70 = .ok (.iload_n 0, 1) := by decide +kernel
theorem dJ0_numberOfTrailingZeros_71 : decode cJ0_numberOfTrailingZeros 71 = .ok (.iconst 2, 1) := by decide +kernel
theorem dJ0_numberOfTrailingZeros_72 : decode cJ0_numberOfTrailingZeros 72 = .ok (.iushr, 1) := by decide +kernel
theorem dJ0_numberOfTrailingZeros_73 : decode cJ0_numberOfTrailingZeros 73 = .ok (.istore_n 0, 1) := by decide +kernel
theorem dJ0_numberOfTrailingZeros_74 : decode cJ0_numberOfTrailingZeros 74 = .ok (.iload_n 1, 1) := by decide +kernel
theorem dJ0_numberOfTrailingZeros_75 : decode cJ0_numberOfTrailingZeros 75 = .ok (.iload_n 0, 1) := by decide +kernel
theorem dJ0_numberOfTrailingZeros_76 : decode cJ0_numberOfTrailingZeros 76 = .ok (.iconst 1, 1) := by decide +kernel
theorem dJ0_numberOfTrailingZeros_77 : decode cJ0_numberOfTrailingZeros 77 = .ok (.iushr, 1) := by decide +kernel
theorem dJ0_numberOfTrailingZeros_78 : decode cJ0_numberOfTrailingZeros 78 = .ok (.iadd, 1) := by decide +kernel
theorem dJ0_numberOfTrailingZeros_79 : decode cJ0_numberOfTrailingZeros 79 = .ok (.ireturn, 1) := by decide +kernel
theorem q9 : (Jvm.Cond.initialized "java/lang/Integer") ∈ lw_all := lw_g (lw_at lw_m0 2 rfl) rfl
theorem q28 : (Jvm.Cond.static ({ cls := "java/lang/Integer", name := "numberOfTrailingZeros", desc := "(I)I" } : Jvm.MethodName)) ∈ lw_all := lw_g (lw_at lw_m0 21 rfl) rfl
theorem q29 : (Jvm.Cond.code ({ cls := "java/lang/Integer", name := "numberOfTrailingZeros", desc := "(I)I" } : Jvm.MethodName) prog_4_method_48_code (2 : Nat) (Option.some Jvm.ClassFile.FieldType.int)) ∈ lw_all := lw_g (lw_at lw_m0 22 rfl) rfl
theorem q30 : (Jvm.Cond.constant "java/lang/Integer" (264 : Nat) (65536 : Int32)) ∈ lw_all := lw_g (lw_at lw_m0 23 rfl) rfl
/-! java/lang/Object -/
set_option maxRecDepth 100000
def RJ1 : String := "java/lang/Object"
abbrev cJ1_init : ByteArray := object_method_1_code
def yJ1_init : MethodName := ⟨RJ1, "<init>", "()V"⟩
theorem dJ1_init_0 : decode cJ1_init 0 = .ok (.return_, 1) := by decide +kernel
theorem q17 : (Jvm.Cond.instanceMethod ({ cls := "java/lang/Object", name := "<init>", desc := "()V" } : Jvm.MethodName)) ∈ lw_all := lw_g (lw_at lw_m0 10 rfl) rfl
theorem q18 : (Jvm.Cond.code ({ cls := "java/lang/Object", name := "<init>", desc := "()V" } : Jvm.MethodName) object_method_1_code (1 : Nat) (Option.none : Option Jvm.ClassFile.FieldType)) ∈ lw_all := lw_g (lw_at lw_m0 11 rfl) rfl
end
section
/-! HeapGameModel -/
set_option maxRecDepth 100000
def RX1 : String := "HeapGameModel"
def TX1 : u_T := fun k => match k with
  | 0 => ("HeapGameModel", "moves", "I", false)
  | 1 => ("HeapGameModel", "heap", "[I", true)
  | 2 => ("HeapGameModel", "misere", "Z", false)
  | 3 => ("HeapGameModel", "wins", "[Z", true)
  | 4 => ("HeapGameModel", "known", "Z", false)
  | _ => ("HeapGameModel", "losing", "I", false)
def tyX1 : Nat → FieldType := fun k => match k with
  | 0 => .int
  | 1 => .array .int
  | 2 => .boolean
  | 3 => .array .boolean
  | 4 => .boolean
  | _ => .int
abbrev wsX10 : List Cond := u_ws RX1 TX1 6
theorem nmX1 : ∀ a, a < 6 → ∀ b, b < 6 → a ≠ b → (TX1 a).2.1 ≠ (TX1 b).2.1 := by decide +kernel
theorem tyX1_ok : ∀ k, k < 6 → parseFieldDescriptor (TX1 k).2.2.1 = some (tyX1 k) := by decide +kernel
abbrev cX1_init : ByteArray := prog_3_method_1_code
def yX1_init : MethodName := ⟨RX1, "<init>", "()V"⟩
theorem dX1_init_0 : decode cX1_init 0 = .ok (.aload_n 0, 1) := by decide +kernel
theorem dX1_init_1 : decode cX1_init 1 = .ok (.invokespecial 1, 3) := by decide +kernel
theorem dX1_init_4 : decode cX1_init 4 = .ok (.aload_n 0, 1) := by decide +kernel
theorem dX1_init_5 : decode cX1_init 5 = .ok (.bipush 6, 2) := by decide +kernel
theorem dX1_init_7 : decode cX1_init 7 = .ok (.putfield 7, 3) := by decide +kernel
theorem dX1_init_10 : decode cX1_init 10 = .ok (.aload_n 0, 1) := by decide +kernel
theorem dX1_init_11 : decode cX1_init 11 = .ok (.iconst 3, 1) := by decide +kernel
theorem dX1_init_12 : decode cX1_init 12 = .ok (.newarray .int, 2) := by decide +kernel
theorem dX1_init_14 : decode cX1_init 14 = .ok (.putfield 13, 3) := by decide +kernel
theorem dX1_init_17 : decode cX1_init 17 = .ok (.aload_n 0, 1) := by decide +kernel
theorem dX1_init_18 : decode cX1_init 18 = .ok (.sipush 4096, 3) := by decide +kernel
theorem dX1_init_21 : decode cX1_init 21 = .ok (.newarray .boolean, 2) := by decide +kernel
theorem dX1_init_23 : decode cX1_init 23 = .ok (.putfield 17, 3) := by decide +kernel
theorem dX1_init_26 : decode cX1_init 26 = .ok (.return_, 1) := by decide +kernel
abbrev cX1_rules : ByteArray := prog_3_method_2_code
def yX1_rules : MethodName := ⟨RX1, "rules", "(I)V"⟩
theorem dX1_rules_0 : decode cX1_rules 0 = .ok (.aload_n 0, 1) := by decide +kernel
theorem dX1_rules_1 : decode cX1_rules 1 = .ok (.iload_n 1, 1) := by decide +kernel
theorem dX1_rules_2 : decode cX1_rules 2 = .ok (.sipush 32766, 3) := by decide +kernel
theorem dX1_rules_5 : decode cX1_rules 5 = .ok (.iand, 1) := by decide +kernel
theorem dX1_rules_6 : decode cX1_rules 6 = .ok (.putfield 7, 3) := by decide +kernel
theorem dX1_rules_9 : decode cX1_rules 9 = .ok (.aload_n 0, 1) := by decide +kernel
theorem dX1_rules_10 : decode cX1_rules 10 = .ok (.iconst 0, 1) := by decide +kernel
theorem dX1_rules_11 : decode cX1_rules 11 = .ok (.putfield 21, 3) := by decide +kernel
theorem dX1_rules_14 : decode cX1_rules 14 = .ok (.return_, 1) := by decide +kernel
abbrev cX1_turned : ByteArray := prog_3_method_3_code
def yX1_turned : MethodName := ⟨RX1, "turned", "(I)V"⟩
theorem dX1_turned_0 : decode cX1_turned 0 = .ok (.aload_n 0, 1) := by decide +kernel
theorem dX1_turned_1 : decode cX1_turned 1 = .ok (.iload_n 1, 1) := by decide +kernel
theorem dX1_turned_2 : decode cX1_turned 2 = .ok (.iconst 1, 1) := by decide +kernel
theorem dX1_turned_3 : decode cX1_turned 3 = .ok (.iand, 1) := by decide +kernel
theorem dX1_turned_4 : decode cX1_turned 4 = .ok (.ifCond .eq 7, 3) := by decide +kernel
theorem dX1_turned_7 : decode cX1_turned 7 = .ok (.iconst 1, 1) := by decide +kernel
theorem dX1_turned_8 : decode cX1_turned 8 = .ok (.goto 4, 3) := by decide +kernel
theorem dX1_turned_11 : decode cX1_turned 11 = .ok (.iconst 0, 1) := by decide +kernel
theorem dX1_turned_12 : decode cX1_turned 12 = .ok (.putfield 25, 3) := by decide +kernel
theorem dX1_turned_15 : decode cX1_turned 15 = .ok (.aload_n 0, 1) := by decide +kernel
theorem dX1_turned_16 : decode cX1_turned 16 = .ok (.iconst 0, 1) := by decide +kernel
theorem dX1_turned_17 : decode cX1_turned 17 = .ok (.putfield 21, 3) := by decide +kernel
theorem dX1_turned_20 : decode cX1_turned 20 = .ok (.return_, 1) := by decide +kernel
abbrev cX1_heaps : ByteArray := prog_3_method_4_code
def yX1_heaps : MethodName := ⟨RX1, "heaps", "(III)V"⟩
theorem dX1_heaps_0 : decode cX1_heaps 0 = .ok (.aload_n 0, 1) := by decide +kernel
theorem dX1_heaps_1 : decode cX1_heaps 1 = .ok (.getfield 13, 3) := by decide +kernel
theorem dX1_heaps_4 : decode cX1_heaps 4 = .ok (.iconst 0, 1) := by decide +kernel
theorem dX1_heaps_5 : decode cX1_heaps 5 = .ok (.iload_n 1, 1) := by decide +kernel
theorem dX1_heaps_6 : decode cX1_heaps 6 = .ok (.bipush 15, 2) := by decide +kernel
theorem dX1_heaps_8 : decode cX1_heaps 8 = .ok (.iand, 1) := by decide +kernel
theorem dX1_heaps_9 : decode cX1_heaps 9 = .ok (.iastore, 1) := by decide +kernel
theorem dX1_heaps_10 : decode cX1_heaps 10 = .ok (.aload_n 0, 1) := by decide +kernel
theorem dX1_heaps_11 : decode cX1_heaps 11 = .ok (.getfield 13, 3) := by decide +kernel
theorem dX1_heaps_14 : decode cX1_heaps 14 = .ok (.iconst 1, 1) := by decide +kernel
theorem dX1_heaps_15 : decode cX1_heaps 15 = .ok (.iload_n 2, 1) := by decide +kernel
theorem dX1_heaps_16 : decode cX1_heaps 16 = .ok (.bipush 15, 2) := by decide +kernel
theorem dX1_heaps_18 : decode cX1_heaps 18 = .ok (.iand, 1) := by decide +kernel
theorem dX1_heaps_19 : decode cX1_heaps 19 = .ok (.iastore, 1) := by decide +kernel
theorem dX1_heaps_20 : decode cX1_heaps 20 = .ok (.aload_n 0, 1) := by decide +kernel
theorem dX1_heaps_21 : decode cX1_heaps 21 = .ok (.getfield 13, 3) := by decide +kernel
theorem dX1_heaps_24 : decode cX1_heaps 24 = .ok (.iconst 2, 1) := by decide +kernel
theorem dX1_heaps_25 : decode cX1_heaps 25 = .ok (.iload_n 3, 1) := by decide +kernel
theorem dX1_heaps_26 : decode cX1_heaps 26 = .ok (.bipush 15, 2) := by decide +kernel
theorem dX1_heaps_28 : decode cX1_heaps 28 = .ok (.iand, 1) := by decide +kernel
theorem dX1_heaps_29 : decode cX1_heaps 29 = .ok (.iastore, 1) := by decide +kernel
theorem dX1_heaps_30 : decode cX1_heaps 30 = .ok (.return_, 1) := by decide +kernel
abbrev cX1_first : ByteArray := prog_3_method_6_code
def yX1_first : MethodName := ⟨RX1, "first", "()Z"⟩
theorem dX1_first_0 : decode cX1_first 0 = .ok (.aload_n 0, 1) := by decide +kernel
theorem dX1_first_1 : decode cX1_first 1 = .ok (.invokevirtual 31, 3) := by decide +kernel
theorem dX1_first_4 : decode cX1_first 4 = .ok (.aload_n 0, 1) := by decide +kernel
theorem dX1_first_5 : decode cX1_first 5 = .ok (.getfield 17, 3) := by decide +kernel
theorem dX1_first_8 : decode cX1_first 8 = .ok (.sipush 256, 3) := by decide +kernel
theorem dX1_first_11 : decode cX1_first 11 = .ok (.aload_n 0, 1) := by decide +kernel
theorem dX1_first_12 : decode cX1_first 12 = .ok (.getfield 13, 3) := by decide +kernel
theorem dX1_first_15 : decode cX1_first 15 = .ok (.iconst 0, 1) := by decide +kernel
theorem dX1_first_16 : decode cX1_first 16 = .ok (.iaload, 1) := by decide +kernel
theorem dX1_first_17 : decode cX1_first 17 = .ok (.imul, 1) := by decide +kernel
theorem dX1_first_18 : decode cX1_first 18 = .ok (.bipush 16, 2) := by decide +kernel
theorem dX1_first_20 : decode cX1_first 20 = .ok (.aload_n 0, 1) := by decide +kernel
theorem dX1_first_21 : decode cX1_first 21 = .ok (.getfield 13, 3) := by decide +kernel
theorem dX1_first_24 : decode cX1_first 24 = .ok (.iconst 1, 1) := by decide +kernel
theorem dX1_first_25 : decode cX1_first 25 = .ok (.iaload, 1) := by decide +kernel
theorem dX1_first_26 : decode cX1_first 26 = .ok (.imul, 1) := by decide +kernel
theorem dX1_first_27 : decode cX1_first 27 = .ok (.iadd, 1) := by decide +kernel
theorem dX1_first_28 : decode cX1_first 28 = .ok (.aload_n 0, 1) := by decide +kernel
theorem dX1_first_29 : decode cX1_first 29 = .ok (.getfield 13, 3) := by decide +kernel
theorem dX1_first_32 : decode cX1_first 32 = .ok (.iconst 2, 1) := by decide +kernel
theorem dX1_first_33 : decode cX1_first 33 = .ok (.iaload, 1) := by decide +kernel
theorem dX1_first_34 : decode cX1_first 34 = .ok (.iadd, 1) := by decide +kernel
theorem dX1_first_35 : decode cX1_first 35 = .ok (.baload, 1) := by decide +kernel
theorem dX1_first_36 : decode cX1_first 36 = .ok (.ireturn, 1) := by decide +kernel
abbrev cX1_reckon : ByteArray := prog_3_method_5_code
def yX1_reckon : MethodName := ⟨RX1, "reckon", "()V"⟩
theorem dX1_reckon_0 : decode cX1_reckon 0 = .ok (.aload_n 0, 1) := by decide +kernel
theorem dX1_reckon_1 : decode cX1_reckon 1 = .ok (.getfield 21, 3) := by decide +kernel
theorem dX1_reckon_4 : decode cX1_reckon 4 = .ok (.ifCond .eq 4, 3) := by decide +kernel
theorem dX1_reckon_7 : decode cX1_reckon 7 = .ok (.return_, 1) := by decide +kernel
theorem dX1_reckon_8 : decode cX1_reckon 8 = .ok (.aload_n 0, 1) := by decide +kernel
theorem dX1_reckon_9 : decode cX1_reckon 9 = .ok (.iconst 1, 1) := by decide +kernel
theorem dX1_reckon_10 : decode cX1_reckon 10 = .ok (.putfield 21, 3) := by decide +kernel
theorem dX1_reckon_13 : decode cX1_reckon 13 = .ok (.aload_n 0, 1) := by decide +kernel
theorem dX1_reckon_14 : decode cX1_reckon 14 = .ok (.iconst 0, 1) := by decide +kernel
theorem dX1_reckon_15 : decode cX1_reckon 15 = .ok (.putfield 28, 3) := by decide +kernel
theorem dX1_reckon_18 : decode cX1_reckon 18 = .ok (.iconst 0, 1) := by decide +kernel
theorem dX1_reckon_19 : decode cX1_reckon 19 = .ok (.istore_n 1, 1) := by decide +kernel
theorem dX1_reckon_20 : decode cX1_reckon 20 = .ok (.iload_n 1, 1) := by decide +kernel
theorem dX1_reckon_21 : decode cX1_reckon 21 = .ok (.bipush 16, 2) := by decide +kernel
theorem dX1_reckon_23 : decode cX1_reckon 23 = .ok (.if_icmp .ge 264, 3) := by decide +kernel
theorem dX1_reckon_26 : decode cX1_reckon 26 = .ok (.iconst 0, 1) := by decide +kernel
theorem dX1_reckon_27 : decode cX1_reckon 27 = .ok (.istore_n 2, 1) := by decide +kernel
theorem dX1_reckon_28 : decode cX1_reckon 28 = .ok (.iload_n 2, 1) := by decide +kernel
theorem dX1_reckon_29 : decode cX1_reckon 29 = .ok (.bipush 16, 2) := by decide +kernel
theorem dX1_reckon_31 : decode cX1_reckon 31 = .ok (.if_icmp .ge 250, 3) := by decide +kernel
theorem dX1_reckon_34 : decode cX1_reckon 34 = .ok (.iconst 0, 1) := by decide +kernel
theorem dX1_reckon_35 : decode cX1_reckon 35 = .ok (.istore_n 3, 1) := by decide +kernel
theorem dX1_reckon_36 : decode cX1_reckon 36 = .ok (.iload_n 3, 1) := by decide +kernel
theorem dX1_reckon_37 : decode cX1_reckon 37 = .ok (.bipush 16, 2) := by decide +kernel
theorem dX1_reckon_39 : decode cX1_reckon 39 = .ok (.if_icmp .ge 236, 3) := by decide +kernel
theorem dX1_reckon_42 : decode cX1_reckon 42 = .ok (.iconst 0, 1) := by decide +kernel
theorem dX1_reckon_43 : decode cX1_reckon 43 = .ok (.istore 4, 2) := by decide +kernel
theorem dX1_reckon_45 : decode cX1_reckon 45 = .ok (.iconst 0, 1) := by decide +kernel
theorem dX1_reckon_46 : decode cX1_reckon 46 = .ok (.istore 5, 2) := by decide +kernel
theorem dX1_reckon_48 : decode cX1_reckon 48 = .ok (.iconst 1, 1) := by decide +kernel
theorem dX1_reckon_49 : decode cX1_reckon 49 = .ok (.istore 6, 2) := by decide +kernel
theorem dX1_reckon_51 : decode cX1_reckon 51 = .ok (.iload 6, 2) := by decide +kernel
theorem dX1_reckon_53 : decode cX1_reckon 53 = .ok (.bipush 15, 2) := by decide +kernel
theorem dX1_reckon_55 : decode cX1_reckon 55 = .ok (.if_icmp .ge 153, 3) := by decide +kernel
theorem dX1_reckon_58 : decode cX1_reckon 58 = .ok (.aload_n 0, 1) := by decide +kernel
theorem dX1_reckon_59 : decode cX1_reckon 59 = .ok (.getfield 7, 3) := by decide +kernel
theorem dX1_reckon_62 : decode cX1_reckon 62 = .ok (.iload 6, 2) := by decide +kernel
theorem dX1_reckon_64 : decode cX1_reckon 64 = .ok (.ishr, 1) := by decide +kernel
theorem dX1_reckon_65 : decode cX1_reckon 65 = .ok (.iconst 1, 1) := by decide +kernel
theorem dX1_reckon_66 : decode cX1_reckon 66 = .ok (.iand, 1) := by decide +kernel
theorem dX1_reckon_67 : decode cX1_reckon 67 = .ok (.ifCond .eq 135, 3) := by decide +kernel
theorem dX1_reckon_70 : decode cX1_reckon 70 = .ok (.iload 6, 2) := by decide +kernel
theorem dX1_reckon_72 : decode cX1_reckon 72 = .ok (.iload_n 1, 1) := by decide +kernel
theorem dX1_reckon_73 : decode cX1_reckon 73 = .ok (.if_icmp .gt 41, 3) := by decide +kernel
theorem dX1_reckon_76 : decode cX1_reckon 76 = .ok (.iconst 1, 1) := by decide +kernel
theorem dX1_reckon_77 : decode cX1_reckon 77 = .ok (.istore 4, 2) := by decide +kernel
theorem dX1_reckon_79 : decode cX1_reckon 79 = .ok (.iload 5, 2) := by decide +kernel
theorem dX1_reckon_81 : decode cX1_reckon 81 = .ok (.ifCond .ne 26, 3) := by decide +kernel
theorem dX1_reckon_84 : decode cX1_reckon 84 = .ok (.aload_n 0, 1) := by decide +kernel
theorem dX1_reckon_85 : decode cX1_reckon 85 = .ok (.getfield 17, 3) := by decide +kernel
theorem dX1_reckon_88 : decode cX1_reckon 88 = .ok (.sipush 256, 3) := by decide +kernel
theorem dX1_reckon_91 : decode cX1_reckon 91 = .ok (.iload_n 1, 1) := by decide +kernel
theorem dX1_reckon_92 : decode cX1_reckon 92 = .ok (.iload 6, 2) := by decide +kernel
theorem dX1_reckon_94 : decode cX1_reckon 94 = .ok (.isub, 1) := by decide +kernel
theorem dX1_reckon_95 : decode cX1_reckon 95 = .ok (.imul, 1) := by decide +kernel
theorem dX1_reckon_96 : decode cX1_reckon 96 = .ok (.bipush 16, 2) := by decide +kernel
theorem dX1_reckon_98 : decode cX1_reckon 98 = .ok (.iload_n 2, 1) := by decide +kernel
theorem dX1_reckon_99 : decode cX1_reckon 99 = .ok (.imul, 1) := by decide +kernel
theorem dX1_reckon_100 : decode cX1_reckon 100 = .ok (.iadd, 1) := by decide +kernel
theorem dX1_reckon_101 : decode cX1_reckon 101 = .ok (.iload_n 3, 1) := by decide +kernel
theorem dX1_reckon_102 : decode cX1_reckon 102 = .ok (.iadd, 1) := by decide +kernel
theorem dX1_reckon_103 : decode cX1_reckon 103 = .ok (.baload, 1) := by decide +kernel
theorem dX1_reckon_104 : decode cX1_reckon 104 = .ok (.ifCond .ne 7, 3) := by decide +kernel
theorem dX1_reckon_107 : decode cX1_reckon 107 = .ok (.iconst 1, 1) := by decide +kernel
theorem dX1_reckon_108 : decode cX1_reckon 108 = .ok (.goto 4, 3) := by decide +kernel
theorem dX1_reckon_111 : decode cX1_reckon 111 = .ok (.iconst 0, 1) := by decide +kernel
theorem dX1_reckon_112 : decode cX1_reckon 112 = .ok (.istore 5, 2) := by decide +kernel
theorem dX1_reckon_114 : decode cX1_reckon 114 = .ok (.iload 6, 2) := by decide +kernel
theorem dX1_reckon_116 : decode cX1_reckon 116 = .ok (.iload_n 2, 1) := by decide +kernel
theorem dX1_reckon_117 : decode cX1_reckon 117 = .ok (.if_icmp .gt 41, 3) := by decide +kernel
theorem dX1_reckon_120 : decode cX1_reckon 120 = .ok (.iconst 1, 1) := by decide +kernel
theorem dX1_reckon_121 : decode cX1_reckon 121 = .ok (.istore 4, 2) := by decide +kernel
theorem dX1_reckon_123 : decode cX1_reckon 123 = .ok (.iload 5, 2) := by decide +kernel
theorem dX1_reckon_125 : decode cX1_reckon 125 = .ok (.ifCond .ne 26, 3) := by decide +kernel
theorem dX1_reckon_128 : decode cX1_reckon 128 = .ok (.aload_n 0, 1) := by decide +kernel
theorem dX1_reckon_129 : decode cX1_reckon 129 = .ok (.getfield 17, 3) := by decide +kernel
theorem dX1_reckon_132 : decode cX1_reckon 132 = .ok (.sipush 256, 3) := by decide +kernel
theorem dX1_reckon_135 : decode cX1_reckon 135 = .ok (.iload_n 1, 1) := by decide +kernel
theorem dX1_reckon_136 : decode cX1_reckon 136 = .ok (.imul, 1) := by decide +kernel
theorem dX1_reckon_137 : decode cX1_reckon 137 = .ok (.bipush 16, 2) := by decide +kernel
theorem dX1_reckon_139 : decode cX1_reckon 139 = .ok (.iload_n 2, 1) := by decide +kernel
theorem dX1_reckon_140 : decode cX1_reckon 140 = .ok (.iload 6, 2) := by decide +kernel
theorem dX1_reckon_142 : decode cX1_reckon 142 = .ok (.isub, 1) := by decide +kernel
theorem dX1_reckon_143 : decode cX1_reckon 143 = .ok (.imul, 1) := by decide +kernel
theorem dX1_reckon_144 : decode cX1_reckon 144 = .ok (.iadd, 1) := by decide +kernel
theorem dX1_reckon_145 : decode cX1_reckon 145 = .ok (.iload_n 3, 1) := by decide +kernel
theorem dX1_reckon_146 : decode cX1_reckon 146 = .ok (.iadd, 1) := by decide +kernel
theorem dX1_reckon_147 : decode cX1_reckon 147 = .ok (.baload, 1) := by decide +kernel
theorem dX1_reckon_148 : decode cX1_reckon 148 = .ok (.ifCond .ne 7, 3) := by decide +kernel
theorem dX1_reckon_151 : decode cX1_reckon 151 = .ok (.iconst 1, 1) := by decide +kernel
theorem dX1_reckon_152 : decode cX1_reckon 152 = .ok (.goto 4, 3) := by decide +kernel
theorem dX1_reckon_155 : decode cX1_reckon 155 = .ok (.iconst 0, 1) := by decide +kernel
theorem dX1_reckon_156 : decode cX1_reckon 156 = .ok (.istore 5, 2) := by decide +kernel
theorem dX1_reckon_158 : decode cX1_reckon 158 = .ok (.iload 6, 2) := by decide +kernel
theorem dX1_reckon_160 : decode cX1_reckon 160 = .ok (.iload_n 3, 1) := by decide +kernel
theorem dX1_reckon_161 : decode cX1_reckon 161 = .ok (.if_icmp .gt 41, 3) := by decide +kernel
theorem dX1_reckon_164 : decode cX1_reckon 164 = .ok (.iconst 1, 1) := by decide +kernel
theorem dX1_reckon_165 : decode cX1_reckon 165 = .ok (.istore 4, 2) := by decide +kernel
theorem dX1_reckon_167 : decode cX1_reckon 167 = .ok (.iload 5, 2) := by decide +kernel
theorem dX1_reckon_169 : decode cX1_reckon 169 = .ok (.ifCond .ne 26, 3) := by decide +kernel
theorem dX1_reckon_172 : decode cX1_reckon 172 = .ok (.aload_n 0, 1) := by decide +kernel
theorem dX1_reckon_173 : decode cX1_reckon 173 = .ok (.getfield 17, 3) := by decide +kernel
theorem dX1_reckon_176 : decode cX1_reckon 176 = .ok (.sipush 256, 3) := by decide +kernel
theorem dX1_reckon_179 : decode cX1_reckon 179 = .ok (.iload_n 1, 1) := by decide +kernel
theorem dX1_reckon_180 : decode cX1_reckon 180 = .ok (.imul, 1) := by decide +kernel
theorem dX1_reckon_181 : decode cX1_reckon 181 = .ok (.bipush 16, 2) := by decide +kernel
theorem dX1_reckon_183 : decode cX1_reckon 183 = .ok (.iload_n 2, 1) := by decide +kernel
theorem dX1_reckon_184 : decode cX1_reckon 184 = .ok (.imul, 1) := by decide +kernel
theorem dX1_reckon_185 : decode cX1_reckon 185 = .ok (.iadd, 1) := by decide +kernel
theorem dX1_reckon_186 : decode cX1_reckon 186 = .ok (.iload_n 3, 1) := by decide +kernel
theorem dX1_reckon_187 : decode cX1_reckon 187 = .ok (.iadd, 1) := by decide +kernel
theorem dX1_reckon_188 : decode cX1_reckon 188 = .ok (.iload 6, 2) := by decide +kernel
theorem dX1_reckon_190 : decode cX1_reckon 190 = .ok (.isub, 1) := by decide +kernel
theorem dX1_reckon_191 : decode cX1_reckon 191 = .ok (.baload, 1) := by decide +kernel
theorem dX1_reckon_192 : decode cX1_reckon 192 = .ok (.ifCond .ne 7, 3) := by decide +kernel
theorem dX1_reckon_195 : decode cX1_reckon 195 = .ok (.iconst 1, 1) := by decide +kernel
theorem dX1_reckon_196 : decode cX1_reckon 196 = .ok (.goto 4, 3) := by decide +kernel
theorem dX1_reckon_199 : decode cX1_reckon 199 = .ok (.iconst 0, 1) := by decide +kernel
theorem dX1_reckon_200 : decode cX1_reckon 200 = .ok (.istore 5, 2) := by decide +kernel
theorem dX1_reckon_202 : decode cX1_reckon 202 = .ok (.iinc 6 1, 3) := by decide +kernel
theorem dX1_reckon_205 : decode cX1_reckon 205 = .ok (.goto (-154), 3) := by decide +kernel
theorem dX1_reckon_208 : decode cX1_reckon 208 = .ok (.aload_n 0, 1) := by decide +kernel
theorem dX1_reckon_209 : decode cX1_reckon 209 = .ok (.getfield 17, 3) := by decide +kernel
theorem dX1_reckon_212 : decode cX1_reckon 212 = .ok (.sipush 256, 3) := by decide +kernel
theorem dX1_reckon_215 : decode cX1_reckon 215 = .ok (.iload_n 1, 1) := by decide +kernel
theorem dX1_reckon_216 : decode cX1_reckon 216 = .ok (.imul, 1) := by decide +kernel
theorem dX1_reckon_217 : decode cX1_reckon 217 = .ok (.bipush 16, 2) := by decide +kernel
theorem dX1_reckon_219 : decode cX1_reckon 219 = .ok (.iload_n 2, 1) := by decide +kernel
theorem dX1_reckon_220 : decode cX1_reckon 220 = .ok (.imul, 1) := by decide +kernel
theorem dX1_reckon_221 : decode cX1_reckon 221 = .ok (.iadd, 1) := by decide +kernel
theorem dX1_reckon_222 : decode cX1_reckon 222 = .ok (.iload_n 3, 1) := by decide +kernel
theorem dX1_reckon_223 : decode cX1_reckon 223 = .ok (.iadd, 1) := by decide +kernel
theorem dX1_reckon_224 : decode cX1_reckon 224 = .ok (.iload 4, 2) := by decide +kernel
theorem dX1_reckon_226 : decode cX1_reckon 226 = .ok (.ifCond .eq 8, 3) := by decide +kernel
theorem dX1_reckon_229 : decode cX1_reckon 229 = .ok (.iload 5, 2) := by decide +kernel
theorem dX1_reckon_231 : decode cX1_reckon 231 = .ok (.goto 7, 3) := by decide +kernel
theorem dX1_reckon_234 : decode cX1_reckon 234 = .ok (.aload_n 0, 1) := by decide +kernel
theorem dX1_reckon_235 : decode cX1_reckon 235 = .ok (.getfield 25, 3) := by decide +kernel
theorem dX1_reckon_238 : decode cX1_reckon 238 = .ok (.bastore, 1) := by decide +kernel
theorem dX1_reckon_239 : decode cX1_reckon 239 = .ok (.aload_n 0, 1) := by decide +kernel
theorem dX1_reckon_240 : decode cX1_reckon 240 = .ok (.getfield 17, 3) := by decide +kernel
theorem dX1_reckon_243 : decode cX1_reckon 243 = .ok (.sipush 256, 3) := by decide +kernel
theorem dX1_reckon_246 : decode cX1_reckon 246 = .ok (.iload_n 1, 1) := by decide +kernel
theorem dX1_reckon_247 : decode cX1_reckon 247 = .ok (.imul, 1) := by decide +kernel
theorem dX1_reckon_248 : decode cX1_reckon 248 = .ok (.bipush 16, 2) := by decide +kernel
theorem dX1_reckon_250 : decode cX1_reckon 250 = .ok (.iload_n 2, 1) := by decide +kernel
theorem dX1_reckon_251 : decode cX1_reckon 251 = .ok (.imul, 1) := by decide +kernel
theorem dX1_reckon_252 : decode cX1_reckon 252 = .ok (.iadd, 1) := by decide +kernel
theorem dX1_reckon_253 : decode cX1_reckon 253 = .ok (.iload_n 3, 1) := by decide +kernel
theorem dX1_reckon_254 : decode cX1_reckon 254 = .ok (.iadd, 1) := by decide +kernel
theorem dX1_reckon_255 : decode cX1_reckon 255 = .ok (.baload, 1) := by decide +kernel
theorem dX1_reckon_256 : decode cX1_reckon 256 = .ok (.ifCond .ne 13, 3) := by decide +kernel
theorem dX1_reckon_259 : decode cX1_reckon 259 = .ok (.aload_n 0, 1) := by decide +kernel
theorem dX1_reckon_260 : decode cX1_reckon 260 = .ok (.aload_n 0, 1) := by decide +kernel
theorem dX1_reckon_261 : decode cX1_reckon 261 = .ok (.getfield 28, 3) := by decide +kernel
theorem dX1_reckon_264 : decode cX1_reckon 264 = .ok (.iconst 1, 1) := by decide +kernel
theorem dX1_reckon_265 : decode cX1_reckon 265 = .ok (.iadd, 1) := by decide +kernel
theorem dX1_reckon_266 : decode cX1_reckon 266 = .ok (.putfield 28, 3) := by decide +kernel
theorem dX1_reckon_269 : decode cX1_reckon 269 = .ok (.iinc 3 1, 3) := by decide +kernel
theorem dX1_reckon_272 : decode cX1_reckon 272 = .ok (.goto (-236), 3) := by decide +kernel
theorem dX1_reckon_275 : decode cX1_reckon 275 = .ok (.iinc 2 1, 3) := by decide +kernel
theorem dX1_reckon_278 : decode cX1_reckon 278 = .ok (.goto (-250), 3) := by decide +kernel
theorem dX1_reckon_281 : decode cX1_reckon 281 = .ok (.iinc 1 1, 3) := by decide +kernel
theorem dX1_reckon_284 : decode cX1_reckon 284 = .ok (.goto (-264), 3) := by decide +kernel
theorem dX1_reckon_287 : decode cX1_reckon 287 = .ok (.return_, 1) := by decide +kernel
abbrev cX1_move : ByteArray := prog_3_method_7_code
def yX1_move : MethodName := ⟨RX1, "move", "()I"⟩
theorem dX1_move_0 : decode cX1_move 0 = .ok (.aload_n 0, 1) := by decide +kernel
theorem dX1_move_1 : decode cX1_move 1 = .ok (.invokevirtual 31, 3) := by decide +kernel
theorem dX1_move_4 : decode cX1_move 4 = .ok (.iconst 0, 1) := by decide +kernel
theorem dX1_move_5 : decode cX1_move 5 = .ok (.istore_n 1, 1) := by decide +kernel
theorem dX1_move_6 : decode cX1_move 6 = .ok (.iload_n 1, 1) := by decide +kernel
theorem dX1_move_7 : decode cX1_move 7 = .ok (.iconst 3, 1) := by decide +kernel
theorem dX1_move_8 : decode cX1_move 8 = .ok (.if_icmp .ge 124, 3) := by decide +kernel
theorem dX1_move_11 : decode cX1_move 11 = .ok (.iconst 1, 1) := by decide +kernel
theorem dX1_move_12 : decode cX1_move 12 = .ok (.istore_n 2, 1) := by decide +kernel
theorem dX1_move_13 : decode cX1_move 13 = .ok (.iload_n 2, 1) := by decide +kernel
theorem dX1_move_14 : decode cX1_move 14 = .ok (.bipush 15, 2) := by decide +kernel
theorem dX1_move_16 : decode cX1_move 16 = .ok (.if_icmp .ge 110, 3) := by decide +kernel
theorem dX1_move_19 : decode cX1_move 19 = .ok (.aload_n 0, 1) := by decide +kernel
theorem dX1_move_20 : decode cX1_move 20 = .ok (.getfield 7, 3) := by decide +kernel
theorem dX1_move_23 : decode cX1_move 23 = .ok (.iload_n 2, 1) := by decide +kernel
theorem dX1_move_24 : decode cX1_move 24 = .ok (.ishr, 1) := by decide +kernel
theorem dX1_move_25 : decode cX1_move 25 = .ok (.iconst 1, 1) := by decide +kernel
theorem dX1_move_26 : decode cX1_move 26 = .ok (.iand, 1) := by decide +kernel
theorem dX1_move_27 : decode cX1_move 27 = .ok (.ifCond .eq 93, 3) := by decide +kernel
theorem dX1_move_30 : decode cX1_move 30 = .ok (.iload_n 2, 1) := by decide +kernel
theorem dX1_move_31 : decode cX1_move 31 = .ok (.aload_n 0, 1) := by decide +kernel
theorem dX1_move_32 : decode cX1_move 32 = .ok (.getfield 13, 3) := by decide +kernel
theorem dX1_move_35 : decode cX1_move 35 = .ok (.iload_n 1, 1) := by decide +kernel
theorem dX1_move_36 : decode cX1_move 36 = .ok (.iaload, 1) := by decide +kernel
theorem dX1_move_37 : decode cX1_move 37 = .ok (.if_icmp .gt 83, 3) := by decide +kernel
theorem dX1_move_40 : decode cX1_move 40 = .ok (.aload_n 0, 1) := by decide +kernel
theorem dX1_move_41 : decode cX1_move 41 = .ok (.getfield 13, 3) := by decide +kernel
theorem dX1_move_44 : decode cX1_move 44 = .ok (.iload_n 1, 1) := by decide +kernel
theorem dX1_move_45 : decode cX1_move 45 = .ok (.aload_n 0, 1) := by decide +kernel
theorem dX1_move_46 : decode cX1_move 46 = .ok (.getfield 13, 3) := by decide +kernel
theorem dX1_move_49 : decode cX1_move 49 = .ok (.iload_n 1, 1) := by decide +kernel
theorem dX1_move_50 : decode cX1_move 50 = .ok (.iaload, 1) := by decide +kernel
theorem dX1_move_51 : decode cX1_move 51 = .ok (.iload_n 2, 1) := by decide +kernel
theorem dX1_move_52 : decode cX1_move 52 = .ok (.isub, 1) := by decide +kernel
theorem dX1_move_53 : decode cX1_move 53 = .ok (.iastore, 1) := by decide +kernel
theorem dX1_move_54 : decode cX1_move 54 = .ok (.aload_n 0, 1) := by decide +kernel
theorem dX1_move_55 : decode cX1_move 55 = .ok (.getfield 17, 3) := by decide +kernel
theorem dX1_move_58 : decode cX1_move 58 = .ok (.sipush 256, 3) := by decide +kernel
theorem dX1_move_61 : decode cX1_move 61 = .ok (.aload_n 0, 1) := by decide +kernel
theorem dX1_move_62 : decode cX1_move 62 = .ok (.getfield 13, 3) := by decide +kernel
theorem dX1_move_65 : decode cX1_move 65 = .ok (.iconst 0, 1) := by decide +kernel
theorem dX1_move_66 : decode cX1_move 66 = .ok (.iaload, 1) := by decide +kernel
theorem dX1_move_67 : decode cX1_move 67 = .ok (.imul, 1) := by decide +kernel
theorem dX1_move_68 : decode cX1_move 68 = .ok (.bipush 16, 2) := by decide +kernel
theorem dX1_move_70 : decode cX1_move 70 = .ok (.aload_n 0, 1) := by decide +kernel
theorem dX1_move_71 : decode cX1_move 71 = .ok (.getfield 13, 3) := by decide +kernel
theorem dX1_move_74 : decode cX1_move 74 = .ok (.iconst 1, 1) := by decide +kernel
theorem dX1_move_75 : decode cX1_move 75 = .ok (.iaload, 1) := by decide +kernel
theorem dX1_move_76 : decode cX1_move 76 = .ok (.imul, 1) := by decide +kernel
theorem dX1_move_77 : decode cX1_move 77 = .ok (.iadd, 1) := by decide +kernel
theorem dX1_move_78 : decode cX1_move 78 = .ok (.aload_n 0, 1) := by decide +kernel
theorem dX1_move_79 : decode cX1_move 79 = .ok (.getfield 13, 3) := by decide +kernel
theorem dX1_move_82 : decode cX1_move 82 = .ok (.iconst 2, 1) := by decide +kernel
theorem dX1_move_83 : decode cX1_move 83 = .ok (.iaload, 1) := by decide +kernel
theorem dX1_move_84 : decode cX1_move 84 = .ok (.iadd, 1) := by decide +kernel
theorem dX1_move_85 : decode cX1_move 85 = .ok (.baload, 1) := by decide +kernel
theorem dX1_move_86 : decode cX1_move 86 = .ok (.ifCond .ne 7, 3) := by decide +kernel
theorem dX1_move_89 : decode cX1_move 89 = .ok (.iconst 1, 1) := by decide +kernel
theorem dX1_move_90 : decode cX1_move 90 = .ok (.goto 4, 3) := by decide +kernel
theorem dX1_move_93 : decode cX1_move 93 = .ok (.iconst 0, 1) := by decide +kernel
theorem dX1_move_94 : decode cX1_move 94 = .ok (.istore_n 3, 1) := by decide +kernel
theorem dX1_move_95 : decode cX1_move 95 = .ok (.aload_n 0, 1) := by decide +kernel
theorem dX1_move_96 : decode cX1_move 96 = .ok (.getfield 13, 3) := by decide +kernel
theorem dX1_move_99 : decode cX1_move 99 = .ok (.iload_n 1, 1) := by decide +kernel
theorem dX1_move_100 : decode cX1_move 100 = .ok (.aload_n 0, 1) := by decide +kernel
theorem dX1_move_101 : decode cX1_move 101 = .ok (.getfield 13, 3) := by decide +kernel
theorem dX1_move_104 : decode cX1_move 104 = .ok (.iload_n 1, 1) := by decide +kernel
theorem dX1_move_105 : decode cX1_move 105 = .ok (.iaload, 1) := by decide +kernel
theorem dX1_move_106 : decode cX1_move 106 = .ok (.iload_n 2, 1) := by decide +kernel
theorem dX1_move_107 : decode cX1_move 107 = .ok (.iadd, 1) := by decide +kernel
theorem dX1_move_108 : decode cX1_move 108 = .ok (.iastore, 1) := by decide +kernel
theorem dX1_move_109 : decode cX1_move 109 = .ok (.iload_n 3, 1) := by decide +kernel
theorem dX1_move_110 : decode cX1_move 110 = .ok (.ifCond .eq 10, 3) := by decide +kernel
theorem dX1_move_113 : decode cX1_move 113 = .ok (.bipush 16, 2) := by decide +kernel
theorem dX1_move_115 : decode cX1_move 115 = .ok (.iload_n 1, 1) := by decide +kernel
theorem dX1_move_116 : decode cX1_move 116 = .ok (.imul, 1) := by decide +kernel
theorem dX1_move_117 : decode cX1_move 117 = .ok (.iload_n 2, 1) := by decide +kernel
theorem dX1_move_118 : decode cX1_move 118 = .ok (.iadd, 1) := by decide +kernel
theorem dX1_move_119 : decode cX1_move 119 = .ok (.ireturn, 1) := by decide +kernel
theorem dX1_move_120 : decode cX1_move 120 = .ok (.iinc 2 1, 3) := by decide +kernel
theorem dX1_move_123 : decode cX1_move 123 = .ok (.goto (-110), 3) := by decide +kernel
theorem dX1_move_126 : decode cX1_move 126 = .ok (.iinc 1 1, 3) := by decide +kernel
theorem dX1_move_129 : decode cX1_move 129 = .ok (.goto (-123), 3) := by decide +kernel
theorem dX1_move_132 : decode cX1_move 132 = .ok (.iconst (-1), 1) := by decide +kernel
theorem dX1_move_133 : decode cX1_move 133 = .ok (.ireturn, 1) := by decide +kernel
abbrev cX1_take : ByteArray := prog_3_method_8_code
def yX1_take : MethodName := ⟨RX1, "take", "(II)Z"⟩
theorem dX1_take_0 : decode cX1_take 0 = .ok (.iload_n 1, 1) := by decide +kernel
theorem dX1_take_1 : decode cX1_take 1 = .ok (.ldc 34, 2) := by decide +kernel
theorem dX1_take_3 : decode cX1_take 3 = .ok (.iand, 1) := by decide +kernel
theorem dX1_take_4 : decode cX1_take 4 = .ok (.iconst 3, 1) := by decide +kernel
theorem dX1_take_5 : decode cX1_take 5 = .ok (.irem, 1) := by decide +kernel
theorem dX1_take_6 : decode cX1_take 6 = .ok (.istore_n 3, 1) := by decide +kernel
theorem dX1_take_7 : decode cX1_take 7 = .ok (.iconst 1, 1) := by decide +kernel
theorem dX1_take_8 : decode cX1_take 8 = .ok (.iload_n 2, 1) := by decide +kernel
theorem dX1_take_9 : decode cX1_take 9 = .ok (.ldc 34, 2) := by decide +kernel
theorem dX1_take_11 : decode cX1_take 11 = .ok (.iand, 1) := by decide +kernel
theorem dX1_take_12 : decode cX1_take 12 = .ok (.bipush 14, 2) := by decide +kernel
theorem dX1_take_14 : decode cX1_take 14 = .ok (.irem, 1) := by decide +kernel
theorem dX1_take_15 : decode cX1_take 15 = .ok (.iadd, 1) := by decide +kernel
theorem dX1_take_16 : decode cX1_take 16 = .ok (.istore 4, 2) := by decide +kernel
theorem dX1_take_18 : decode cX1_take 18 = .ok (.aload_n 0, 1) := by decide +kernel
theorem dX1_take_19 : decode cX1_take 19 = .ok (.getfield 7, 3) := by decide +kernel
theorem dX1_take_22 : decode cX1_take 22 = .ok (.iload 4, 2) := by decide +kernel
theorem dX1_take_24 : decode cX1_take 24 = .ok (.ishr, 1) := by decide +kernel
theorem dX1_take_25 : decode cX1_take 25 = .ok (.iconst 1, 1) := by decide +kernel
theorem dX1_take_26 : decode cX1_take 26 = .ok (.iand, 1) := by decide +kernel
theorem dX1_take_27 : decode cX1_take 27 = .ok (.ifCond .eq 14, 3) := by decide +kernel
theorem dX1_take_30 : decode cX1_take 30 = .ok (.iload 4, 2) := by decide +kernel
theorem dX1_take_32 : decode cX1_take 32 = .ok (.aload_n 0, 1) := by decide +kernel
theorem dX1_take_33 : decode cX1_take 33 = .ok (.getfield 13, 3) := by decide +kernel
theorem dX1_take_36 : decode cX1_take 36 = .ok (.iload_n 3, 1) := by decide +kernel
theorem dX1_take_37 : decode cX1_take 37 = .ok (.iaload, 1) := by decide +kernel
theorem dX1_take_38 : decode cX1_take 38 = .ok (.if_icmp .le 5, 3) := by decide +kernel
theorem dX1_take_41 : decode cX1_take 41 = .ok (.iconst 0, 1) := by decide +kernel
theorem dX1_take_42 : decode cX1_take 42 = .ok (.ireturn, 1) := by decide +kernel
theorem dX1_take_43 : decode cX1_take 43 = .ok (.aload_n 0, 1) := by decide +kernel
theorem dX1_take_44 : decode cX1_take 44 = .ok (.getfield 13, 3) := by decide +kernel
theorem dX1_take_47 : decode cX1_take 47 = .ok (.iload_n 3, 1) := by decide +kernel
theorem dX1_take_48 : decode cX1_take 48 = .ok (.aload_n 0, 1) := by decide +kernel
theorem dX1_take_49 : decode cX1_take 49 = .ok (.getfield 13, 3) := by decide +kernel
theorem dX1_take_52 : decode cX1_take 52 = .ok (.iload_n 3, 1) := by decide +kernel
theorem dX1_take_53 : decode cX1_take 53 = .ok (.iaload, 1) := by decide +kernel
theorem dX1_take_54 : decode cX1_take 54 = .ok (.iload 4, 2) := by decide +kernel
theorem dX1_take_56 : decode cX1_take 56 = .ok (.isub, 1) := by decide +kernel
theorem dX1_take_57 : decode cX1_take 57 = .ok (.iastore, 1) := by decide +kernel
theorem dX1_take_58 : decode cX1_take 58 = .ok (.iconst 1, 1) := by decide +kernel
theorem dX1_take_59 : decode cX1_take 59 = .ok (.ireturn, 1) := by decide +kernel
abbrev cX1_heap : ByteArray := prog_3_method_9_code
def yX1_heap : MethodName := ⟨RX1, "heap", "(I)I"⟩
theorem dX1_heap_0 : decode cX1_heap 0 = .ok (.aload_n 0, 1) := by decide +kernel
theorem dX1_heap_1 : decode cX1_heap 1 = .ok (.getfield 13, 3) := by decide +kernel
theorem dX1_heap_4 : decode cX1_heap 4 = .ok (.iload_n 1, 1) := by decide +kernel
theorem dX1_heap_5 : decode cX1_heap 5 = .ok (.ldc 34, 2) := by decide +kernel
theorem dX1_heap_7 : decode cX1_heap 7 = .ok (.iand, 1) := by decide +kernel
theorem dX1_heap_8 : decode cX1_heap 8 = .ok (.iconst 3, 1) := by decide +kernel
theorem dX1_heap_9 : decode cX1_heap 9 = .ok (.irem, 1) := by decide +kernel
theorem dX1_heap_10 : decode cX1_heap 10 = .ok (.iaload, 1) := by decide +kernel
theorem dX1_heap_11 : decode cX1_heap 11 = .ok (.ireturn, 1) := by decide +kernel
abbrev cX1_lost : ByteArray := prog_3_method_10_code
def yX1_lost : MethodName := ⟨RX1, "lost", "()I"⟩
theorem dX1_lost_0 : decode cX1_lost 0 = .ok (.aload_n 0, 1) := by decide +kernel
theorem dX1_lost_1 : decode cX1_lost 1 = .ok (.invokevirtual 31, 3) := by decide +kernel
theorem dX1_lost_4 : decode cX1_lost 4 = .ok (.aload_n 0, 1) := by decide +kernel
theorem dX1_lost_5 : decode cX1_lost 5 = .ok (.getfield 28, 3) := by decide +kernel
theorem dX1_lost_8 : decode cX1_lost 8 = .ok (.ireturn, 1) := by decide +kernel
theorem q10 : (Jvm.Cond.initialized "HeapGameModel") ∈ lw_all := lw_g (lw_at lw_m0 3 rfl) rfl
theorem q106 : (Jvm.Cond.instantiable "HeapGameModel" (6 : Nat)) ∈ lw_all := lw_g (lw_at lw_m0 99 rfl) rfl
theorem q108 : (Jvm.Cond.instanceMethod ({ cls := "HeapGameModel", name := "<init>", desc := "()V" } : Jvm.MethodName)) ∈ lw_all := lw_g (lw_at lw_m0 101 rfl) rfl
theorem q109 : (Jvm.Cond.code ({ cls := "HeapGameModel", name := "<init>", desc := "()V" } : Jvm.MethodName) prog_3_method_1_code (1 : Nat) (Option.none : Option Jvm.ClassFile.FieldType)) ∈ lw_all := lw_g (lw_at lw_m0 102 rfl) rfl
theorem q110 : (Jvm.Cond.methodLink "HeapGameModel" (1 : Nat) ({ cls := "java/lang/Object", name := "<init>", desc := "()V" } : Jvm.MethodName)) ∈ lw_all := lw_g (lw_at lw_m0 103 rfl) rfl
theorem q111 : (Jvm.Cond.fieldLink "HeapGameModel" (7 : Nat) "HeapGameModel" "moves" "I") ∈ lw_all := lw_g (lw_at lw_m0 104 rfl) rfl
theorem q112 : (Jvm.Cond.fieldLink "HeapGameModel" (13 : Nat) "HeapGameModel" "heap" "[I") ∈ lw_all := lw_g (lw_at lw_m0 105 rfl) rfl
theorem q113 : (Jvm.Cond.fieldLink "HeapGameModel" (25 : Nat) "HeapGameModel" "misere" "Z") ∈ lw_all := lw_g (lw_at lw_m0 106 rfl) rfl
theorem q114 : (Jvm.Cond.fieldLink "HeapGameModel" (17 : Nat) "HeapGameModel" "wins" "[Z") ∈ lw_all := lw_g (lw_at lw_m0 107 rfl) rfl
theorem q115 : (Jvm.Cond.fieldLink "HeapGameModel" (21 : Nat) "HeapGameModel" "known" "Z") ∈ lw_all := lw_g (lw_at lw_m0 108 rfl) rfl
theorem q116 : (Jvm.Cond.fieldLink "HeapGameModel" (28 : Nat) "HeapGameModel" "losing" "I") ∈ lw_all := lw_g (lw_at lw_m0 109 rfl) rfl
theorem q117 : (Jvm.Cond.lays "HeapGameModel" "HeapGameModel" "moves" "I") ∈ lw_all := lw_g (lw_at lw_m0 110 rfl) rfl
theorem q118 : (Jvm.Cond.soleField "HeapGameModel" "moves") ∈ lw_all := lw_g (lw_at lw_m0 111 rfl) rfl
theorem q119 : (Jvm.Cond.laysFinal "HeapGameModel" "HeapGameModel" "heap" "[I") ∈ lw_all := lw_g (lw_at lw_m0 112 rfl) rfl
theorem q120 : (Jvm.Cond.soleField "HeapGameModel" "heap") ∈ lw_all := lw_g (lw_at lw_m0 113 rfl) rfl
theorem q121 : (Jvm.Cond.lays "HeapGameModel" "HeapGameModel" "misere" "Z") ∈ lw_all := lw_g (lw_at lw_m0 114 rfl) rfl
theorem q122 : (Jvm.Cond.soleField "HeapGameModel" "misere") ∈ lw_all := lw_g (lw_at lw_m0 115 rfl) rfl
theorem q123 : (Jvm.Cond.laysFinal "HeapGameModel" "HeapGameModel" "wins" "[Z") ∈ lw_all := lw_g (lw_at lw_m0 116 rfl) rfl
theorem q124 : (Jvm.Cond.soleField "HeapGameModel" "wins") ∈ lw_all := lw_g (lw_at lw_m0 117 rfl) rfl
theorem q125 : (Jvm.Cond.lays "HeapGameModel" "HeapGameModel" "known" "Z") ∈ lw_all := lw_g (lw_at lw_m0 118 rfl) rfl
theorem q126 : (Jvm.Cond.soleField "HeapGameModel" "known") ∈ lw_all := lw_g (lw_at lw_m0 119 rfl) rfl
theorem q127 : (Jvm.Cond.lays "HeapGameModel" "HeapGameModel" "losing" "I") ∈ lw_all := lw_g (lw_at lw_m0 120 rfl) rfl
theorem q128 : (Jvm.Cond.soleField "HeapGameModel" "losing") ∈ lw_all := lw_g (lw_at lw_m0 121 rfl) rfl
theorem q129 : (Jvm.Cond.superclass "HeapGameModel" "java/lang/Object") ∈ lw_all := lw_g (lw_at lw_m0 122 rfl) rfl
theorem q132 : (Jvm.Cond.instanceMethod ({ cls := "HeapGameModel", name := "rules", desc := "(I)V" } : Jvm.MethodName)) ∈ lw_all := lw_g (lw_at lw_m0 125 rfl) rfl
theorem q133 : (Jvm.Cond.selects "HeapGameModel" ({ cls := "HeapGameModel", name := "rules", desc := "(I)V" } : Jvm.MethodName) ({ cls := "HeapGameModel", name := "rules", desc := "(I)V" } : Jvm.MethodName)) ∈ lw_all := lw_g (lw_at lw_m0 126 rfl) rfl
theorem q134 : (Jvm.Cond.code ({ cls := "HeapGameModel", name := "rules", desc := "(I)V" } : Jvm.MethodName) prog_3_method_2_code (2 : Nat) (Option.none : Option Jvm.ClassFile.FieldType)) ∈ lw_all := lw_g (lw_at lw_m0 127 rfl) rfl
theorem q136 : (Jvm.Cond.instanceMethod ({ cls := "HeapGameModel", name := "turned", desc := "(I)V" } : Jvm.MethodName)) ∈ lw_all := lw_g (lw_at lw_m0 129 rfl) rfl
theorem q137 : (Jvm.Cond.selects "HeapGameModel" ({ cls := "HeapGameModel", name := "turned", desc := "(I)V" } : Jvm.MethodName) ({ cls := "HeapGameModel", name := "turned", desc := "(I)V" } : Jvm.MethodName)) ∈ lw_all := lw_g (lw_at lw_m0 130 rfl) rfl
theorem q138 : (Jvm.Cond.code ({ cls := "HeapGameModel", name := "turned", desc := "(I)V" } : Jvm.MethodName) prog_3_method_3_code (2 : Nat) (Option.none : Option Jvm.ClassFile.FieldType)) ∈ lw_all := lw_g (lw_at lw_m0 131 rfl) rfl
theorem q140 : (Jvm.Cond.instanceMethod ({ cls := "HeapGameModel", name := "heaps", desc := "(III)V" } : Jvm.MethodName)) ∈ lw_all := lw_g (lw_at lw_m0 133 rfl) rfl
theorem q141 : (Jvm.Cond.selects "HeapGameModel" ({ cls := "HeapGameModel", name := "heaps", desc := "(III)V" } : Jvm.MethodName) ({ cls := "HeapGameModel", name := "heaps", desc := "(III)V" } : Jvm.MethodName)) ∈ lw_all := lw_g (lw_at lw_m0 134 rfl) rfl
theorem q142 : (Jvm.Cond.code ({ cls := "HeapGameModel", name := "heaps", desc := "(III)V" } : Jvm.MethodName) prog_3_method_4_code (4 : Nat) (Option.none : Option Jvm.ClassFile.FieldType)) ∈ lw_all := lw_g (lw_at lw_m0 135 rfl) rfl
theorem q144 : (Jvm.Cond.instanceMethod ({ cls := "HeapGameModel", name := "first", desc := "()Z" } : Jvm.MethodName)) ∈ lw_all := lw_g (lw_at lw_m0 137 rfl) rfl
theorem q145 : (Jvm.Cond.selects "HeapGameModel" ({ cls := "HeapGameModel", name := "first", desc := "()Z" } : Jvm.MethodName) ({ cls := "HeapGameModel", name := "first", desc := "()Z" } : Jvm.MethodName)) ∈ lw_all := lw_g (lw_at lw_m0 138 rfl) rfl
theorem q146 : (Jvm.Cond.code ({ cls := "HeapGameModel", name := "first", desc := "()Z" } : Jvm.MethodName) prog_3_method_6_code (1 : Nat) (Option.some Jvm.ClassFile.FieldType.boolean)) ∈ lw_all := lw_g (lw_at lw_m0 139 rfl) rfl
theorem q147 : (Jvm.Cond.methodLink "HeapGameModel" (31 : Nat) ({ cls := "HeapGameModel", name := "reckon", desc := "()V" } : Jvm.MethodName)) ∈ lw_all := lw_g (lw_at lw_m0 140 rfl) rfl
theorem q148 : (Jvm.Cond.privateMethod ({ cls := "HeapGameModel", name := "reckon", desc := "()V" } : Jvm.MethodName)) ∈ lw_tbl := lw_at lw_m0 141 rfl
theorem q149 : (Jvm.Cond.instanceMethod ({ cls := "HeapGameModel", name := "reckon", desc := "()V" } : Jvm.MethodName)) ∈ lw_all := lw_g (lw_at lw_m0 142 rfl) rfl
theorem q150 : (Jvm.Cond.code ({ cls := "HeapGameModel", name := "reckon", desc := "()V" } : Jvm.MethodName) prog_3_method_5_code (7 : Nat) (Option.none : Option Jvm.ClassFile.FieldType)) ∈ lw_all := lw_g (lw_at lw_m0 143 rfl) rfl
theorem q152 : (Jvm.Cond.instanceMethod ({ cls := "HeapGameModel", name := "move", desc := "()I" } : Jvm.MethodName)) ∈ lw_all := lw_g (lw_at lw_m0 145 rfl) rfl
theorem q153 : (Jvm.Cond.selects "HeapGameModel" ({ cls := "HeapGameModel", name := "move", desc := "()I" } : Jvm.MethodName) ({ cls := "HeapGameModel", name := "move", desc := "()I" } : Jvm.MethodName)) ∈ lw_all := lw_g (lw_at lw_m0 146 rfl) rfl
theorem q154 : (Jvm.Cond.code ({ cls := "HeapGameModel", name := "move", desc := "()I" } : Jvm.MethodName) prog_3_method_7_code (4 : Nat) (Option.some Jvm.ClassFile.FieldType.int)) ∈ lw_all := lw_g (lw_at lw_m0 147 rfl) rfl
theorem q156 : (Jvm.Cond.instanceMethod ({ cls := "HeapGameModel", name := "take", desc := "(II)Z" } : Jvm.MethodName)) ∈ lw_all := lw_g (lw_at lw_m0 149 rfl) rfl
theorem q157 : (Jvm.Cond.selects "HeapGameModel" ({ cls := "HeapGameModel", name := "take", desc := "(II)Z" } : Jvm.MethodName) ({ cls := "HeapGameModel", name := "take", desc := "(II)Z" } : Jvm.MethodName)) ∈ lw_all := lw_g (lw_at lw_m0 150 rfl) rfl
theorem q158 : (Jvm.Cond.code ({ cls := "HeapGameModel", name := "take", desc := "(II)Z" } : Jvm.MethodName) prog_3_method_8_code (5 : Nat) (Option.some Jvm.ClassFile.FieldType.boolean)) ∈ lw_all := lw_g (lw_at lw_m0 151 rfl) rfl
theorem q159 : (Jvm.Cond.constant "HeapGameModel" (34 : Nat) (2147483647 : Int32)) ∈ lw_all := lw_g (lw_at lw_m0 152 rfl) rfl
theorem q161 : (Jvm.Cond.instanceMethod ({ cls := "HeapGameModel", name := "heap", desc := "(I)I" } : Jvm.MethodName)) ∈ lw_all := lw_g (lw_at lw_m0 154 rfl) rfl
theorem q162 : (Jvm.Cond.selects "HeapGameModel" ({ cls := "HeapGameModel", name := "heap", desc := "(I)I" } : Jvm.MethodName) ({ cls := "HeapGameModel", name := "heap", desc := "(I)I" } : Jvm.MethodName)) ∈ lw_all := lw_g (lw_at lw_m0 155 rfl) rfl
theorem q163 : (Jvm.Cond.code ({ cls := "HeapGameModel", name := "heap", desc := "(I)I" } : Jvm.MethodName) prog_3_method_9_code (2 : Nat) (Option.some Jvm.ClassFile.FieldType.int)) ∈ lw_all := lw_g (lw_at lw_m0 156 rfl) rfl
theorem q165 : (Jvm.Cond.instanceMethod ({ cls := "HeapGameModel", name := "lost", desc := "()I" } : Jvm.MethodName)) ∈ lw_all := lw_g (lw_at lw_m0 158 rfl) rfl
theorem q166 : (Jvm.Cond.selects "HeapGameModel" ({ cls := "HeapGameModel", name := "lost", desc := "()I" } : Jvm.MethodName) ({ cls := "HeapGameModel", name := "lost", desc := "()I" } : Jvm.MethodName)) ∈ lw_all := lw_g (lw_at lw_m0 159 rfl) rfl
theorem q167 : (Jvm.Cond.code ({ cls := "HeapGameModel", name := "lost", desc := "()I" } : Jvm.MethodName) prog_3_method_10_code (1 : Nat) (Option.some Jvm.ClassFile.FieldType.int)) ∈ lw_all := lw_g (lw_at lw_m0 160 rfl) rfl
theorem in_X1 : ∀ w ∈ wsX10, w ∈ lw_all := lw_in wsX10 [117, 119, 121, 123, 125, 127] (by decide +kernel) (by decide +kernel)
theorem q7 : (Jvm.Cond.initialized "HeapGameLaw") ∈ lw_all := lw_g (lw_at lw_m0 0 rfl) rfl
set_option maxRecDepth 100000
theorem q11 : (Jvm.Cond.classLink "HeapGameLaw" (7 : Nat) "HeapGame") ∈ lw_all := lw_g (lw_at lw_m0 4 rfl) rfl
theorem q13 : (Jvm.Cond.methodLink "HeapGameLaw" (9 : Nat) ({ cls := "HeapGame", name := "<init>", desc := "()V" } : Jvm.MethodName)) ∈ lw_all := lw_g (lw_at lw_m0 6 rfl) rfl
theorem q52 : (Jvm.Cond.methodLink "HeapGameLaw" (13 : Nat) ({ cls := "HeapGame", name := "rules", desc := "(I)V" } : Jvm.MethodName)) ∈ lw_all := lw_g (lw_at lw_m0 45 rfl) rfl
theorem q56 : (Jvm.Cond.methodLink "HeapGameLaw" (18 : Nat) ({ cls := "HeapGame", name := "turned", desc := "(I)V" } : Jvm.MethodName)) ∈ lw_all := lw_g (lw_at lw_m0 49 rfl) rfl
theorem q60 : (Jvm.Cond.methodLink "HeapGameLaw" (22 : Nat) ({ cls := "HeapGame", name := "heaps", desc := "(III)V" } : Jvm.MethodName)) ∈ lw_all := lw_g (lw_at lw_m0 53 rfl) rfl
theorem q64 : (Jvm.Cond.methodLink "HeapGameLaw" (27 : Nat) ({ cls := "HeapGame", name := "first", desc := "()Z" } : Jvm.MethodName)) ∈ lw_all := lw_g (lw_at lw_m0 57 rfl) rfl
theorem q83 : (Jvm.Cond.methodLink "HeapGameLaw" (32 : Nat) ({ cls := "HeapGame", name := "move", desc := "()I" } : Jvm.MethodName)) ∈ lw_all := lw_g (lw_at lw_m0 76 rfl) rfl
theorem q92 : (Jvm.Cond.methodLink "HeapGameLaw" (37 : Nat) ({ cls := "HeapGame", name := "take", desc := "(II)Z" } : Jvm.MethodName)) ∈ lw_all := lw_g (lw_at lw_m0 85 rfl) rfl
theorem q97 : (Jvm.Cond.methodLink "HeapGameLaw" (42 : Nat) ({ cls := "HeapGame", name := "heap", desc := "(I)I" } : Jvm.MethodName)) ∈ lw_all := lw_g (lw_at lw_m0 90 rfl) rfl
theorem q101 : (Jvm.Cond.methodLink "HeapGameLaw" (47 : Nat) ({ cls := "HeapGame", name := "lost", desc := "()I" } : Jvm.MethodName)) ∈ lw_all := lw_g (lw_at lw_m0 94 rfl) rfl
theorem q105 : (Jvm.Cond.classLink "HeapGameLaw" (10 : Nat) "HeapGameModel") ∈ lw_all := lw_g (lw_at lw_m0 98 rfl) rfl
theorem q107 : (Jvm.Cond.methodLink "HeapGameLaw" (12 : Nat) ({ cls := "HeapGameModel", name := "<init>", desc := "()V" } : Jvm.MethodName)) ∈ lw_all := lw_g (lw_at lw_m0 100 rfl) rfl
theorem q131 : (Jvm.Cond.methodLink "HeapGameLaw" (17 : Nat) ({ cls := "HeapGameModel", name := "rules", desc := "(I)V" } : Jvm.MethodName)) ∈ lw_all := lw_g (lw_at lw_m0 124 rfl) rfl
theorem q135 : (Jvm.Cond.methodLink "HeapGameLaw" (21 : Nat) ({ cls := "HeapGameModel", name := "turned", desc := "(I)V" } : Jvm.MethodName)) ∈ lw_all := lw_g (lw_at lw_m0 128 rfl) rfl
theorem q139 : (Jvm.Cond.methodLink "HeapGameLaw" (26 : Nat) ({ cls := "HeapGameModel", name := "heaps", desc := "(III)V" } : Jvm.MethodName)) ∈ lw_all := lw_g (lw_at lw_m0 132 rfl) rfl
theorem q143 : (Jvm.Cond.methodLink "HeapGameLaw" (31 : Nat) ({ cls := "HeapGameModel", name := "first", desc := "()Z" } : Jvm.MethodName)) ∈ lw_all := lw_g (lw_at lw_m0 136 rfl) rfl
theorem q151 : (Jvm.Cond.methodLink "HeapGameLaw" (36 : Nat) ({ cls := "HeapGameModel", name := "move", desc := "()I" } : Jvm.MethodName)) ∈ lw_all := lw_g (lw_at lw_m0 144 rfl) rfl
theorem q155 : (Jvm.Cond.methodLink "HeapGameLaw" (41 : Nat) ({ cls := "HeapGameModel", name := "take", desc := "(II)Z" } : Jvm.MethodName)) ∈ lw_all := lw_g (lw_at lw_m0 148 rfl) rfl
theorem q160 : (Jvm.Cond.methodLink "HeapGameLaw" (46 : Nat) ({ cls := "HeapGameModel", name := "heap", desc := "(I)I" } : Jvm.MethodName)) ∈ lw_all := lw_g (lw_at lw_m0 153 rfl) rfl
theorem q164 : (Jvm.Cond.methodLink "HeapGameLaw" (50 : Nat) ({ cls := "HeapGameModel", name := "lost", desc := "()I" } : Jvm.MethodName)) ∈ lw_all := lw_g (lw_at lw_m0 157 rfl) rfl
theorem q50 : (Jvm.Cond.arrayClass Jvm.ClassFile.FieldType.int) ∈ lw_all := lw_g (lw_at lw_m0 43 rfl) rfl
set_option maxRecDepth 100000
theorem q51 : (Jvm.Cond.arrayClass Jvm.ClassFile.FieldType.byte) ∈ lw_all := lw_g (lw_at lw_m0 44 rfl) rfl
theorem q130 : (Jvm.Cond.arrayClass Jvm.ClassFile.FieldType.boolean) ∈ lw_all := lw_g (lw_at lw_m0 123 rfl) rfl
end
section
/-! the law's own entry -/
set_option maxRecDepth 100000
abbrev cL_law : ByteArray := code
theorem dL_law_0 : decode cL_law 0 = .ok (.new 7, 3) := by decide +kernel
theorem dL_law_3 : decode cL_law 3 = .ok (.dup, 1) := by decide +kernel
theorem dL_law_4 : decode cL_law 4 = .ok (.invokespecial 9, 3) := by decide +kernel
theorem dL_law_7 : decode cL_law 7 = .ok (.astore_n 1, 1) := by decide +kernel
theorem dL_law_8 : decode cL_law 8 = .ok (.new 10, 3) := by decide +kernel
theorem dL_law_11 : decode cL_law 11 = .ok (.dup, 1) := by decide +kernel
theorem dL_law_12 : decode cL_law 12 = .ok (.invokespecial 12, 3) := by decide +kernel
theorem dL_law_15 : decode cL_law 15 = .ok (.astore_n 2, 1) := by decide +kernel
theorem dL_law_16 : decode cL_law 16 = .ok (.iconst 0, 1) := by decide +kernel
theorem dL_law_17 : decode cL_law 17 = .ok (.istore_n 3, 1) := by decide +kernel
theorem dL_law_18 : decode cL_law 18 = .ok (.iload_n 3, 1) := by decide +kernel
theorem dL_law_19 : decode cL_law 19 = .ok (.aload_n 0, 1) := by decide +kernel
theorem dL_law_20 : decode cL_law 20 = .ok (.arraylength, 1) := by decide +kernel
theorem dL_law_21 : decode cL_law 21 = .ok (.iconst 4, 1) := by decide +kernel
theorem dL_law_22 : decode cL_law 22 = .ok (.isub, 1) := by decide +kernel
theorem dL_law_23 : decode cL_law 23 = .ok (.if_icmp .gt 241, 3) := by decide +kernel
theorem dL_law_26 : decode cL_law 26 = .ok (.aload_n 0, 1) := by decide +kernel
theorem dL_law_27 : decode cL_law 27 = .ok (.iload_n 3, 1) := by decide +kernel
theorem dL_law_28 : decode cL_law 28 = .ok (.iaload, 1) := by decide +kernel
theorem dL_law_29 : decode cL_law 29 = .ok (.bipush 7, 2) := by decide +kernel
theorem dL_law_31 : decode cL_law 31 = .ok (.iand, 1) := by decide +kernel
theorem dL_law_32 : decode cL_law 32 = .ok (.tableswitch 226 0 7 #[48, 69, 90, 131, 144, 157, 190, 213], 48) := by decide +kernel
theorem dL_law_80 : decode cL_law 80 = .ok (.aload_n 1, 1) := by decide +kernel
theorem dL_law_81 : decode cL_law 81 = .ok (.aload_n 0, 1) := by decide +kernel
theorem dL_law_82 : decode cL_law 82 = .ok (.iload_n 3, 1) := by decide +kernel
theorem dL_law_83 : decode cL_law 83 = .ok (.iconst 1, 1) := by decide +kernel
theorem dL_law_84 : decode cL_law 84 = .ok (.iadd, 1) := by decide +kernel
theorem dL_law_85 : decode cL_law 85 = .ok (.iaload, 1) := by decide +kernel
theorem dL_law_86 : decode cL_law 86 = .ok (.invokevirtual 13, 3) := by decide +kernel
theorem dL_law_89 : decode cL_law 89 = .ok (.aload_n 2, 1) := by decide +kernel
theorem dL_law_90 : decode cL_law 90 = .ok (.aload_n 0, 1) := by decide +kernel
theorem dL_law_91 : decode cL_law 91 = .ok (.iload_n 3, 1) := by decide +kernel
theorem dL_law_92 : decode cL_law 92 = .ok (.iconst 1, 1) := by decide +kernel
theorem dL_law_93 : decode cL_law 93 = .ok (.iadd, 1) := by decide +kernel
theorem dL_law_94 : decode cL_law 94 = .ok (.iaload, 1) := by decide +kernel
theorem dL_law_95 : decode cL_law 95 = .ok (.invokevirtual 17, 3) := by decide +kernel
theorem dL_law_98 : decode cL_law 98 = .ok (.goto 160, 3) := by decide +kernel
theorem dL_law_101 : decode cL_law 101 = .ok (.aload_n 1, 1) := by decide +kernel
theorem dL_law_102 : decode cL_law 102 = .ok (.aload_n 0, 1) := by decide +kernel
theorem dL_law_103 : decode cL_law 103 = .ok (.iload_n 3, 1) := by decide +kernel
theorem dL_law_104 : decode cL_law 104 = .ok (.iconst 1, 1) := by decide +kernel
theorem dL_law_105 : decode cL_law 105 = .ok (.iadd, 1) := by decide +kernel
theorem dL_law_106 : decode cL_law 106 = .ok (.iaload, 1) := by decide +kernel
theorem dL_law_107 : decode cL_law 107 = .ok (.invokevirtual 18, 3) := by decide +kernel
theorem dL_law_110 : decode cL_law 110 = .ok (.aload_n 2, 1) := by decide +kernel
theorem dL_law_111 : decode cL_law 111 = .ok (.aload_n 0, 1) := by decide +kernel
theorem dL_law_112 : decode cL_law 112 = .ok (.iload_n 3, 1) := by decide +kernel
theorem dL_law_113 : decode cL_law 113 = .ok (.iconst 1, 1) := by decide +kernel
theorem dL_law_114 : decode cL_law 114 = .ok (.iadd, 1) := by decide +kernel
theorem dL_law_115 : decode cL_law 115 = .ok (.iaload, 1) := by decide +kernel
theorem dL_law_116 : decode cL_law 116 = .ok (.invokevirtual 21, 3) := by decide +kernel
theorem dL_law_119 : decode cL_law 119 = .ok (.goto 139, 3) := by decide +kernel
theorem dL_law_122 : decode cL_law 122 = .ok (.aload_n 1, 1) := by decide +kernel
theorem dL_law_123 : decode cL_law 123 = .ok (.aload_n 0, 1) := by decide +kernel
theorem dL_law_124 : decode cL_law 124 = .ok (.iload_n 3, 1) := by decide +kernel
theorem dL_law_125 : decode cL_law 125 = .ok (.iconst 1, 1) := by decide +kernel
theorem dL_law_126 : decode cL_law 126 = .ok (.iadd, 1) := by decide +kernel
theorem dL_law_127 : decode cL_law 127 = .ok (.iaload, 1) := by decide +kernel
theorem dL_law_128 : decode cL_law 128 = .ok (.aload_n 0, 1) := by decide +kernel
theorem dL_law_129 : decode cL_law 129 = .ok (.iload_n 3, 1) := by decide +kernel
theorem dL_law_130 : decode cL_law 130 = .ok (.iconst 2, 1) := by decide +kernel
theorem dL_law_131 : decode cL_law 131 = .ok (.iadd, 1) := by decide +kernel
theorem dL_law_132 : decode cL_law 132 = .ok (.iaload, 1) := by decide +kernel
theorem dL_law_133 : decode cL_law 133 = .ok (.aload_n 0, 1) := by decide +kernel
theorem dL_law_134 : decode cL_law 134 = .ok (.iload_n 3, 1) := by decide +kernel
theorem dL_law_135 : decode cL_law 135 = .ok (.iconst 3, 1) := by decide +kernel
theorem dL_law_136 : decode cL_law 136 = .ok (.iadd, 1) := by decide +kernel
theorem dL_law_137 : decode cL_law 137 = .ok (.iaload, 1) := by decide +kernel
theorem dL_law_138 : decode cL_law 138 = .ok (.invokevirtual 22, 3) := by decide +kernel
theorem dL_law_141 : decode cL_law 141 = .ok (.aload_n 2, 1) := by decide +kernel
theorem dL_law_142 : decode cL_law 142 = .ok (.aload_n 0, 1) := by decide +kernel
theorem dL_law_143 : decode cL_law 143 = .ok (.iload_n 3, 1) := by decide +kernel
theorem dL_law_144 : decode cL_law 144 = .ok (.iconst 1, 1) := by decide +kernel
theorem dL_law_145 : decode cL_law 145 = .ok (.iadd, 1) := by decide +kernel
theorem dL_law_146 : decode cL_law 146 = .ok (.iaload, 1) := by decide +kernel
theorem dL_law_147 : decode cL_law 147 = .ok (.aload_n 0, 1) := by decide +kernel
theorem dL_law_148 : decode cL_law 148 = .ok (.iload_n 3, 1) := by decide +kernel
theorem dL_law_149 : decode cL_law 149 = .ok (.iconst 2, 1) := by decide +kernel
theorem dL_law_150 : decode cL_law 150 = .ok (.iadd, 1) := by decide +kernel
theorem dL_law_151 : decode cL_law 151 = .ok (.iaload, 1) := by decide +kernel
theorem dL_law_152 : decode cL_law 152 = .ok (.aload_n 0, 1) := by decide +kernel
theorem dL_law_153 : decode cL_law 153 = .ok (.iload_n 3, 1) := by decide +kernel
theorem dL_law_154 : decode cL_law 154 = .ok (.iconst 3, 1) := by decide +kernel
theorem dL_law_155 : decode cL_law 155 = .ok (.iadd, 1) := by decide +kernel
theorem dL_law_156 : decode cL_law 156 = .ok (.iaload, 1) := by decide +kernel
theorem dL_law_157 : decode cL_law 157 = .ok (.invokevirtual 26, 3) := by decide +kernel
theorem dL_law_160 : decode cL_law 160 = .ok (.goto 98, 3) := by decide +kernel
theorem dL_law_163 : decode cL_law 163 = .ok (.aload_n 1, 1) := by decide +kernel
theorem dL_law_164 : decode cL_law 164 = .ok (.invokevirtual 27, 3) := by decide +kernel
theorem dL_law_167 : decode cL_law 167 = .ok (.aload_n 2, 1) := by decide +kernel
theorem dL_law_168 : decode cL_law 168 = .ok (.invokevirtual 31, 3) := by decide +kernel
theorem dL_law_171 : decode cL_law 171 = .ok (.if_icmp .eq 87, 3) := by decide +kernel
theorem dL_law_174 : decode cL_law 174 = .ok (.iconst 0, 1) := by decide +kernel
theorem dL_law_175 : decode cL_law 175 = .ok (.ireturn, 1) := by decide +kernel
theorem dL_law_176 : decode cL_law 176 = .ok (.aload_n 1, 1) := by decide +kernel
theorem dL_law_177 : decode cL_law 177 = .ok (.invokevirtual 32, 3) := by decide +kernel
theorem dL_law_180 : decode cL_law 180 = .ok (.aload_n 2, 1) := by decide +kernel
theorem dL_law_181 : decode cL_law 181 = .ok (.invokevirtual 36, 3) := by decide +kernel
theorem dL_law_184 : decode cL_law 184 = .ok (.if_icmp .eq 74, 3) := by decide +kernel
theorem dL_law_187 : decode cL_law 187 = .ok (.iconst 0, 1) := by decide +kernel
theorem dL_law_188 : decode cL_law 188 = .ok (.ireturn, 1) := by decide +kernel
theorem dL_law_189 : decode cL_law 189 = .ok (.aload_n 1, 1) := by decide +kernel
theorem dL_law_190 : decode cL_law 190 = .ok (.aload_n 0, 1) := by decide +kernel
theorem dL_law_191 : decode cL_law 191 = .ok (.iload_n 3, 1) := by decide +kernel
theorem dL_law_192 : decode cL_law 192 = .ok (.iconst 1, 1) := by decide +kernel
theorem dL_law_193 : decode cL_law 193 = .ok (.iadd, 1) := by decide +kernel
theorem dL_law_194 : decode cL_law 194 = .ok (.iaload, 1) := by decide +kernel
theorem dL_law_195 : decode cL_law 195 = .ok (.aload_n 0, 1) := by decide +kernel
theorem dL_law_196 : decode cL_law 196 = .ok (.iload_n 3, 1) := by decide +kernel
theorem dL_law_197 : decode cL_law 197 = .ok (.iconst 2, 1) := by decide +kernel
theorem dL_law_198 : decode cL_law 198 = .ok (.iadd, 1) := by decide +kernel
theorem dL_law_199 : decode cL_law 199 = .ok (.iaload, 1) := by decide +kernel
theorem dL_law_200 : decode cL_law 200 = .ok (.invokevirtual 37, 3) := by decide +kernel
theorem dL_law_203 : decode cL_law 203 = .ok (.aload_n 2, 1) := by decide +kernel
theorem dL_law_204 : decode cL_law 204 = .ok (.aload_n 0, 1) := by decide +kernel
theorem dL_law_205 : decode cL_law 205 = .ok (.iload_n 3, 1) := by decide +kernel
theorem dL_law_206 : decode cL_law 206 = .ok (.iconst 1, 1) := by decide +kernel
theorem dL_law_207 : decode cL_law 207 = .ok (.iadd, 1) := by decide +kernel
theorem dL_law_208 : decode cL_law 208 = .ok (.iaload, 1) := by decide +kernel
theorem dL_law_209 : decode cL_law 209 = .ok (.aload_n 0, 1) := by decide +kernel
theorem dL_law_210 : decode cL_law 210 = .ok (.iload_n 3, 1) := by decide +kernel
theorem dL_law_211 : decode cL_law 211 = .ok (.iconst 2, 1) := by decide +kernel
theorem dL_law_212 : decode cL_law 212 = .ok (.iadd, 1) := by decide +kernel
theorem dL_law_213 : decode cL_law 213 = .ok (.iaload, 1) := by decide +kernel
theorem dL_law_214 : decode cL_law 214 = .ok (.invokevirtual 41, 3) := by decide +kernel
theorem dL_law_217 : decode cL_law 217 = .ok (.if_icmp .eq 41, 3) := by decide +kernel
theorem dL_law_220 : decode cL_law 220 = .ok (.iconst 0, 1) := by decide +kernel
theorem dL_law_221 : decode cL_law 221 = .ok (.ireturn, 1) := by decide +kernel
theorem dL_law_222 : decode cL_law 222 = .ok (.aload_n 1, 1) := by decide +kernel
theorem dL_law_223 : decode cL_law 223 = .ok (.aload_n 0, 1) := by decide +kernel
theorem dL_law_224 : decode cL_law 224 = .ok (.iload_n 3, 1) := by decide +kernel
theorem dL_law_225 : decode cL_law 225 = .ok (.iconst 1, 1) := by decide +kernel
theorem dL_law_226 : decode cL_law 226 = .ok (.iadd, 1) := by decide +kernel
theorem dL_law_227 : decode cL_law 227 = .ok (.iaload, 1) := by decide +kernel
theorem dL_law_228 : decode cL_law 228 = .ok (.invokevirtual 42, 3) := by decide +kernel
theorem dL_law_231 : decode cL_law 231 = .ok (.aload_n 2, 1) := by decide +kernel
theorem dL_law_232 : decode cL_law 232 = .ok (.aload_n 0, 1) := by decide +kernel
theorem dL_law_233 : decode cL_law 233 = .ok (.iload_n 3, 1) := by decide +kernel
theorem dL_law_234 : decode cL_law 234 = .ok (.iconst 1, 1) := by decide +kernel
theorem dL_law_235 : decode cL_law 235 = .ok (.iadd, 1) := by decide +kernel
theorem dL_law_236 : decode cL_law 236 = .ok (.iaload, 1) := by decide +kernel
theorem dL_law_237 : decode cL_law 237 = .ok (.invokevirtual 46, 3) := by decide +kernel
theorem dL_law_240 : decode cL_law 240 = .ok (.if_icmp .eq 18, 3) := by decide +kernel
theorem dL_law_243 : decode cL_law 243 = .ok (.iconst 0, 1) := by decide +kernel
theorem dL_law_244 : decode cL_law 244 = .ok (.ireturn, 1) := by decide +kernel
theorem dL_law_245 : decode cL_law 245 = .ok (.aload_n 1, 1) := by decide +kernel
theorem dL_law_246 : decode cL_law 246 = .ok (.invokevirtual 47, 3) := by decide +kernel
theorem dL_law_249 : decode cL_law 249 = .ok (.aload_n 2, 1) := by decide +kernel
theorem dL_law_250 : decode cL_law 250 = .ok (.invokevirtual 50, 3) := by decide +kernel
theorem dL_law_253 : decode cL_law 253 = .ok (.if_icmp .eq 5, 3) := by decide +kernel
theorem dL_law_256 : decode cL_law 256 = .ok (.iconst 0, 1) := by decide +kernel
theorem dL_law_257 : decode cL_law 257 = .ok (.ireturn, 1) := by decide +kernel
theorem dL_law_258 : decode cL_law 258 = .ok (.iinc 3 4, 3) := by decide +kernel
theorem dL_law_261 : decode cL_law 261 = .ok (.goto (-243), 3) := by decide +kernel
theorem dL_law_264 : decode cL_law 264 = .ok (.iconst 1, 1) := by decide +kernel
theorem dL_law_265 : decode cL_law 265 = .ok (.ireturn, 1) := by decide +kernel
end
section
/-! THE PLAIN LAW: moves, the game's won places, worths, bits. No program in sight. -/
def hg_b (x : Bool) : Int32 := if x = true then 1 else 0
def hg_al (r : Int32) (t : Nat) : Bool := decide (1 ≤ t) && (decide (t ≤ 14) && r.toBitVec.getLsbD t)
theorem hg_al_in (r : Int32) (t : Nat) (h : hg_al r t = true) : 1 ≤ t ∧ t ≤ 14 := by
  simp only [hg_al, Bool.and_eq_true, decide_eq_true_eq] at h
  exact ⟨h.1, h.2.1⟩
theorem hg_al_mid (r : Int32) {t : Nat} (h1 : 1 ≤ t) (h2 : t ≤ 14) : hg_al r t = r.toBitVec.getLsbD t := by
  simp [hg_al, h1, h2]
theorem hg_al_hi (r : Int32) {t : Nat} (h : 14 < t) : hg_al r t = false := by
  have : ¬ t ≤ 14 := by omega
  simp [hg_al, this]
theorem hg_al_0 (r : Int32) : hg_al r 0 = false := by
  simp [hg_al]
theorem hg_sm : ∀ t, t < 32 → ((nI t &&& 31).toBitVec.smod 32).toNat = t := by decide +kernel
theorem hg_m15 : ∀ t, t < 15 → 1 ≤ t → (32766 : Int32).toBitVec.getLsbD t = true := by decide +kernel
theorem hg_bit (r : Int32) {t : Nat} (h : t < 32) : (r >>> (nI t &&& 31)) &&& 1 = hg_b (r.toBitVec.getLsbD t) := by
  rw [pk_and _ 1 (by decide)]
  have hs : ((nI t &&& 31).toBitVec.smod 32).toNat = t := hg_sm t h
  have e : (r >>> (nI t &&& 31)).toBitVec = r.toBitVec.sshiftRight t := by
    rw [Int32.toBitVec_shiftRight, BitVec.sshiftRight', hs]
  have e2 : (r.toBitVec.sshiftRight t).getLsbD 0 = r.toBitVec.getLsbD t := by
    rw [BitVec.getLsbD_sshiftRight]
    simp [h]
  rw [e, ← e2, BitVec.getLsbD, Nat.testBit_zero]
  rcases Nat.mod_two_eq_zero_or_one (r.toBitVec.sshiftRight t).toNat with q | q
  · rw [show (2 : Nat) ^ 1 = 2 from rfl, q]; rfl
  · rw [show (2 : Nat) ^ 1 = 2 from rfl, q]; rfl
theorem hg_al_mask (m : Int32) : hg_al (m &&& 32766) = hg_al m := by
  funext t
  unfold hg_al
  by_cases h1 : 1 ≤ t
  · by_cases h2 : t ≤ 14
    · have h3 : (32766 : Int32).toBitVec.getLsbD t = true := hg_m15 t (by omega) h1
      rw [Int32.toBitVec_and, BitVec.getLsbD_and, h3, Bool.and_true]
    · simp [h2]
  · simp [h1]
theorem hg_b_eq0 {x : Bool} : hg_b x = 0 ↔ x = false := by cases x <;> decide
theorem hg_b_eq1 {x : Bool} : hg_b x = 1 ↔ x = true := by cases x <;> decide
theorem hg_b_inj {x y : Bool} : hg_b x = hg_b y ↔ x = y := by cases x <;> cases y <;> decide
theorem hg_b_nar (x : Bool) : narrow .boolean (.int (hg_b x)) = .int (hg_b x) := by cases x <;> decide
theorem hg_b_narv (x : Bool) : vp_nar .boolean (hg_b x) = hg_b x := by cases x <;> decide
theorem hg_b_nab (x : Bool) : vp_nar .byte (hg_b x) = hg_b x := by cases x <;> decide
theorem hg_b_i2b (x : Bool) : (hg_b x).toInt8.toInt32 = hg_b x := by cases x <;> decide
theorem hg_b_fit (x : Bool) : fits .boolean (.int (hg_b x)) = true := by cases x <;> decide
/-! two findings in one int: a move was met (1), one that leads to a loss (2) -/
def hg_f (x y : Bool) : Int32 := (if x = true then 1 else 0) ||| (if y = true then 2 else 0)
theorem hg_f_or (x y z w : Bool) : hg_f x y ||| hg_f z w = hg_f (x || z) (y || w) := by
  cases x <;> cases y <;> cases z <;> cases w <;> decide
theorem hg_f_1 (x y : Bool) : hg_f x y ||| 1 = hg_f true y := by cases x <;> cases y <;> decide
theorem hg_f_2 (x y : Bool) : hg_f x y ||| 2 = hg_f x true := by cases x <;> cases y <;> decide
theorem hg_f_is1 {x y : Bool} : hg_f x y = 1 ↔ (x && !y) = true := by cases x <;> cases y <;> decide
theorem hg_f_0 : hg_f false false = 0 := by decide
/-! any of the first n -/
def hg_an (P : Nat → Bool) (n : Nat) : Bool := (List.range n).any P
theorem hg_an_s (P : Nat → Bool) (n : Nat) : hg_an P (n + 1) = (hg_an P n || P n) := by
  simp [hg_an, List.range_succ]
theorem hg_an_0 (P : Nat → Bool) : hg_an P 0 = false := rfl
theorem hg_an_iff {P : Nat → Bool} {n : Nat} : hg_an P n = true ↔ ∃ t, t < n ∧ P t = true := by
  simp [hg_an]
/-! won places: the one who moves wins -/
def hg_any (al : Nat → Bool) (a b c t : Nat) : Bool := al t && (decide (t ≤ a) || (decide (t ≤ b) || decide (t ≤ c)))
def hg_mv (al : Nat → Bool) (f : Nat → Nat → Nat → Bool) (a b c t : Nat) : Bool := al t && ((decide (t ≤ a) && !f (a - t) b c) || ((decide (t ≤ b) && !f a (b - t) c) || (decide (t ≤ c) && !f a b (c - t))))
def hg_wf (al : Nat → Bool) (mis : Bool) : Nat → Nat → Nat → Nat → Bool
  | 0 => fun _ _ _ => mis
  | n + 1 => fun a b c => if hg_an (hg_any al a b c) 15 = true then hg_an (hg_mv al (hg_wf al mis n) a b c) 15 else mis
def hg_wn (al : Nat → Bool) (mis : Bool) (a b c : Nat) : Bool := hg_wf al mis (a + b + c + 1) a b c
def hg_ok (al : Nat → Bool) : Prop := ∀ t, al t = true → 1 ≤ t ∧ t ≤ 14
theorem hg_ok_al (r : Int32) : hg_ok (hg_al r) := hg_al_in r
theorem hg_mv_eq {al : Nat → Bool} (hal : hg_ok al) {f g : Nat → Nat → Nat → Bool} {a b c N : Nat} (hN : a + b + c < N + 1) (h : ∀ x y z, x + y + z < N → f x y z = g x y z) : hg_mv al f a b c = hg_mv al g a b c := by
  funext t
  unfold hg_mv
  cases ht : al t with
  | false => simp
  | true =>
    have h1 := (hal t ht).1
    have e1 : (decide (t ≤ a) && !f (a - t) b c) = (decide (t ≤ a) && !g (a - t) b c) := by
      by_cases q : t ≤ a
      · rw [h (a - t) b c (by omega)]
      · simp [q]
    have e2 : (decide (t ≤ b) && !f a (b - t) c) = (decide (t ≤ b) && !g a (b - t) c) := by
      by_cases q : t ≤ b
      · rw [h a (b - t) c (by omega)]
      · simp [q]
    have e3 : (decide (t ≤ c) && !f a b (c - t)) = (decide (t ≤ c) && !g a b (c - t)) := by
      by_cases q : t ≤ c
      · rw [h a b (c - t) (by omega)]
      · simp [q]
    rw [e1, e2, e3]
theorem hg_wf_fuel {al : Nat → Bool} (hal : hg_ok al) (mis : Bool) : ∀ n m a b c, a + b + c < n → a + b + c < m → hg_wf al mis n a b c = hg_wf al mis m a b c := by
  intro n
  induction n with
  | zero => intro m a b c h; omega
  | succ n ih =>
    intro m a b c h1 h2
    cases m with
    | zero => omega
    | succ m =>
      show (if hg_an (hg_any al a b c) 15 = true then hg_an (hg_mv al (hg_wf al mis n) a b c) 15 else mis) = (if hg_an (hg_any al a b c) 15 = true then hg_an (hg_mv al (hg_wf al mis m) a b c) 15 else mis)
      rw [hg_mv_eq hal (f := hg_wf al mis n) (g := hg_wf al mis m) (N := a + b + c) (by omega) (fun x y z h => ih m x y z (by omega) (by omega))]
theorem hg_wn_eq {al : Nat → Bool} (hal : hg_ok al) (mis : Bool) (a b c : Nat) : hg_wn al mis a b c = (if hg_an (hg_any al a b c) 15 = true then hg_an (hg_mv al (hg_wn al mis) a b c) 15 else mis) := by
  show (if hg_an (hg_any al a b c) 15 = true then hg_an (hg_mv al (hg_wf al mis (a + b + c)) a b c) 15 else mis) = _
  rw [hg_mv_eq hal (f := hg_wf al mis (a + b + c)) (g := hg_wn al mis) (N := a + b + c) (by omega) (fun x y z h => hg_wf_fuel hal mis _ _ x y z h (by omega))]
theorem hg_wn_iff {al : Nat → Bool} (hal : hg_ok al) (mis : Bool) (a b c : Nat) : hg_wn al mis a b c = true ↔ ((∃ t, al t = true ∧ ((t ≤ a ∧ hg_wn al mis (a - t) b c = false) ∨ (t ≤ b ∧ hg_wn al mis a (b - t) c = false) ∨ (t ≤ c ∧ hg_wn al mis a b (c - t) = false))) ∨ (mis = true ∧ ∀ t, al t = true → ¬ (t ≤ a ∨ t ≤ b ∨ t ≤ c))) := by
  rw [hg_wn_eq hal]
  have hm : hg_an (hg_mv al (hg_wn al mis) a b c) 15 = true ↔ (∃ t, al t = true ∧ ((t ≤ a ∧ hg_wn al mis (a - t) b c = false) ∨ (t ≤ b ∧ hg_wn al mis a (b - t) c = false) ∨ (t ≤ c ∧ hg_wn al mis a b (c - t) = false))) := by
    rw [hg_an_iff]
    constructor
    · rintro ⟨t, -, h⟩
      simp only [hg_mv, Bool.and_eq_true, Bool.or_eq_true, decide_eq_true_eq, Bool.not_eq_true'] at h
      exact ⟨t, h⟩
    · rintro ⟨t, h1, h2⟩
      refine ⟨t, by have := (hal t h1).2; omega, ?_⟩
      simp only [hg_mv, Bool.and_eq_true, Bool.or_eq_true, decide_eq_true_eq, Bool.not_eq_true']
      exact ⟨h1, h2⟩
  have hy : hg_an (hg_any al a b c) 15 = true ↔ ∃ t, al t = true ∧ (t ≤ a ∨ t ≤ b ∨ t ≤ c) := by
    rw [hg_an_iff]
    constructor
    · rintro ⟨t, -, h⟩
      simp only [hg_any, Bool.and_eq_true, Bool.or_eq_true, decide_eq_true_eq] at h
      exact ⟨t, h⟩
    · rintro ⟨t, h1, h2⟩
      refine ⟨t, by have := (hal t h1).2; omega, ?_⟩
      simp only [hg_any, Bool.and_eq_true, Bool.or_eq_true, decide_eq_true_eq]
      exact ⟨h1, h2⟩
  by_cases h : hg_an (hg_any al a b c) 15 = true
  · rw [if_pos h, hm]
    constructor
    · exact Or.inl
    · rintro (q | ⟨-, q⟩)
      · exact q
      · obtain ⟨t, h1, h2⟩ := hy.mp h
        exact absurd h2 (q t h1)
  · rw [if_neg h]
    have hn : ∀ t, al t = true → ¬ (t ≤ a ∨ t ≤ b ∨ t ≤ c) := fun t h1 h2 => h (hy.mpr ⟨t, h1, h2⟩)
    constructor
    · exact fun q => Or.inr ⟨q, hn⟩
    · rintro (⟨t, h1, h2⟩ | ⟨q, -⟩)
      · exact absurd (by rcases h2 with ⟨z, -⟩ | ⟨z, -⟩ | ⟨z, -⟩ <;> simp [z]) (hn t h1)
      · exact q
/-! worths -/
def hg_gr (al : Nat → Bool) (w : Nat → Nat) (N : Nat) : Prop := ∀ n, n < N → w n ≤ n ∧ (∀ t, al t = true → t ≤ n → w (n - t) ≠ w n) ∧ (∀ v, v < w n → ∃ t, al t = true ∧ t ≤ n ∧ w (n - t) = v)
theorem hg_nim : ∀ x, x < 16 → ∀ y, y < 16 → ∀ z, z < 16 → x ^^^ y ^^^ z ≠ 0 → (y ^^^ z < x) ∨ (x ^^^ z < y) ∨ (x ^^^ y < z) := by decide +kernel
theorem hg_xor0 {x y z : Nat} (h : x ^^^ y ^^^ z = 0) : z = x ^^^ y := by
  have h1 : x ^^^ y ^^^ z ^^^ z = 0 ^^^ z := by rw [h]
  rw [Nat.xor_assoc, Nat.xor_self, Nat.xor_zero, Nat.zero_xor] at h1
  exact h1.symm
theorem hg_xor_r (x y z : Nat) : x ^^^ y ^^^ z = y ^^^ z ^^^ x := by rw [Nat.xor_comm (y ^^^ z) x, Nat.xor_assoc]
theorem hg_xor_e (x y : Nat) : x ^^^ y ^^^ (x ^^^ y) = 0 := Nat.xor_self _
theorem hg_sg {al : Nat → Bool} (hal : hg_ok al) {w : Nat → Nat} (hw : hg_gr al w 16) : ∀ N a b c, a + b + c < N → a < 16 → b < 16 → c < 16 → (hg_wn al false a b c = true ↔ w a ^^^ w b ^^^ w c ≠ 0) := by
  intro N
  induction N with
  | zero => intro a b c h; omega
  | succ N ih =>
    intro a b c hN ha hb hc
    obtain ⟨la, ma, ea⟩ := hw a ha
    obtain ⟨lb, mb, eb⟩ := hw b hb
    obtain ⟨lc, mc, ec⟩ := hw c hc
    have key : ∀ x y z, x + y + z < N → x < 16 → y < 16 → z < 16 → (hg_wn al false x y z = false ↔ w x ^^^ w y ^^^ w z = 0) := by
      intro x y z h1 h2 h3 h4
      have h := ih x y z h1 h2 h3 h4
      by_cases q : w x ^^^ w y ^^^ w z = 0
      · simp only [q, ne_eq, not_true_eq_false, iff_false, Bool.not_eq_true] at h
        simp [h, q]
      · have h5 := h.mpr q
        simp [h5, q]
    rw [hg_wn_iff hal]
    constructor
    · rintro (⟨t, ht, h⟩ | ⟨h, -⟩)
      · intro h0
        have ht1 := (hal t ht).1
        rcases h with ⟨h1, h2⟩ | ⟨h1, h2⟩ | ⟨h1, h2⟩
        · rw [key _ _ _ (by omega) (by omega) hb hc, hg_xor_r] at h2
          rw [hg_xor_r] at h0
          exact ma t ht h1 ((hg_xor0 h2).trans (hg_xor0 h0).symm)
        · rw [key _ _ _ (by omega) ha (by omega) hc, ← hg_xor_r] at h2
          rw [← hg_xor_r] at h0
          exact mb t ht h1 ((hg_xor0 h2).trans (hg_xor0 h0).symm)
        · rw [key _ _ _ (by omega) ha hb (by omega)] at h2
          exact mc t ht h1 ((hg_xor0 h2).trans (hg_xor0 h0).symm)
      · cases h
    · intro h0
      refine Or.inl ?_
      rcases hg_nim (w a) (by omega) (w b) (by omega) (w c) (by omega) h0 with h | h | h
      · obtain ⟨t, h1, h2, h3⟩ := ea _ h
        have ht1 := (hal t h1).1
        refine ⟨t, h1, Or.inl ⟨h2, ?_⟩⟩
        rw [key _ _ _ (by omega) (by omega) hb hc, h3, Nat.xor_assoc, Nat.xor_self]
      · obtain ⟨t, h1, h2, h3⟩ := eb _ h
        have ht1 := (hal t h1).1
        refine ⟨t, h1, Or.inr (Or.inl ⟨h2, ?_⟩)⟩
        rw [key _ _ _ (by omega) ha (by omega) hc, h3, ← Nat.xor_assoc, Nat.xor_self, Nat.zero_xor, Nat.xor_self]
      · obtain ⟨t, h1, h2, h3⟩ := ec _ h
        have ht1 := (hal t h1).1
        refine ⟨t, h1, Or.inr (Or.inr ⟨h2, ?_⟩)⟩
        rw [key _ _ _ (by omega) ha hb (by omega), h3, Nat.xor_self]
/-! ints and bits -/
theorem hg_or {a b : Nat} (ha : a < 2 ^ 31) (hb : b < 2 ^ 31) : nI a ||| nI b = nI (a ||| b) := by
  refine Int32.toBitVec_inj.mp (BitVec.eq_of_toNat_eq ?_)
  have h : a ||| b < 2 ^ 31 := Nat.or_lt_two_pow ha hb
  rw [Int32.toBitVec_or, BitVec.toNat_or, pk_tn (by omega), pk_tn (by omega), pk_tn (by omega)]
theorem hg_xor {a b : Nat} (ha : a < 2 ^ 31) (hb : b < 2 ^ 31) : nI a ^^^ nI b = nI (a ^^^ b) := by
  refine Int32.toBitVec_inj.mp (BitVec.eq_of_toNat_eq ?_)
  have h : a ^^^ b < 2 ^ 31 := Nat.xor_lt_two_pow ha hb
  rw [Int32.toBitVec_xor, BitVec.toNat_xor, pk_tn (by omega), pk_tn (by omega), pk_tn (by omega)]
theorem hg_shl : ∀ v, v < 31 → (1 : Int32) <<< (nI v &&& 31) = nI (2 ^ v) := by decide +kernel
/-- the lowest bit that isn't set, of the first f -/
def hg_lz : Nat → Nat → Nat
  | 0, _ => 0
  | f + 1, M => if M % 2 = 0 then 0 else hg_lz f (M / 2) + 1
theorem hg_lz_le : ∀ f M, hg_lz f M ≤ f := by
  intro f
  induction f with
  | zero => intro M; exact Nat.le_refl 0
  | succ f ih =>
    intro M
    show (if M % 2 = 0 then 0 else hg_lz f (M / 2) + 1) ≤ f + 1
    split
    · omega
    · have := ih (M / 2)
      omega
theorem hg_lz_lt : ∀ f M v, v < hg_lz f M → M.testBit v = true := by
  intro f
  induction f with
  | zero => intro M v h; exact absurd h (Nat.not_lt_zero _)
  | succ f ih =>
    intro M v h
    have h' : v < (if M % 2 = 0 then 0 else hg_lz f (M / 2) + 1) := h
    split at h'
    · omega
    · rename_i q
      cases v with
      | zero => rw [Nat.testBit_zero]; simp; omega
      | succ v =>
        rw [Nat.testBit_succ]
        exact ih (M / 2) v (by omega)
theorem hg_lz_at : ∀ f M, hg_lz f M < f → M.testBit (hg_lz f M) = false := by
  intro f
  induction f with
  | zero => intro M h; exact absurd h (Nat.not_lt_zero _)
  | succ f ih =>
    intro M h
    have e : hg_lz (f + 1) M = (if M % 2 = 0 then 0 else hg_lz f (M / 2) + 1) := rfl
    rw [e] at h ⊢
    by_cases q : M % 2 = 0
    · rw [if_pos q, Nat.testBit_zero]; simp; omega
    · rw [if_neg q] at h ⊢
      rw [Nat.testBit_succ]
      exact ih (M / 2) (by omega)
set_option maxRecDepth 100000 in
theorem hg_ntz0 : ∀ hi, hi < 256 → ∀ lo, lo < 128 → ((nI (128 * hi + lo) ^^^ (-1)) ^^^ (-1)) &&& ((nI (128 * hi + lo) ^^^ (-1)) - 1) = nI (2 ^ hg_lz 16 (128 * hi + lo) - 1) := by decide +kernel
theorem hg_ntz {M : Nat} (h : M < 2 ^ 15) : ((nI M ^^^ (-1)) ^^^ (-1)) &&& ((nI M ^^^ (-1)) - 1) = nI (2 ^ hg_lz 16 M - 1) := by
  have e : M = 128 * (M / 128) + M % 128 := by omega
  have q := hg_ntz0 (M / 128) (by omega) (M % 128) (by omega)
  rw [← e] at q
  exact q
/-- met: which worths the moves of at most t - 1 from n lead to -/
def hg_met (al : Nat → Bool) (w : Nat → Nat) (n t M : Nat) : Prop := M < 2 ^ n ∧ ∀ v, M.testBit v = true ↔ ∃ u, u < t ∧ al u = true ∧ w (n - u) = v
theorem hg_met_0 {al : Nat → Bool} (hal : hg_ok al) (w : Nat → Nat) (n : Nat) : hg_met al w n 1 0 := by
  refine ⟨Nat.two_pow_pos n, fun v => ?_⟩
  constructor
  · intro h; simp at h
  · rintro ⟨u, h1, h2, -⟩
    have := (hal u h2).1
    omega
theorem hg_met_no {al : Nat → Bool} {w : Nat → Nat} {n t M : Nat} (h : hg_met al w n t M) (ht : al t = false) : hg_met al w n (t + 1) M := by
  refine ⟨h.1, fun v => ?_⟩
  rw [h.2 v]
  constructor
  · rintro ⟨u, h1, h2⟩
    exact ⟨u, by omega, h2⟩
  · rintro ⟨u, h1, h2, h3⟩
    have : u ≠ t := fun q => by rw [q, ht] at h2; cases h2
    exact ⟨u, by omega, h2, h3⟩
theorem hg_met_yes {al : Nat → Bool} {w : Nat → Nat} {n t M : Nat} (h : hg_met al w n t M) (ht : al t = true) (hw : w (n - t) < n) : hg_met al w n (t + 1) (M ||| 2 ^ w (n - t)) := by
  refine ⟨Nat.or_lt_two_pow h.1 (Nat.pow_lt_pow_right (by omega) hw), fun v => ?_⟩
  rw [Nat.testBit_or, Nat.testBit_two_pow, Bool.or_eq_true, h.2 v, decide_eq_true_eq]
  constructor
  · rintro (⟨u, h1, h2⟩ | h1)
    · exact ⟨u, by omega, h2⟩
    · exact ⟨t, by omega, ht, h1⟩
  · rintro ⟨u, h1, h2, h3⟩
    by_cases q : u = t
    · rw [q] at h3; exact Or.inr h3
    · exact Or.inl ⟨u, by omega, h2, h3⟩
/-- worths up to n, and one more -/
theorem hg_gr_s {al : Nat → Bool} (hal : hg_ok al) {w : Nat → Nat} {n M : Nat} (hn : n < 16) (h : hg_gr al w n) (hM : hg_met al w n (n + 1) M) : hg_gr al (fun j => if j = n then hg_lz 16 M else w j) (n + 1) ∧ hg_lz 16 M ≤ n := by
  have hb : M.testBit n = false := Nat.testBit_lt_two_pow hM.1
  have hle : hg_lz 16 M ≤ n := by
    rcases Nat.lt_or_ge n (hg_lz 16 M) with q | q
    · rw [hg_lz_lt 16 M n q] at hb; cases hb
    · exact q
  refine ⟨fun k hk => ?_, hle⟩
  by_cases q : k = n
  · subst q
    refine ⟨by simp [hle], fun t h1 h2 => ?_, fun v hv => ?_⟩
    · have h3 := (hal t h1).1
      have h4 : k - t ≠ k := by omega
      simp only [if_neg h4, if_true]
      intro e
      have h5 : M.testBit (w (k - t)) = true := (hM.2 _).mpr ⟨t, by omega, h1, rfl⟩
      rw [e, hg_lz_at 16 M (by omega)] at h5
      cases h5
    · simp only [if_true] at hv
      obtain ⟨t, h1, h2, h3⟩ := (hM.2 v).mp (hg_lz_lt 16 M v hv)
      have h4 := (hal t h2).1
      have h5 : k - t ≠ k := by omega
      exact ⟨t, h2, by omega, by simp only [if_neg h5]; exact h3⟩
  · obtain ⟨h1, h2, h3⟩ := h k (by omega)
    refine ⟨by simp only [if_neg q]; exact h1, fun t g1 g2 => ?_, fun v hv => ?_⟩
    · have h4 : k - t ≠ n := by omega
      simp only [if_neg h4, if_neg q]
      exact h2 t g1 g2
    · simp only [if_neg q] at hv
      obtain ⟨t, g1, g2, g3⟩ := h3 v hv
      have h4 : k - t ≠ n := by omega
      exact ⟨t, g1, g2, by simp only [if_neg h4]; exact g3⟩
/-! places by their number -/
def hg_at (al : Nat → Bool) (mis : Bool) (j : Nat) : Bool := hg_wn al mis (j / 256) (j / 16 % 16) (j % 16)
theorem hg_at_abc (al : Nat → Bool) (mis : Bool) {a b c : Nat} (hb : b < 16) (hc : c < 16) : hg_at al mis (256 * a + 16 * b + c) = hg_wn al mis a b c := by
  unfold hg_at
  rw [show (256 * a + 16 * b + c) / 256 = a by omega, show (256 * a + 16 * b + c) / 16 % 16 = b by omega, show (256 * a + 16 * b + c) % 16 = c by omega]
def hg_hit (al : Nat → Bool) (lf : Nat → Int32) (at_ step t : Nat) : Bool := al t && decide (lf (at_ - t * step) = 1)
/-- the turned game's table, one place more -/
theorem hg_turn {al : Nat → Bool} (hal : hg_ok al) {lf : Nat → Int32} {k : Nat} (h : ∀ j, j < k → lf j = hg_b (!hg_at al true j)) : ((hg_an al (k % 16 + 1) || hg_an al (k / 16 % 16 + 1) || hg_an al (k / 256 + 1)) && !(hg_an (hg_hit al lf k 1) (k % 16 + 1) || hg_an (hg_hit al lf k 16) (k / 16 % 16 + 1) || hg_an (hg_hit al lf k 256) (k / 256 + 1))) = !hg_at al true k := by
  have hx : ∀ {P : Nat → Bool} {n : Nat}, hg_an P n = true ↔ ∃ t, t < n ∧ P t = true := hg_an_iff
  have ht : ∀ t s : Nat, 1 ≤ s → al t = true → t * s ≤ k → (hg_hit al lf k s t = true ↔ hg_at al true (k - t * s) = false) := by
    intro t s h0 h1 h2
    have h3 := (hal t h1).1
    have h4 : 1 ≤ t * s := Nat.mul_pos h3 h0
    have e := h (k - t * s) (by omega)
    simp only [hg_hit, h1, Bool.true_and, decide_eq_true_eq, e, hg_b_eq1, Bool.not_eq_true']
  have hW := hg_wn_iff hal true (k / 256) (k / 16 % 16) (k % 16)
  have goal : hg_at al true k = true ↔ ¬ (((hg_an al (k % 16 + 1) || hg_an al (k / 16 % 16 + 1) || hg_an al (k / 256 + 1)) && !(hg_an (hg_hit al lf k 1) (k % 16 + 1) || hg_an (hg_hit al lf k 16) (k / 16 % 16 + 1) || hg_an (hg_hit al lf k 256) (k / 256 + 1))) = true) := by
    have e1 : ∀ t, al t = true → t ≤ k % 16 → (hg_hit al lf k 1 t = true ↔ hg_wn al true (k / 256) (k / 16 % 16) (k % 16 - t) = false) := by
      intro t h1 h2
      rw [ht t 1 (by omega) h1 (by omega)]
      unfold hg_at
      rw [show (k - t * 1) / 256 = k / 256 by omega, show (k - t * 1) / 16 % 16 = k / 16 % 16 by omega, show (k - t * 1) % 16 = k % 16 - t by omega]
    have e2 : ∀ t, al t = true → t ≤ k / 16 % 16 → (hg_hit al lf k 16 t = true ↔ hg_wn al true (k / 256) (k / 16 % 16 - t) (k % 16) = false) := by
      intro t h1 h2
      rw [ht t 16 (by omega) h1 (by omega)]
      unfold hg_at
      rw [show (k - t * 16) / 256 = k / 256 by omega, show (k - t * 16) / 16 % 16 = k / 16 % 16 - t by omega, show (k - t * 16) % 16 = k % 16 by omega]
    have e3 : ∀ t, al t = true → t ≤ k / 256 → (hg_hit al lf k 256 t = true ↔ hg_wn al true (k / 256 - t) (k / 16 % 16) (k % 16) = false) := by
      intro t h1 h2
      rw [ht t 256 (by omega) h1 (by omega)]
      unfold hg_at
      rw [show (k - t * 256) / 256 = k / 256 - t by omega, show (k - t * 256) / 16 % 16 = k / 16 % 16 by omega, show (k - t * 256) % 16 = k % 16 by omega]
    have al_of : ∀ s t, hg_hit al lf k s t = true → al t = true := by
      intro s t q
      simp only [hg_hit, Bool.and_eq_true] at q
      exact q.1
    show hg_wn al true (k / 256) (k / 16 % 16) (k % 16) = true ↔ _
    rw [hW]
    simp only [Bool.and_eq_true, Bool.not_eq_true', Bool.or_eq_true, Bool.or_eq_false_iff]
    constructor
    · rintro h5 ⟨h0, h4⟩
      rcases h5 with ⟨t, h1, h2⟩ | ⟨-, h1⟩
      · rcases h2 with ⟨h2, h3⟩ | ⟨h2, h3⟩ | ⟨h2, h3⟩
        · have := hx.mpr ⟨t, Nat.lt_succ_of_le h2, (e3 t h1 h2).mpr h3⟩
          rw [h4.2] at this; cases this
        · have := hx.mpr ⟨t, Nat.lt_succ_of_le h2, (e2 t h1 h2).mpr h3⟩
          rw [h4.1.2] at this; cases this
        · have := hx.mpr ⟨t, Nat.lt_succ_of_le h2, (e1 t h1 h2).mpr h3⟩
          rw [h4.1.1] at this; cases this
      · rcases h0 with (h0 | h0) | h0
        · obtain ⟨t, g1, g2⟩ := hx.mp h0
          exact h1 t g2 (Or.inr (Or.inr (by omega)))
        · obtain ⟨t, g1, g2⟩ := hx.mp h0
          exact h1 t g2 (Or.inr (Or.inl (by omega)))
        · obtain ⟨t, g1, g2⟩ := hx.mp h0
          exact h1 t g2 (Or.inl (by omega))
    · intro h0
      by_cases q : (hg_an al (k % 16 + 1) = true ∨ hg_an al (k / 16 % 16 + 1) = true) ∨ hg_an al (k / 256 + 1) = true
      · refine Or.inl ?_
        by_cases q1 : hg_an (hg_hit al lf k 1) (k % 16 + 1) = true
        · obtain ⟨t, g1, g2⟩ := hx.mp q1
          exact ⟨t, al_of _ _ g2, Or.inr (Or.inr ⟨by omega, (e1 t (al_of _ _ g2) (by omega)).mp g2⟩)⟩
        · by_cases q2 : hg_an (hg_hit al lf k 16) (k / 16 % 16 + 1) = true
          · obtain ⟨t, g1, g2⟩ := hx.mp q2
            exact ⟨t, al_of _ _ g2, Or.inr (Or.inl ⟨by omega, (e2 t (al_of _ _ g2) (by omega)).mp g2⟩)⟩
          · by_cases q3 : hg_an (hg_hit al lf k 256) (k / 256 + 1) = true
            · obtain ⟨t, g1, g2⟩ := hx.mp q3
              exact ⟨t, al_of _ _ g2, Or.inl ⟨by omega, (e3 t (al_of _ _ g2) (by omega)).mp g2⟩⟩
            · exact absurd ⟨q, ⟨Bool.eq_false_iff.mpr q1, Bool.eq_false_iff.mpr q2⟩, Bool.eq_false_iff.mpr q3⟩ h0
      · refine Or.inr ⟨trivial, fun t h1 h2 => q ?_⟩
        rcases h2 with h2 | h2 | h2
        · exact Or.inr (hx.mpr ⟨t, by omega, h1⟩)
        · exact Or.inl (Or.inr (hx.mpr ⟨t, by omega, h1⟩))
        · exact Or.inl (Or.inl (hx.mpr ⟨t, by omega, h1⟩))
  cases hq : hg_at al true k with
  | true =>
    have := goal.mp hq
    simpa using Bool.eq_false_iff.mpr this
  | false =>
    refine Decidable.byContradiction fun z => ?_
    have := goal.mpr (by simpa using z)
    rw [hq] at this
    cases this
/-! counts -/
def hg_cnt (P : Nat → Bool) : Nat → Nat
  | 0 => 0
  | n + 1 => hg_cnt P n + (if P n = true then 0 else 1)
theorem hg_cnt_le (P : Nat → Bool) : ∀ n, hg_cnt P n ≤ n := by
  intro n
  induction n with
  | zero => exact Nat.le_refl 0
  | succ n ih =>
    show hg_cnt P n + (if P n = true then 0 else 1) ≤ n + 1
    split <;> omega
/-! the first good move -/
def hg_dn (hp : Nat → Nat) (h t : Nat) : Nat → Nat := fun i => if i = h then hp i - t else hp i
def hg_gd (al : Nat → Bool) (mis : Bool) (hp : Nat → Nat) (h t : Nat) : Bool := al t && (decide (t ≤ hp h) && !hg_wn al mis (hg_dn hp h t 0) (hg_dn hp h t 1) (hg_dn hp h t 2))
def hg_is_mv (al : Nat → Bool) (mis : Bool) (hp : Nat → Nat) (v : Int32) : Prop :=
  (v = -1 ∧ ∀ h t, h < 3 → hg_gd al mis hp h t = false) ∨ ∃ h t, h < 3 ∧ t < 16 ∧ v = nI (16 * h + t) ∧ hg_gd al mis hp h t = true ∧ (∀ h' t', h' < h → hg_gd al mis hp h' t' = false) ∧ (∀ t', t' < t → hg_gd al mis hp h t' = false)
theorem hg_mv_un {al : Nat → Bool} {mis : Bool} {hp : Nat → Nat} {v w : Int32} (h1 : hg_is_mv al mis hp v) (h2 : hg_is_mv al mis hp w) : v = w := by
  rcases h1 with ⟨e1, f1⟩ | ⟨a, t, a1, a2, a3, a4, a5, a6⟩ <;> rcases h2 with ⟨e2, f2⟩ | ⟨b, u, b1, b2, b3, b4, b5, b6⟩
  · rw [e1, e2]
  · rw [f1 b u b1] at b4; cases b4
  · rw [f2 a t a1] at a4; cases a4
  · have hab : a = b := by
      rcases Nat.lt_trichotomy a b with q | q | q
      · rw [b5 a t q] at a4; cases a4
      · exact q
      · rw [a5 b u q] at b4; cases b4
    subst hab
    have htu : t = u := by
      rcases Nat.lt_trichotomy t u with q | q | q
      · rw [b6 t q] at a4; cases a4
      · exact q
      · rw [a6 u q] at b4; cases b4
    subst htu
    rw [a3, b3]
end
section
/-! the worlds of the two objects, and rows of my own over the kit's -/
def hg_cl : List vw_C := [(RX0, TX0, 6), (RX1, TX1, 6)]
def hg_PG (D : va_G) (sz : Nat) (tys : List (ClassId × FieldType)) (ws : va_W) (U : State) : Prop := U.heap.size = sz ∧ va_P D hg_cl ws U.heap ∧ va_K D hg_cl tys U ∧ va_D (fun _ => True) ws
def hg_BG (D : va_G) (A : Nat → Prop) (tys : List (ClassId × FieldType)) (ws : va_W) (t : State) : Prop := va_P D hg_cl ws t.heap ∧ va_K D hg_cl tys t ∧ va_D A ws
theorem hg_BGi {D : va_G} {A : Nat → Prop} {tys : List (ClassId × FieldType)} {ws : va_W} {s t : State} {H : Heap} (hP : va_P D hg_cl ws H) (hK : va_K D hg_cl tys s) (hD : va_D A ws) (ht : t.heap = H) (hW : s.vm.Alike t.vm) : hg_BG D A tys ws t := ⟨by rw [ht]; exact hP, va_K.moved hW hK, hD⟩
/-- HeapGame: rules, turned, known, heap, worth, loses -/
def gx (h0 a1 a2 a3 : Nat) (d1 d2 d3 : ClassId) (r tu k : Int32) (hf wf lf : Nat → Int32) : va_W := [(h0, .inr (0, [.int r, .int tu, .ref a1, .ref a2, .ref a3, .int k])), (a1, .inl (d1, 3, .inl hf)), (a2, .inl (d2, 16, .inl wf)), (a3, .inl (d3, 4096, .inl lf))]
def tg (d1 d2 d3 : ClassId) : List (ClassId × FieldType) := [(d1, .int), (d2, .int), (d3, .byte)]
/-- HeapGameModel: moves, misere, known, losing, heap, wins -/
def mx (g0 b1 b2 : Nat) (e1 e2 : ClassId) (mv mi k lo : Int32) (hf wf : Nat → Int32) : va_W := [(g0, .inr (1, [.int mv, .ref b1, .int mi, .ref b2, .int k, .int lo])), (b1, .inl (e1, 3, .inl hf)), (b2, .inl (e2, 4096, .inl wf))]
def tm (e1 e2 : ClassId) : List (ClassId × FieldType) := [(e1, .int), (e2, .boolean)]
section HGR
variable {p : Program} {l : Launch} {e : Env} {R : Room} {s : State} {m : MethodId} {args : Array Value} {below : List Frame} {meth : Method} {c : Code} {H : Heap} {locs : List Loc} {cells slots : Nat} {Q : State → Prop}
variable {cc : ByteArray} {pc : Nat} {ls : Array Slot} {rest : List Value} {D : va_G} {cl : List vw_C} {A : Nat → Prop} {a : Nat} {tys tyc : List (ClassId × FieldType)} {ws wc wr : va_W} {H0 : Heap}
theorem hg_is {x y : Int32} (h : x = y) (k : W p l e R s m args below meth c H locs cells slots Q (F0 m pc ls (.int y :: rest))) : W p l e R s m args below meth c H locs cells slots Q (F0 m pc ls (.int x :: rest)) := by
  rw [h]; exact k
theorem hg_iald (hexec : p.tables.exec = Jvm.exec) (hb : c.code = cc) (hK : va_K D cl tys s) (hP : va_P D cl ws H) (q0 t0 : Nat) {cA : ClassId} {n : Nat} {f : Nat → Int32} (ha : ws[q0]? = some (a, .inl (cA, n, .inl f))) (ht : tys[t0]? = some (cA, .int)) {i : Nat} {v : Int32} (hi : i < n) (hv : f i = v) (hn : n < 2 ^ 31) (hdg : decode cc pc = .ok (.iaload, 1))
    (kk : W p l e R s m args below meth c H locs cells slots Q (F0 m (pc + 1) ls (.int v :: rest))) : W p l e R s m args below meth c H locs cells slots Q (F0 m pc ls (.int (nI i) :: .ref a :: rest)) := by
  refine va_iald hexec hb hK hP q0 t0 ha ht (vp_in_nI hi hn) hdg ?_
  rw [nI_clamp (Nat.lt_trans hi hn), hv]
  exact kk
theorem hg_bald (hexec : p.tables.exec = Jvm.exec) (hb : c.code = cc) (hK : va_K D cl tys s) (hP : va_P D cl ws H) (q0 t0 : Nat) {cA : ClassId} {n : Nat} {f : Nat → Int32} (ha : ws[q0]? = some (a, .inl (cA, n, .inl f))) (ht : tys[t0]? = some (cA, .byte)) {i : Nat} {v : Int32} (hi : i < n) (hv : f i = v) (hn : n < 2 ^ 31) (hdg : decode cc pc = .ok (.baload, 1))
    (kk : W p l e R s m args below meth c H locs cells slots Q (F0 m (pc + 1) ls (.int v :: rest))) : W p l e R s m args below meth c H locs cells slots Q (F0 m pc ls (.int (nI i) :: .ref a :: rest)) := by
  refine va_bald hexec hb hK hP q0 t0 ha ht (vp_in_nI hi hn) hdg ?_
  rw [nI_clamp (Nat.lt_trans hi hn), hv]
  exact kk
theorem hg_zald (hexec : p.tables.exec = Jvm.exec) (hb : c.code = cc) (hK : va_K D cl tys s) (hP : va_P D cl ws H) (q0 t0 : Nat) {cA : ClassId} {n : Nat} {f : Nat → Int32} (ha : ws[q0]? = some (a, .inl (cA, n, .inl f))) (ht : tys[t0]? = some (cA, .boolean)) {i : Nat} {v : Int32} (hi : i < n) (hv : f i = v) (hn : n < 2 ^ 31) (hdg : decode cc pc = .ok (.baload, 1))
    (kk : W p l e R s m args below meth c H locs cells slots Q (F0 m (pc + 1) ls (.int v :: rest))) : W p l e R s m args below meth c H locs cells slots Q (F0 m pc ls (.int (nI i) :: .ref a :: rest)) := by
  refine va_zald hexec hb hK hP q0 t0 ha ht (vp_in_nI hi hn) hdg ?_
  rw [nI_clamp (Nat.lt_trans hi hn), hv]
  exact kk
theorem hg_iast (hexec : p.tables.exec = Jvm.exec) (hb : c.code = cc) (hK : va_K D cl tys s) (hP : va_P D cl ws H) (hD : va_D A ws) (hS : va_S A H0 H locs) (q0 t0 : Nat) {cA : ClassId} {n : Nat} {f : Nat → Int32} (ha : ws[q0]? = some (a, .inl (cA, n, .inl f))) (ht : tys[t0]? = some (cA, .int)) {i : Nat} {x : Int32} (hi : i < n) (hn : n < 2 ^ 31) (hdg : decode cc pc = .ok (.iastore, 1))
    (kk : ∀ (H1 : Heap) (locs1 : List Loc), va_P D cl (ws.set q0 (a, .inl (cA, n, .inl (upd f i x)))) H1 → va_D A (ws.set q0 (a, .inl (cA, n, .inl (upd f i x)))) → va_S A H0 H1 locs1 → W p l e R s m args below meth c H1 locs1 cells slots Q (F0 m (pc + 1) ls rest)) : W p l e R s m args below meth c H locs cells slots Q (F0 m pc ls (.int x :: .int (nI i) :: .ref a :: rest)) := by
  refine va_iast hexec hb hK hP hD hS q0 t0 ha ht (vp_in_nI hi hn) hdg ?_
  rw [nI_clamp (Nat.lt_trans hi hn)]
  exact kk
theorem hg_bast (hexec : p.tables.exec = Jvm.exec) (hb : c.code = cc) (hK : va_K D cl tys s) (hP : va_P D cl ws H) (hD : va_D A ws) (hS : va_S A H0 H locs) (q0 t0 : Nat) {cA : ClassId} {n : Nat} {f : Nat → Int32} (ha : ws[q0]? = some (a, .inl (cA, n, .inl f))) (ht : tys[t0]? = some (cA, .byte)) {i : Nat} {x : Int32} (hi : i < n) (hx : vp_nar .byte x = x) (hn : n < 2 ^ 31) (hdg : decode cc pc = .ok (.bastore, 1))
    (kk : ∀ (H1 : Heap) (locs1 : List Loc), va_P D cl (ws.set q0 (a, .inl (cA, n, .inl (upd f i x)))) H1 → va_D A (ws.set q0 (a, .inl (cA, n, .inl (upd f i x)))) → va_S A H0 H1 locs1 → W p l e R s m args below meth c H1 locs1 cells slots Q (F0 m (pc + 1) ls rest)) : W p l e R s m args below meth c H locs cells slots Q (F0 m pc ls (.int x :: .int (nI i) :: .ref a :: rest)) := by
  refine va_bast hexec hb hK hP hD hS q0 t0 ha ht (vp_in_nI hi hn) hdg ?_
  rw [nI_clamp (Nat.lt_trans hi hn), hx]
  exact kk
theorem hg_zast (hexec : p.tables.exec = Jvm.exec) (hb : c.code = cc) (hK : va_K D cl tys s) (hP : va_P D cl ws H) (hD : va_D A ws) (hS : va_S A H0 H locs) (q0 t0 : Nat) {cA : ClassId} {n : Nat} {f : Nat → Int32} (ha : ws[q0]? = some (a, .inl (cA, n, .inl f))) (ht : tys[t0]? = some (cA, .boolean)) {i : Nat} {x : Int32} (hi : i < n) (hx : vp_nar .boolean x = x) (hn : n < 2 ^ 31) (hdg : decode cc pc = .ok (.bastore, 1))
    (kk : ∀ (H1 : Heap) (locs1 : List Loc), va_P D cl (ws.set q0 (a, .inl (cA, n, .inl (upd f i x)))) H1 → va_D A (ws.set q0 (a, .inl (cA, n, .inl (upd f i x)))) → va_S A H0 H1 locs1 → W p l e R s m args below meth c H1 locs1 cells slots Q (F0 m (pc + 1) ls rest)) : W p l e R s m args below meth c H locs cells slots Q (F0 m pc ls (.int x :: .int (nI i) :: .ref a :: rest)) := by
  refine va_zast hexec hb hK hP hD hS q0 t0 ha ht (vp_in_nI hi hn) hdg ?_
  rw [nI_clamp (Nat.lt_trans hi hn), hx]
  exact kk
variable {y : MethodName} {bytes : ByteArray} {maxL nL n index q0 ci : Nat} {ret : Option FieldType} {wsm : List Cond} {rm : Room} {own C : String} {b : Addr} {As st0 : List Value} {vc : vw_C} {fs : List Value}
theorem hg_preV (hK : va_K D hg_cl tyc s) (hP : va_P D hg_cl wc H) (hD : va_D A wc) (hc : hg_cl[ci]? = some vc) (hCq : vc.1 = C) (he : wc[q0]? = some (b, .inr (ci, fs))) : PreV s H C b (va_Pc (.ref b :: As) (hg_PG D H.size tyc wc)) As :=
  ⟨fun a U g mk q => by obtain ⟨q0, q1, qP, qK, qD⟩ := q; exact ⟨q0, q1, qP, va_K.moved (u := U) (U := U.calling g mk a) (Vm.Alike.refl U.vm) qK, qD⟩, by rw [← hCq]; exact va_recv hK hP hc he, fun U hU hW => ⟨rfl, by rw [hU], by rw [hU]; exact hP, va_K.moved hW.alike hK, hD.weaken (fun _ _ _ _ => trivial)⟩⟩
/-- a call through an object, an int comes back; the callee's cells are isC, the rest isR -/
theorem hg_cVi {Sx : Type} {post : Int32 → Sx → Prop} {W1 : Sx → va_W} (S : CallFix p m c cc nL s args lw_all own) (hM : Met l y wsm rm (va_Pc (.ref b :: As) (hg_PG D H.size tyc wc)) (va_Qi post (fun u t => hg_BG D (va_A wc H.size) tyc (W1 u) t) (va_A wc H.size)) 0 0 (va_A wc H.size)) (cw : CallW R s args own C index y bytes maxL ret wsm rm 0 0 n)
    (hK : va_K D hg_cl tys s) (hP : va_P D hg_cl ws H) (hD : va_D A ws) (hS : va_S A s.heap H locs) (hA : ∀ q, s.heap.size ≤ q → A q) (isC isR isT : List Nat) (hC : isC.map (fun i => ws[i]?) = wc.map some) (hCf : isC.filterMap (fun i => ws[i]?) = wc) (hR : isR.map (fun i => ws[i]?) = wr.map some) (hT : isT.filterMap (fun i => tys[i]?) = tyc) (hnC : va_nd isC = true) (hnR : va_nd isR = true) (hdis : ∀ i ∈ isR, i ∉ isC)
    (hc : hg_cl[ci]? = some vc) (hCq : vc.1 = C) (he : wc[q0]? = some (b, .inr (ci, fs))) (hln : As.length = n) (hls : ls.size = nL) (hst : st0 = As.reverse ++ .ref b :: rest) (hw : (rest.map fun v => v.category).sum ≤ 8) (hdg : decode cc pc = .ok (.invokevirtual index, 3)) (hf : cells ≤ R.cells ∧ slots ≤ R.slots)
    (kk : ∀ (r : Int32) (u : Sx) (H1 : Heap) (locs1 : List Loc), post r u → va_P D hg_cl (wr ++ W1 u) H1 → va_D A (wr ++ W1 u) → va_S A s.heap H1 locs1 → W p l e R s m args below meth c H1 locs1 cells slots Q (F0 m (pc + 3) ls (.int r :: rest))) : W p l e R s m args below meth c H locs cells slots Q (F0 m pc ls st0) := by
  have hPc := hP.sub isC hCf
  have hDc := hD.sub isC hnC hC
  have hKc := hK.sub isT hT
  have hFc := va_free hD hS hA isC hC
  refine va_calli (va_runV (As := As) (rest := rest) S hM cw (hg_preV hKc hPc hDc hc hCq he) rfl hln hls hst (lv_room hw) hdg hf) hS (fun q _ h => hFc q h) hFc (fun r u t H1 locs1 ht hvm hw1 hB hz1 hk1 hS1 => ?_)
  obtain ⟨hP1, hK1, hD1⟩ := hB
  rw [ht] at hP1
  obtain ⟨hP2, hD2⟩ := va_join hP hD isC isR hC hR hnR hdis hk1 hFc hP1 hD1
  exact kk r u H1 locs1 hw1 hP2 hD2 hS1
/-- a call through an object, nothing comes back -/
theorem hg_cVv {Sx : Type} {post : Sx → Prop} {W1 : Sx → va_W} (S : CallFix p m c cc nL s args lw_all own) (hM : Met l y wsm rm (va_Pc (.ref b :: As) (hg_PG D H.size tyc wc)) (va_Qv post (fun u t => hg_BG D (va_A wc H.size) tyc (W1 u) t) (va_A wc H.size)) 0 0 (va_A wc H.size)) (cw : CallW R s args own C index y bytes maxL ret wsm rm 0 0 n)
    (hK : va_K D hg_cl tys s) (hP : va_P D hg_cl ws H) (hD : va_D A ws) (hS : va_S A s.heap H locs) (hA : ∀ q, s.heap.size ≤ q → A q) (isC isR isT : List Nat) (hC : isC.map (fun i => ws[i]?) = wc.map some) (hCf : isC.filterMap (fun i => ws[i]?) = wc) (hR : isR.map (fun i => ws[i]?) = wr.map some) (hT : isT.filterMap (fun i => tys[i]?) = tyc) (hnC : va_nd isC = true) (hnR : va_nd isR = true) (hdis : ∀ i ∈ isR, i ∉ isC)
    (hc : hg_cl[ci]? = some vc) (hCq : vc.1 = C) (he : wc[q0]? = some (b, .inr (ci, fs))) (hln : As.length = n) (hls : ls.size = nL) (hst : st0 = As.reverse ++ .ref b :: rest) (hw : (rest.map fun v => v.category).sum ≤ 8) (hdg : decode cc pc = .ok (.invokevirtual index, 3)) (hf : cells ≤ R.cells ∧ slots ≤ R.slots)
    (kk : ∀ (u : Sx) (H1 : Heap) (locs1 : List Loc), post u → va_P D hg_cl (wr ++ W1 u) H1 → va_D A (wr ++ W1 u) → va_S A s.heap H1 locs1 → W p l e R s m args below meth c H1 locs1 cells slots Q (F0 m (pc + 3) ls rest)) : W p l e R s m args below meth c H locs cells slots Q (F0 m pc ls st0) := by
  have hPc := hP.sub isC hCf
  have hDc := hD.sub isC hnC hC
  have hKc := hK.sub isT hT
  have hFc := va_free hD hS hA isC hC
  refine va_callv (va_runV (As := As) (rest := rest) S hM cw (hg_preV hKc hPc hDc hc hCq he) rfl hln hls hst (lv_room hw) hdg hf) hS (fun q _ h => hFc q h) hFc (fun u t H1 locs1 ht hvm hw1 hB hz1 hk1 hS1 => ?_)
  obtain ⟨hP1, hK1, hD1⟩ := hB
  rw [ht] at hP1
  obtain ⟨hP2, hD2⟩ := va_join hP hD isC isR hC hR hnR hdis hk1 hFc hP1 hD1
  exact kk u H1 locs1 hw1 hP2 hD2 hS1
/-- a static call that touches no cell, an int comes back -/
theorem hg_cSi {post : Int32 → Prop} (S : CallFix p m c cc nL s args lw_all own) (hM : Met l y wsm rm (va_Pc As (fun U => U.heap.size = H.size)) (va_Qi (fun (v : Int32) (_ : Unit) => post v) (fun _ _ => True) (va_A [] H.size)) 0 0 (va_A [] H.size)) (cw : CallB R s args own index y bytes maxL ret wsm rm 0 0 n ∧ (Cond.static y).before args s = true)
    (hP : va_P D hg_cl ws H) (hS : va_S A s.heap H locs) (hA : ∀ q, s.heap.size ≤ q → A q) (hln : As.length = n) (hls : ls.size = nL) (hst : st0 = As.reverse ++ rest) (hw : (rest.map fun v => v.category).sum ≤ 8) (hdg : decode cc pc = .ok (.invokestatic index, 3)) (hf : cells ≤ R.cells ∧ slots ≤ R.slots)
    (kk : ∀ (r : Int32) (H1 : Heap) (locs1 : List Loc), post r → va_P D hg_cl ws H1 → va_S A s.heap H1 locs1 → W p l e R s m args below meth c H1 locs1 cells slots Q (F0 m (pc + 3) ls (.int r :: rest))) : W p l e R s m args below meth c H locs cells slots Q (F0 m pc ls st0) := by
  have hno : ∀ q, va_A [] H.size q → H.size ≤ q := by
    intro q h
    rcases h with ⟨k, e, h⟩ | h
    · simp at h
    · exact h
  have hFc : ∀ q, va_A [] H.size q → A q := fun q h => hA q (Nat.le_trans hS.1 (hno q h))
  refine va_calli (va_runS (As := As) (rest := rest) S hM cw ⟨fun a U g mk q => by obtain ⟨q0, q1⟩ := q; exact ⟨q0, q1⟩, fun U hU hW => ⟨rfl, (show U.heap.size = H.size by rw [hU])⟩⟩ rfl hln hls hst (lv_room hw) hdg hf) hS (fun q _ h => hFc q h) hFc (fun r u t H1 locs1 ht hvm hw1 hB hz1 hk1 hS1 => ?_)
  exact kk r H1 locs1 hw1 (hP.kept (fun k q hq => hk1 q.1 (hP k q hq).lt (fun z => absurd (hno q.1 z) (Nat.not_le.mpr (hP k q hq).lt)))) hS1
end HGR
end
section
set_option maxHeartbeats 4000000 in
set_option maxRecDepth 100000 in
/-- HeapGame.allowed -/
theorem mt_X0_allowed (l : Launch) (dC : Nat → ClassId) (dI : Nat → Nat → Nat) (h0 a1 a2 a3 : Nat) (d1 d2 d3 : ClassId) (sz : Nat) (r tu k : Int32) (hf wf lf : Nat → Int32) (n : Nat) (hn : n < 16) : Met l yX0_allowed (ws_ yX0_allowed cX0_allowed 2 (some .boolean)) ({ frames := 0, cells := 0, slots := 0, locals := 0 }) (va_Pc [.ref h0, .int (nI n)] (hg_PG (dC, dI) sz (tg d1 d2 d3) (gx h0 a1 a2 a3 d1 d2 d3 r tu k hf wf lf))) (va_Qi (fun (v : Int32) (_ : Unit) => v = hg_b (hg_al r n)) (fun u t => hg_BG (dC, dI) (va_A (gx h0 a1 a2 a3 d1 d2 d3 r tu k hf wf lf) sz) (tg d1 d2 d3) (gx h0 a1 a2 a3 d1 d2 d3 r tu k hf wf lf) t) (va_A (gx h0 a1 a2 a3 d1 d2 d3 r tu k hf wf lf) sz)) 0 0 (va_A (gx h0 a1 a2 a3 d1 d2 d3 r tu k hf wf lf) sz) := by
  refine Met.ofW (cc := cX0_allowed) (maxL := 2) (ret := (some .boolean)) (by decide) rfl ?_
  intro p e s m args below meth c s₁ B hml hv
  obtain ⟨rfl, hsz, hP, hK, hD0⟩ := hv
  have hx := B.exec
  have hb := B.bytes
  have hr := B.returns
  have hts := atoms_spec (ws := (ws_ yX0_allowed cX0_allowed 2 (some .boolean))) B.pre
  have hts : ∀ w ∈ lw_all, w.before _ s = true := fun w h => hts w (List.mem_cons_of_mem _ h)
  have hown : s.vm.findClass RX0 = some m.cls := findClass_of_methodNamed B.named
  have hlocks := B.notSynchronized
  subst hsz
  have hD := hD0.self (sz := s.heap.size)
  generalize hAe : va_A (gx h0 a1 a2 a3 d1 d2 d3 r tu k hf wf lf) s.heap.size = A at hD ⊢
  have hA : ∀ q : Nat, s.heap.size ≤ q → A q := fun q h => by rw [← hAe]; exact Or.inr h
  have hS : va_S A s.heap s.heap [] := va_S.rf
  have hP : va_P (dC, dI) hg_cl (gx h0 a1 a2 a3 d1 d2 d3 r tu k hf wf lf) s.heap := hP
  have hl := lv_entry ([.ref h0, .int (nI n)]) (n := 2) (Nat.le_of_ble_eq_true rfl)
  rw [lg_entry_eq]
  generalize (lg_sl ([.ref h0, .int (nI n)]) ++ List.replicate (2 - (lg_sl ([.ref h0, .int (nI n)])).length) Slot.unset).toArray = ls at hl ⊢
  have hl : lv_has ls 2 [(0, .ref h0), (1, .int (nI n))] := hl
  refine lv_aload_n hx hb dX0_allowed_0 rfl (lv_at hl 0 rfl) ?_
  refine va_get (D := (dC, dI)) (ci := 0) (v := .int r) (C := RX0) (T := TX0) (N := 6) hx hb hts in_X0 hown hK hP 0 rfl rfl 0 (by decide) (hts _ q31) (fun _ h9 => h9) rfl dX0_allowed_1 ?_
  refine lv_iload_n hx hb dX0_allowed_4 rfl (lv_at hl 1 rfl) ?_
  refine lv_ishr hx hb dX0_allowed_5 ?_
  refine lv_iconst (v := 1) hx hb dX0_allowed_6 (by decide) ?_
  refine lv_iand hx hb dX0_allowed_7 (hg_is (y := hg_b (r.toBitVec.getLsbD n)) (hg_bit r (by omega)) ?_)
  refine lv_iconst (v := 1) hx hb dX0_allowed_8 (by decide) ?_
  refine lv_icmp_ne (tgt := 27) hx hb dX0_allowed_9 (by decide) (fun c1 => ?_) (fun c1 => ?_)
  · refine lv_iconst (v := 0) hx hb dX0_allowed_27 (by decide) ?_
    exact W.zret (v := 0) hx hb hr (rfl) (fun t ht hW => ⟨⟨0, (), rfl, (by have q : r.toBitVec.getLsbD n = false := by {cases q : r.toBitVec.getLsbD n; rfl; exact absurd (by rw [q]; rfl) c1}; simp [hg_al, q, hg_b]), hg_BGi hP hK hD ht hW.alike⟩, hS.F ht⟩) hS.2.2 dX0_allowed_28
  · have c1 := hg_b_eq1.mp c1
    refine lv_iload_n hx hb dX0_allowed_12 rfl (lv_at hl 1 rfl) ?_
    refine lv_iconst (v := nI 1) hx hb dX0_allowed_13 (by decide) ?_
    refine lv_icmp_lt (tgt := 27) hx hb dX0_allowed_14 (by decide) (fun c2 => ?_) (fun c2 => ?_)
    · have c2 := (nI_ltI (by omega) (by omega)).mp c2
      refine lv_iconst (v := 0) hx hb dX0_allowed_27 (by decide) ?_
      exact W.zret (v := 0) hx hb hr (rfl) (fun t ht hW => ⟨⟨0, (), rfl, (by have q : n = 0 := (by omega); rw [q, hg_al_0]; rfl), hg_BGi hP hK hD ht hW.alike⟩, hS.F ht⟩) hS.2.2 dX0_allowed_28
    · have c2 : ¬ n < 1 := fun z => c2 ((nI_ltI (by omega) (by omega)).mpr z)
      refine lv_iload_n hx hb dX0_allowed_17 rfl (lv_at hl 1 rfl) ?_
      refine lv_bipush (v := nI 14) hx hb dX0_allowed_18 (by decide) ?_
      refine lv_icmp_gt (tgt := 27) hx hb dX0_allowed_20 (by decide) (fun c3 => ?_) (fun c3 => ?_)
      · have c3 := (nI_ltI (by omega) (by omega)).mp c3
        refine lv_iconst (v := 0) hx hb dX0_allowed_27 (by decide) ?_
        exact W.zret (v := 0) hx hb hr (rfl) (fun t ht hW => ⟨⟨0, (), rfl, (by rw [hg_al_hi r c3]; rfl), hg_BGi hP hK hD ht hW.alike⟩, hS.F ht⟩) hS.2.2 dX0_allowed_28
      · have c3 : ¬ 14 < n := fun z => c3 ((nI_ltI (by omega) (by omega)).mpr z)
        refine lv_iconst (v := 1) hx hb dX0_allowed_23 (by decide) ?_
        refine lv_goto (tgt := 28) hx hb dX0_allowed_24 (by decide) ?_
        exact W.zret (v := 1) hx hb hr (rfl) (fun t ht hW => ⟨⟨1, (), rfl, (by rw [hg_al_mid r (by omega) (by omega), c1]; rfl), hg_BGi hP hK hD ht hW.alike⟩, hS.F ht⟩) hS.2.2 dX0_allowed_28
theorem hg_p16 : ∀ n, n < 16 → 2 ^ n - 1 < 65536 := by decide
theorem hg_pz : ∀ n, n < 16 → ¬ (0 < nI (2 ^ n - 1)) → nI (2 ^ n - 1) &&& nI 32 = nI n := by decide +kernel
theorem hg_pl : ∀ n, n < 16 → nI (2 ^ n - 1) ≤ 65536 := by decide +kernel
theorem hg_pp : ∀ n, n < 16 → 0 < nI (2 ^ n - 1) → 0 < n := by decide +kernel
set_option maxHeartbeats 4000000 in
set_option maxRecDepth 100000 in
/-- Integer.numberOfTrailingZeros, of what has one of its first 16 bits set -/
theorem mt_J0_numberOfTrailingZeros (l : Launch) (sz : Nat) (p0 : Int32) (n : Nat) (hn : n < 16) (hp : (p0 ^^^ (-1)) &&& (p0 - 1) = nI (2 ^ n - 1)) : Met l yJ0_numberOfTrailingZeros (ws_ yJ0_numberOfTrailingZeros cJ0_numberOfTrailingZeros 2 (some .int)) ({ frames := 0, cells := 0, slots := 0, locals := 0 }) (va_Pc [.int p0] (fun U => U.heap.size = sz)) (va_Qi (fun (v : Int32) (_ : Unit) => v = nI n) (fun _ _ => True) (va_A ([]) sz)) 0 0 (va_A ([]) sz) := by
  refine Met.ofW (cc := cJ0_numberOfTrailingZeros) (maxL := 2) (ret := (some .int)) (by decide) rfl ?_
  intro p e s m args below meth c s₁ B hml hv
  obtain ⟨rfl, hsz⟩ := hv
  have hx := B.exec
  have hb := B.bytes
  have hr := B.returns
  have hts := atoms_spec (ws := (ws_ yJ0_numberOfTrailingZeros cJ0_numberOfTrailingZeros 2 (some .int))) B.pre
  have hts : ∀ w ∈ lw_all, w.before _ s = true := fun w h => hts w (List.mem_cons_of_mem _ h)
  have hown : s.vm.findClass RJ0 = some m.cls := findClass_of_methodNamed B.named
  have hlocks := B.notSynchronized
  have hsz : s.heap.size = sz := hsz
  subst hsz
  generalize hAe : va_A [] s.heap.size = A at ⊢
  have hS : va_S A s.heap s.heap [] := va_S.rf
  have hl := lv_entry ([.int p0]) (n := 2) (Nat.le_of_ble_eq_true rfl)
  rw [lg_entry_eq]
  generalize (lg_sl ([.int p0]) ++ List.replicate (2 - (lg_sl ([.int p0])).length) Slot.unset).toArray = ls at hl ⊢
  have hl : lv_has ls 2 [(0, .int p0)] := hl
  have hn2 := hg_p16 n hn
  refine lv_iload_n hx hb dJ0_numberOfTrailingZeros_0 rfl (lv_at hl 0 rfl) ?_
  refine lv_iconst (v := (-1)) hx hb dJ0_numberOfTrailingZeros_1 (by decide) ?_
  refine lv_ixor hx hb dJ0_numberOfTrailingZeros_2 ?_
  refine lv_iload_n hx hb dJ0_numberOfTrailingZeros_3 rfl (lv_at hl 0 rfl) ?_
  refine lv_iconst (v := 1) hx hb dJ0_numberOfTrailingZeros_4 (by decide) ?_
  refine lv_isub hx hb dJ0_numberOfTrailingZeros_5 ?_
  refine lv_iand hx hb dJ0_numberOfTrailingZeros_6 (hg_is (y := nI (2 ^ n - 1)) (hp) ?_)
  refine lv_istore_n (lv' := [(0, .int (nI (2 ^ n - 1)))]) hx hb dJ0_numberOfTrailingZeros_7 rfl hl (by decide) rfl (fun ls hl => ?_)
  refine lv_iload_n hx hb dJ0_numberOfTrailingZeros_8 rfl (lv_at hl 0 rfl) ?_
  refine lv_if_gt (tgt := 17) hx hb dJ0_numberOfTrailingZeros_9 (by decide) (fun c0 => ?_) (fun c0 => ?_)
  · have c0 := hg_pp n hn c0
    refine lv_iconst (v := nI 1) hx hb dJ0_numberOfTrailingZeros_17 (by decide) ?_
    refine lv_istore_n (lv' := [(1, .int (nI 1)), (0, .int (nI (2 ^ n - 1)))]) hx hb dJ0_numberOfTrailingZeros_18 rfl hl (by decide) rfl (fun ls hl => ?_)
    refine lv_iload_n hx hb dJ0_numberOfTrailingZeros_19 rfl (lv_at hl 1 rfl) ?_
    refine lv_ldcw (own := RJ0) hx hb hown (hts _ q30) dJ0_numberOfTrailingZeros_20 ?_
    refine lv_icmp_le (tgt := 34) hx hb dJ0_numberOfTrailingZeros_23 (by decide) (fun c_ => ?_) (fun c_ => absurd (hg_pl n hn) c_)
    refine lv_iload_n hx hb dJ0_numberOfTrailingZeros_34 rfl (lv_at hl 1 rfl) ?_
    refine lv_sipush (v := nI 256) hx hb dJ0_numberOfTrailingZeros_35 (by decide) ?_
    refine lv_icmp_le (tgt := 49) hx hb dJ0_numberOfTrailingZeros_38 (by decide) (fun c1 => ?_) (fun c1 => ?_)
    · have c1 := (nI_leI (by omega) (by omega)).mp c1
      refine lv_iload_n hx hb dJ0_numberOfTrailingZeros_49 rfl (lv_at hl 1 rfl) ?_
      refine lv_bipush (v := nI 16) hx hb dJ0_numberOfTrailingZeros_50 (by decide) ?_
      refine lv_icmp_le (tgt := 62) hx hb dJ0_numberOfTrailingZeros_52 (by decide) (fun c2 => ?_) (fun c2 => ?_)
      · have c2 := (nI_leI (by omega) (by omega)).mp c2
        refine lv_iload_n hx hb dJ0_numberOfTrailingZeros_62 rfl (lv_at hl 1 rfl) ?_
        refine lv_iconst (v := nI 4) hx hb dJ0_numberOfTrailingZeros_63 (by decide) ?_
        refine lv_icmp_le (tgt := 74) hx hb dJ0_numberOfTrailingZeros_64 (by decide) (fun c3 => ?_) (fun c3 => ?_)
        · have c3 := (nI_leI (by omega) (by omega)).mp c3
          refine lv_iload_n hx hb dJ0_numberOfTrailingZeros_74 rfl (lv_at hl 0 rfl) ?_
          refine lv_iload_n hx hb dJ0_numberOfTrailingZeros_75 rfl (lv_at hl 1 rfl) ?_
          refine lv_iconst (v := nI 1) hx hb dJ0_numberOfTrailingZeros_76 (by decide) ?_
          refine lv_iushr (v := nI ((2 ^ n - 1) / 2 ^ 1)) hx hb dJ0_numberOfTrailingZeros_77 (pk_ushrN (by omega) _ 1 (by decide)) ?_
          refine lv_iadd hx hb dJ0_numberOfTrailingZeros_78 (hg_is (y := nI (1 + ((2 ^ n - 1) / 2 ^ 1))) (nI_add _ _) ?_)
          exact W.iret (v := (nI (1 + ((2 ^ n - 1) / 2 ^ 1)))) hx hb hr (fun t ht hW => ⟨⟨(nI (1 + ((2 ^ n - 1) / 2 ^ 1))), (), rfl, (congrArg nI ((show ∀ n, n < 16 → 0 < n → 2 ^ n - 1 ≤ 256 → 2 ^ n - 1 ≤ 16 → 2 ^ n - 1 ≤ 4 → (1 + ((2 ^ n - 1) / 2 ^ 1)) = n by decide) n hn c0 c1 c2 c3)), trivial⟩, hS.F ht⟩) hS.2.2 dJ0_numberOfTrailingZeros_79
        · have c3 : ¬ 2 ^ n - 1 ≤ 4 := fun z => c3 ((nI_leI (by omega) (by omega)).mpr z)
          refine lv_iinc (v := nI (1 + 2)) (lv' := [(1, .int (nI (1 + 2))), (0, .int (nI (2 ^ n - 1)))]) hx hb dJ0_numberOfTrailingZeros_67 hl (k := 0) rfl (nI_add _ 2) (by decide) rfl (fun ls hl => ?_)
          refine lv_iload_n hx hb dJ0_numberOfTrailingZeros_70 rfl (lv_at hl 1 rfl) ?_
          refine lv_iconst (v := nI 2) hx hb dJ0_numberOfTrailingZeros_71 (by decide) ?_
          refine lv_iushr (v := nI ((2 ^ n - 1) / 2 ^ 2)) hx hb dJ0_numberOfTrailingZeros_72 (pk_ushrN (by omega) _ 2 (by decide)) ?_
          refine lv_istore_n (lv' := [(0, .int (nI ((2 ^ n - 1) / 2 ^ 2))), (1, .int (nI (1 + 2)))]) hx hb dJ0_numberOfTrailingZeros_73 rfl hl (by decide) rfl (fun ls hl => ?_)
          refine lv_iload_n hx hb dJ0_numberOfTrailingZeros_74 rfl (lv_at hl 1 rfl) ?_
          refine lv_iload_n hx hb dJ0_numberOfTrailingZeros_75 rfl (lv_at hl 0 rfl) ?_
          refine lv_iconst (v := nI 1) hx hb dJ0_numberOfTrailingZeros_76 (by decide) ?_
          refine lv_iushr (v := nI (((2 ^ n - 1) / 2 ^ 2) / 2 ^ 1)) hx hb dJ0_numberOfTrailingZeros_77 (pk_ushrN (by omega) _ 1 (by decide)) ?_
          refine lv_iadd hx hb dJ0_numberOfTrailingZeros_78 (hg_is (y := nI ((1 + 2) + (((2 ^ n - 1) / 2 ^ 2) / 2 ^ 1))) (nI_add _ _) ?_)
          exact W.iret (v := (nI ((1 + 2) + (((2 ^ n - 1) / 2 ^ 2) / 2 ^ 1)))) hx hb hr (fun t ht hW => ⟨⟨(nI ((1 + 2) + (((2 ^ n - 1) / 2 ^ 2) / 2 ^ 1))), (), rfl, (congrArg nI ((show ∀ n, n < 16 → 0 < n → 2 ^ n - 1 ≤ 256 → 2 ^ n - 1 ≤ 16 → ¬ 2 ^ n - 1 ≤ 4 → ((1 + 2) + (((2 ^ n - 1) / 2 ^ 2) / 2 ^ 1)) = n by decide) n hn c0 c1 c2 c3)), trivial⟩, hS.F ht⟩) hS.2.2 dJ0_numberOfTrailingZeros_79
      · have c2 : ¬ 2 ^ n - 1 ≤ 16 := fun z => c2 ((nI_leI (by omega) (by omega)).mpr z)
        refine lv_iinc (v := nI (1 + 4)) (lv' := [(1, .int (nI (1 + 4))), (0, .int (nI (2 ^ n - 1)))]) hx hb dJ0_numberOfTrailingZeros_55 hl (k := 0) rfl (nI_add _ 4) (by decide) rfl (fun ls hl => ?_)
        refine lv_iload_n hx hb dJ0_numberOfTrailingZeros_58 rfl (lv_at hl 1 rfl) ?_
        refine lv_iconst (v := nI 4) hx hb dJ0_numberOfTrailingZeros_59 (by decide) ?_
        refine lv_iushr (v := nI ((2 ^ n - 1) / 2 ^ 4)) hx hb dJ0_numberOfTrailingZeros_60 (pk_ushrN (by omega) _ 4 (by decide)) ?_
        refine lv_istore_n (lv' := [(0, .int (nI ((2 ^ n - 1) / 2 ^ 4))), (1, .int (nI (1 + 4)))]) hx hb dJ0_numberOfTrailingZeros_61 rfl hl (by decide) rfl (fun ls hl => ?_)
        refine lv_iload_n hx hb dJ0_numberOfTrailingZeros_62 rfl (lv_at hl 0 rfl) ?_
        refine lv_iconst (v := nI 4) hx hb dJ0_numberOfTrailingZeros_63 (by decide) ?_
        refine lv_icmp_le (tgt := 74) hx hb dJ0_numberOfTrailingZeros_64 (by decide) (fun c3 => ?_) (fun c3 => ?_)
        · have c3 := (nI_leI (by omega) (by omega)).mp c3
          refine lv_iload_n hx hb dJ0_numberOfTrailingZeros_74 rfl (lv_at hl 1 rfl) ?_
          refine lv_iload_n hx hb dJ0_numberOfTrailingZeros_75 rfl (lv_at hl 0 rfl) ?_
          refine lv_iconst (v := nI 1) hx hb dJ0_numberOfTrailingZeros_76 (by decide) ?_
          refine lv_iushr (v := nI (((2 ^ n - 1) / 2 ^ 4) / 2 ^ 1)) hx hb dJ0_numberOfTrailingZeros_77 (pk_ushrN (by omega) _ 1 (by decide)) ?_
          refine lv_iadd hx hb dJ0_numberOfTrailingZeros_78 (hg_is (y := nI ((1 + 4) + (((2 ^ n - 1) / 2 ^ 4) / 2 ^ 1))) (nI_add _ _) ?_)
          exact W.iret (v := (nI ((1 + 4) + (((2 ^ n - 1) / 2 ^ 4) / 2 ^ 1)))) hx hb hr (fun t ht hW => ⟨⟨(nI ((1 + 4) + (((2 ^ n - 1) / 2 ^ 4) / 2 ^ 1))), (), rfl, (congrArg nI ((show ∀ n, n < 16 → 0 < n → 2 ^ n - 1 ≤ 256 → ¬ 2 ^ n - 1 ≤ 16 → (2 ^ n - 1) / 2 ^ 4 ≤ 4 → ((1 + 4) + (((2 ^ n - 1) / 2 ^ 4) / 2 ^ 1)) = n by decide) n hn c0 c1 c2 c3)), trivial⟩, hS.F ht⟩) hS.2.2 dJ0_numberOfTrailingZeros_79
        · have c3 : ¬ (2 ^ n - 1) / 2 ^ 4 ≤ 4 := fun z => c3 ((nI_leI (by omega) (by omega)).mpr z)
          refine lv_iinc (v := nI ((1 + 4) + 2)) (lv' := [(1, .int (nI ((1 + 4) + 2))), (0, .int (nI ((2 ^ n - 1) / 2 ^ 4)))]) hx hb dJ0_numberOfTrailingZeros_67 hl (k := 1) rfl (nI_add _ 2) (by decide) rfl (fun ls hl => ?_)
          refine lv_iload_n hx hb dJ0_numberOfTrailingZeros_70 rfl (lv_at hl 1 rfl) ?_
          refine lv_iconst (v := nI 2) hx hb dJ0_numberOfTrailingZeros_71 (by decide) ?_
          refine lv_iushr (v := nI (((2 ^ n - 1) / 2 ^ 4) / 2 ^ 2)) hx hb dJ0_numberOfTrailingZeros_72 (pk_ushrN (by omega) _ 2 (by decide)) ?_
          refine lv_istore_n (lv' := [(0, .int (nI (((2 ^ n - 1) / 2 ^ 4) / 2 ^ 2))), (1, .int (nI ((1 + 4) + 2)))]) hx hb dJ0_numberOfTrailingZeros_73 rfl hl (by decide) rfl (fun ls hl => ?_)
          refine lv_iload_n hx hb dJ0_numberOfTrailingZeros_74 rfl (lv_at hl 1 rfl) ?_
          refine lv_iload_n hx hb dJ0_numberOfTrailingZeros_75 rfl (lv_at hl 0 rfl) ?_
          refine lv_iconst (v := nI 1) hx hb dJ0_numberOfTrailingZeros_76 (by decide) ?_
          refine lv_iushr (v := nI ((((2 ^ n - 1) / 2 ^ 4) / 2 ^ 2) / 2 ^ 1)) hx hb dJ0_numberOfTrailingZeros_77 (pk_ushrN (by omega) _ 1 (by decide)) ?_
          refine lv_iadd hx hb dJ0_numberOfTrailingZeros_78 (hg_is (y := nI (((1 + 4) + 2) + ((((2 ^ n - 1) / 2 ^ 4) / 2 ^ 2) / 2 ^ 1))) (nI_add _ _) ?_)
          exact W.iret (v := (nI (((1 + 4) + 2) + ((((2 ^ n - 1) / 2 ^ 4) / 2 ^ 2) / 2 ^ 1)))) hx hb hr (fun t ht hW => ⟨⟨(nI (((1 + 4) + 2) + ((((2 ^ n - 1) / 2 ^ 4) / 2 ^ 2) / 2 ^ 1))), (), rfl, (congrArg nI ((show ∀ n, n < 16 → 0 < n → 2 ^ n - 1 ≤ 256 → ¬ 2 ^ n - 1 ≤ 16 → ¬ (2 ^ n - 1) / 2 ^ 4 ≤ 4 → (((1 + 4) + 2) + ((((2 ^ n - 1) / 2 ^ 4) / 2 ^ 2) / 2 ^ 1)) = n by decide) n hn c0 c1 c2 c3)), trivial⟩, hS.F ht⟩) hS.2.2 dJ0_numberOfTrailingZeros_79
    · have c1 : ¬ 2 ^ n - 1 ≤ 256 := fun z => c1 ((nI_leI (by omega) (by omega)).mpr z)
      refine lv_iinc (v := nI (1 + 8)) (lv' := [(1, .int (nI (1 + 8))), (0, .int (nI (2 ^ n - 1)))]) hx hb dJ0_numberOfTrailingZeros_41 hl (k := 0) rfl (nI_add _ 8) (by decide) rfl (fun ls hl => ?_)
      refine lv_iload_n hx hb dJ0_numberOfTrailingZeros_44 rfl (lv_at hl 1 rfl) ?_
      refine lv_bipush (v := nI 8) hx hb dJ0_numberOfTrailingZeros_45 (by decide) ?_
      refine lv_iushr (v := nI ((2 ^ n - 1) / 2 ^ 8)) hx hb dJ0_numberOfTrailingZeros_47 (pk_ushrN (by omega) _ 8 (by decide)) ?_
      refine lv_istore_n (lv' := [(0, .int (nI ((2 ^ n - 1) / 2 ^ 8))), (1, .int (nI (1 + 8)))]) hx hb dJ0_numberOfTrailingZeros_48 rfl hl (by decide) rfl (fun ls hl => ?_)
      refine lv_iload_n hx hb dJ0_numberOfTrailingZeros_49 rfl (lv_at hl 0 rfl) ?_
      refine lv_bipush (v := nI 16) hx hb dJ0_numberOfTrailingZeros_50 (by decide) ?_
      refine lv_icmp_le (tgt := 62) hx hb dJ0_numberOfTrailingZeros_52 (by decide) (fun c2 => ?_) (fun c2 => ?_)
      · have c2 := (nI_leI (by omega) (by omega)).mp c2
        refine lv_iload_n hx hb dJ0_numberOfTrailingZeros_62 rfl (lv_at hl 0 rfl) ?_
        refine lv_iconst (v := nI 4) hx hb dJ0_numberOfTrailingZeros_63 (by decide) ?_
        refine lv_icmp_le (tgt := 74) hx hb dJ0_numberOfTrailingZeros_64 (by decide) (fun c3 => ?_) (fun c3 => ?_)
        · have c3 := (nI_leI (by omega) (by omega)).mp c3
          refine lv_iload_n hx hb dJ0_numberOfTrailingZeros_74 rfl (lv_at hl 1 rfl) ?_
          refine lv_iload_n hx hb dJ0_numberOfTrailingZeros_75 rfl (lv_at hl 0 rfl) ?_
          refine lv_iconst (v := nI 1) hx hb dJ0_numberOfTrailingZeros_76 (by decide) ?_
          refine lv_iushr (v := nI (((2 ^ n - 1) / 2 ^ 8) / 2 ^ 1)) hx hb dJ0_numberOfTrailingZeros_77 (pk_ushrN (by omega) _ 1 (by decide)) ?_
          refine lv_iadd hx hb dJ0_numberOfTrailingZeros_78 (hg_is (y := nI ((1 + 8) + (((2 ^ n - 1) / 2 ^ 8) / 2 ^ 1))) (nI_add _ _) ?_)
          exact W.iret (v := (nI ((1 + 8) + (((2 ^ n - 1) / 2 ^ 8) / 2 ^ 1)))) hx hb hr (fun t ht hW => ⟨⟨(nI ((1 + 8) + (((2 ^ n - 1) / 2 ^ 8) / 2 ^ 1))), (), rfl, (congrArg nI ((show ∀ n, n < 16 → 0 < n → ¬ 2 ^ n - 1 ≤ 256 → (2 ^ n - 1) / 2 ^ 8 ≤ 16 → (2 ^ n - 1) / 2 ^ 8 ≤ 4 → ((1 + 8) + (((2 ^ n - 1) / 2 ^ 8) / 2 ^ 1)) = n by decide) n hn c0 c1 c2 c3)), trivial⟩, hS.F ht⟩) hS.2.2 dJ0_numberOfTrailingZeros_79
        · have c3 : ¬ (2 ^ n - 1) / 2 ^ 8 ≤ 4 := fun z => c3 ((nI_leI (by omega) (by omega)).mpr z)
          refine lv_iinc (v := nI ((1 + 8) + 2)) (lv' := [(1, .int (nI ((1 + 8) + 2))), (0, .int (nI ((2 ^ n - 1) / 2 ^ 8)))]) hx hb dJ0_numberOfTrailingZeros_67 hl (k := 1) rfl (nI_add _ 2) (by decide) rfl (fun ls hl => ?_)
          refine lv_iload_n hx hb dJ0_numberOfTrailingZeros_70 rfl (lv_at hl 1 rfl) ?_
          refine lv_iconst (v := nI 2) hx hb dJ0_numberOfTrailingZeros_71 (by decide) ?_
          refine lv_iushr (v := nI (((2 ^ n - 1) / 2 ^ 8) / 2 ^ 2)) hx hb dJ0_numberOfTrailingZeros_72 (pk_ushrN (by omega) _ 2 (by decide)) ?_
          refine lv_istore_n (lv' := [(0, .int (nI (((2 ^ n - 1) / 2 ^ 8) / 2 ^ 2))), (1, .int (nI ((1 + 8) + 2)))]) hx hb dJ0_numberOfTrailingZeros_73 rfl hl (by decide) rfl (fun ls hl => ?_)
          refine lv_iload_n hx hb dJ0_numberOfTrailingZeros_74 rfl (lv_at hl 1 rfl) ?_
          refine lv_iload_n hx hb dJ0_numberOfTrailingZeros_75 rfl (lv_at hl 0 rfl) ?_
          refine lv_iconst (v := nI 1) hx hb dJ0_numberOfTrailingZeros_76 (by decide) ?_
          refine lv_iushr (v := nI ((((2 ^ n - 1) / 2 ^ 8) / 2 ^ 2) / 2 ^ 1)) hx hb dJ0_numberOfTrailingZeros_77 (pk_ushrN (by omega) _ 1 (by decide)) ?_
          refine lv_iadd hx hb dJ0_numberOfTrailingZeros_78 (hg_is (y := nI (((1 + 8) + 2) + ((((2 ^ n - 1) / 2 ^ 8) / 2 ^ 2) / 2 ^ 1))) (nI_add _ _) ?_)
          exact W.iret (v := (nI (((1 + 8) + 2) + ((((2 ^ n - 1) / 2 ^ 8) / 2 ^ 2) / 2 ^ 1)))) hx hb hr (fun t ht hW => ⟨⟨(nI (((1 + 8) + 2) + ((((2 ^ n - 1) / 2 ^ 8) / 2 ^ 2) / 2 ^ 1))), (), rfl, (congrArg nI ((show ∀ n, n < 16 → 0 < n → ¬ 2 ^ n - 1 ≤ 256 → (2 ^ n - 1) / 2 ^ 8 ≤ 16 → ¬ (2 ^ n - 1) / 2 ^ 8 ≤ 4 → (((1 + 8) + 2) + ((((2 ^ n - 1) / 2 ^ 8) / 2 ^ 2) / 2 ^ 1)) = n by decide) n hn c0 c1 c2 c3)), trivial⟩, hS.F ht⟩) hS.2.2 dJ0_numberOfTrailingZeros_79
      · have c2 : ¬ (2 ^ n - 1) / 2 ^ 8 ≤ 16 := fun z => c2 ((nI_leI (by omega) (by omega)).mpr z)
        refine lv_iinc (v := nI ((1 + 8) + 4)) (lv' := [(1, .int (nI ((1 + 8) + 4))), (0, .int (nI ((2 ^ n - 1) / 2 ^ 8)))]) hx hb dJ0_numberOfTrailingZeros_55 hl (k := 1) rfl (nI_add _ 4) (by decide) rfl (fun ls hl => ?_)
        refine lv_iload_n hx hb dJ0_numberOfTrailingZeros_58 rfl (lv_at hl 1 rfl) ?_
        refine lv_iconst (v := nI 4) hx hb dJ0_numberOfTrailingZeros_59 (by decide) ?_
        refine lv_iushr (v := nI (((2 ^ n - 1) / 2 ^ 8) / 2 ^ 4)) hx hb dJ0_numberOfTrailingZeros_60 (pk_ushrN (by omega) _ 4 (by decide)) ?_
        refine lv_istore_n (lv' := [(0, .int (nI (((2 ^ n - 1) / 2 ^ 8) / 2 ^ 4))), (1, .int (nI ((1 + 8) + 4)))]) hx hb dJ0_numberOfTrailingZeros_61 rfl hl (by decide) rfl (fun ls hl => ?_)
        refine lv_iload_n hx hb dJ0_numberOfTrailingZeros_62 rfl (lv_at hl 0 rfl) ?_
        refine lv_iconst (v := nI 4) hx hb dJ0_numberOfTrailingZeros_63 (by decide) ?_
        refine lv_icmp_le (tgt := 74) hx hb dJ0_numberOfTrailingZeros_64 (by decide) (fun c3 => ?_) (fun c3 => ?_)
        · have c3 := (nI_leI (by omega) (by omega)).mp c3
          refine lv_iload_n hx hb dJ0_numberOfTrailingZeros_74 rfl (lv_at hl 1 rfl) ?_
          refine lv_iload_n hx hb dJ0_numberOfTrailingZeros_75 rfl (lv_at hl 0 rfl) ?_
          refine lv_iconst (v := nI 1) hx hb dJ0_numberOfTrailingZeros_76 (by decide) ?_
          refine lv_iushr (v := nI ((((2 ^ n - 1) / 2 ^ 8) / 2 ^ 4) / 2 ^ 1)) hx hb dJ0_numberOfTrailingZeros_77 (pk_ushrN (by omega) _ 1 (by decide)) ?_
          refine lv_iadd hx hb dJ0_numberOfTrailingZeros_78 (hg_is (y := nI (((1 + 8) + 4) + ((((2 ^ n - 1) / 2 ^ 8) / 2 ^ 4) / 2 ^ 1))) (nI_add _ _) ?_)
          exact W.iret (v := (nI (((1 + 8) + 4) + ((((2 ^ n - 1) / 2 ^ 8) / 2 ^ 4) / 2 ^ 1)))) hx hb hr (fun t ht hW => ⟨⟨(nI (((1 + 8) + 4) + ((((2 ^ n - 1) / 2 ^ 8) / 2 ^ 4) / 2 ^ 1))), (), rfl, (congrArg nI ((show ∀ n, n < 16 → 0 < n → ¬ 2 ^ n - 1 ≤ 256 → ¬ (2 ^ n - 1) / 2 ^ 8 ≤ 16 → ((2 ^ n - 1) / 2 ^ 8) / 2 ^ 4 ≤ 4 → (((1 + 8) + 4) + ((((2 ^ n - 1) / 2 ^ 8) / 2 ^ 4) / 2 ^ 1)) = n by decide) n hn c0 c1 c2 c3)), trivial⟩, hS.F ht⟩) hS.2.2 dJ0_numberOfTrailingZeros_79
        · have c3 : ¬ ((2 ^ n - 1) / 2 ^ 8) / 2 ^ 4 ≤ 4 := fun z => c3 ((nI_leI (by omega) (by omega)).mpr z)
          refine lv_iinc (v := nI (((1 + 8) + 4) + 2)) (lv' := [(1, .int (nI (((1 + 8) + 4) + 2))), (0, .int (nI (((2 ^ n - 1) / 2 ^ 8) / 2 ^ 4)))]) hx hb dJ0_numberOfTrailingZeros_67 hl (k := 1) rfl (nI_add _ 2) (by decide) rfl (fun ls hl => ?_)
          refine lv_iload_n hx hb dJ0_numberOfTrailingZeros_70 rfl (lv_at hl 1 rfl) ?_
          refine lv_iconst (v := nI 2) hx hb dJ0_numberOfTrailingZeros_71 (by decide) ?_
          refine lv_iushr (v := nI ((((2 ^ n - 1) / 2 ^ 8) / 2 ^ 4) / 2 ^ 2)) hx hb dJ0_numberOfTrailingZeros_72 (pk_ushrN (by omega) _ 2 (by decide)) ?_
          refine lv_istore_n (lv' := [(0, .int (nI ((((2 ^ n - 1) / 2 ^ 8) / 2 ^ 4) / 2 ^ 2))), (1, .int (nI (((1 + 8) + 4) + 2)))]) hx hb dJ0_numberOfTrailingZeros_73 rfl hl (by decide) rfl (fun ls hl => ?_)
          refine lv_iload_n hx hb dJ0_numberOfTrailingZeros_74 rfl (lv_at hl 1 rfl) ?_
          refine lv_iload_n hx hb dJ0_numberOfTrailingZeros_75 rfl (lv_at hl 0 rfl) ?_
          refine lv_iconst (v := nI 1) hx hb dJ0_numberOfTrailingZeros_76 (by decide) ?_
          refine lv_iushr (v := nI (((((2 ^ n - 1) / 2 ^ 8) / 2 ^ 4) / 2 ^ 2) / 2 ^ 1)) hx hb dJ0_numberOfTrailingZeros_77 (pk_ushrN (by omega) _ 1 (by decide)) ?_
          refine lv_iadd hx hb dJ0_numberOfTrailingZeros_78 (hg_is (y := nI ((((1 + 8) + 4) + 2) + (((((2 ^ n - 1) / 2 ^ 8) / 2 ^ 4) / 2 ^ 2) / 2 ^ 1))) (nI_add _ _) ?_)
          exact W.iret (v := (nI ((((1 + 8) + 4) + 2) + (((((2 ^ n - 1) / 2 ^ 8) / 2 ^ 4) / 2 ^ 2) / 2 ^ 1)))) hx hb hr (fun t ht hW => ⟨⟨(nI ((((1 + 8) + 4) + 2) + (((((2 ^ n - 1) / 2 ^ 8) / 2 ^ 4) / 2 ^ 2) / 2 ^ 1))), (), rfl, (congrArg nI ((show ∀ n, n < 16 → 0 < n → ¬ 2 ^ n - 1 ≤ 256 → ¬ (2 ^ n - 1) / 2 ^ 8 ≤ 16 → ¬ ((2 ^ n - 1) / 2 ^ 8) / 2 ^ 4 ≤ 4 → ((((1 + 8) + 4) + 2) + (((((2 ^ n - 1) / 2 ^ 8) / 2 ^ 4) / 2 ^ 2) / 2 ^ 1)) = n by decide) n hn c0 c1 c2 c3)), trivial⟩, hS.F ht⟩) hS.2.2 dJ0_numberOfTrailingZeros_79
  · refine lv_iload_n hx hb dJ0_numberOfTrailingZeros_12 rfl (lv_at hl 0 rfl) ?_
    refine lv_bipush (v := nI 32) hx hb dJ0_numberOfTrailingZeros_13 (by decide) ?_
    refine lv_iand hx hb dJ0_numberOfTrailingZeros_15 ?_
    exact W.iret (v := ((nI (2 ^ n - 1)) &&& (nI 32))) hx hb hr (fun t ht hW => ⟨⟨((nI (2 ^ n - 1)) &&& (nI 32)), (), rfl, (hg_pz n hn c0), trivial⟩, hS.F ht⟩) hS.2.2 dJ0_numberOfTrailingZeros_16
set_option maxHeartbeats 4000000 in
set_option maxRecDepth 100000 in
/-- HeapGame.index -/
theorem mt_X0_index (l : Launch) (sz : Nat) (x y z : Nat) : Met l yX0_index (ws_ yX0_index cX0_index 3 (some .int)) ({ frames := 0, cells := 0, slots := 0, locals := 0 }) (va_Pc [.int (nI x), .int (nI y), .int (nI z)] (fun U => U.heap.size = sz)) (va_Qi (fun (v : Int32) (_ : Unit) => v = nI (256 * x + 16 * y + z)) (fun _ _ => True) (va_A ([]) sz)) 0 0 (va_A ([]) sz) := by
  refine Met.ofW (cc := cX0_index) (maxL := 3) (ret := (some .int)) (by decide) rfl ?_
  intro p e s m args below meth c s₁ B hml hv
  obtain ⟨rfl, hsz⟩ := hv
  have hx := B.exec
  have hb := B.bytes
  have hr := B.returns
  have hts := atoms_spec (ws := (ws_ yX0_index cX0_index 3 (some .int))) B.pre
  have hts : ∀ w ∈ lw_all, w.before _ s = true := fun w h => hts w (List.mem_cons_of_mem _ h)
  have hown : s.vm.findClass RX0 = some m.cls := findClass_of_methodNamed B.named
  have hlocks := B.notSynchronized
  have hsz : s.heap.size = sz := hsz
  subst hsz
  generalize hAe : va_A [] s.heap.size = A at ⊢
  have hS : va_S A s.heap s.heap [] := va_S.rf
  have hl := lv_entry ([.int (nI x), .int (nI y), .int (nI z)]) (n := 3) (Nat.le_of_ble_eq_true rfl)
  rw [lg_entry_eq]
  generalize (lg_sl ([.int (nI x), .int (nI y), .int (nI z)]) ++ List.replicate (3 - (lg_sl ([.int (nI x), .int (nI y), .int (nI z)])).length) Slot.unset).toArray = ls at hl ⊢
  have hl : lv_has ls 3 [(0, .int (nI x)), (1, .int (nI y)), (2, .int (nI z))] := hl
  refine lv_iload_n hx hb dX0_index_0 rfl (lv_at hl 0 rfl) ?_
  refine lv_bipush (v := nI 16) hx hb dX0_index_1 (by decide) ?_
  refine lv_imul hx hb dX0_index_3 (hg_is (y := nI (x * 16)) (pk_mul _ _) ?_)
  refine lv_iload_n hx hb dX0_index_4 rfl (lv_at hl 1 rfl) ?_
  refine lv_iadd hx hb dX0_index_5 (hg_is (y := nI ((x * 16) + y)) (nI_add _ _) ?_)
  refine lv_bipush (v := nI 16) hx hb dX0_index_6 (by decide) ?_
  refine lv_imul hx hb dX0_index_8 (hg_is (y := nI (((x * 16) + y) * 16)) (pk_mul _ _) ?_)
  refine lv_iload_n hx hb dX0_index_9 rfl (lv_at hl 2 rfl) ?_
  refine lv_iadd hx hb dX0_index_10 (hg_is (y := nI ((((x * 16) + y) * 16) + z)) (nI_add _ _) ?_)
  exact W.iret (v := (nI ((((x * 16) + y) * 16) + z))) hx hb hr (fun t ht hW => ⟨⟨(nI ((((x * 16) + y) * 16) + z)), (), rfl, (congrArg nI (by omega)), trivial⟩, hS.F ht⟩) hS.2.2 dX0_index_11
end
section
/-- what the array of worths holds -/
def hg_wo (al : Nat → Bool) (wf : Nat → Int32) : Prop := ∃ w : Nat → Nat, hg_gr al w 16 ∧ ∀ j, j < 16 → wf j = nI (w j)
set_option maxHeartbeats 4000000 in
set_option maxRecDepth 100000 in
/-- HeapGame.reckonWorths -/
theorem mt_X0_reckonWorths (l : Launch) (dC : Nat → ClassId) (dI : Nat → Nat → Nat) (h0 a1 a2 a3 : Nat) (d1 d2 d3 : ClassId) (sz : Nat) (r tu k : Int32) (hf wf lf : Nat → Int32)  : Met l yX0_reckonWorths (ws_ yX0_reckonWorths cX0_reckonWorths 4 none) ({ frames := 1, cells := 0, slots := 0, locals := 21 }) (va_Pc [.ref h0] (hg_PG (dC, dI) sz (tg d1 d2 d3) (gx h0 a1 a2 a3 d1 d2 d3 r tu k hf wf lf))) (va_Qv (fun (u : Nat → Int32) => hg_wo (hg_al r) u) (fun u t => hg_BG (dC, dI) (va_A (gx h0 a1 a2 a3 d1 d2 d3 r tu k hf wf lf) sz) (tg d1 d2 d3) (gx h0 a1 a2 a3 d1 d2 d3 r tu k hf u lf) t) (va_A (gx h0 a1 a2 a3 d1 d2 d3 r tu k hf wf lf) sz)) 0 0 (va_A (gx h0 a1 a2 a3 d1 d2 d3 r tu k hf wf lf) sz) := by
  refine Met.ofW (cc := cX0_reckonWorths) (maxL := 4) (ret := none) (by decide) rfl ?_
  intro p e s m args below meth c s₁ B hml hv
  obtain ⟨rfl, hsz, hP, hK, hD0⟩ := hv
  have hx := B.exec
  have hb := B.bytes
  have hr := B.returns
  have hts := atoms_spec (ws := (ws_ yX0_reckonWorths cX0_reckonWorths 4 none)) B.pre
  have hts : ∀ w ∈ lw_all, w.before _ s = true := fun w h => hts w (List.mem_cons_of_mem _ h)
  have hown : s.vm.findClass RX0 = some m.cls := findClass_of_methodNamed B.named
  have hlocks := B.notSynchronized
  subst hsz
  have hD := hD0.self (sz := s.heap.size)
  generalize hAe : va_A (gx h0 a1 a2 a3 d1 d2 d3 r tu k hf wf lf) s.heap.size = A at hD ⊢
  have hA : ∀ q : Nat, s.heap.size ≤ q → A q := fun q h => by rw [← hAe]; exact Or.inr h
  have hS : va_S A s.heap s.heap [] := va_S.rf
  have hP : va_P (dC, dI) hg_cl (gx h0 a1 a2 a3 d1 d2 d3 r tu k hf wf lf) s.heap := hP
  have hl := lv_entry ([.ref h0]) (n := 4) (Nat.le_of_ble_eq_true rfl)
  rw [lg_entry_eq]
  generalize (lg_sl ([.ref h0]) ++ List.replicate (4 - (lg_sl ([.ref h0])).length) Slot.unset).toArray = ls at hl ⊢
  have hl : lv_has ls 4 [(0, .ref h0)] := hl
  have hal := hg_ok_al r
  have loop : ∀ (N n : Nat) (wf : Nat → Int32) (w : Nat → Nat), n + N = 16 → hg_gr (hg_al r) w n → (∀ j, j < n → wf j = nI (w j)) → ∀ (H : Heap) (locs : List Loc), va_P (dC, dI) hg_cl (gx h0 a1 a2 a3 d1 d2 d3 r tu k hf wf lf) H → va_D A (gx h0 a1 a2 a3 d1 d2 d3 r tu k hf wf lf) → va_S A s.heap H locs → ∀ ls, lv_has ls 4 [(0, .ref h0), (1, .int (nI n))] → W p l e (headSpec (ws_ yX0_reckonWorths cX0_reckonWorths 4 none) ({ frames := 1, cells := 0, slots := 0, locals := 21 })).room s m ([.ref h0] : List Value).toArray below meth c H locs 0 0 (MQ below (va_Qv (fun (u : Nat → Int32) => hg_wo (hg_al r) u) (fun u t => hg_BG (dC, dI) A (tg d1 d2 d3) (gx h0 a1 a2 a3 d1 d2 d3 r tu k hf u lf) t) A) ([.ref h0] : List Value).toArray s 0 0 A) (F0 m 2 ls []) := by
    intro N
    induction N with
    | zero =>
      intro n wf w hN hg he H locs hP hD hS ls hl
      refine lv_iload_n hx hb dX0_reckonWorths_2 rfl (lv_at hl 1 rfl) ?_
      refine lv_bipush (v := nI 16) hx hb dX0_reckonWorths_3 (by decide) ?_
      refine lv_icmp_ge (tgt := 62) hx hb dX0_reckonWorths_5 (by decide) (fun c_ => ?_) (fun c_ => absurd ((nI_leI (by omega) (by omega)).mpr (by omega)) c_)
      exact W.vret hx hb hr (fun t_ ht_ hW_ => ⟨⟨wf, rfl, ⟨w, by have e : n = 16 := (by omega); rw [← e]; exact hg, fun j hj => he j (by omega)⟩, hg_BGi hP hK hD ht_ hW_.alike⟩, hS.F ht_⟩) hS.2.2 dX0_reckonWorths_62
    | succ N ih =>
      intro n wf w hN hg he H locs hP hD hS ls hl
      refine lv_iload_n hx hb dX0_reckonWorths_2 rfl (lv_at hl 1 rfl) ?_
      refine lv_bipush (v := nI 16) hx hb dX0_reckonWorths_3 (by decide) ?_
      refine lv_icmp_ge (tgt := 62) hx hb dX0_reckonWorths_5 (by decide) (fun c_ => absurd c_ (fun z => absurd ((nI_leI (by omega) (by omega)).mp z) (by omega))) (fun c_ => ?_)
      refine lv_iconst (v := nI 0) hx hb dX0_reckonWorths_8 (by decide) ?_
      refine lv_istore_n (lv' := [(2, .int (nI 0)), (0, .ref h0), (1, .int (nI n))]) hx hb dX0_reckonWorths_9 rfl hl (by decide) rfl (fun ls hl => ?_)
      refine lv_iconst (v := nI 1) hx hb dX0_reckonWorths_10 (by decide) ?_
      refine lv_istore_n (lv' := [(3, .int (nI 1)), (2, .int (nI 0)), (0, .ref h0), (1, .int (nI n))]) hx hb dX0_reckonWorths_11 rfl hl (by decide) rfl (fun ls hl => ?_)
      have inner : ∀ (N2 t M : Nat), t + N2 = n + 1 → 1 ≤ t → hg_met (hg_al r) w n t M → ∀ (H : Heap) (locs : List Loc), va_P (dC, dI) hg_cl (gx h0 a1 a2 a3 d1 d2 d3 r tu k hf wf lf) H → va_D A (gx h0 a1 a2 a3 d1 d2 d3 r tu k hf wf lf) → va_S A s.heap H locs → ∀ ls, lv_has ls 4 [(0, .ref h0), (1, .int (nI n)), (2, .int (nI M)), (3, .int (nI t))] → W p l e (headSpec (ws_ yX0_reckonWorths cX0_reckonWorths 4 none) ({ frames := 1, cells := 0, slots := 0, locals := 21 })).room s m ([.ref h0] : List Value).toArray below meth c H locs 0 0 (MQ below (va_Qv (fun (u : Nat → Int32) => hg_wo (hg_al r) u) (fun u t => hg_BG (dC, dI) A (tg d1 d2 d3) (gx h0 a1 a2 a3 d1 d2 d3 r tu k hf u lf) t) A) ([.ref h0] : List Value).toArray s 0 0 A) (F0 m 12 ls []) := by
        intro N2
        induction N2 with
        | zero =>
          intro t M hN2 h1 hM H locs hP hD hS ls hl
          have hM : hg_met (hg_al r) w n (n + 1) M := by have e : t = n + 1 := (by omega); rw [← e]; exact hM
          have hM15 : M < 2 ^ 15 := Nat.lt_of_lt_of_le hM.1 (Nat.pow_le_pow_right (by omega) (by omega))
          obtain ⟨hg2, hle⟩ := hg_gr_s hal (by omega) hg hM
          refine lv_iload_n hx hb dX0_reckonWorths_12 rfl (lv_at hl 3 rfl) ?_
          refine lv_iload_n hx hb dX0_reckonWorths_13 rfl (lv_at hl 1 rfl) ?_
          refine lv_icmp_gt (tgt := 44) hx hb dX0_reckonWorths_14 (by decide) (fun c_ => ?_) (fun c_ => absurd ((nI_ltI (by omega) (by omega)).mpr (by omega)) c_)
          refine lv_aload_n hx hb dX0_reckonWorths_44 rfl (lv_at hl 0 rfl) ?_
          refine va_get (D := (dC, dI)) (ci := 0) (v := .ref a2) (C := RX0) (T := TX0) (N := 6) hx hb hts in_X0 hown hK hP 0 rfl rfl 3 (by decide) (hts _ q34) (fun _ h9 => h9) rfl dX0_reckonWorths_45 ?_
          refine lv_iload_n hx hb dX0_reckonWorths_48 rfl (lv_at hl 1 rfl) ?_
          refine lv_iload_n hx hb dX0_reckonWorths_49 rfl (lv_at hl 2 rfl) ?_
          refine lv_iconst (v := (-1)) hx hb dX0_reckonWorths_50 (by decide) ?_
          refine lv_ixor hx hb dX0_reckonWorths_51 ?_
          refine hg_cSi (As := [.int ((nI M) ^^^ (-1))]) (rest := [.int (nI n), .ref a2]) ⟨hx, hb, hml, hown, hts⟩ (mt_J0_numberOfTrailingZeros l H.size (nI M ^^^ (-1)) (hg_lz 16 M) (by omega) (hg_ntz hM15)) (va_cwS 1 hts (lw_S q27 q28 q9 q29) rfl rfl rfl (by decide +kernel) ⟨Nat.le_of_ble_eq_true rfl, Nat.le_of_ble_eq_true rfl⟩) hP hS hA rfl hl.1 rfl (Nat.le_of_ble_eq_true rfl) dX0_reckonWorths_52 ⟨Nat.le_of_ble_eq_true rfl, Nat.le_of_ble_eq_true rfl⟩ (fun v_1 H locs hw1 hP hS => ?_)
          obtain rfl : v_1 = nI (hg_lz 16 M) := hw1
          refine hg_iast hx hb hK hP hD hS 2 1 rfl rfl (by omega) (by decide) dX0_reckonWorths_55 (fun H locs hP hD hS => ?_)
          have hP : va_P (dC, dI) hg_cl (gx h0 a1 a2 a3 d1 d2 d3 r tu k hf (upd wf n (nI (hg_lz 16 M))) lf) H := hP
          have hD : va_D A (gx h0 a1 a2 a3 d1 d2 d3 r tu k hf (upd wf n (nI (hg_lz 16 M))) lf) := hD
          refine lv_iinc (v := nI (n + 1)) (lv' := [(1, .int (nI (n + 1))), (0, .ref h0), (2, .int (nI M)), (3, .int (nI t))]) hx hb dX0_reckonWorths_56 hl (k := 1) rfl (nI_add _ 1) (by decide) rfl (fun ls hl => ?_)
          refine lv_goto (tgt := 2) hx hb dX0_reckonWorths_59 (by decide) ?_
          refine ih (n + 1) _ (fun j => if j = n then hg_lz 16 M else w j) (by omega) hg2 (fun j hj => ?_) H locs hP hD hS ls (lv_sub hl [1, 0] rfl)
          by_cases q : j = n
          · subst q; rw [pk_us]; simp
          · rw [pk_un q, he j (by omega)]; simp [q]
        | succ N2 ih2 =>
          intro t M hN2 h1 hM H locs hP hD hS ls hl
          have hM31 : M < 2 ^ 31 := Nat.lt_of_lt_of_le hM.1 (Nat.pow_le_pow_right (by omega) (by omega))
          refine lv_iload_n hx hb dX0_reckonWorths_12 rfl (lv_at hl 3 rfl) ?_
          refine lv_iload_n hx hb dX0_reckonWorths_13 rfl (lv_at hl 1 rfl) ?_
          refine lv_icmp_gt (tgt := 44) hx hb dX0_reckonWorths_14 (by decide) (fun c_ => absurd c_ (fun z => absurd ((nI_ltI (by omega) (by omega)).mp z) (by omega))) (fun c_ => ?_)
          refine lv_aload_n hx hb dX0_reckonWorths_17 rfl (lv_at hl 0 rfl) ?_
          refine lv_iload_n hx hb dX0_reckonWorths_18 rfl (lv_at hl 3 rfl) ?_
          refine hg_cVi (As := [.int (nI t)]) (rest := []) (q0 := 0) (ci := 0) (wr := []) ⟨hx, hb, hml, hown, hts⟩ (mt_X0_allowed l dC dI h0 a1 a2 a3 d1 d2 d3 H.size r tu k hf wf lf t (by omega)) (cwV 1 hts (lw_V q23 q25 qs1 q8 q26) rfl rfl rfl (by decide +kernel) ⟨Nat.le_of_ble_eq_true rfl, Nat.le_of_ble_eq_true rfl⟩) hK hP hD hS hA [0, 1, 2, 3] [] [0, 1, 2] rfl rfl rfl rfl rfl rfl (by decide) rfl rfl rfl rfl hl.1 rfl (Nat.le_of_ble_eq_true rfl) dX0_reckonWorths_19 ⟨Nat.le_of_ble_eq_true rfl, Nat.le_of_ble_eq_true rfl⟩ (fun v_1 u_ H locs hw1 hP hD hS => ?_)
          have hP : va_P (dC, dI) hg_cl (gx h0 a1 a2 a3 d1 d2 d3 r tu k hf wf lf) H := hP
          have hD : va_D A (gx h0 a1 a2 a3 d1 d2 d3 r tu k hf wf lf) := hD
          obtain rfl : v_1 = hg_b (hg_al r t) := hw1
          refine lv_if_eq (tgt := 38) hx hb dX0_reckonWorths_22 (by decide) (fun c1 => ?_) (fun c1 => ?_)
          · have c1 := hg_b_eq0.mp c1
            refine lv_iinc (v := nI (t + 1)) (lv' := [(3, .int (nI (t + 1))), (0, .ref h0), (1, .int (nI n)), (2, .int (nI M))]) hx hb dX0_reckonWorths_38 hl (k := 3) rfl (nI_add _ 1) (by decide) rfl (fun ls hl => ?_)
            refine lv_goto (tgt := 12) hx hb dX0_reckonWorths_41 (by decide) ?_
            exact ih2 (t + 1) M (by omega) (by omega) (hg_met_no hM c1) H locs hP hD hS ls (lv_sub hl [1, 2, 3, 0] rfl)
          · have c1 : hg_al r t = true := by cases q : hg_al r t with | true => rfl | false => exact absurd (hg_b_eq0.mpr q) c1
            have hwn : w (n - t) ≤ n - t := (hg (n - t) (by omega)).1
            have hwt : w (n - t) < n := by omega
            have hp2 : 2 ^ w (n - t) < 2 ^ 31 := Nat.pow_lt_pow_right (by omega) (by omega)
            refine lv_iload_n hx hb dX0_reckonWorths_25 rfl (lv_at hl 2 rfl) ?_
            refine lv_iconst (v := 1) hx hb dX0_reckonWorths_26 (by decide) ?_
            refine lv_aload_n hx hb dX0_reckonWorths_27 rfl (lv_at hl 0 rfl) ?_
            refine va_get (D := (dC, dI)) (ci := 0) (v := .ref a2) (C := RX0) (T := TX0) (N := 6) hx hb hts in_X0 hown hK hP 0 rfl rfl 3 (by decide) (hts _ q34) (fun _ h9 => h9) rfl dX0_reckonWorths_28 ?_
            refine lv_iload_n hx hb dX0_reckonWorths_31 rfl (lv_at hl 1 rfl) ?_
            refine lv_iload_n hx hb dX0_reckonWorths_32 rfl (lv_at hl 3 rfl) ?_
            refine lv_isub hx hb dX0_reckonWorths_33 (hg_is (y := nI (n - t)) (pk_sub (by omega)) ?_)
            refine hg_iald (v := nI (w (n - t))) hx hb hK hP 2 1 rfl rfl (by omega) (he (n - t) (by omega)) (by decide) dX0_reckonWorths_34 ?_
            refine lv_ishl hx hb dX0_reckonWorths_35 (hg_is (y := nI (2 ^ w (n - t))) (hg_shl _ (by omega)) ?_)
            refine lv_ior hx hb dX0_reckonWorths_36 (hg_is (y := nI (M ||| 2 ^ w (n - t))) (hg_or hM31 hp2) ?_)
            refine lv_istore_n (lv' := [(2, .int (nI (M ||| 2 ^ w (n - t)))), (0, .ref h0), (1, .int (nI n)), (3, .int (nI t))]) hx hb dX0_reckonWorths_37 rfl hl (by decide) rfl (fun ls hl => ?_)
            refine lv_iinc (v := nI (t + 1)) (lv' := [(3, .int (nI (t + 1))), (2, .int (nI (M ||| 2 ^ w (n - t)))), (0, .ref h0), (1, .int (nI n))]) hx hb dX0_reckonWorths_38 hl (k := 3) rfl (nI_add _ 1) (by decide) rfl (fun ls hl => ?_)
            refine lv_goto (tgt := 12) hx hb dX0_reckonWorths_41 (by decide) ?_
            exact ih2 (t + 1) _ (by omega) (by omega) (hg_met_yes hM c1 hwt) H locs hP hD hS ls (lv_sub hl [2, 3, 1, 0] rfl)
      exact inner n 1 0 (by omega) (by omega) (hg_met_0 hal w n) H locs hP hD hS ls (lv_sub hl [2, 3, 1, 0] rfl)
  refine lv_iconst (v := nI 0) hx hb dX0_reckonWorths_0 (by decide) ?_
  refine lv_istore_n (lv' := [(1, .int (nI 0)), (0, .ref h0)]) hx hb dX0_reckonWorths_1 rfl hl (by decide) rfl (fun ls hl => ?_)
  exact loop 16 0 wf (fun _ => 0) (by omega) (fun j hj => absurd hj (Nat.not_lt_zero j)) (fun j hj => absurd hj (Nat.not_lt_zero j)) _ _ hP hD hS ls (lv_sub hl [1, 0] rfl)
end
section
set_option maxHeartbeats 4000000 in
set_option maxRecDepth 100000 in
/-- HeapGame.leads -/
theorem mt_X0_leads (l : Launch) (dC : Nat → ClassId) (dI : Nat → Nat → Nat) (h0 a1 a2 a3 : Nat) (d1 d2 d3 : ClassId) (sz : Nat) (r tu k : Int32) (hf wf lf : Nat → Int32) (ap st sn : Nat) (hap : ap < 4096) (hsn : sn < 16) (hst : st ≤ 256) (hle : sn * st ≤ ap) : Met l yX0_leads (ws_ yX0_leads cX0_leads 6 (some .int)) ({ frames := 1, cells := 0, slots := 0, locals := 21 }) (va_Pc [.ref h0, .int (nI ap), .int (nI st), .int (nI sn)] (hg_PG (dC, dI) sz (tg d1 d2 d3) (gx h0 a1 a2 a3 d1 d2 d3 r tu k hf wf lf))) (va_Qi (fun (v : Int32) (_ : Unit) => v = hg_f (hg_an (hg_al r) (sn + 1)) (hg_an (hg_hit (hg_al r) lf ap st) (sn + 1))) (fun u t => hg_BG (dC, dI) (va_A (gx h0 a1 a2 a3 d1 d2 d3 r tu k hf wf lf) sz) (tg d1 d2 d3) (gx h0 a1 a2 a3 d1 d2 d3 r tu k hf wf lf) t) (va_A (gx h0 a1 a2 a3 d1 d2 d3 r tu k hf wf lf) sz)) 0 0 (va_A (gx h0 a1 a2 a3 d1 d2 d3 r tu k hf wf lf) sz) := by
  refine Met.ofW (cc := cX0_leads) (maxL := 6) (ret := (some .int)) (by decide) rfl ?_
  intro p e s m args below meth c s₁ B hml hv
  obtain ⟨rfl, hsz, hP, hK, hD0⟩ := hv
  have hx := B.exec
  have hb := B.bytes
  have hr := B.returns
  have hts := atoms_spec (ws := (ws_ yX0_leads cX0_leads 6 (some .int))) B.pre
  have hts : ∀ w ∈ lw_all, w.before _ s = true := fun w h => hts w (List.mem_cons_of_mem _ h)
  have hown : s.vm.findClass RX0 = some m.cls := findClass_of_methodNamed B.named
  have hlocks := B.notSynchronized
  subst hsz
  have hD := hD0.self (sz := s.heap.size)
  generalize hAe : va_A (gx h0 a1 a2 a3 d1 d2 d3 r tu k hf wf lf) s.heap.size = A at hD ⊢
  have hA : ∀ q : Nat, s.heap.size ≤ q → A q := fun q h => by rw [← hAe]; exact Or.inr h
  have hS : va_S A s.heap s.heap [] := va_S.rf
  have hP : va_P (dC, dI) hg_cl (gx h0 a1 a2 a3 d1 d2 d3 r tu k hf wf lf) s.heap := hP
  have hl := lv_entry ([.ref h0, .int (nI ap), .int (nI st), .int (nI sn)]) (n := 6) (Nat.le_of_ble_eq_true rfl)
  rw [lg_entry_eq]
  generalize (lg_sl ([.ref h0, .int (nI ap), .int (nI st), .int (nI sn)]) ++ List.replicate (6 - (lg_sl ([.ref h0, .int (nI ap), .int (nI st), .int (nI sn)])).length) Slot.unset).toArray = ls at hl ⊢
  have hl : lv_has ls 6 [(0, .ref h0), (1, .int (nI ap)), (2, .int (nI st)), (3, .int (nI sn))] := hl
  have loop : ∀ (N t : Nat) (fv : Int32), t + N = sn + 1 → 1 ≤ t → fv = hg_f (hg_an (hg_al r) t) (hg_an (hg_hit (hg_al r) lf ap st) t) → ∀ (H : Heap) (locs : List Loc), va_P (dC, dI) hg_cl (gx h0 a1 a2 a3 d1 d2 d3 r tu k hf wf lf) H → va_D A (gx h0 a1 a2 a3 d1 d2 d3 r tu k hf wf lf) → va_S A s.heap H locs → ∀ ls, lv_has ls 6 [(0, .ref h0), (1, .int (nI ap)), (2, .int (nI st)), (3, .int (nI sn)), (4, .int fv), (5, .int (nI t))] → W p l e (headSpec (ws_ yX0_leads cX0_leads 6 (some .int)) ({ frames := 1, cells := 0, slots := 0, locals := 21 })).room s m ([.ref h0, .int (nI ap), .int (nI st), .int (nI sn)] : List Value).toArray below meth c H locs 0 0 (MQ below (va_Qi (fun (v : Int32) (_ : Unit) => v = hg_f (hg_an (hg_al r) (sn + 1)) (hg_an (hg_hit (hg_al r) lf ap st) (sn + 1))) (fun u t => hg_BG (dC, dI) A (tg d1 d2 d3) (gx h0 a1 a2 a3 d1 d2 d3 r tu k hf wf lf) t) A) ([.ref h0, .int (nI ap), .int (nI st), .int (nI sn)] : List Value).toArray s 0 0 A) (F0 m 6 ls []) := by
    intro N
    induction N with
    | zero =>
      intro t fv hN h1 hfv H locs hP hD hS ls hl
      refine lv_iload hx hb dX0_leads_6 (lv_at hl 5 rfl) ?_
      refine lv_iload_n hx hb dX0_leads_8 rfl (lv_at hl 3 rfl) ?_
      refine lv_icmp_gt (tgt := 57) hx hb dX0_leads_9 (by decide) (fun c_ => ?_) (fun c_ => absurd ((nI_ltI (by omega) (by omega)).mpr (by omega)) c_)
      refine lv_iload hx hb dX0_leads_57 (lv_at hl 4 rfl) ?_
      exact W.iret (v := fv) hx hb hr (fun t_ ht_ hW_ => ⟨⟨fv, (), rfl, (by have e : t = sn + 1 := (by omega); rw [hfv, e]), hg_BGi hP hK hD ht_ hW_.alike⟩, hS.F ht_⟩) hS.2.2 dX0_leads_59
    | succ N ih =>
      intro t fv hN h1 hfv H locs hP hD hS ls hl
      have hts2 : t * st ≤ ap := Nat.le_trans (Nat.mul_le_mul_right st (by omega)) hle
      refine lv_iload hx hb dX0_leads_6 (lv_at hl 5 rfl) ?_
      refine lv_iload_n hx hb dX0_leads_8 rfl (lv_at hl 3 rfl) ?_
      refine lv_icmp_gt (tgt := 57) hx hb dX0_leads_9 (by decide) (fun c_ => absurd c_ (fun z => absurd ((nI_ltI (by omega) (by omega)).mp z) (by omega))) (fun c_ => ?_)
      refine lv_aload_n hx hb dX0_leads_12 rfl (lv_at hl 0 rfl) ?_
      refine lv_iload hx hb dX0_leads_13 (lv_at hl 5 rfl) ?_
      refine hg_cVi (As := [.int (nI t)]) (rest := []) (q0 := 0) (ci := 0) (wr := []) ⟨hx, hb, hml, hown, hts⟩ (mt_X0_allowed l dC dI h0 a1 a2 a3 d1 d2 d3 H.size r tu k hf wf lf t (by omega)) (cwV 1 hts (lw_V q23 q25 qs1 q8 q26) rfl rfl rfl (by decide +kernel) ⟨Nat.le_of_ble_eq_true rfl, Nat.le_of_ble_eq_true rfl⟩) hK hP hD hS hA [0, 1, 2, 3] [] [0, 1, 2] rfl rfl rfl rfl rfl rfl (by decide) rfl rfl rfl rfl hl.1 rfl (Nat.le_of_ble_eq_true rfl) dX0_leads_15 ⟨Nat.le_of_ble_eq_true rfl, Nat.le_of_ble_eq_true rfl⟩ (fun v_1 u_ H locs hw1 hP hD hS => ?_)
      have hP : va_P (dC, dI) hg_cl (gx h0 a1 a2 a3 d1 d2 d3 r tu k hf wf lf) H := hP
      have hD : va_D A (gx h0 a1 a2 a3 d1 d2 d3 r tu k hf wf lf) := hD
      obtain rfl : v_1 = hg_b (hg_al r t) := hw1
      refine lv_if_ne (tgt := 24) hx hb dX0_leads_18 (by decide) (fun c1 => ?_) (fun c1 => ?_)
      · have c1 : hg_al r t = true := by cases q : hg_al r t with | true => rfl | false => exact absurd (hg_b_eq0.mpr q) c1
        refine lv_iload hx hb dX0_leads_24 (lv_at hl 4 rfl) ?_
        refine lv_iconst (v := 1) hx hb dX0_leads_26 (by decide) ?_
        refine lv_ior hx hb dX0_leads_27 (hg_is (y := hg_f true (hg_an (hg_hit (hg_al r) lf ap st) t)) (by rw [hfv]; exact hg_f_1 _ _) ?_)
        refine lv_istore (lv' := [(4, .int (hg_f true (hg_an (hg_hit (hg_al r) lf ap st) t))), (0, .ref h0), (1, .int (nI ap)), (2, .int (nI st)), (3, .int (nI sn)), (5, .int (nI t))]) hx hb dX0_leads_28 hl (by decide) rfl (fun ls hl => ?_)
        refine lv_aload_n hx hb dX0_leads_30 rfl (lv_at hl 1 rfl) ?_
        refine va_get (D := (dC, dI)) (ci := 0) (v := .ref a3) (C := RX0) (T := TX0) (N := 6) hx hb hts in_X0 hown hK hP 0 rfl rfl 4 (by decide) (hts _ q35) (fun _ h9 => h9) rfl dX0_leads_31 ?_
        refine lv_iload_n hx hb dX0_leads_34 rfl (lv_at hl 2 rfl) ?_
        refine lv_iload hx hb dX0_leads_35 (lv_at hl 5 rfl) ?_
        refine lv_iload_n hx hb dX0_leads_37 rfl (lv_at hl 3 rfl) ?_
        refine lv_imul hx hb dX0_leads_38 (hg_is (y := nI (t * st)) (pk_mul _ _) ?_)
        refine lv_isub hx hb dX0_leads_39 (hg_is (y := nI (ap - (t * st))) (pk_sub (by omega)) ?_)
        refine hg_bald (v := lf (ap - (t * st))) hx hb hK hP 3 2 rfl rfl (by omega) (rfl) (by decide) dX0_leads_40 ?_
        refine lv_iconst (v := 1) hx hb dX0_leads_41 (by decide) ?_
        refine lv_icmp_ne (tgt := 51) hx hb dX0_leads_42 (by decide) (fun c2 => ?_) (fun c2 => ?_)
        · refine lv_iinc (v := nI (t + 1)) (lv' := [(5, .int (nI (t + 1))), (4, .int (hg_f true (hg_an (hg_hit (hg_al r) lf ap st) t))), (0, .ref h0), (1, .int (nI ap)), (2, .int (nI st)), (3, .int (nI sn))]) hx hb dX0_leads_51 hl (k := 5) rfl (nI_add _ 1) (by decide) rfl (fun ls hl => ?_)
          refine lv_goto (tgt := 6) hx hb dX0_leads_54 (by decide) ?_
          exact ih (t + 1) _ (by omega) (by omega) (by rw [hg_an_s, hg_an_s, c1]; simp [hg_hit, c1, c2]) H locs hP hD hS ls (lv_sub hl [2, 3, 4, 5, 1, 0] rfl)
        · refine lv_iload hx hb dX0_leads_45 (lv_at hl 0 rfl) ?_
          refine lv_iconst (v := 2) hx hb dX0_leads_47 (by decide) ?_
          refine lv_ior hx hb dX0_leads_48 (hg_is (y := hg_f true true) (hg_f_2 _ _) ?_)
          refine lv_istore (lv' := [(4, .int (hg_f true true)), (0, .ref h0), (1, .int (nI ap)), (2, .int (nI st)), (3, .int (nI sn)), (5, .int (nI t))]) hx hb dX0_leads_49 hl (by decide) rfl (fun ls hl => ?_)
          refine lv_iinc (v := nI (t + 1)) (lv' := [(5, .int (nI (t + 1))), (4, .int (hg_f true true)), (0, .ref h0), (1, .int (nI ap)), (2, .int (nI st)), (3, .int (nI sn))]) hx hb dX0_leads_51 hl (k := 5) rfl (nI_add _ 1) (by decide) rfl (fun ls hl => ?_)
          refine lv_goto (tgt := 6) hx hb dX0_leads_54 (by decide) ?_
          exact ih (t + 1) _ (by omega) (by omega) (by rw [hg_an_s, hg_an_s, c1]; simp [hg_hit, c1, c2]) H locs hP hD hS ls (lv_sub hl [2, 3, 4, 5, 1, 0] rfl)
      · have c1 := hg_b_eq0.mp c1
        refine lv_goto (tgt := 51) hx hb dX0_leads_21 (by decide) ?_
        refine lv_iinc (v := nI (t + 1)) (lv' := [(5, .int (nI (t + 1))), (0, .ref h0), (1, .int (nI ap)), (2, .int (nI st)), (3, .int (nI sn)), (4, .int fv)]) hx hb dX0_leads_51 hl (k := 5) rfl (nI_add _ 1) (by decide) rfl (fun ls hl => ?_)
        refine lv_goto (tgt := 6) hx hb dX0_leads_54 (by decide) ?_
        exact ih (t + 1) fv (by omega) (by omega) (by rw [hg_an_s, hg_an_s, c1, hfv]; simp [hg_hit, c1]) H locs hP hD hS ls (lv_sub hl [1, 2, 3, 4, 5, 0] rfl)
  refine lv_iconst (v := 0) hx hb dX0_leads_0 (by decide) ?_
  refine lv_istore (lv' := [(4, .int 0), (0, .ref h0), (1, .int (nI ap)), (2, .int (nI st)), (3, .int (nI sn))]) hx hb dX0_leads_1 hl (by decide) rfl (fun ls hl => ?_)
  refine lv_iconst (v := nI 1) hx hb dX0_leads_3 (by decide) ?_
  refine lv_istore (lv' := [(5, .int (nI 1)), (4, .int 0), (0, .ref h0), (1, .int (nI ap)), (2, .int (nI st)), (3, .int (nI sn))]) hx hb dX0_leads_4 hl (by decide) rfl (fun ls hl => ?_)
  exact loop sn 1 0 (by omega) (by omega) (by simp [hg_an, hg_hit, hg_al_0]; decide) _ _ hP hD hS ls (lv_sub hl [2, 3, 4, 5, 1, 0] rfl)
end
section
/-- the table of the turned game, once it is reckoned -/
def hg_tb (al : Nat → Bool) (lf : Nat → Int32) : Prop := ∀ j, j < 4096 → lf j = hg_b (!hg_at al true j)
def hg_tab (al : Nat → Bool) (k : Int32) (lf : Nat → Int32) : Prop := k = 0 ∨ (k = 1 ∧ hg_tb al lf)
set_option maxHeartbeats 4000000 in
set_option maxRecDepth 100000 in
/-- HeapGame.reckonTurned -/
theorem mt_X0_reckonTurned (l : Launch) (dC : Nat → ClassId) (dI : Nat → Nat → Nat) (h0 a1 a2 a3 : Nat) (d1 d2 d3 : ClassId) (sz : Nat) (r tu k : Int32) (hf wf lf : Nat → Int32) (hk : hg_tab (hg_al r) k lf) : Met l yX0_reckonTurned (ws_ yX0_reckonTurned cX0_reckonTurned 3 none) ({ frames := 2, cells := 0, slots := 0, locals := 46 }) (va_Pc [.ref h0] (hg_PG (dC, dI) sz (tg d1 d2 d3) (gx h0 a1 a2 a3 d1 d2 d3 r tu k hf wf lf))) (va_Qv (fun (u : Int32 × (Nat → Int32)) => u.1 = 1 ∧ hg_tb (hg_al r) u.2) (fun u t => hg_BG (dC, dI) (va_A (gx h0 a1 a2 a3 d1 d2 d3 r tu k hf wf lf) sz) (tg d1 d2 d3) (gx h0 a1 a2 a3 d1 d2 d3 r tu u.1 hf wf u.2) t) (va_A (gx h0 a1 a2 a3 d1 d2 d3 r tu k hf wf lf) sz)) 0 0 (va_A (gx h0 a1 a2 a3 d1 d2 d3 r tu k hf wf lf) sz) := by
  refine Met.ofW (cc := cX0_reckonTurned) (maxL := 3) (ret := none) (by decide) rfl ?_
  intro p e s m args below meth c s₁ B hml hv
  obtain ⟨rfl, hsz, hP, hK, hD0⟩ := hv
  have hx := B.exec
  have hb := B.bytes
  have hr := B.returns
  have hts := atoms_spec (ws := (ws_ yX0_reckonTurned cX0_reckonTurned 3 none)) B.pre
  have hts : ∀ w ∈ lw_all, w.before _ s = true := fun w h => hts w (List.mem_cons_of_mem _ h)
  have hown : s.vm.findClass RX0 = some m.cls := findClass_of_methodNamed B.named
  have hlocks := B.notSynchronized
  subst hsz
  have hD := hD0.self (sz := s.heap.size)
  generalize hAe : va_A (gx h0 a1 a2 a3 d1 d2 d3 r tu k hf wf lf) s.heap.size = A at hD ⊢
  have hA : ∀ q : Nat, s.heap.size ≤ q → A q := fun q h => by rw [← hAe]; exact Or.inr h
  have hS : va_S A s.heap s.heap [] := va_S.rf
  have hP : va_P (dC, dI) hg_cl (gx h0 a1 a2 a3 d1 d2 d3 r tu k hf wf lf) s.heap := hP
  have hl := lv_entry ([.ref h0]) (n := 3) (Nat.le_of_ble_eq_true rfl)
  rw [lg_entry_eq]
  generalize (lg_sl ([.ref h0]) ++ List.replicate (3 - (lg_sl ([.ref h0])).length) Slot.unset).toArray = ls at hl ⊢
  have hl : lv_has ls 3 [(0, .ref h0)] := hl
  have hal := hg_ok_al r
  have loop : ∀ (N ap : Nat) (lf : Nat → Int32), ap + N = 4096 → (∀ j, j < ap → lf j = hg_b (!hg_at (hg_al r) true j)) → ∀ (H : Heap) (locs : List Loc), va_P (dC, dI) hg_cl (gx h0 a1 a2 a3 d1 d2 d3 r tu 1 hf wf lf) H → va_D A (gx h0 a1 a2 a3 d1 d2 d3 r tu 1 hf wf lf) → va_S A s.heap H locs → ∀ ls, lv_has ls 3 [(0, .ref h0), (1, .int (nI ap))] → W p l e (headSpec (ws_ yX0_reckonTurned cX0_reckonTurned 3 none) ({ frames := 2, cells := 0, slots := 0, locals := 46 })).room s m ([.ref h0] : List Value).toArray below meth c H locs 0 0 (MQ below (va_Qv (fun (u : Int32 × (Nat → Int32)) => u.1 = 1 ∧ hg_tb (hg_al r) u.2) (fun u t => hg_BG (dC, dI) A (tg d1 d2 d3) (gx h0 a1 a2 a3 d1 d2 d3 r tu u.1 hf wf u.2) t) A) ([.ref h0] : List Value).toArray s 0 0 A) (F0 m 15 ls []) := by
    intro N
    induction N with
    | zero =>
      intro ap lf hN hj H locs hP hD hS ls hl
      refine lv_iload_n hx hb dX0_reckonTurned_15 rfl (lv_at hl 1 rfl) ?_
      refine lv_sipush (v := nI 4096) hx hb dX0_reckonTurned_16 (by decide) ?_
      refine lv_icmp_ge (tgt := 87) hx hb dX0_reckonTurned_19 (by decide) (fun c_ => ?_) (fun c_ => absurd ((nI_leI (by omega) (by omega)).mpr (by omega)) c_)
      exact W.vret hx hb hr (fun t_ ht_ hW_ => ⟨⟨(1, lf), rfl, ⟨rfl, fun j hj2 => hj j (by omega)⟩, hg_BGi hP hK hD ht_ hW_.alike⟩, hS.F ht_⟩) hS.2.2 dX0_reckonTurned_87
    | succ N ih =>
      intro ap lf hN hj H locs hP hD hS ls hl
      have hturn := hg_turn hal hj
      refine lv_iload_n hx hb dX0_reckonTurned_15 rfl (lv_at hl 1 rfl) ?_
      refine lv_sipush (v := nI 4096) hx hb dX0_reckonTurned_16 (by decide) ?_
      refine lv_icmp_ge (tgt := 87) hx hb dX0_reckonTurned_19 (by decide) (fun c_ => absurd c_ (fun z => absurd ((nI_leI (by omega) (by omega)).mp z) (by omega))) (fun c_ => ?_)
      refine lv_aload_n hx hb dX0_reckonTurned_22 rfl (lv_at hl 0 rfl) ?_
      refine lv_iload_n hx hb dX0_reckonTurned_23 rfl (lv_at hl 1 rfl) ?_
      refine lv_iconst (v := nI 1) hx hb dX0_reckonTurned_24 (by decide) ?_
      refine lv_iload_n hx hb dX0_reckonTurned_25 rfl (lv_at hl 1 rfl) ?_
      refine lv_bipush (v := nI 16) hx hb dX0_reckonTurned_26 (by decide) ?_
      refine lv_irem hx hb dX0_reckonTurned_28 (by decide) (hg_is (y := nI (ap % 16)) (pk_rem (by omega) (by omega) (by omega)) ?_)
      refine hg_cVi (As := [.int (nI ap), .int (nI 1), .int (nI (ap % 16))]) (rest := []) (q0 := 0) (ci := 0) (wr := []) ⟨hx, hb, hml, hown, hts⟩ (mt_X0_leads l dC dI h0 a1 a2 a3 d1 d2 d3 _ r tu 1 hf wf lf ap 1 (ap % 16) (by omega) (by omega) (by omega) (by omega)) (cwV 3 hts (lw_V q76 q78 qs4 q8 q79) rfl rfl rfl (by decide +kernel) ⟨Nat.le_of_ble_eq_true rfl, Nat.le_of_ble_eq_true rfl⟩) hK hP hD hS hA [0, 1, 2, 3] [] [0, 1, 2] rfl rfl rfl rfl rfl rfl (by decide) rfl rfl rfl rfl hl.1 rfl (Nat.le_of_ble_eq_true rfl) dX0_reckonTurned_29 ⟨Nat.le_of_ble_eq_true rfl, Nat.le_of_ble_eq_true rfl⟩ (fun v_1 u_ H locs hw1 hP hD hS => ?_)
      have hP : va_P (dC, dI) hg_cl (gx h0 a1 a2 a3 d1 d2 d3 r tu 1 hf wf lf) H := hP
      have hD : va_D A (gx h0 a1 a2 a3 d1 d2 d3 r tu 1 hf wf lf) := hD
      obtain rfl : v_1 = hg_f (hg_an (hg_al r) (ap % 16 + 1)) (hg_an (hg_hit (hg_al r) lf ap 1) (ap % 16 + 1)) := hw1
      refine lv_aload_n hx hb dX0_reckonTurned_32 rfl (lv_at hl 0 rfl) ?_
      refine lv_iload_n hx hb dX0_reckonTurned_33 rfl (lv_at hl 1 rfl) ?_
      refine lv_bipush (v := nI 16) hx hb dX0_reckonTurned_34 (by decide) ?_
      refine lv_iload_n hx hb dX0_reckonTurned_36 rfl (lv_at hl 1 rfl) ?_
      refine lv_bipush (v := nI 16) hx hb dX0_reckonTurned_37 (by decide) ?_
      refine lv_idiv hx hb dX0_reckonTurned_39 (by decide) (hg_is (y := nI (ap / 16)) (pk_div (by omega) (by omega) (by omega)) ?_)
      refine lv_bipush (v := nI 16) hx hb dX0_reckonTurned_40 (by decide) ?_
      refine lv_irem hx hb dX0_reckonTurned_42 (by decide) (hg_is (y := nI ((ap / 16) % 16)) (pk_rem (by omega) (by omega) (by omega)) ?_)
      refine hg_cVi (As := [.int (nI ap), .int (nI 16), .int (nI ((ap / 16) % 16))]) (rest := [.int (hg_f (hg_an (hg_al r) (ap % 16 + 1)) (hg_an (hg_hit (hg_al r) lf ap 1) (ap % 16 + 1)))]) (q0 := 0) (ci := 0) (wr := []) ⟨hx, hb, hml, hown, hts⟩ (mt_X0_leads l dC dI h0 a1 a2 a3 d1 d2 d3 _ r tu 1 hf wf lf ap 16 (ap / 16 % 16) (by omega) (by omega) (by omega) (by omega)) (cwV 3 hts (lw_V q76 q78 qs4 q8 q79) rfl rfl rfl (by decide +kernel) ⟨Nat.le_of_ble_eq_true rfl, Nat.le_of_ble_eq_true rfl⟩) hK hP hD hS hA [0, 1, 2, 3] [] [0, 1, 2] rfl rfl rfl rfl rfl rfl (by decide) rfl rfl rfl rfl hl.1 rfl (Nat.le_of_ble_eq_true rfl) dX0_reckonTurned_43 ⟨Nat.le_of_ble_eq_true rfl, Nat.le_of_ble_eq_true rfl⟩ (fun v_16 u_ H locs hw1 hP hD hS => ?_)
      have hP : va_P (dC, dI) hg_cl (gx h0 a1 a2 a3 d1 d2 d3 r tu 1 hf wf lf) H := hP
      have hD : va_D A (gx h0 a1 a2 a3 d1 d2 d3 r tu 1 hf wf lf) := hD
      obtain rfl : v_16 = hg_f (hg_an (hg_al r) (ap / 16 % 16 + 1)) (hg_an (hg_hit (hg_al r) lf ap 16) (ap / 16 % 16 + 1)) := hw1
      refine lv_ior hx hb dX0_reckonTurned_46 (hg_is (y := hg_f ((hg_an (hg_al r) (ap % 16 + 1)) || (hg_an (hg_al r) (ap / 16 % 16 + 1))) ((hg_an (hg_hit (hg_al r) lf ap 1) (ap % 16 + 1)) || (hg_an (hg_hit (hg_al r) lf ap 16) (ap / 16 % 16 + 1)))) (hg_f_or _ _ _ _) ?_)
      refine lv_aload_n hx hb dX0_reckonTurned_47 rfl (lv_at hl 0 rfl) ?_
      refine lv_iload_n hx hb dX0_reckonTurned_48 rfl (lv_at hl 1 rfl) ?_
      refine lv_sipush (v := nI 256) hx hb dX0_reckonTurned_49 (by decide) ?_
      refine lv_iload_n hx hb dX0_reckonTurned_52 rfl (lv_at hl 1 rfl) ?_
      refine lv_bipush (v := nI 16) hx hb dX0_reckonTurned_53 (by decide) ?_
      refine lv_idiv hx hb dX0_reckonTurned_55 (by decide) (hg_is (y := nI (ap / 16)) (pk_div (by omega) (by omega) (by omega)) ?_)
      refine lv_bipush (v := nI 16) hx hb dX0_reckonTurned_56 (by decide) ?_
      refine lv_idiv hx hb dX0_reckonTurned_58 (by decide) (hg_is (y := nI (ap / 256)) (by rw [pk_div (by omega) (by omega) (by omega)]; exact congrArg nI (by omega)) ?_)
      refine hg_cVi (As := [.int (nI ap), .int (nI 256), .int (nI (ap / 256))]) (rest := [.int (hg_f ((hg_an (hg_al r) (ap % 16 + 1)) || (hg_an (hg_al r) (ap / 16 % 16 + 1))) ((hg_an (hg_hit (hg_al r) lf ap 1) (ap % 16 + 1)) || (hg_an (hg_hit (hg_al r) lf ap 16) (ap / 16 % 16 + 1))))]) (q0 := 0) (ci := 0) (wr := []) ⟨hx, hb, hml, hown, hts⟩ (mt_X0_leads l dC dI h0 a1 a2 a3 d1 d2 d3 _ r tu 1 hf wf lf ap 256 (ap / 256) (by omega) (by omega) (by omega) (by omega)) (cwV 3 hts (lw_V q76 q78 qs4 q8 q79) rfl rfl rfl (by decide +kernel) ⟨Nat.le_of_ble_eq_true rfl, Nat.le_of_ble_eq_true rfl⟩) hK hP hD hS hA [0, 1, 2, 3] [] [0, 1, 2] rfl rfl rfl rfl rfl rfl (by decide) rfl rfl rfl rfl hl.1 rfl (Nat.le_of_ble_eq_true rfl) dX0_reckonTurned_59 ⟨Nat.le_of_ble_eq_true rfl, Nat.le_of_ble_eq_true rfl⟩ (fun v_256 u_ H locs hw1 hP hD hS => ?_)
      have hP : va_P (dC, dI) hg_cl (gx h0 a1 a2 a3 d1 d2 d3 r tu 1 hf wf lf) H := hP
      have hD : va_D A (gx h0 a1 a2 a3 d1 d2 d3 r tu 1 hf wf lf) := hD
      obtain rfl : v_256 = hg_f (hg_an (hg_al r) (ap / 256 + 1)) (hg_an (hg_hit (hg_al r) lf ap 256) (ap / 256 + 1)) := hw1
      refine lv_ior hx hb dX0_reckonTurned_62 (hg_is (y := hg_f ((hg_an (hg_al r) (ap % 16 + 1)) || (hg_an (hg_al r) (ap / 16 % 16 + 1)) || (hg_an (hg_al r) (ap / 256 + 1))) ((hg_an (hg_hit (hg_al r) lf ap 1) (ap % 16 + 1)) || (hg_an (hg_hit (hg_al r) lf ap 16) (ap / 16 % 16 + 1)) || (hg_an (hg_hit (hg_al r) lf ap 256) (ap / 256 + 1)))) (hg_f_or _ _ _ _) ?_)
      refine lv_istore_n (lv' := [(2, .int (hg_f ((hg_an (hg_al r) (ap % 16 + 1)) || (hg_an (hg_al r) (ap / 16 % 16 + 1)) || (hg_an (hg_al r) (ap / 256 + 1))) ((hg_an (hg_hit (hg_al r) lf ap 1) (ap % 16 + 1)) || (hg_an (hg_hit (hg_al r) lf ap 16) (ap / 16 % 16 + 1)) || (hg_an (hg_hit (hg_al r) lf ap 256) (ap / 256 + 1))))), (0, .ref h0), (1, .int (nI ap))]) hx hb dX0_reckonTurned_63 rfl hl (by decide) rfl (fun ls hl => ?_)
      refine lv_aload_n hx hb dX0_reckonTurned_64 rfl (lv_at hl 1 rfl) ?_
      refine va_get (D := (dC, dI)) (ci := 0) (v := .ref a3) (C := RX0) (T := TX0) (N := 6) hx hb hts in_X0 hown hK hP 0 rfl rfl 4 (by decide) (hts _ q35) (fun _ h9 => h9) rfl dX0_reckonTurned_65 ?_
      refine lv_iload_n hx hb dX0_reckonTurned_68 rfl (lv_at hl 2 rfl) ?_
      refine lv_iload_n hx hb dX0_reckonTurned_69 rfl (lv_at hl 0 rfl) ?_
      refine lv_iconst (v := 1) hx hb dX0_reckonTurned_70 (by decide) ?_
      have join : ∀ v : Int32, v = hg_b (!hg_at (hg_al r) true ap) → W p l e (headSpec (ws_ yX0_reckonTurned cX0_reckonTurned 3 none) ({ frames := 2, cells := 0, slots := 0, locals := 46 })).room s m ([.ref h0] : List Value).toArray below meth c H locs 0 0 (MQ below (va_Qv (fun (u : Int32 × (Nat → Int32)) => u.1 = 1 ∧ hg_tb (hg_al r) u.2) (fun u t => hg_BG (dC, dI) A (tg d1 d2 d3) (gx h0 a1 a2 a3 d1 d2 d3 r tu u.1 hf wf u.2) t) A) ([.ref h0] : List Value).toArray s 0 0 A) (F0 m 79 ls [.int v, .int (nI ap), .ref a3]) := by
        intro v hv
        subst hv
        refine lv_i2b (v := hg_b (!hg_at (hg_al r) true ap)) hx hb dX0_reckonTurned_79 (hg_b_i2b _) ?_
        refine hg_bast hx hb hK hP hD hS 3 2 rfl rfl (by omega) (hg_b_nab _) (by decide) dX0_reckonTurned_80 (fun H locs hP hD hS => ?_)
        have hP : va_P (dC, dI) hg_cl (gx h0 a1 a2 a3 d1 d2 d3 r tu 1 hf wf (upd lf ap (hg_b (!hg_at (hg_al r) true ap)))) H := hP
        have hD : va_D A (gx h0 a1 a2 a3 d1 d2 d3 r tu 1 hf wf (upd lf ap (hg_b (!hg_at (hg_al r) true ap)))) := hD
        refine lv_iinc (v := nI (ap + 1)) (lv' := [(1, .int (nI (ap + 1))), (2, .int (hg_f ((hg_an (hg_al r) (ap % 16 + 1)) || (hg_an (hg_al r) (ap / 16 % 16 + 1)) || (hg_an (hg_al r) (ap / 256 + 1))) ((hg_an (hg_hit (hg_al r) lf ap 1) (ap % 16 + 1)) || (hg_an (hg_hit (hg_al r) lf ap 16) (ap / 16 % 16 + 1)) || (hg_an (hg_hit (hg_al r) lf ap 256) (ap / 256 + 1))))), (0, .ref h0)]) hx hb dX0_reckonTurned_81 hl (k := 2) rfl (nI_add _ 1) (by decide) rfl (fun ls hl => ?_)
        refine lv_goto (tgt := 15) hx hb dX0_reckonTurned_84 (by decide) ?_
        refine ih (ap + 1) _ (by omega) (fun i hi => ?_) H locs hP hD hS ls (lv_sub hl [2, 0] rfl)
        by_cases q : i = ap
        · subst q; rw [pk_us]
        · rw [pk_un q, hj i (by omega)]
      refine lv_icmp_ne (tgt := 78) hx hb dX0_reckonTurned_71 (by decide) (fun c1 => ?_) (fun c1 => ?_)
      · refine lv_iconst (v := 0) hx hb dX0_reckonTurned_78 (by decide) ?_
        exact join 0 (by rw [← hturn]; exact (hg_b_eq0.mpr (Bool.eq_false_iff.mpr (fun y => c1 (hg_f_is1.mpr y)))).symm)
      · refine lv_iconst (v := 1) hx hb dX0_reckonTurned_74 (by decide) ?_
        refine lv_goto (tgt := 79) hx hb dX0_reckonTurned_75 (by decide) ?_
        exact join 1 (by rw [← hturn]; exact (hg_b_eq1.mpr (hg_f_is1.mp c1)).symm)
  refine lv_aload_n hx hb dX0_reckonTurned_0 rfl (lv_at hl 0 rfl) ?_
  refine va_get (D := (dC, dI)) (ci := 0) (v := .int k) (C := RX0) (T := TX0) (N := 6) hx hb hts in_X0 hown hK hP 0 rfl rfl 5 (by decide) (hts _ q36) (fun _ h9 => h9) rfl dX0_reckonTurned_1 ?_
  refine lv_if_eq (tgt := 8) hx hb dX0_reckonTurned_4 (by decide) (fun c0 => ?_) (fun c0 => ?_)
  · refine lv_aload_n hx hb dX0_reckonTurned_8 rfl (lv_at hl 0 rfl) ?_
    refine lv_iconst (v := 1) hx hb dX0_reckonTurned_9 (by decide) ?_
    refine va_put (D := (dC, dI)) (ci := 0) (v := .int 1) (ty := .boolean) (C := RX0) (T := TX0) (N := 6) hx hb hts in_X0 tyX0 tyX0_ok nmX0 hown hK hP hD hS 0 rfl rfl 5 (by decide) (hts _ q36) (fun _ h9 => h9) rfl (by decide +kernel) rfl rfl (Nat.le_of_ble_eq_true rfl) dX0_reckonTurned_10 (fun H locs hP hD hS => ?_)
    have hP : va_P (dC, dI) hg_cl (gx h0 a1 a2 a3 d1 d2 d3 r tu 1 hf wf lf) H := hP
    have hD : va_D A (gx h0 a1 a2 a3 d1 d2 d3 r tu 1 hf wf lf) := hD
    refine lv_iconst (v := nI 0) hx hb dX0_reckonTurned_13 (by decide) ?_
    refine lv_istore_n (lv' := [(1, .int (nI 0)), (0, .ref h0)]) hx hb dX0_reckonTurned_14 rfl hl (by decide) rfl (fun ls hl => ?_)
    exact loop 4096 0 lf (by omega) (fun j hj => absurd hj (Nat.not_lt_zero j)) _ _ hP hD hS ls (lv_sub hl [1, 0] rfl)
  · have hk2 : k = 1 ∧ hg_tb (hg_al r) lf := by
      rcases hk with q | q
      · exact absurd q c0
      · exact q
    exact W.vret hx hb hr (fun t_ ht_ hW_ => ⟨⟨(k, lf), rfl, hk2, hg_BGi hP hK hD ht_ hW_.alike⟩, hS.F ht_⟩) hS.2.2 dX0_reckonTurned_7
set_option maxHeartbeats 4000000 in
set_option maxRecDepth 100000 in
/-- HeapGame.wins -/
theorem mt_X0_wins (l : Launch) (dC : Nat → ClassId) (dI : Nat → Nat → Nat) (h0 a1 a2 a3 : Nat) (d1 d2 d3 : ClassId) (sz : Nat) (r tu k : Int32) (hf wf lf : Nat → Int32) (mis : Bool) (x y z : Nat) (hx1 : x < 16) (hy1 : y < 16) (hz1 : z < 16) (htu : tu = hg_b mis) (hwo : hg_wo (hg_al r) wf) (hk : hg_tab (hg_al r) k lf) : Met l yX0_wins (ws_ yX0_wins cX0_wins 4 (some .boolean)) ({ frames := 3, cells := 0, slots := 0, locals := 68 }) (va_Pc [.ref h0, .int (nI x), .int (nI y), .int (nI z)] (hg_PG (dC, dI) sz (tg d1 d2 d3) (gx h0 a1 a2 a3 d1 d2 d3 r tu k hf wf lf))) (va_Qi (fun (v : Int32) (u : Int32 × (Nat → Int32)) => v = hg_b (hg_wn (hg_al r) mis x y z) ∧ hg_tab (hg_al r) u.1 u.2) (fun u t => hg_BG (dC, dI) (va_A (gx h0 a1 a2 a3 d1 d2 d3 r tu k hf wf lf) sz) (tg d1 d2 d3) (gx h0 a1 a2 a3 d1 d2 d3 r tu u.1 hf wf u.2) t) (va_A (gx h0 a1 a2 a3 d1 d2 d3 r tu k hf wf lf) sz)) 0 0 (va_A (gx h0 a1 a2 a3 d1 d2 d3 r tu k hf wf lf) sz) := by
  refine Met.ofW (cc := cX0_wins) (maxL := 4) (ret := (some .boolean)) (by decide) rfl ?_
  intro p e s m args below meth c s₁ B hml hv
  obtain ⟨rfl, hsz, hP, hK, hD0⟩ := hv
  have hx := B.exec
  have hb := B.bytes
  have hr := B.returns
  have hts := atoms_spec (ws := (ws_ yX0_wins cX0_wins 4 (some .boolean))) B.pre
  have hts : ∀ w ∈ lw_all, w.before _ s = true := fun w h => hts w (List.mem_cons_of_mem _ h)
  have hown : s.vm.findClass RX0 = some m.cls := findClass_of_methodNamed B.named
  have hlocks := B.notSynchronized
  subst hsz
  have hD := hD0.self (sz := s.heap.size)
  generalize hAe : va_A (gx h0 a1 a2 a3 d1 d2 d3 r tu k hf wf lf) s.heap.size = A at hD ⊢
  have hA : ∀ q : Nat, s.heap.size ≤ q → A q := fun q h => by rw [← hAe]; exact Or.inr h
  have hS : va_S A s.heap s.heap [] := va_S.rf
  have hP : va_P (dC, dI) hg_cl (gx h0 a1 a2 a3 d1 d2 d3 r tu k hf wf lf) s.heap := hP
  have hl := lv_entry ([.ref h0, .int (nI x), .int (nI y), .int (nI z)]) (n := 4) (Nat.le_of_ble_eq_true rfl)
  rw [lg_entry_eq]
  generalize (lg_sl ([.ref h0, .int (nI x), .int (nI y), .int (nI z)]) ++ List.replicate (4 - (lg_sl ([.ref h0, .int (nI x), .int (nI y), .int (nI z)])).length) Slot.unset).toArray = ls at hl ⊢
  have hl : lv_has ls 4 [(0, .ref h0), (1, .int (nI x)), (2, .int (nI y)), (3, .int (nI z))] := hl
  have hal := hg_ok_al r
  refine lv_aload_n hx hb dX0_wins_0 rfl (lv_at hl 0 rfl) ?_
  refine va_get (D := (dC, dI)) (ci := 0) (v := .int tu) (C := RX0) (T := TX0) (N := 6) hx hb hts in_X0 hown hK hP 0 rfl rfl 1 (by decide) (hts _ q32) (fun _ h9 => h9) rfl dX0_wins_1 ?_
  refine lv_if_ne (tgt := 36) hx hb dX0_wins_4 (by decide) (fun c0 => ?_) (fun c0 => ?_)
  · have emis : mis = true := by cases mis with | true => rfl | false => exact absurd htu c0
    subst emis
    refine lv_aload_n hx hb dX0_wins_36 rfl (lv_at hl 0 rfl) ?_
    refine hg_cVv (As := []) (rest := []) (q0 := 0) (ci := 0) (wr := []) ⟨hx, hb, hml, hown, hts⟩ (mt_X0_reckonTurned l dC dI h0 a1 a2 a3 d1 d2 d3 _ r tu k hf wf lf hk) (cwV 0 hts (lw_V q72 q74 qs3 q8 q75) rfl rfl rfl (by decide +kernel) ⟨Nat.le_of_ble_eq_true rfl, Nat.le_of_ble_eq_true rfl⟩) hK hP hD hS hA [0, 1, 2, 3] [] [0, 1, 2] rfl rfl rfl rfl rfl rfl (by decide) rfl rfl rfl rfl hl.1 rfl (Nat.le_of_ble_eq_true rfl) dX0_wins_37 ⟨Nat.le_of_ble_eq_true rfl, Nat.le_of_ble_eq_true rfl⟩ (fun u_ H locs hw1 hP hD hS => ?_)
    obtain ⟨k2, lf2⟩ := u_
    have hP : va_P (dC, dI) hg_cl (gx h0 a1 a2 a3 d1 d2 d3 r tu k2 hf wf lf2) H := hP
    have hD : va_D A (gx h0 a1 a2 a3 d1 d2 d3 r tu k2 hf wf lf2) := hD
    have hk2 : k2 = 1 := hw1.1
    have hl2 : hg_tb (hg_al r) lf2 := hw1.2
    refine lv_aload_n hx hb dX0_wins_40 rfl (lv_at hl 0 rfl) ?_
    refine va_get (D := (dC, dI)) (ci := 0) (v := .ref a3) (C := RX0) (T := TX0) (N := 6) hx hb hts in_X0 hown hK hP 0 rfl rfl 4 (by decide) (hts _ q35) (fun _ h9 => h9) rfl dX0_wins_41 ?_
    refine lv_iload_n hx hb dX0_wins_44 rfl (lv_at hl 1 rfl) ?_
    refine lv_iload_n hx hb dX0_wins_45 rfl (lv_at hl 2 rfl) ?_
    refine lv_iload_n hx hb dX0_wins_46 rfl (lv_at hl 3 rfl) ?_
    refine hg_cSi (As := [.int (nI x), .int (nI y), .int (nI z)]) (rest := [.ref a3]) ⟨hx, hb, hml, hown, hts⟩ (mt_X0_index l _ x y z) (va_cwS 3 hts (lw_S q80 q81 q8 q82) rfl rfl rfl (by decide +kernel) ⟨Nat.le_of_ble_eq_true rfl, Nat.le_of_ble_eq_true rfl⟩) hP hS hA rfl hl.1 rfl (Nat.le_of_ble_eq_true rfl) dX0_wins_47 ⟨Nat.le_of_ble_eq_true rfl, Nat.le_of_ble_eq_true rfl⟩ (fun v_2 H locs hw2 hP hS => ?_)
    obtain rfl : v_2 = nI (256 * x + 16 * y + z) := hw2
    refine hg_bald (v := hg_b (!hg_wn (hg_al r) true x y z)) hx hb hK hP 3 2 rfl rfl (by omega) (by rw [hl2 _ (by omega), hg_at_abc _ _ (by omega) (by omega)]) (by decide) dX0_wins_50 ?_
    refine lv_if_ne (tgt := 58) hx hb dX0_wins_51 (by decide) (fun c1 => ?_) (fun c1 => ?_)
    · refine lv_iconst (v := 0) hx hb dX0_wins_58 (by decide) ?_
      exact W.zret (v := 0) hx hb hr (rfl) (fun t_ ht_ hW_ => ⟨⟨0, (k2, lf2), rfl, ⟨by cases q : hg_wn (hg_al r) true x y z with | false => rfl | true => exact absurd (by rw [q]; rfl) c1, Or.inr ⟨hk2, hl2⟩⟩, hg_BGi hP hK hD ht_ hW_.alike⟩, hS.F ht_⟩) hS.2.2 dX0_wins_59
    · refine lv_iconst (v := 1) hx hb dX0_wins_54 (by decide) ?_
      refine lv_goto (tgt := 59) hx hb dX0_wins_55 (by decide) ?_
      exact W.zret (v := 1) hx hb hr (rfl) (fun t_ ht_ hW_ => ⟨⟨1, (k2, lf2), rfl, ⟨by have q := hg_b_eq0.mp c1; rw [Bool.not_eq_false'] at q; rw [q]; rfl, Or.inr ⟨hk2, hl2⟩⟩, hg_BGi hP hK hD ht_ hW_.alike⟩, hS.F ht_⟩) hS.2.2 dX0_wins_59
  · have emis : mis = false := by cases mis with | false => rfl | true => exact absurd (htu.symm.trans c0) (by decide)
    subst emis
    obtain ⟨w, hgw, hwv⟩ := id hwo
    have hwx : w x < 16 := Nat.lt_of_le_of_lt (hgw x hx1).1 hx1
    have hwy : w y < 16 := Nat.lt_of_le_of_lt (hgw y hy1).1 hy1
    have hwz : w z < 16 := Nat.lt_of_le_of_lt (hgw z hz1).1 hz1
    have hxy : w x ^^^ w y < 2 ^ 4 := Nat.xor_lt_two_pow hwx hwy
    have hxyz : w x ^^^ w y ^^^ w z < 2 ^ 4 := Nat.xor_lt_two_pow hxy hwz
    have hsg := hg_sg hal hgw (x + y + z + 1) x y z (by omega) hx1 hy1 hz1
    refine lv_aload_n hx hb dX0_wins_7 rfl (lv_at hl 0 rfl) ?_
    refine va_get (D := (dC, dI)) (ci := 0) (v := .ref a2) (C := RX0) (T := TX0) (N := 6) hx hb hts in_X0 hown hK hP 0 rfl rfl 3 (by decide) (hts _ q34) (fun _ h9 => h9) rfl dX0_wins_8 ?_
    refine lv_iload_n hx hb dX0_wins_11 rfl (lv_at hl 1 rfl) ?_
    refine hg_iald (v := nI (w x)) hx hb hK hP 2 1 rfl rfl (by omega) (hwv x hx1) (by decide) dX0_wins_12 ?_
    refine lv_aload_n hx hb dX0_wins_13 rfl (lv_at hl 0 rfl) ?_
    refine va_get (D := (dC, dI)) (ci := 0) (v := .ref a2) (C := RX0) (T := TX0) (N := 6) hx hb hts in_X0 hown hK hP 0 rfl rfl 3 (by decide) (hts _ q34) (fun _ h9 => h9) rfl dX0_wins_14 ?_
    refine lv_iload_n hx hb dX0_wins_17 rfl (lv_at hl 2 rfl) ?_
    refine hg_iald (v := nI (w y)) hx hb hK hP 2 1 rfl rfl (by omega) (hwv y hy1) (by decide) dX0_wins_18 ?_
    refine lv_ixor hx hb dX0_wins_19 (hg_is (y := nI (w x ^^^ w y)) (hg_xor (by omega) (by omega)) ?_)
    refine lv_aload_n hx hb dX0_wins_20 rfl (lv_at hl 0 rfl) ?_
    refine va_get (D := (dC, dI)) (ci := 0) (v := .ref a2) (C := RX0) (T := TX0) (N := 6) hx hb hts in_X0 hown hK hP 0 rfl rfl 3 (by decide) (hts _ q34) (fun _ h9 => h9) rfl dX0_wins_21 ?_
    refine lv_iload_n hx hb dX0_wins_24 rfl (lv_at hl 3 rfl) ?_
    refine hg_iald (v := nI (w z)) hx hb hK hP 2 1 rfl rfl (by omega) (hwv z hz1) (by decide) dX0_wins_25 ?_
    refine lv_ixor hx hb dX0_wins_26 (hg_is (y := nI (w x ^^^ w y ^^^ w z)) (hg_xor (by omega) (by omega)) ?_)
    refine lv_if_eq (tgt := 34) hx hb dX0_wins_27 (by decide) (fun c1 => ?_) (fun c1 => ?_)
    · have c1 := (nI_eq (b := 0) (by omega) (by omega)).mp c1
      refine lv_iconst (v := 0) hx hb dX0_wins_34 (by decide) ?_
      exact W.zret (v := 0) hx hb hr (rfl) (fun t_ ht_ hW_ => ⟨⟨0, (k, lf), rfl, ⟨by cases q : hg_wn (hg_al r) false x y z with | false => rfl | true => exact absurd c1 (hsg.mp q), hk⟩, hg_BGi hP hK hD ht_ hW_.alike⟩, hS.F ht_⟩) hS.2.2 dX0_wins_35
    · have c1 : ¬ (w x ^^^ w y ^^^ w z = 0) := fun q => c1 (by rw [q]; exact nI_0)
      refine lv_iconst (v := 1) hx hb dX0_wins_30 (by decide) ?_
      refine lv_goto (tgt := 35) hx hb dX0_wins_31 (by decide) ?_
      exact W.zret (v := 1) hx hb hr (rfl) (fun t_ ht_ hW_ => ⟨⟨1, (k, lf), rfl, ⟨by rw [hsg.mpr c1]; rfl, hk⟩, hg_BGi hP hK hD ht_ hW_.alike⟩, hS.F ht_⟩) hS.2.2 dX0_wins_35
set_option maxHeartbeats 4000000 in
set_option maxRecDepth 100000 in
/-- HeapGame.first -/
theorem mt_X0_first (l : Launch) (dC : Nat → ClassId) (dI : Nat → Nat → Nat) (h0 a1 a2 a3 : Nat) (d1 d2 d3 : ClassId) (sz : Nat) (r tu k : Int32) (hf wf lf : Nat → Int32) (mis : Bool) (x y z : Nat) (hx1 : x < 16) (hy1 : y < 16) (hz1 : z < 16) (hh0 : hf 0 = nI x) (hh1 : hf 1 = nI y) (hh2 : hf 2 = nI z) (htu : tu = hg_b mis) (hwo : hg_wo (hg_al r) wf) (hk : hg_tab (hg_al r) k lf) : Met l yX0_first (ws_ yX0_first cX0_first 1 (some .boolean)) ({ frames := 4, cells := 0, slots := 0, locals := 91 }) (va_Pc [.ref h0] (hg_PG (dC, dI) sz (tg d1 d2 d3) (gx h0 a1 a2 a3 d1 d2 d3 r tu k hf wf lf))) (va_Qi (fun (v : Int32) (u : Int32 × (Nat → Int32)) => v = hg_b (hg_wn (hg_al r) mis x y z) ∧ hg_tab (hg_al r) u.1 u.2) (fun u t => hg_BG (dC, dI) (va_A (gx h0 a1 a2 a3 d1 d2 d3 r tu k hf wf lf) sz) (tg d1 d2 d3) (gx h0 a1 a2 a3 d1 d2 d3 r tu u.1 hf wf u.2) t) (va_A (gx h0 a1 a2 a3 d1 d2 d3 r tu k hf wf lf) sz)) 0 0 (va_A (gx h0 a1 a2 a3 d1 d2 d3 r tu k hf wf lf) sz) := by
  refine Met.ofW (cc := cX0_first) (maxL := 1) (ret := (some .boolean)) (by decide) rfl ?_
  intro p e s m args below meth c s₁ B hml hv
  obtain ⟨rfl, hsz, hP, hK, hD0⟩ := hv
  have hx := B.exec
  have hb := B.bytes
  have hr := B.returns
  have hts := atoms_spec (ws := (ws_ yX0_first cX0_first 1 (some .boolean))) B.pre
  have hts : ∀ w ∈ lw_all, w.before _ s = true := fun w h => hts w (List.mem_cons_of_mem _ h)
  have hown : s.vm.findClass RX0 = some m.cls := findClass_of_methodNamed B.named
  have hlocks := B.notSynchronized
  subst hsz
  have hD := hD0.self (sz := s.heap.size)
  generalize hAe : va_A (gx h0 a1 a2 a3 d1 d2 d3 r tu k hf wf lf) s.heap.size = A at hD ⊢
  have hA : ∀ q : Nat, s.heap.size ≤ q → A q := fun q h => by rw [← hAe]; exact Or.inr h
  have hS : va_S A s.heap s.heap [] := va_S.rf
  have hP : va_P (dC, dI) hg_cl (gx h0 a1 a2 a3 d1 d2 d3 r tu k hf wf lf) s.heap := hP
  have hl := lv_entry ([.ref h0]) (n := 1) (Nat.le_of_ble_eq_true rfl)
  rw [lg_entry_eq]
  generalize (lg_sl ([.ref h0]) ++ List.replicate (1 - (lg_sl ([.ref h0])).length) Slot.unset).toArray = ls at hl ⊢
  have hl : lv_has ls 1 [(0, .ref h0)] := hl
  refine lv_aload_n hx hb dX0_first_0 rfl (lv_at hl 0 rfl) ?_
  refine lv_aload_n hx hb dX0_first_1 rfl (lv_at hl 0 rfl) ?_
  refine va_get (D := (dC, dI)) (ci := 0) (v := .ref a1) (C := RX0) (T := TX0) (N := 6) hx hb hts in_X0 hown hK hP 0 rfl rfl 2 (by decide) (hts _ q33) (fun _ h9 => h9) rfl dX0_first_2 ?_
  refine lv_iconst (v := nI 0) hx hb dX0_first_5 (by decide) ?_
  refine hg_iald (v := nI x) hx hb hK hP 1 0 rfl rfl (by omega) (hh0) (by decide) dX0_first_6 ?_
  refine lv_aload_n hx hb dX0_first_7 rfl (lv_at hl 0 rfl) ?_
  refine va_get (D := (dC, dI)) (ci := 0) (v := .ref a1) (C := RX0) (T := TX0) (N := 6) hx hb hts in_X0 hown hK hP 0 rfl rfl 2 (by decide) (hts _ q33) (fun _ h9 => h9) rfl dX0_first_8 ?_
  refine lv_iconst (v := nI 1) hx hb dX0_first_11 (by decide) ?_
  refine hg_iald (v := nI y) hx hb hK hP 1 0 rfl rfl (by omega) (hh1) (by decide) dX0_first_12 ?_
  refine lv_aload_n hx hb dX0_first_13 rfl (lv_at hl 0 rfl) ?_
  refine va_get (D := (dC, dI)) (ci := 0) (v := .ref a1) (C := RX0) (T := TX0) (N := 6) hx hb hts in_X0 hown hK hP 0 rfl rfl 2 (by decide) (hts _ q33) (fun _ h9 => h9) rfl dX0_first_14 ?_
  refine lv_iconst (v := nI 2) hx hb dX0_first_17 (by decide) ?_
  refine hg_iald (v := nI z) hx hb hK hP 1 0 rfl rfl (by omega) (hh2) (by decide) dX0_first_18 ?_
  refine hg_cVi (As := [.int (nI x), .int (nI y), .int (nI z)]) (rest := []) (q0 := 0) (ci := 0) (wr := []) ⟨hx, hb, hml, hown, hts⟩ (mt_X0_wins l dC dI h0 a1 a2 a3 d1 d2 d3 _ r tu k hf wf lf mis x y z hx1 hy1 hz1 htu hwo hk) (cwV 3 hts (lw_V q68 q70 qs2 q8 q71) rfl rfl rfl (by decide +kernel) ⟨Nat.le_of_ble_eq_true rfl, Nat.le_of_ble_eq_true rfl⟩) hK hP hD hS hA [0, 1, 2, 3] [] [0, 1, 2] rfl rfl rfl rfl rfl rfl (by decide) rfl rfl rfl rfl hl.1 rfl (Nat.le_of_ble_eq_true rfl) dX0_first_19 ⟨Nat.le_of_ble_eq_true rfl, Nat.le_of_ble_eq_true rfl⟩ (fun v_1 u_ H locs hw1 hP hD hS => ?_)
  obtain ⟨k2, lf2⟩ := u_
  have hP : va_P (dC, dI) hg_cl (gx h0 a1 a2 a3 d1 d2 d3 r tu k2 hf wf lf2) H := hP
  have hD : va_D A (gx h0 a1 a2 a3 d1 d2 d3 r tu k2 hf wf lf2) := hD
  obtain ⟨hv1, hk2⟩ := hw1
  obtain rfl : v_1 = hg_b (hg_wn (hg_al r) mis x y z) := hv1
  exact W.zret (v := (hg_b (hg_wn (hg_al r) mis x y z))) hx hb hr (hg_b_nar _) (fun t_ ht_ hW_ => ⟨⟨(hg_b (hg_wn (hg_al r) mis x y z)), (k2, lf2), rfl, ⟨rfl, hk2⟩, hg_BGi hP hK hD ht_ hW_.alike⟩, hS.F ht_⟩) hS.2.2 dX0_first_22
set_option maxHeartbeats 4000000 in
set_option maxRecDepth 100000 in
/-- HeapGame.good -/
theorem mt_X0_good (l : Launch) (dC : Nat → ClassId) (dI : Nat → Nat → Nat) (h0 a1 a2 a3 : Nat) (d1 d2 d3 : ClassId) (sz : Nat) (r tu k : Int32) (hf wf lf : Nat → Int32) (mis : Bool) (hp : Nat → Nat) (hhf : ∀ i, i < 3 → hf i = nI (hp i) ∧ hp i < 16) (hi tt : Nat) (hhi : hi < 3) (hle : tt ≤ hp hi) (htu : tu = hg_b mis) (hwo : hg_wo (hg_al r) wf) (hk : hg_tab (hg_al r) k lf) : Met l yX0_good (ws_ yX0_good cX0_good 4 (some .boolean)) ({ frames := 5, cells := 0, slots := 0, locals := 111 }) (va_Pc [.ref h0, .int (nI hi), .int (nI tt)] (hg_PG (dC, dI) sz (tg d1 d2 d3) (gx h0 a1 a2 a3 d1 d2 d3 r tu k hf wf lf))) (va_Qi (fun (v : Int32) (u : Int32 × (Nat → Int32)) => v = hg_b (!hg_wn (hg_al r) mis (hg_dn hp hi tt 0) (hg_dn hp hi tt 1) (hg_dn hp hi tt 2)) ∧ hg_tab (hg_al r) u.1 u.2) (fun u t => hg_BG (dC, dI) (va_A (gx h0 a1 a2 a3 d1 d2 d3 r tu k hf wf lf) sz) (tg d1 d2 d3) (gx h0 a1 a2 a3 d1 d2 d3 r tu u.1 hf wf u.2) t) (va_A (gx h0 a1 a2 a3 d1 d2 d3 r tu k hf wf lf) sz)) 0 0 (va_A (gx h0 a1 a2 a3 d1 d2 d3 r tu k hf wf lf) sz) := by
  refine Met.ofW (cc := cX0_good) (maxL := 4) (ret := (some .boolean)) (by decide) rfl ?_
  intro p e s m args below meth c s₁ B hml hv
  obtain ⟨rfl, hsz, hP, hK, hD0⟩ := hv
  have hx := B.exec
  have hb := B.bytes
  have hr := B.returns
  have hts := atoms_spec (ws := (ws_ yX0_good cX0_good 4 (some .boolean))) B.pre
  have hts : ∀ w ∈ lw_all, w.before _ s = true := fun w h => hts w (List.mem_cons_of_mem _ h)
  have hown : s.vm.findClass RX0 = some m.cls := findClass_of_methodNamed B.named
  have hlocks := B.notSynchronized
  subst hsz
  have hD := hD0.self (sz := s.heap.size)
  generalize hAe : va_A (gx h0 a1 a2 a3 d1 d2 d3 r tu k hf wf lf) s.heap.size = A at hD ⊢
  have hA : ∀ q : Nat, s.heap.size ≤ q → A q := fun q h => by rw [← hAe]; exact Or.inr h
  have hS : va_S A s.heap s.heap [] := va_S.rf
  have hP : va_P (dC, dI) hg_cl (gx h0 a1 a2 a3 d1 d2 d3 r tu k hf wf lf) s.heap := hP
  have hl := lv_entry ([.ref h0, .int (nI hi), .int (nI tt)]) (n := 4) (Nat.le_of_ble_eq_true rfl)
  rw [lg_entry_eq]
  generalize (lg_sl ([.ref h0, .int (nI hi), .int (nI tt)]) ++ List.replicate (4 - (lg_sl ([.ref h0, .int (nI hi), .int (nI tt)])).length) Slot.unset).toArray = ls at hl ⊢
  have hl : lv_has ls 4 [(0, .ref h0), (1, .int (nI hi)), (2, .int (nI tt))] := hl
  have hdn : ∀ i, i < 3 → upd hf hi (nI (hp hi - tt)) i = nI (hg_dn hp hi tt i) ∧ hg_dn hp hi tt i < 16 := by
    intro i h3
    have h4 := hhf i h3
    unfold hg_dn
    by_cases q : i = hi
    · subst q
      rw [pk_us, if_pos rfl]
      exact ⟨rfl, by omega⟩
    · rw [pk_un q, if_neg q]
      exact h4
  have hb1 := (hhf hi hhi).2
  refine lv_aload_n hx hb dX0_good_0 rfl (lv_at hl 0 rfl) ?_
  refine va_get (D := (dC, dI)) (ci := 0) (v := .ref a1) (C := RX0) (T := TX0) (N := 6) hx hb hts in_X0 hown hK hP 0 rfl rfl 2 (by decide) (hts _ q33) (fun _ h9 => h9) rfl dX0_good_1 ?_
  refine lv_iload_n hx hb dX0_good_4 rfl (lv_at hl 1 rfl) ?_
  refine lv_dup2_11 hx hb dX0_good_5 rfl rfl ?_
  refine hg_iald (v := nI (hp hi)) hx hb hK hP 1 0 rfl rfl (by omega) ((hhf hi hhi).1) (by decide) dX0_good_6 ?_
  refine lv_iload_n hx hb dX0_good_7 rfl (lv_at hl 2 rfl) ?_
  refine lv_isub hx hb dX0_good_8 (hg_is (y := nI ((hp hi) - tt)) (pk_sub (by omega)) ?_)
  refine hg_iast hx hb hK hP hD hS 1 0 rfl rfl (by omega) (by decide) dX0_good_9 (fun H locs hP hD hS => ?_)
  have hP : va_P (dC, dI) hg_cl (gx h0 a1 a2 a3 d1 d2 d3 r tu k (upd hf hi (nI ((hp hi) - tt))) wf lf) H := hP
  have hD : va_D A (gx h0 a1 a2 a3 d1 d2 d3 r tu k (upd hf hi (nI ((hp hi) - tt))) wf lf) := hD
  refine lv_aload_n hx hb dX0_good_10 rfl (lv_at hl 0 rfl) ?_
  refine hg_cVi (As := []) (rest := []) (q0 := 0) (ci := 0) (wr := []) ⟨hx, hb, hml, hown, hts⟩ (mt_X0_first l dC dI h0 a1 a2 a3 d1 d2 d3 _ r tu k (upd hf hi (nI ((hp hi) - tt))) wf lf mis (hg_dn hp hi tt 0) (hg_dn hp hi tt 1) (hg_dn hp hi tt 2) (hdn 0 (by omega)).2 (hdn 1 (by omega)).2 (hdn 2 (by omega)).2 (hdn 0 (by omega)).1 (hdn 1 (by omega)).1 (hdn 2 (by omega)).1 htu hwo hk) (cwV 0 hts (lw_V q91 q65 q66 q8 q67) rfl rfl rfl (by decide +kernel) ⟨Nat.le_of_ble_eq_true rfl, Nat.le_of_ble_eq_true rfl⟩) hK hP hD hS hA [0, 1, 2, 3] [] [0, 1, 2] rfl rfl rfl rfl rfl rfl (by decide) rfl rfl rfl rfl hl.1 rfl (Nat.le_of_ble_eq_true rfl) dX0_good_11 ⟨Nat.le_of_ble_eq_true rfl, Nat.le_of_ble_eq_true rfl⟩ (fun v_1 u_ H locs hw1 hP hD hS => ?_)
  obtain ⟨k2, lf2⟩ := u_
  have hP : va_P (dC, dI) hg_cl (gx h0 a1 a2 a3 d1 d2 d3 r tu k2 (upd hf hi (nI ((hp hi) - tt))) wf lf2) H := hP
  have hD : va_D A (gx h0 a1 a2 a3 d1 d2 d3 r tu k2 (upd hf hi (nI ((hp hi) - tt))) wf lf2) := hD
  obtain ⟨hv1, hk2⟩ := hw1
  obtain rfl : v_1 = hg_b (hg_wn (hg_al r) mis (hg_dn hp hi tt 0) (hg_dn hp hi tt 1) (hg_dn hp hi tt 2)) := hv1
  have join : ∀ v : Int32, v = hg_b (!hg_wn (hg_al r) mis (hg_dn hp hi tt 0) (hg_dn hp hi tt 1) (hg_dn hp hi tt 2)) → W p l e (headSpec (ws_ yX0_good cX0_good 4 (some .boolean)) ({ frames := 5, cells := 0, slots := 0, locals := 111 })).room s m ([.ref h0, .int (nI hi), .int (nI tt)] : List Value).toArray below meth c H locs 0 0 (MQ below (va_Qi (fun (v : Int32) (u : Int32 × (Nat → Int32)) => v = hg_b (!hg_wn (hg_al r) mis (hg_dn hp hi tt 0) (hg_dn hp hi tt 1) (hg_dn hp hi tt 2)) ∧ hg_tab (hg_al r) u.1 u.2) (fun u t => hg_BG (dC, dI) A (tg d1 d2 d3) (gx h0 a1 a2 a3 d1 d2 d3 r tu u.1 hf wf u.2) t) A) ([.ref h0, .int (nI hi), .int (nI tt)] : List Value).toArray s 0 0 A) (F0 m 22 ls [.int v]) := by
    intro v hv
    subst hv
    refine lv_istore_n (lv' := [(3, .int (hg_b (!hg_wn (hg_al r) mis (hg_dn hp hi tt 0) (hg_dn hp hi tt 1) (hg_dn hp hi tt 2)))), (0, .ref h0), (1, .int (nI hi)), (2, .int (nI tt))]) hx hb dX0_good_22 rfl hl (by decide) rfl (fun ls hl => ?_)
    refine lv_aload_n hx hb dX0_good_23 rfl (lv_at hl 1 rfl) ?_
    refine va_get (D := (dC, dI)) (ci := 0) (v := .ref a1) (C := RX0) (T := TX0) (N := 6) hx hb hts in_X0 hown hK hP 0 rfl rfl 2 (by decide) (hts _ q33) (fun _ h9 => h9) rfl dX0_good_24 ?_
    refine lv_iload_n hx hb dX0_good_27 rfl (lv_at hl 2 rfl) ?_
    refine lv_dup2_11 hx hb dX0_good_28 rfl rfl ?_
    refine hg_iald (v := nI (hp hi - tt)) hx hb hK hP 1 0 rfl rfl (by omega) (pk_us) (by decide) dX0_good_29 ?_
    refine lv_iload_n hx hb dX0_good_30 rfl (lv_at hl 3 rfl) ?_
    refine lv_iadd hx hb dX0_good_31 (hg_is (y := nI ((hp hi - tt) + tt)) (nI_add _ _) ?_)
    refine hg_iast hx hb hK hP hD hS 1 0 rfl rfl (by omega) (by decide) dX0_good_32 (fun H locs hP hD hS => ?_)
    have hP : va_P (dC, dI) hg_cl (gx h0 a1 a2 a3 d1 d2 d3 r tu k2 (upd (upd hf hi (nI ((hp hi) - tt))) hi (nI ((hp hi - tt) + tt))) wf lf2) H := hP
    have hD : va_D A (gx h0 a1 a2 a3 d1 d2 d3 r tu k2 (upd (upd hf hi (nI ((hp hi) - tt))) hi (nI ((hp hi - tt) + tt))) wf lf2) := hD
    have ehf : upd (upd hf hi (nI ((hp hi) - tt))) hi (nI ((hp hi - tt) + tt)) = hf := by
      funext j
      by_cases q : j = hi
      · subst q
        rw [pk_us, (hhf _ hhi).1]
        exact congrArg nI (by omega)
      · rw [pk_un q, pk_un q]
    rw [ehf] at hP hD
    refine lv_iload_n hx hb dX0_good_33 rfl (lv_at hl 0 rfl) ?_
    exact W.zret (v := (hg_b (!hg_wn (hg_al r) mis (hg_dn hp hi tt 0) (hg_dn hp hi tt 1) (hg_dn hp hi tt 2)))) hx hb hr (hg_b_nar _) (fun t_ ht_ hW_ => ⟨⟨(hg_b (!hg_wn (hg_al r) mis (hg_dn hp hi tt 0) (hg_dn hp hi tt 1) (hg_dn hp hi tt 2))), (k2, lf2), rfl, ⟨rfl, hk2⟩, hg_BGi hP hK hD ht_ hW_.alike⟩, hS.F ht_⟩) hS.2.2 dX0_good_34
  refine lv_if_ne (tgt := 21) hx hb dX0_good_14 (by decide) (fun c1 => ?_) (fun c1 => ?_)
  · refine lv_iconst (v := 0) hx hb dX0_good_21 (by decide) ?_
    exact join 0 (by cases q : hg_wn (hg_al r) mis (hg_dn hp hi tt 0) (hg_dn hp hi tt 1) (hg_dn hp hi tt 2) with | true => rfl | false => exact absurd (by rw [q]; rfl) c1)
  · refine lv_iconst (v := 1) hx hb dX0_good_17 (by decide) ?_
    refine lv_goto (tgt := 22) hx hb dX0_good_18 (by decide) ?_
    exact join 1 (by rw [hg_b_eq0.mp c1]; rfl)
end
section
set_option maxHeartbeats 4000000 in
set_option maxRecDepth 100000 in
/-- HeapGame.move -/
theorem mt_X0_move (l : Launch) (dC : Nat → ClassId) (dI : Nat → Nat → Nat) (h0 a1 a2 a3 : Nat) (d1 d2 d3 : ClassId) (sz : Nat) (r tu k : Int32) (hf wf lf : Nat → Int32) (mis : Bool) (hp : Nat → Nat) (hhf : ∀ i, i < 3 → hf i = nI (hp i) ∧ hp i < 16) (htu : tu = hg_b mis) (hwo : hg_wo (hg_al r) wf) (hk : hg_tab (hg_al r) k lf) : Met l yX0_move (ws_ yX0_move cX0_move 3 (some .int)) ({ frames := 6, cells := 0, slots := 0, locals := 134 }) (va_Pc [.ref h0] (hg_PG (dC, dI) sz (tg d1 d2 d3) (gx h0 a1 a2 a3 d1 d2 d3 r tu k hf wf lf))) (va_Qi (fun (v : Int32) (u : Int32 × (Nat → Int32)) => hg_is_mv (hg_al r) mis hp v ∧ hg_tab (hg_al r) u.1 u.2) (fun u t => hg_BG (dC, dI) (va_A (gx h0 a1 a2 a3 d1 d2 d3 r tu k hf wf lf) sz) (tg d1 d2 d3) (gx h0 a1 a2 a3 d1 d2 d3 r tu u.1 hf wf u.2) t) (va_A (gx h0 a1 a2 a3 d1 d2 d3 r tu k hf wf lf) sz)) 0 0 (va_A (gx h0 a1 a2 a3 d1 d2 d3 r tu k hf wf lf) sz) := by
  refine Met.ofW (cc := cX0_move) (maxL := 3) (ret := (some .int)) (by decide) rfl ?_
  intro p e s m args below meth c s₁ B hml hv
  obtain ⟨rfl, hsz, hP, hK, hD0⟩ := hv
  have hx := B.exec
  have hb := B.bytes
  have hr := B.returns
  have hts := atoms_spec (ws := (ws_ yX0_move cX0_move 3 (some .int))) B.pre
  have hts : ∀ w ∈ lw_all, w.before _ s = true := fun w h => hts w (List.mem_cons_of_mem _ h)
  have hown : s.vm.findClass RX0 = some m.cls := findClass_of_methodNamed B.named
  have hlocks := B.notSynchronized
  subst hsz
  have hD := hD0.self (sz := s.heap.size)
  generalize hAe : va_A (gx h0 a1 a2 a3 d1 d2 d3 r tu k hf wf lf) s.heap.size = A at hD ⊢
  have hA : ∀ q : Nat, s.heap.size ≤ q → A q := fun q h => by rw [← hAe]; exact Or.inr h
  have hS : va_S A s.heap s.heap [] := va_S.rf
  have hP : va_P (dC, dI) hg_cl (gx h0 a1 a2 a3 d1 d2 d3 r tu k hf wf lf) s.heap := hP
  have hl := lv_entry ([.ref h0]) (n := 3) (Nat.le_of_ble_eq_true rfl)
  rw [lg_entry_eq]
  generalize (lg_sl ([.ref h0]) ++ List.replicate (3 - (lg_sl ([.ref h0])).length) Slot.unset).toArray = ls at hl ⊢
  have hl : lv_has ls 3 [(0, .ref h0)] := hl
  have loop : ∀ (N hi : Nat) (k : Int32) (lf : Nat → Int32), hi + N = 3 → hg_tab (hg_al r) k lf → (∀ h t, h < hi → hg_gd (hg_al r) mis hp h t = false) → ∀ (H : Heap) (locs : List Loc), va_P (dC, dI) hg_cl (gx h0 a1 a2 a3 d1 d2 d3 r tu k hf wf lf) H → va_D A (gx h0 a1 a2 a3 d1 d2 d3 r tu k hf wf lf) → va_S A s.heap H locs → ∀ ls, lv_has ls 3 [(0, .ref h0), (1, .int (nI hi))] → W p l e (headSpec (ws_ yX0_move cX0_move 3 (some .int)) ({ frames := 6, cells := 0, slots := 0, locals := 134 })).room s m ([.ref h0] : List Value).toArray below meth c H locs 0 0 (MQ below (va_Qi (fun (v : Int32) (u : Int32 × (Nat → Int32)) => hg_is_mv (hg_al r) mis hp v ∧ hg_tab (hg_al r) u.1 u.2) (fun u t => hg_BG (dC, dI) A (tg d1 d2 d3) (gx h0 a1 a2 a3 d1 d2 d3 r tu u.1 hf wf u.2) t) A) ([.ref h0] : List Value).toArray s 0 0 A) (F0 m 2 ls []) := by
    intro N
    induction N with
    | zero =>
      intro hi k lf hN hk hno H locs hP hD hS ls hl
      refine lv_iload_n hx hb dX0_move_2 rfl (lv_at hl 1 rfl) ?_
      refine lv_iconst (v := nI 3) hx hb dX0_move_3 (by decide) ?_
      refine lv_icmp_ge (tgt := 55) hx hb dX0_move_4 (by decide) (fun c_ => ?_) (fun c_ => absurd ((nI_leI (by omega) (by omega)).mpr (by omega)) c_)
      refine lv_iconst (v := (-1)) hx hb dX0_move_55 (by decide) ?_
      exact W.iret (v := (-1)) hx hb hr (fun t_ ht_ hW_ => ⟨⟨(-1), (k, lf), rfl, ⟨Or.inl ⟨rfl, fun h t h3 => hno h t (by omega)⟩, hk⟩, hg_BGi hP hK hD ht_ hW_.alike⟩, hS.F ht_⟩) hS.2.2 dX0_move_56
    | succ N ih =>
      intro hi k lf hN hk hno H locs hP hD hS ls hl
      have hb1 := (hhf hi (by omega)).2
      refine lv_iload_n hx hb dX0_move_2 rfl (lv_at hl 1 rfl) ?_
      refine lv_iconst (v := nI 3) hx hb dX0_move_3 (by decide) ?_
      refine lv_icmp_ge (tgt := 55) hx hb dX0_move_4 (by decide) (fun c_ => absurd c_ (fun z => absurd ((nI_leI (by omega) (by omega)).mp z) (by omega))) (fun c_ => ?_)
      refine lv_iconst (v := nI 1) hx hb dX0_move_7 (by decide) ?_
      refine lv_istore_n (lv' := [(2, .int (nI 1)), (0, .ref h0), (1, .int (nI hi))]) hx hb dX0_move_8 rfl hl (by decide) rfl (fun ls hl => ?_)
      have inner : ∀ (N2 t : Nat) (k : Int32) (lf : Nat → Int32), t + N2 = hp hi + 1 → 1 ≤ t → hg_tab (hg_al r) k lf → (∀ u, u < t → hg_gd (hg_al r) mis hp hi u = false) → ∀ (H : Heap) (locs : List Loc), va_P (dC, dI) hg_cl (gx h0 a1 a2 a3 d1 d2 d3 r tu k hf wf lf) H → va_D A (gx h0 a1 a2 a3 d1 d2 d3 r tu k hf wf lf) → va_S A s.heap H locs → ∀ ls, lv_has ls 3 [(0, .ref h0), (1, .int (nI hi)), (2, .int (nI t))] → W p l e (headSpec (ws_ yX0_move cX0_move 3 (some .int)) ({ frames := 6, cells := 0, slots := 0, locals := 134 })).room s m ([.ref h0] : List Value).toArray below meth c H locs 0 0 (MQ below (va_Qi (fun (v : Int32) (u : Int32 × (Nat → Int32)) => hg_is_mv (hg_al r) mis hp v ∧ hg_tab (hg_al r) u.1 u.2) (fun u t => hg_BG (dC, dI) A (tg d1 d2 d3) (gx h0 a1 a2 a3 d1 d2 d3 r tu u.1 hf wf u.2) t) A) ([.ref h0] : List Value).toArray s 0 0 A) (F0 m 9 ls []) := by
        intro N2
        induction N2 with
        | zero =>
          intro t k lf hN2 h1 hk hnt H locs hP hD hS ls hl
          refine lv_iload_n hx hb dX0_move_9 rfl (lv_at hl 2 rfl) ?_
          refine lv_aload_n hx hb dX0_move_10 rfl (lv_at hl 0 rfl) ?_
          refine va_get (D := (dC, dI)) (ci := 0) (v := .ref a1) (C := RX0) (T := TX0) (N := 6) hx hb hts in_X0 hown hK hP 0 rfl rfl 2 (by decide) (hts _ q33) (fun _ h9 => h9) rfl dX0_move_11 ?_
          refine lv_iload_n hx hb dX0_move_14 rfl (lv_at hl 1 rfl) ?_
          refine hg_iald (v := nI (hp hi)) hx hb hK hP 1 0 rfl rfl (by omega) ((hhf hi (by omega)).1) (by decide) dX0_move_15 ?_
          refine lv_icmp_gt (tgt := 49) hx hb dX0_move_16 (by decide) (fun c_ => ?_) (fun c_ => absurd ((nI_ltI (by omega) (by omega)).mpr (by omega)) c_)
          refine lv_iinc (v := nI (hi + 1)) (lv' := [(1, .int (nI (hi + 1))), (0, .ref h0), (2, .int (nI t))]) hx hb dX0_move_49 hl (k := 1) rfl (nI_add _ 1) (by decide) rfl (fun ls hl => ?_)
          refine lv_goto (tgt := 2) hx hb dX0_move_52 (by decide) ?_
          refine ih (hi + 1) k lf (by omega) hk (fun h u hu => ?_) H locs hP hD hS ls (lv_sub hl [1, 0] rfl)
          by_cases q : h = hi
          · subst q
            by_cases q2 : u < t
            · exact hnt u q2
            · have q3 : ¬ u ≤ hp h := by omega
              simp [hg_gd, q3]
          · exact hno h u (by omega)
        | succ N2 ih2 =>
          intro t k lf hN2 h1 hk hnt H locs hP hD hS ls hl
          refine lv_iload_n hx hb dX0_move_9 rfl (lv_at hl 2 rfl) ?_
          refine lv_aload_n hx hb dX0_move_10 rfl (lv_at hl 0 rfl) ?_
          refine va_get (D := (dC, dI)) (ci := 0) (v := .ref a1) (C := RX0) (T := TX0) (N := 6) hx hb hts in_X0 hown hK hP 0 rfl rfl 2 (by decide) (hts _ q33) (fun _ h9 => h9) rfl dX0_move_11 ?_
          refine lv_iload_n hx hb dX0_move_14 rfl (lv_at hl 1 rfl) ?_
          refine hg_iald (v := nI (hp hi)) hx hb hK hP 1 0 rfl rfl (by omega) ((hhf hi (by omega)).1) (by decide) dX0_move_15 ?_
          refine lv_icmp_gt (tgt := 49) hx hb dX0_move_16 (by decide) (fun c_ => absurd c_ (fun z => absurd ((nI_ltI (by omega) (by omega)).mp z) (by omega))) (fun c_ => ?_)
          refine lv_aload_n hx hb dX0_move_19 rfl (lv_at hl 0 rfl) ?_
          refine lv_iload_n hx hb dX0_move_20 rfl (lv_at hl 2 rfl) ?_
          refine hg_cVi (As := [.int (nI t)]) (rest := []) (q0 := 0) (ci := 0) (wr := []) ⟨hx, hb, hml, hown, hts⟩ (mt_X0_allowed l dC dI h0 a1 a2 a3 d1 d2 d3 _ r tu k hf wf lf t (by omega)) (cwV 1 hts (lw_V q23 q25 qs1 q8 q26) rfl rfl rfl (by decide +kernel) ⟨Nat.le_of_ble_eq_true rfl, Nat.le_of_ble_eq_true rfl⟩) hK hP hD hS hA [0, 1, 2, 3] [] [0, 1, 2] rfl rfl rfl rfl rfl rfl (by decide) rfl rfl rfl rfl hl.1 rfl (Nat.le_of_ble_eq_true rfl) dX0_move_21 ⟨Nat.le_of_ble_eq_true rfl, Nat.le_of_ble_eq_true rfl⟩ (fun v_1 u_ H locs hw1 hP hD hS => ?_)
          have hP : va_P (dC, dI) hg_cl (gx h0 a1 a2 a3 d1 d2 d3 r tu k hf wf lf) H := hP
          have hD : va_D A (gx h0 a1 a2 a3 d1 d2 d3 r tu k hf wf lf) := hD
          obtain rfl : v_1 = hg_b (hg_al r t) := hw1
          refine lv_if_eq (tgt := 43) hx hb dX0_move_24 (by decide) (fun c1 => ?_) (fun c1 => ?_)
          · have c1 := hg_b_eq0.mp c1
            refine lv_iinc (v := nI (t + 1)) (lv' := [(2, .int (nI (t + 1))), (0, .ref h0), (1, .int (nI hi))]) hx hb dX0_move_43 hl (k := 2) rfl (nI_add _ 1) (by decide) rfl (fun ls hl => ?_)
            refine lv_goto (tgt := 9) hx hb dX0_move_46 (by decide) ?_
            refine ih2 (t + 1) k lf (by omega) (by omega) hk (fun u hu => ?_) H locs hP hD hS ls (lv_sub hl [1, 2, 0] rfl)
            by_cases q : u = t
            · subst q
              simp [hg_gd, c1]
            · exact hnt u (by omega)
          · have c1 : hg_al r t = true := by cases q : hg_al r t with | true => rfl | false => exact absurd (hg_b_eq0.mpr q) c1
            refine lv_aload_n hx hb dX0_move_27 rfl (lv_at hl 0 rfl) ?_
            refine lv_iload_n hx hb dX0_move_28 rfl (lv_at hl 1 rfl) ?_
            refine lv_iload_n hx hb dX0_move_29 rfl (lv_at hl 2 rfl) ?_
            refine hg_cVi (As := [.int (nI hi), .int (nI t)]) (rest := []) (q0 := 0) (ci := 0) (wr := []) ⟨hx, hb, hml, hown, hts⟩ (mt_X0_good l dC dI h0 a1 a2 a3 d1 d2 d3 _ r tu k hf wf lf mis hp hhf hi t (by omega) (by omega) htu hwo hk) (cwV 2 hts (lw_V q87 q89 qs5 q8 q90) rfl rfl rfl (by decide +kernel) ⟨Nat.le_of_ble_eq_true rfl, Nat.le_of_ble_eq_true rfl⟩) hK hP hD hS hA [0, 1, 2, 3] [] [0, 1, 2] rfl rfl rfl rfl rfl rfl (by decide) rfl rfl rfl rfl hl.1 rfl (Nat.le_of_ble_eq_true rfl) dX0_move_30 ⟨Nat.le_of_ble_eq_true rfl, Nat.le_of_ble_eq_true rfl⟩ (fun v_2 u_ H locs hw1 hP hD hS => ?_)
            obtain ⟨k2, lf2⟩ := u_
            have hP : va_P (dC, dI) hg_cl (gx h0 a1 a2 a3 d1 d2 d3 r tu k2 hf wf lf2) H := hP
            have hD : va_D A (gx h0 a1 a2 a3 d1 d2 d3 r tu k2 hf wf lf2) := hD
            obtain ⟨hv1, hk2⟩ := hw1
            have hk2 : hg_tab (hg_al r) k2 lf2 := hk2
            obtain rfl : v_2 = hg_b (!hg_wn (hg_al r) mis (hg_dn hp hi t 0) (hg_dn hp hi t 1) (hg_dn hp hi t 2)) := hv1
            refine lv_if_eq (tgt := 43) hx hb dX0_move_33 (by decide) (fun c2 => ?_) (fun c2 => ?_)
            · have c2 := hg_b_eq0.mp c2
              refine lv_iinc (v := nI (t + 1)) (lv' := [(2, .int (nI (t + 1))), (0, .ref h0), (1, .int (nI hi))]) hx hb dX0_move_43 hl (k := 2) rfl (nI_add _ 1) (by decide) rfl (fun ls hl => ?_)
              refine lv_goto (tgt := 9) hx hb dX0_move_46 (by decide) ?_
              refine ih2 (t + 1) k2 lf2 (by omega) (by omega) hk2 (fun u hu => ?_) H locs hP hD hS ls (lv_sub hl [1, 2, 0] rfl)
              by_cases q : u = t
              · subst q
                simp only [hg_gd, c2, Bool.and_false]
              · exact hnt u (by omega)
            · have c2 : (!hg_wn (hg_al r) mis (hg_dn hp hi t 0) (hg_dn hp hi t 1) (hg_dn hp hi t 2)) = true := by cases q : (!hg_wn (hg_al r) mis (hg_dn hp hi t 0) (hg_dn hp hi t 1) (hg_dn hp hi t 2)) with | true => rfl | false => exact absurd (hg_b_eq0.mpr q) c2
              refine lv_bipush (v := nI 16) hx hb dX0_move_36 (by decide) ?_
              refine lv_iload_n hx hb dX0_move_38 rfl (lv_at hl 1 rfl) ?_
              refine lv_imul hx hb dX0_move_39 (hg_is (y := nI (16 * hi)) (pk_mul _ _) ?_)
              refine lv_iload_n hx hb dX0_move_40 rfl (lv_at hl 2 rfl) ?_
              refine lv_iadd hx hb dX0_move_41 (hg_is (y := nI ((16 * hi) + t)) (nI_add _ _) ?_)
              exact W.iret (v := (nI ((16 * hi) + t))) hx hb hr (fun t_ ht_ hW_ => ⟨⟨(nI ((16 * hi) + t)), (k2, lf2), rfl, ⟨Or.inr ⟨hi, t, by omega, by omega, rfl, by simp only [hg_gd, c1, c2, Bool.and_true, Bool.true_and]; exact decide_eq_true (by omega), hno, hnt⟩, hk2⟩, hg_BGi hP hK hD ht_ hW_.alike⟩, hS.F ht_⟩) hS.2.2 dX0_move_42
      exact inner (hp hi) 1 k lf (by omega) (by omega) hk (fun u hu => by have e : u = 0 := (by omega); rw [e]; simp [hg_gd, hg_al_0]) H locs hP hD hS ls (lv_sub hl [1, 2, 0] rfl)
  refine lv_iconst (v := nI 0) hx hb dX0_move_0 (by decide) ?_
  refine lv_istore_n (lv' := [(1, .int (nI 0)), (0, .ref h0)]) hx hb dX0_move_1 rfl hl (by decide) rfl (fun ls hl => ?_)
  exact loop 3 0 k lf (by omega) hk (fun h t hh => absurd hh (Nat.not_lt_zero h)) _ _ hP hD hS ls (lv_sub hl [1, 0] rfl)
end
section
/-- the low 31 bits of an int -/
def hg_lo (p : Int32) : Nat := p.toBitVec.toNat % 2 ^ 31
theorem hg_lo_lt (p : Int32) : hg_lo p < 2 ^ 31 := Nat.mod_lt _ (by decide)
theorem hg_lo_and (p : Int32) : p &&& 2147483647 = nI (hg_lo p) := pk_and p 31 (by decide)
def hg_fr (p : Int32) : Nat := hg_lo p % 3
def hg_mn (q : Int32) : Nat := 1 + hg_lo q % 14
def hg_tk (al : Nat → Bool) (hp : Nat → Nat) (p q : Int32) : Bool := al (hg_mn q) && decide (hg_mn q ≤ hp (hg_fr p))
def hg_tkh (al : Nat → Bool) (hp : Nat → Nat) (p q : Int32) : Nat → Nat := if hg_tk al hp p q = true then hg_dn hp (hg_fr p) (hg_mn q) else hp
theorem hg_fr_lt (p : Int32) : hg_fr p < 3 := Nat.mod_lt _ (by decide)
theorem hg_mn_lt (q : Int32) : 1 ≤ hg_mn q ∧ hg_mn q ≤ 14 := by
  have h : hg_lo q % 14 < 14 := Nat.mod_lt _ (by decide)
  unfold hg_mn
  omega
theorem hg_dn_upd {hf : Nat → Int32} {hp : Nat → Nat} (hhf : ∀ i, i < 3 → hf i = nI (hp i) ∧ hp i < 16) (hi tt : Nat) (hhi : hi < 3) : ∀ i, i < 3 → upd hf hi (nI (hp hi - tt)) i = nI (hg_dn hp hi tt i) ∧ hg_dn hp hi tt i < 16 := by
  intro i h3
  have h4 := hhf i h3
  unfold hg_dn
  by_cases q : i = hi
  · subst q
    rw [pk_us, if_pos rfl]
    exact ⟨rfl, by omega⟩
  · rw [pk_un q, if_neg q]
    exact h4
def hg_15 (p : Int32) : Nat := p.toBitVec.toNat % 2 ^ 4
theorem hg_15_lt (p : Int32) : hg_15 p < 16 := Nat.mod_lt _ (by decide)
def hg_hs (p q o : Int32) : Nat → Nat := fun i => if i = 0 then hg_15 p else if i = 1 then hg_15 q else hg_15 o
theorem hg_hs_upd (hf : Nat → Int32) (p q o : Int32) : ∀ i, i < 3 → upd (upd (upd hf 0 (nI (hg_15 p))) 1 (nI (hg_15 q))) 2 (nI (hg_15 o)) i = nI (hg_hs p q o i) ∧ hg_hs p q o i < 16 := by
  intro i hi
  have a := hg_15_lt p
  have b := hg_15_lt q
  have c := hg_15_lt o
  rcases (show i = 0 ∨ i = 1 ∨ i = 2 by omega) with rfl | rfl | rfl
  · exact ⟨rfl, a⟩
  · exact ⟨rfl, b⟩
  · exact ⟨rfl, c⟩
def hg_odd (p : Int32) : Bool := decide (p &&& 1 = 1)
theorem hg_odd_0 (p : Int32) : p &&& 1 = 0 ↔ hg_odd p = false := by
  obtain ⟨j, hj, e⟩ := pk_andE p (m := 1) 1 (by decide)
  unfold hg_odd
  rw [e]
  rcases (show j = 0 ∨ j = 1 by omega) with rfl | rfl <;> decide
set_option maxHeartbeats 4000000 in
set_option maxRecDepth 100000 in
/-- HeapGame.take -/
theorem mt_X0_take (l : Launch) (dC : Nat → ClassId) (dI : Nat → Nat → Nat) (h0 a1 a2 a3 : Nat) (d1 d2 d3 : ClassId) (sz : Nat) (r tu k : Int32) (hf wf lf : Nat → Int32) (hp : Nat → Nat) (hhf : ∀ i, i < 3 → hf i = nI (hp i) ∧ hp i < 16) (x y : Int32) : Met l yX0_take (ws_ yX0_take cX0_take 5 (some .boolean)) ({ frames := 1, cells := 0, slots := 0, locals := 21 }) (va_Pc [.ref h0, .int x, .int y] (hg_PG (dC, dI) sz (tg d1 d2 d3) (gx h0 a1 a2 a3 d1 d2 d3 r tu k hf wf lf))) (va_Qi (fun (v : Int32) (u : Nat → Int32) => v = hg_b (hg_tk (hg_al r) hp x y) ∧ ∀ i, i < 3 → u i = nI (hg_tkh (hg_al r) hp x y i) ∧ hg_tkh (hg_al r) hp x y i < 16) (fun u t => hg_BG (dC, dI) (va_A (gx h0 a1 a2 a3 d1 d2 d3 r tu k hf wf lf) sz) (tg d1 d2 d3) (gx h0 a1 a2 a3 d1 d2 d3 r tu k u wf lf) t) (va_A (gx h0 a1 a2 a3 d1 d2 d3 r tu k hf wf lf) sz)) 0 0 (va_A (gx h0 a1 a2 a3 d1 d2 d3 r tu k hf wf lf) sz) := by
  refine Met.ofW (cc := cX0_take) (maxL := 5) (ret := (some .boolean)) (by decide) rfl ?_
  intro p e s m args below meth c s₁ B hml hv
  obtain ⟨rfl, hsz, hP, hK, hD0⟩ := hv
  have hx := B.exec
  have hb := B.bytes
  have hr := B.returns
  have hts := atoms_spec (ws := (ws_ yX0_take cX0_take 5 (some .boolean))) B.pre
  have hts : ∀ w ∈ lw_all, w.before _ s = true := fun w h => hts w (List.mem_cons_of_mem _ h)
  have hown : s.vm.findClass RX0 = some m.cls := findClass_of_methodNamed B.named
  have hlocks := B.notSynchronized
  subst hsz
  have hD := hD0.self (sz := s.heap.size)
  generalize hAe : va_A (gx h0 a1 a2 a3 d1 d2 d3 r tu k hf wf lf) s.heap.size = A at hD ⊢
  have hA : ∀ q : Nat, s.heap.size ≤ q → A q := fun q h => by rw [← hAe]; exact Or.inr h
  have hS : va_S A s.heap s.heap [] := va_S.rf
  have hP : va_P (dC, dI) hg_cl (gx h0 a1 a2 a3 d1 d2 d3 r tu k hf wf lf) s.heap := hP
  have hl := lv_entry ([.ref h0, .int x, .int y]) (n := 5) (Nat.le_of_ble_eq_true rfl)
  rw [lg_entry_eq]
  generalize (lg_sl ([.ref h0, .int x, .int y]) ++ List.replicate (5 - (lg_sl ([.ref h0, .int x, .int y])).length) Slot.unset).toArray = ls at hl ⊢
  have hl : lv_has ls 5 [(0, .ref h0), (1, .int x), (2, .int y)] := hl
  have hlx := hg_lo_lt x
  have hly := hg_lo_lt y
  have hfr := hg_fr_lt x
  have hmn := hg_mn_lt y
  have hb1 := (hhf (hg_fr x) hfr).2
  refine lv_iload_n hx hb dX0_take_0 rfl (lv_at hl 1 rfl) ?_
  refine lv_ldc (own := RX0) hx hb hown (hts _ q96) dX0_take_1 ?_
  refine lv_iand hx hb dX0_take_3 (hg_is (y := nI (hg_lo x)) (hg_lo_and x) ?_)
  refine lv_iconst (v := nI 3) hx hb dX0_take_4 (by decide) ?_
  refine lv_irem hx hb dX0_take_5 (by decide) (hg_is (y := nI (hg_fr x)) (pk_rem (by omega) (by omega) (by omega)) ?_)
  refine lv_istore_n (lv' := [(3, .int (nI (hg_fr x))), (0, .ref h0), (1, .int x), (2, .int y)]) hx hb dX0_take_6 rfl hl (by decide) rfl (fun ls hl => ?_)
  refine lv_iconst (v := nI 1) hx hb dX0_take_7 (by decide) ?_
  refine lv_iload_n hx hb dX0_take_8 rfl (lv_at hl 3 rfl) ?_
  refine lv_ldc (own := RX0) hx hb hown (hts _ q96) dX0_take_9 ?_
  refine lv_iand hx hb dX0_take_11 (hg_is (y := nI (hg_lo y)) (hg_lo_and y) ?_)
  refine lv_bipush (v := nI 14) hx hb dX0_take_12 (by decide) ?_
  refine lv_irem hx hb dX0_take_14 (by decide) (hg_is (y := nI ((hg_lo y) % 14)) (pk_rem (by omega) (by omega) (by omega)) ?_)
  refine lv_iadd hx hb dX0_take_15 (hg_is (y := nI (hg_mn y)) (nI_add _ _) ?_)
  refine lv_istore (lv' := [(4, .int (nI (hg_mn y))), (3, .int (nI (hg_fr x))), (0, .ref h0), (1, .int x), (2, .int y)]) hx hb dX0_take_16 hl (by decide) rfl (fun ls hl => ?_)
  refine lv_aload_n hx hb dX0_take_18 rfl (lv_at hl 2 rfl) ?_
  refine lv_iload hx hb dX0_take_19 (lv_at hl 0 rfl) ?_
  refine hg_cVi (As := [.int (nI (hg_mn y))]) (rest := []) (q0 := 0) (ci := 0) (wr := []) ⟨hx, hb, hml, hown, hts⟩ (mt_X0_allowed l dC dI h0 a1 a2 a3 d1 d2 d3 _ r tu k hf wf lf (hg_mn y) (by omega)) (cwV 1 hts (lw_V q23 q25 qs1 q8 q26) rfl rfl rfl (by decide +kernel) ⟨Nat.le_of_ble_eq_true rfl, Nat.le_of_ble_eq_true rfl⟩) hK hP hD hS hA [0, 1, 2, 3] [] [0, 1, 2] rfl rfl rfl rfl rfl rfl (by decide) rfl rfl rfl rfl hl.1 rfl (Nat.le_of_ble_eq_true rfl) dX0_take_21 ⟨Nat.le_of_ble_eq_true rfl, Nat.le_of_ble_eq_true rfl⟩ (fun v_1 u_ H locs hw1 hP hD hS => ?_)
  have hP : va_P (dC, dI) hg_cl (gx h0 a1 a2 a3 d1 d2 d3 r tu k hf wf lf) H := hP
  have hD : va_D A (gx h0 a1 a2 a3 d1 d2 d3 r tu k hf wf lf) := hD
  obtain rfl : v_1 = hg_b (hg_al r (hg_mn y)) := hw1
  refine lv_if_eq (tgt := 38) hx hb dX0_take_24 (by decide) (fun c1 => ?_) (fun c1 => ?_)
  · have c1 := hg_b_eq0.mp c1
    refine lv_iconst (v := 0) hx hb dX0_take_38 (by decide) ?_
    have e : hg_tk (hg_al r) hp x y = false := by simp [hg_tk, c1]
    exact W.zret (v := 0) hx hb hr (rfl) (fun t_ ht_ hW_ => ⟨⟨0, hf, rfl, ⟨by rw [e]; rfl, fun i hi => by unfold hg_tkh; rw [e]; exact hhf i hi⟩, hg_BGi hP hK hD ht_ hW_.alike⟩, hS.F ht_⟩) hS.2.2 dX0_take_39
  · have c1 : hg_al r (hg_mn y) = true := by cases q : hg_al r (hg_mn y) with | true => rfl | false => exact absurd (hg_b_eq0.mpr q) c1
    refine lv_aload_n hx hb dX0_take_27 rfl (lv_at hl 2 rfl) ?_
    refine va_get (D := (dC, dI)) (ci := 0) (v := .ref a1) (C := RX0) (T := TX0) (N := 6) hx hb hts in_X0 hown hK hP 0 rfl rfl 2 (by decide) (hts _ q33) (fun _ h9 => h9) rfl dX0_take_28 ?_
    refine lv_iload_n hx hb dX0_take_31 rfl (lv_at hl 1 rfl) ?_
    refine hg_iald (v := nI (hp (hg_fr x))) hx hb hK hP 1 0 rfl rfl (by omega) ((hhf _ hfr).1) (by decide) dX0_take_32 ?_
    refine lv_iload hx hb dX0_take_33 (lv_at hl 0 rfl) ?_
    refine lv_icmp_ge (tgt := 40) hx hb dX0_take_35 (by decide) (fun c2 => ?_) (fun c2 => ?_)
    · have c2 := (nI_leI (by omega) (by omega)).mp c2
      refine lv_aload_n hx hb dX0_take_40 rfl (lv_at hl 2 rfl) ?_
      refine va_get (D := (dC, dI)) (ci := 0) (v := .ref a1) (C := RX0) (T := TX0) (N := 6) hx hb hts in_X0 hown hK hP 0 rfl rfl 2 (by decide) (hts _ q33) (fun _ h9 => h9) rfl dX0_take_41 ?_
      refine lv_iload_n hx hb dX0_take_44 rfl (lv_at hl 1 rfl) ?_
      refine lv_dup2_11 hx hb dX0_take_45 rfl rfl ?_
      refine hg_iald (v := nI (hp (hg_fr x))) hx hb hK hP 1 0 rfl rfl (by omega) ((hhf _ hfr).1) (by decide) dX0_take_46 ?_
      refine lv_iload hx hb dX0_take_47 (lv_at hl 0 rfl) ?_
      refine lv_isub hx hb dX0_take_49 (hg_is (y := nI ((hp (hg_fr x)) - (hg_mn y))) (pk_sub (by omega)) ?_)
      refine hg_iast hx hb hK hP hD hS 1 0 rfl rfl (by omega) (by decide) dX0_take_50 (fun H locs hP hD hS => ?_)
      have hP : va_P (dC, dI) hg_cl (gx h0 a1 a2 a3 d1 d2 d3 r tu k (upd hf (hg_fr x) (nI ((hp (hg_fr x)) - (hg_mn y)))) wf lf) H := hP
      have hD : va_D A (gx h0 a1 a2 a3 d1 d2 d3 r tu k (upd hf (hg_fr x) (nI ((hp (hg_fr x)) - (hg_mn y)))) wf lf) := hD
      refine lv_iconst (v := 1) hx hb dX0_take_51 (by decide) ?_
      have e : hg_tk (hg_al r) hp x y = true := by simp [hg_tk, c1, c2]
      exact W.zret (v := 1) hx hb hr (rfl) (fun t_ ht_ hW_ => ⟨⟨1, upd hf (hg_fr x) (nI ((hp (hg_fr x)) - (hg_mn y))), rfl, ⟨by rw [e]; rfl, fun i hi => by unfold hg_tkh; rw [e]; exact hg_dn_upd hhf _ _ hfr i hi⟩, hg_BGi hP hK hD ht_ hW_.alike⟩, hS.F ht_⟩) hS.2.2 dX0_take_52
    · have c2 : ¬ hg_mn y ≤ hp (hg_fr x) := fun z => c2 ((nI_leI (by omega) (by omega)).mpr z)
      refine lv_iconst (v := 0) hx hb dX0_take_38 (by decide) ?_
      have e : hg_tk (hg_al r) hp x y = false := by simp [hg_tk, c2]
      exact W.zret (v := 0) hx hb hr (rfl) (fun t_ ht_ hW_ => ⟨⟨0, hf, rfl, ⟨by rw [e]; rfl, fun i hi => by unfold hg_tkh; rw [e]; exact hhf i hi⟩, hg_BGi hP hK hD ht_ hW_.alike⟩, hS.F ht_⟩) hS.2.2 dX0_take_39
set_option maxHeartbeats 4000000 in
set_option maxRecDepth 100000 in
/-- HeapGame.heap -/
theorem mt_X0_heap (l : Launch) (dC : Nat → ClassId) (dI : Nat → Nat → Nat) (h0 a1 a2 a3 : Nat) (d1 d2 d3 : ClassId) (sz : Nat) (r tu k : Int32) (hf wf lf : Nat → Int32) (hp : Nat → Nat) (hhf : ∀ i, i < 3 → hf i = nI (hp i) ∧ hp i < 16) (x : Int32) : Met l yX0_heap (ws_ yX0_heap cX0_heap 2 (some .int)) ({ frames := 0, cells := 0, slots := 0, locals := 0 }) (va_Pc [.ref h0, .int x] (hg_PG (dC, dI) sz (tg d1 d2 d3) (gx h0 a1 a2 a3 d1 d2 d3 r tu k hf wf lf))) (va_Qi (fun (v : Int32) (_ : Unit) => v = nI (hp (hg_fr x))) (fun u t => hg_BG (dC, dI) (va_A (gx h0 a1 a2 a3 d1 d2 d3 r tu k hf wf lf) sz) (tg d1 d2 d3) (gx h0 a1 a2 a3 d1 d2 d3 r tu k hf wf lf) t) (va_A (gx h0 a1 a2 a3 d1 d2 d3 r tu k hf wf lf) sz)) 0 0 (va_A (gx h0 a1 a2 a3 d1 d2 d3 r tu k hf wf lf) sz) := by
  refine Met.ofW (cc := cX0_heap) (maxL := 2) (ret := (some .int)) (by decide) rfl ?_
  intro p e s m args below meth c s₁ B hml hv
  obtain ⟨rfl, hsz, hP, hK, hD0⟩ := hv
  have hx := B.exec
  have hb := B.bytes
  have hr := B.returns
  have hts := atoms_spec (ws := (ws_ yX0_heap cX0_heap 2 (some .int))) B.pre
  have hts : ∀ w ∈ lw_all, w.before _ s = true := fun w h => hts w (List.mem_cons_of_mem _ h)
  have hown : s.vm.findClass RX0 = some m.cls := findClass_of_methodNamed B.named
  have hlocks := B.notSynchronized
  subst hsz
  have hD := hD0.self (sz := s.heap.size)
  generalize hAe : va_A (gx h0 a1 a2 a3 d1 d2 d3 r tu k hf wf lf) s.heap.size = A at hD ⊢
  have hA : ∀ q : Nat, s.heap.size ≤ q → A q := fun q h => by rw [← hAe]; exact Or.inr h
  have hS : va_S A s.heap s.heap [] := va_S.rf
  have hP : va_P (dC, dI) hg_cl (gx h0 a1 a2 a3 d1 d2 d3 r tu k hf wf lf) s.heap := hP
  have hl := lv_entry ([.ref h0, .int x]) (n := 2) (Nat.le_of_ble_eq_true rfl)
  rw [lg_entry_eq]
  generalize (lg_sl ([.ref h0, .int x]) ++ List.replicate (2 - (lg_sl ([.ref h0, .int x])).length) Slot.unset).toArray = ls at hl ⊢
  have hl : lv_has ls 2 [(0, .ref h0), (1, .int x)] := hl
  have hlx := hg_lo_lt x
  have hfr := hg_fr_lt x
  refine lv_aload_n hx hb dX0_heap_0 rfl (lv_at hl 0 rfl) ?_
  refine va_get (D := (dC, dI)) (ci := 0) (v := .ref a1) (C := RX0) (T := TX0) (N := 6) hx hb hts in_X0 hown hK hP 0 rfl rfl 2 (by decide) (hts _ q33) (fun _ h9 => h9) rfl dX0_heap_1 ?_
  refine lv_iload_n hx hb dX0_heap_4 rfl (lv_at hl 1 rfl) ?_
  refine lv_ldc (own := RX0) hx hb hown (hts _ q96) dX0_heap_5 ?_
  refine lv_iand hx hb dX0_heap_7 (hg_is (y := nI (hg_lo x)) (hg_lo_and x) ?_)
  refine lv_iconst (v := nI 3) hx hb dX0_heap_8 (by decide) ?_
  refine lv_irem hx hb dX0_heap_9 (by decide) (hg_is (y := nI (hg_fr x)) (pk_rem (by omega) (by omega) (by omega)) ?_)
  refine hg_iald (v := nI (hp (hg_fr x))) hx hb hK hP 1 0 rfl rfl (by omega) ((hhf _ hfr).1) (by decide) dX0_heap_10 ?_
  exact W.iret (v := (nI (hp (hg_fr x)))) hx hb hr (fun t_ ht_ hW_ => ⟨⟨(nI (hp (hg_fr x))), (), rfl, rfl, hg_BGi hP hK hD ht_ hW_.alike⟩, hS.F ht_⟩) hS.2.2 dX0_heap_11
set_option maxHeartbeats 4000000 in
set_option maxRecDepth 100000 in
/-- HeapGame.rules -/
theorem mt_X0_rules (l : Launch) (dC : Nat → ClassId) (dI : Nat → Nat → Nat) (h0 a1 a2 a3 : Nat) (d1 d2 d3 : ClassId) (sz : Nat) (r tu k : Int32) (hf wf lf : Nat → Int32) (x : Int32) : Met l yX0_rules (ws_ yX0_rules cX0_rules 2 none) ({ frames := 2, cells := 0, slots := 0, locals := 44 }) (va_Pc [.ref h0, .int x] (hg_PG (dC, dI) sz (tg d1 d2 d3) (gx h0 a1 a2 a3 d1 d2 d3 r tu k hf wf lf))) (va_Qv (fun (u : Nat → Int32) => hg_wo (hg_al x) u) (fun u t => hg_BG (dC, dI) (va_A (gx h0 a1 a2 a3 d1 d2 d3 r tu k hf wf lf) sz) (tg d1 d2 d3) (gx h0 a1 a2 a3 d1 d2 d3 x tu 0 hf u lf) t) (va_A (gx h0 a1 a2 a3 d1 d2 d3 r tu k hf wf lf) sz)) 0 0 (va_A (gx h0 a1 a2 a3 d1 d2 d3 r tu k hf wf lf) sz) := by
  refine Met.ofW (cc := cX0_rules) (maxL := 2) (ret := none) (by decide) rfl ?_
  intro p e s m args below meth c s₁ B hml hv
  obtain ⟨rfl, hsz, hP, hK, hD0⟩ := hv
  have hx := B.exec
  have hb := B.bytes
  have hr := B.returns
  have hts := atoms_spec (ws := (ws_ yX0_rules cX0_rules 2 none)) B.pre
  have hts : ∀ w ∈ lw_all, w.before _ s = true := fun w h => hts w (List.mem_cons_of_mem _ h)
  have hown : s.vm.findClass RX0 = some m.cls := findClass_of_methodNamed B.named
  have hlocks := B.notSynchronized
  subst hsz
  have hD := hD0.self (sz := s.heap.size)
  generalize hAe : va_A (gx h0 a1 a2 a3 d1 d2 d3 r tu k hf wf lf) s.heap.size = A at hD ⊢
  have hA : ∀ q : Nat, s.heap.size ≤ q → A q := fun q h => by rw [← hAe]; exact Or.inr h
  have hS : va_S A s.heap s.heap [] := va_S.rf
  have hP : va_P (dC, dI) hg_cl (gx h0 a1 a2 a3 d1 d2 d3 r tu k hf wf lf) s.heap := hP
  have hl := lv_entry ([.ref h0, .int x]) (n := 2) (Nat.le_of_ble_eq_true rfl)
  rw [lg_entry_eq]
  generalize (lg_sl ([.ref h0, .int x]) ++ List.replicate (2 - (lg_sl ([.ref h0, .int x])).length) Slot.unset).toArray = ls at hl ⊢
  have hl : lv_has ls 2 [(0, .ref h0), (1, .int x)] := hl
  refine lv_aload_n hx hb dX0_rules_0 rfl (lv_at hl 0 rfl) ?_
  refine lv_iload_n hx hb dX0_rules_1 rfl (lv_at hl 1 rfl) ?_
  refine va_put (D := (dC, dI)) (ci := 0) (v := .int x) (ty := .int) (C := RX0) (T := TX0) (N := 6) hx hb hts in_X0 tyX0 tyX0_ok nmX0 hown hK hP hD hS 0 rfl rfl 0 (by decide) (hts _ q31) (fun _ h9 => h9) rfl (by decide +kernel) rfl rfl (Nat.le_of_ble_eq_true rfl) dX0_rules_2 (fun H locs hP hD hS => ?_)
  have hP : va_P (dC, dI) hg_cl (gx h0 a1 a2 a3 d1 d2 d3 x tu k hf wf lf) H := hP
  have hD : va_D A (gx h0 a1 a2 a3 d1 d2 d3 x tu k hf wf lf) := hD
  refine lv_aload_n hx hb dX0_rules_5 rfl (lv_at hl 0 rfl) ?_
  refine lv_iconst (v := 0) hx hb dX0_rules_6 (by decide) ?_
  refine va_put (D := (dC, dI)) (ci := 0) (v := .int 0) (ty := .boolean) (C := RX0) (T := TX0) (N := 6) hx hb hts in_X0 tyX0 tyX0_ok nmX0 hown hK hP hD hS 0 rfl rfl 5 (by decide) (hts _ q36) (fun _ h9 => h9) rfl (by decide +kernel) rfl rfl (Nat.le_of_ble_eq_true rfl) dX0_rules_7 (fun H locs hP hD hS => ?_)
  have hP : va_P (dC, dI) hg_cl (gx h0 a1 a2 a3 d1 d2 d3 x tu 0 hf wf lf) H := hP
  have hD : va_D A (gx h0 a1 a2 a3 d1 d2 d3 x tu 0 hf wf lf) := hD
  refine lv_aload_n hx hb dX0_rules_10 rfl (lv_at hl 0 rfl) ?_
  refine hg_cVv (As := []) (rest := []) (q0 := 0) (ci := 0) (wr := []) ⟨hx, hb, hml, hown, hts⟩ (mt_X0_reckonWorths l dC dI h0 a1 a2 a3 d1 d2 d3 _ x tu 0 hf wf lf) (cwV 0 hts (lw_V q19 q21 qs0 q8 q22) rfl rfl rfl (by decide +kernel) ⟨Nat.le_of_ble_eq_true rfl, Nat.le_of_ble_eq_true rfl⟩) hK hP hD hS hA [0, 1, 2, 3] [] [0, 1, 2] rfl rfl rfl rfl rfl rfl (by decide) rfl rfl rfl rfl hl.1 rfl (Nat.le_of_ble_eq_true rfl) dX0_rules_11 ⟨Nat.le_of_ble_eq_true rfl, Nat.le_of_ble_eq_true rfl⟩ (fun u_ H locs hw1 hP hD hS => ?_)
  have hP : va_P (dC, dI) hg_cl (gx h0 a1 a2 a3 d1 d2 d3 x tu 0 hf u_ lf) H := hP
  have hD : va_D A (gx h0 a1 a2 a3 d1 d2 d3 x tu 0 hf u_ lf) := hD
  exact W.vret hx hb hr (fun t_ ht_ hW_ => ⟨⟨u_, rfl, hw1, hg_BGi hP hK hD ht_ hW_.alike⟩, hS.F ht_⟩) hS.2.2 dX0_rules_14
set_option maxHeartbeats 4000000 in
set_option maxRecDepth 100000 in
/-- HeapGame.turned -/
theorem mt_X0_turned (l : Launch) (dC : Nat → ClassId) (dI : Nat → Nat → Nat) (h0 a1 a2 a3 : Nat) (d1 d2 d3 : ClassId) (sz : Nat) (r tu k : Int32) (hf wf lf : Nat → Int32) (x : Int32) : Met l yX0_turned (ws_ yX0_turned cX0_turned 2 none) ({ frames := 0, cells := 0, slots := 0, locals := 0 }) (va_Pc [.ref h0, .int x] (hg_PG (dC, dI) sz (tg d1 d2 d3) (gx h0 a1 a2 a3 d1 d2 d3 r tu k hf wf lf))) (va_Qv (fun (_ : Unit) => True) (fun u t => hg_BG (dC, dI) (va_A (gx h0 a1 a2 a3 d1 d2 d3 r tu k hf wf lf) sz) (tg d1 d2 d3) (gx h0 a1 a2 a3 d1 d2 d3 r (hg_b (hg_odd x)) k hf wf lf) t) (va_A (gx h0 a1 a2 a3 d1 d2 d3 r tu k hf wf lf) sz)) 0 0 (va_A (gx h0 a1 a2 a3 d1 d2 d3 r tu k hf wf lf) sz) := by
  refine Met.ofW (cc := cX0_turned) (maxL := 2) (ret := none) (by decide) rfl ?_
  intro p e s m args below meth c s₁ B hml hv
  obtain ⟨rfl, hsz, hP, hK, hD0⟩ := hv
  have hx := B.exec
  have hb := B.bytes
  have hr := B.returns
  have hts := atoms_spec (ws := (ws_ yX0_turned cX0_turned 2 none)) B.pre
  have hts : ∀ w ∈ lw_all, w.before _ s = true := fun w h => hts w (List.mem_cons_of_mem _ h)
  have hown : s.vm.findClass RX0 = some m.cls := findClass_of_methodNamed B.named
  have hlocks := B.notSynchronized
  subst hsz
  have hD := hD0.self (sz := s.heap.size)
  generalize hAe : va_A (gx h0 a1 a2 a3 d1 d2 d3 r tu k hf wf lf) s.heap.size = A at hD ⊢
  have hA : ∀ q : Nat, s.heap.size ≤ q → A q := fun q h => by rw [← hAe]; exact Or.inr h
  have hS : va_S A s.heap s.heap [] := va_S.rf
  have hP : va_P (dC, dI) hg_cl (gx h0 a1 a2 a3 d1 d2 d3 r tu k hf wf lf) s.heap := hP
  have hl := lv_entry ([.ref h0, .int x]) (n := 2) (Nat.le_of_ble_eq_true rfl)
  rw [lg_entry_eq]
  generalize (lg_sl ([.ref h0, .int x]) ++ List.replicate (2 - (lg_sl ([.ref h0, .int x])).length) Slot.unset).toArray = ls at hl ⊢
  have hl : lv_has ls 2 [(0, .ref h0), (1, .int x)] := hl
  refine lv_aload_n hx hb dX0_turned_0 rfl (lv_at hl 0 rfl) ?_
  refine lv_iload_n hx hb dX0_turned_1 rfl (lv_at hl 1 rfl) ?_
  refine lv_iconst (v := 1) hx hb dX0_turned_2 (by decide) ?_
  refine lv_iand hx hb dX0_turned_3 ?_
  refine lv_iconst (v := 1) hx hb dX0_turned_4 (by decide) ?_
  have join : ∀ v : Int32, v = hg_b (hg_odd x) → W p l e (headSpec (ws_ yX0_turned cX0_turned 2 none) ({ frames := 0, cells := 0, slots := 0, locals := 0 })).room s m ([.ref h0, .int x] : List Value).toArray below meth c s.heap [] 0 0 (MQ below (va_Qv (fun (_ : Unit) => True) (fun u t => hg_BG (dC, dI) A (tg d1 d2 d3) (gx h0 a1 a2 a3 d1 d2 d3 r (hg_b (hg_odd x)) k hf wf lf) t) A) ([.ref h0, .int x] : List Value).toArray s 0 0 A) (F0 m 13 ls [.int v, .ref h0]) := by
    intro v hv
    subst hv
    refine va_put (D := (dC, dI)) (ci := 0) (v := .int (hg_b (hg_odd x))) (ty := .boolean) (C := RX0) (T := TX0) (N := 6) hx hb hts in_X0 tyX0 tyX0_ok nmX0 hown hK hP hD hS 0 rfl rfl 1 (by decide) (hts _ q32) (fun _ h9 => h9) rfl (by decide +kernel) (hg_b_nar _) (hg_b_fit _) (Nat.le_of_ble_eq_true rfl) dX0_turned_13 (fun H locs hP hD hS => ?_)
    have hP : va_P (dC, dI) hg_cl (gx h0 a1 a2 a3 d1 d2 d3 r (hg_b (hg_odd x)) k hf wf lf) H := hP
    have hD : va_D A (gx h0 a1 a2 a3 d1 d2 d3 r (hg_b (hg_odd x)) k hf wf lf) := hD
    exact W.vret hx hb hr (fun t_ ht_ hW_ => ⟨⟨(), rfl, trivial, hg_BGi hP hK hD ht_ hW_.alike⟩, hS.F ht_⟩) hS.2.2 dX0_turned_16
  refine lv_icmp_ne (tgt := 12) hx hb dX0_turned_5 (by decide) (fun c1 => ?_) (fun c1 => ?_)
  · refine lv_iconst (v := 0) hx hb dX0_turned_12 (by decide) ?_
    exact join 0 (by unfold hg_odd; rw [decide_eq_false c1]; rfl)
  · refine lv_iconst (v := 1) hx hb dX0_turned_8 (by decide) ?_
    refine lv_goto (tgt := 13) hx hb dX0_turned_9 (by decide) ?_
    exact join 1 (by unfold hg_odd; rw [decide_eq_true c1]; rfl)
set_option maxHeartbeats 4000000 in
set_option maxRecDepth 100000 in
/-- HeapGame.heaps -/
theorem mt_X0_heaps (l : Launch) (dC : Nat → ClassId) (dI : Nat → Nat → Nat) (h0 a1 a2 a3 : Nat) (d1 d2 d3 : ClassId) (sz : Nat) (r tu k : Int32) (hf wf lf : Nat → Int32) (x y z : Int32) : Met l yX0_heaps (ws_ yX0_heaps cX0_heaps 4 none) ({ frames := 0, cells := 0, slots := 0, locals := 0 }) (va_Pc [.ref h0, .int x, .int y, .int z] (hg_PG (dC, dI) sz (tg d1 d2 d3) (gx h0 a1 a2 a3 d1 d2 d3 r tu k hf wf lf))) (va_Qv (fun (u : Nat → Int32) => ∀ i, i < 3 → u i = nI (hg_hs x y z i) ∧ hg_hs x y z i < 16) (fun u t => hg_BG (dC, dI) (va_A (gx h0 a1 a2 a3 d1 d2 d3 r tu k hf wf lf) sz) (tg d1 d2 d3) (gx h0 a1 a2 a3 d1 d2 d3 r tu k u wf lf) t) (va_A (gx h0 a1 a2 a3 d1 d2 d3 r tu k hf wf lf) sz)) 0 0 (va_A (gx h0 a1 a2 a3 d1 d2 d3 r tu k hf wf lf) sz) := by
  refine Met.ofW (cc := cX0_heaps) (maxL := 4) (ret := none) (by decide) rfl ?_
  intro p e s m args below meth c s₁ B hml hv
  obtain ⟨rfl, hsz, hP, hK, hD0⟩ := hv
  have hx := B.exec
  have hb := B.bytes
  have hr := B.returns
  have hts := atoms_spec (ws := (ws_ yX0_heaps cX0_heaps 4 none)) B.pre
  have hts : ∀ w ∈ lw_all, w.before _ s = true := fun w h => hts w (List.mem_cons_of_mem _ h)
  have hown : s.vm.findClass RX0 = some m.cls := findClass_of_methodNamed B.named
  have hlocks := B.notSynchronized
  subst hsz
  have hD := hD0.self (sz := s.heap.size)
  generalize hAe : va_A (gx h0 a1 a2 a3 d1 d2 d3 r tu k hf wf lf) s.heap.size = A at hD ⊢
  have hA : ∀ q : Nat, s.heap.size ≤ q → A q := fun q h => by rw [← hAe]; exact Or.inr h
  have hS : va_S A s.heap s.heap [] := va_S.rf
  have hP : va_P (dC, dI) hg_cl (gx h0 a1 a2 a3 d1 d2 d3 r tu k hf wf lf) s.heap := hP
  have hl := lv_entry ([.ref h0, .int x, .int y, .int z]) (n := 4) (Nat.le_of_ble_eq_true rfl)
  rw [lg_entry_eq]
  generalize (lg_sl ([.ref h0, .int x, .int y, .int z]) ++ List.replicate (4 - (lg_sl ([.ref h0, .int x, .int y, .int z])).length) Slot.unset).toArray = ls at hl ⊢
  have hl : lv_has ls 4 [(0, .ref h0), (1, .int x), (2, .int y), (3, .int z)] := hl
  refine lv_aload_n hx hb dX0_heaps_0 rfl (lv_at hl 0 rfl) ?_
  refine va_get (D := (dC, dI)) (ci := 0) (v := .ref a1) (C := RX0) (T := TX0) (N := 6) hx hb hts in_X0 hown hK hP 0 rfl rfl 2 (by decide) (hts _ q33) (fun _ h9 => h9) rfl dX0_heaps_1 ?_
  refine lv_iconst (v := nI 0) hx hb dX0_heaps_4 (by decide) ?_
  refine lv_iload_n hx hb dX0_heaps_5 rfl (lv_at hl 1 rfl) ?_
  refine lv_bipush (v := nI 15) hx hb dX0_heaps_6 (by decide) ?_
  refine lv_iand hx hb dX0_heaps_8 (hg_is (y := nI (hg_15 x)) (pk_and x 4 (by decide)) ?_)
  refine hg_iast hx hb hK hP hD hS 1 0 rfl rfl (by omega) (by decide) dX0_heaps_9 (fun H locs hP hD hS => ?_)
  have hP : va_P (dC, dI) hg_cl (gx h0 a1 a2 a3 d1 d2 d3 r tu k (upd hf 0 (nI (hg_15 x))) wf lf) H := hP
  have hD : va_D A (gx h0 a1 a2 a3 d1 d2 d3 r tu k (upd hf 0 (nI (hg_15 x))) wf lf) := hD
  refine lv_aload_n hx hb dX0_heaps_10 rfl (lv_at hl 0 rfl) ?_
  refine va_get (D := (dC, dI)) (ci := 0) (v := .ref a1) (C := RX0) (T := TX0) (N := 6) hx hb hts in_X0 hown hK hP 0 rfl rfl 2 (by decide) (hts _ q33) (fun _ h9 => h9) rfl dX0_heaps_11 ?_
  refine lv_iconst (v := nI 1) hx hb dX0_heaps_14 (by decide) ?_
  refine lv_iload_n hx hb dX0_heaps_15 rfl (lv_at hl 2 rfl) ?_
  refine lv_bipush (v := nI 15) hx hb dX0_heaps_16 (by decide) ?_
  refine lv_iand hx hb dX0_heaps_18 (hg_is (y := nI (hg_15 y)) (pk_and y 4 (by decide)) ?_)
  refine hg_iast hx hb hK hP hD hS 1 0 rfl rfl (by omega) (by decide) dX0_heaps_19 (fun H locs hP hD hS => ?_)
  have hP : va_P (dC, dI) hg_cl (gx h0 a1 a2 a3 d1 d2 d3 r tu k (upd (upd hf 0 (nI (hg_15 x))) 1 (nI (hg_15 y))) wf lf) H := hP
  have hD : va_D A (gx h0 a1 a2 a3 d1 d2 d3 r tu k (upd (upd hf 0 (nI (hg_15 x))) 1 (nI (hg_15 y))) wf lf) := hD
  refine lv_aload_n hx hb dX0_heaps_20 rfl (lv_at hl 0 rfl) ?_
  refine va_get (D := (dC, dI)) (ci := 0) (v := .ref a1) (C := RX0) (T := TX0) (N := 6) hx hb hts in_X0 hown hK hP 0 rfl rfl 2 (by decide) (hts _ q33) (fun _ h9 => h9) rfl dX0_heaps_21 ?_
  refine lv_iconst (v := nI 2) hx hb dX0_heaps_24 (by decide) ?_
  refine lv_iload_n hx hb dX0_heaps_25 rfl (lv_at hl 3 rfl) ?_
  refine lv_bipush (v := nI 15) hx hb dX0_heaps_26 (by decide) ?_
  refine lv_iand hx hb dX0_heaps_28 (hg_is (y := nI (hg_15 z)) (pk_and z 4 (by decide)) ?_)
  refine hg_iast hx hb hK hP hD hS 1 0 rfl rfl (by omega) (by decide) dX0_heaps_29 (fun H locs hP hD hS => ?_)
  have hP : va_P (dC, dI) hg_cl (gx h0 a1 a2 a3 d1 d2 d3 r tu k (upd (upd (upd hf 0 (nI (hg_15 x))) 1 (nI (hg_15 y))) 2 (nI (hg_15 z))) wf lf) H := hP
  have hD : va_D A (gx h0 a1 a2 a3 d1 d2 d3 r tu k (upd (upd (upd hf 0 (nI (hg_15 x))) 1 (nI (hg_15 y))) 2 (nI (hg_15 z))) wf lf) := hD
  exact W.vret hx hb hr (fun t_ ht_ hW_ => ⟨⟨upd (upd (upd hf 0 (nI (hg_15 x))) 1 (nI (hg_15 y))) 2 (nI (hg_15 z)), rfl, hg_hs_upd hf x y z, hg_BGi hP hK hD ht_ hW_.alike⟩, hS.F ht_⟩) hS.2.2 dX0_heaps_30
end
section
set_option maxHeartbeats 4000000 in
set_option maxRecDepth 100000 in
/-- HeapGame.lost -/
theorem mt_X0_lost (l : Launch) (dC : Nat → ClassId) (dI : Nat → Nat → Nat) (h0 a1 a2 a3 : Nat) (d1 d2 d3 : ClassId) (sz : Nat) (r tu k : Int32) (hf wf lf : Nat → Int32) (mis : Bool) (htu : tu = hg_b mis) (hwo : hg_wo (hg_al r) wf) (hk : hg_tab (hg_al r) k lf) : Met l yX0_lost (ws_ yX0_lost cX0_lost 5 (some .int)) ({ frames := 4, cells := 0, slots := 0, locals := 91 }) (va_Pc [.ref h0] (hg_PG (dC, dI) sz (tg d1 d2 d3) (gx h0 a1 a2 a3 d1 d2 d3 r tu k hf wf lf))) (va_Qi (fun (v : Int32) (u : Int32 × (Nat → Int32)) => v = nI (hg_cnt (hg_at (hg_al r) mis) 4096) ∧ hg_tab (hg_al r) u.1 u.2) (fun u t => hg_BG (dC, dI) (va_A (gx h0 a1 a2 a3 d1 d2 d3 r tu k hf wf lf) sz) (tg d1 d2 d3) (gx h0 a1 a2 a3 d1 d2 d3 r tu u.1 hf wf u.2) t) (va_A (gx h0 a1 a2 a3 d1 d2 d3 r tu k hf wf lf) sz)) 0 0 (va_A (gx h0 a1 a2 a3 d1 d2 d3 r tu k hf wf lf) sz) := by
  refine Met.ofW (cc := cX0_lost) (maxL := 5) (ret := (some .int)) (by decide) rfl ?_
  intro p e s m args below meth c s₁ B hml hv
  obtain ⟨rfl, hsz, hP, hK, hD0⟩ := hv
  have hx := B.exec
  have hb := B.bytes
  have hr := B.returns
  have hts := atoms_spec (ws := (ws_ yX0_lost cX0_lost 5 (some .int))) B.pre
  have hts : ∀ w ∈ lw_all, w.before _ s = true := fun w h => hts w (List.mem_cons_of_mem _ h)
  have hown : s.vm.findClass RX0 = some m.cls := findClass_of_methodNamed B.named
  have hlocks := B.notSynchronized
  subst hsz
  have hD := hD0.self (sz := s.heap.size)
  generalize hAe : va_A (gx h0 a1 a2 a3 d1 d2 d3 r tu k hf wf lf) s.heap.size = A at hD ⊢
  have hA : ∀ q : Nat, s.heap.size ≤ q → A q := fun q h => by rw [← hAe]; exact Or.inr h
  have hS : va_S A s.heap s.heap [] := va_S.rf
  have hP : va_P (dC, dI) hg_cl (gx h0 a1 a2 a3 d1 d2 d3 r tu k hf wf lf) s.heap := hP
  have hl := lv_entry ([.ref h0]) (n := 5) (Nat.le_of_ble_eq_true rfl)
  rw [lg_entry_eq]
  generalize (lg_sl ([.ref h0]) ++ List.replicate (5 - (lg_sl ([.ref h0])).length) Slot.unset).toArray = ls at hl ⊢
  have hl : lv_has ls 5 [(0, .ref h0)] := hl
  have loop : ∀ (N x cv : Nat) (k : Int32) (lf : Nat → Int32), x + N = 16 → hg_tab (hg_al r) k lf → cv = hg_cnt (hg_at (hg_al r) mis) (256 * x) → ∀ (H : Heap) (locs : List Loc), va_P (dC, dI) hg_cl (gx h0 a1 a2 a3 d1 d2 d3 r tu k hf wf lf) H → va_D A (gx h0 a1 a2 a3 d1 d2 d3 r tu k hf wf lf) → va_S A s.heap H locs → ∀ ls, lv_has ls 5 [(0, .ref h0), (1, .int (nI cv)), (2, .int (nI x))] → W p l e (headSpec (ws_ yX0_lost cX0_lost 5 (some .int)) ({ frames := 4, cells := 0, slots := 0, locals := 91 })).room s m ([.ref h0] : List Value).toArray below meth c H locs 0 0 (MQ below (va_Qi (fun (v : Int32) (u : Int32 × (Nat → Int32)) => v = nI (hg_cnt (hg_at (hg_al r) mis) 4096) ∧ hg_tab (hg_al r) u.1 u.2) (fun u t => hg_BG (dC, dI) A (tg d1 d2 d3) (gx h0 a1 a2 a3 d1 d2 d3 r tu u.1 hf wf u.2) t) A) ([.ref h0] : List Value).toArray s 0 0 A) (F0 m 4 ls []) := by
    intro N
    induction N with
    | zero =>
      intro x cv k lf hN hk hcv H locs hP hD hS ls hl
      refine lv_iload_n hx hb dX0_lost_4 rfl (lv_at hl 2 rfl) ?_
      refine lv_bipush (v := nI 16) hx hb dX0_lost_5 (by decide) ?_
      refine lv_icmp_ge (tgt := 65) hx hb dX0_lost_7 (by decide) (fun c_ => ?_) (fun c_ => absurd ((nI_leI (by omega) (by omega)).mpr (by omega)) c_)
      refine lv_iload_n hx hb dX0_lost_65 rfl (lv_at hl 1 rfl) ?_
      exact W.iret (v := (nI cv)) hx hb hr (fun t_ ht_ hW_ => ⟨⟨(nI cv), (k, lf), rfl, ⟨by have e : 256 * x = 4096 := (by omega); rw [hcv, e], hk⟩, hg_BGi hP hK hD ht_ hW_.alike⟩, hS.F ht_⟩) hS.2.2 dX0_lost_66
    | succ N ih =>
      intro x cv k lf hN hk hcv H locs hP hD hS ls hl
      refine lv_iload_n hx hb dX0_lost_4 rfl (lv_at hl 2 rfl) ?_
      refine lv_bipush (v := nI 16) hx hb dX0_lost_5 (by decide) ?_
      refine lv_icmp_ge (tgt := 65) hx hb dX0_lost_7 (by decide) (fun c_ => absurd c_ (fun z => absurd ((nI_leI (by omega) (by omega)).mp z) (by omega))) (fun c_ => ?_)
      refine lv_iconst (v := nI 0) hx hb dX0_lost_10 (by decide) ?_
      refine lv_istore_n (lv' := [(3, .int (nI 0)), (0, .ref h0), (1, .int (nI cv)), (2, .int (nI x))]) hx hb dX0_lost_11 rfl hl (by decide) rfl (fun ls hl => ?_)
      have loop2 : ∀ (N y cv : Nat) (k : Int32) (lf : Nat → Int32), y + N = 16 → hg_tab (hg_al r) k lf → cv = hg_cnt (hg_at (hg_al r) mis) (256 * x + 16 * y) → ∀ (H : Heap) (locs : List Loc), va_P (dC, dI) hg_cl (gx h0 a1 a2 a3 d1 d2 d3 r tu k hf wf lf) H → va_D A (gx h0 a1 a2 a3 d1 d2 d3 r tu k hf wf lf) → va_S A s.heap H locs → ∀ ls, lv_has ls 5 [(0, .ref h0), (1, .int (nI cv)), (2, .int (nI x)), (3, .int (nI y))] → W p l e (headSpec (ws_ yX0_lost cX0_lost 5 (some .int)) ({ frames := 4, cells := 0, slots := 0, locals := 91 })).room s m ([.ref h0] : List Value).toArray below meth c H locs 0 0 (MQ below (va_Qi (fun (v : Int32) (u : Int32 × (Nat → Int32)) => v = nI (hg_cnt (hg_at (hg_al r) mis) 4096) ∧ hg_tab (hg_al r) u.1 u.2) (fun u t => hg_BG (dC, dI) A (tg d1 d2 d3) (gx h0 a1 a2 a3 d1 d2 d3 r tu u.1 hf wf u.2) t) A) ([.ref h0] : List Value).toArray s 0 0 A) (F0 m 12 ls []) := by
        intro N
        induction N with
        | zero =>
          intro y cv k lf hN hk hcv H locs hP hD hS ls hl
          refine lv_iload_n hx hb dX0_lost_12 rfl (lv_at hl 3 rfl) ?_
          refine lv_bipush (v := nI 16) hx hb dX0_lost_13 (by decide) ?_
          refine lv_icmp_ge (tgt := 59) hx hb dX0_lost_15 (by decide) (fun c_ => ?_) (fun c_ => absurd ((nI_leI (by omega) (by omega)).mpr (by omega)) c_)
          refine lv_iinc (v := nI (x + 1)) (lv' := [(2, .int (nI (x + 1))), (0, .ref h0), (1, .int (nI cv)), (3, .int (nI y))]) hx hb dX0_lost_59 hl (k := 2) rfl (nI_add _ 1) (by decide) rfl (fun ls hl => ?_)
          refine lv_goto (tgt := 4) hx hb dX0_lost_62 (by decide) ?_
          exact ih (x + 1) cv k lf (by omega) hk (by rw [hcv]; exact congrArg _ (by omega)) H locs hP hD hS ls (lv_sub hl [1, 2, 0] rfl)
        | succ N ih2 =>
          intro y cv k lf hN hk hcv H locs hP hD hS ls hl
          refine lv_iload_n hx hb dX0_lost_12 rfl (lv_at hl 3 rfl) ?_
          refine lv_bipush (v := nI 16) hx hb dX0_lost_13 (by decide) ?_
          refine lv_icmp_ge (tgt := 59) hx hb dX0_lost_15 (by decide) (fun c_ => absurd c_ (fun z => absurd ((nI_leI (by omega) (by omega)).mp z) (by omega))) (fun c_ => ?_)
          refine lv_iconst (v := nI 0) hx hb dX0_lost_18 (by decide) ?_
          refine lv_istore (lv' := [(4, .int (nI 0)), (0, .ref h0), (1, .int (nI cv)), (2, .int (nI x)), (3, .int (nI y))]) hx hb dX0_lost_19 hl (by decide) rfl (fun ls hl => ?_)
          have loop3 : ∀ (N z cv : Nat) (k : Int32) (lf : Nat → Int32), z + N = 16 → hg_tab (hg_al r) k lf → cv = hg_cnt (hg_at (hg_al r) mis) (256 * x + 16 * y + z) → ∀ (H : Heap) (locs : List Loc), va_P (dC, dI) hg_cl (gx h0 a1 a2 a3 d1 d2 d3 r tu k hf wf lf) H → va_D A (gx h0 a1 a2 a3 d1 d2 d3 r tu k hf wf lf) → va_S A s.heap H locs → ∀ ls, lv_has ls 5 [(0, .ref h0), (1, .int (nI cv)), (2, .int (nI x)), (3, .int (nI y)), (4, .int (nI z))] → W p l e (headSpec (ws_ yX0_lost cX0_lost 5 (some .int)) ({ frames := 4, cells := 0, slots := 0, locals := 91 })).room s m ([.ref h0] : List Value).toArray below meth c H locs 0 0 (MQ below (va_Qi (fun (v : Int32) (u : Int32 × (Nat → Int32)) => v = nI (hg_cnt (hg_at (hg_al r) mis) 4096) ∧ hg_tab (hg_al r) u.1 u.2) (fun u t => hg_BG (dC, dI) A (tg d1 d2 d3) (gx h0 a1 a2 a3 d1 d2 d3 r tu u.1 hf wf u.2) t) A) ([.ref h0] : List Value).toArray s 0 0 A) (F0 m 21 ls []) := by
            intro N
            induction N with
            | zero =>
              intro z cv k lf hN hk hcv H locs hP hD hS ls hl
              refine lv_iload hx hb dX0_lost_21 (lv_at hl 4 rfl) ?_
              refine lv_bipush (v := nI 16) hx hb dX0_lost_23 (by decide) ?_
              refine lv_icmp_ge (tgt := 53) hx hb dX0_lost_25 (by decide) (fun c_ => ?_) (fun c_ => absurd ((nI_leI (by omega) (by omega)).mpr (by omega)) c_)
              refine lv_iinc (v := nI (y + 1)) (lv' := [(3, .int (nI (y + 1))), (0, .ref h0), (1, .int (nI cv)), (2, .int (nI x)), (4, .int (nI z))]) hx hb dX0_lost_53 hl (k := 3) rfl (nI_add _ 1) (by decide) rfl (fun ls hl => ?_)
              refine lv_goto (tgt := 12) hx hb dX0_lost_56 (by decide) ?_
              exact ih2 (y + 1) cv k lf (by omega) hk (by rw [hcv]; exact congrArg _ (by omega)) H locs hP hD hS ls (lv_sub hl [1, 2, 3, 0] rfl)
            | succ N ih3 =>
              intro z cv k lf hN hk hcv H locs hP hD hS ls hl
              refine lv_iload hx hb dX0_lost_21 (lv_at hl 4 rfl) ?_
              refine lv_bipush (v := nI 16) hx hb dX0_lost_23 (by decide) ?_
              refine lv_icmp_ge (tgt := 53) hx hb dX0_lost_25 (by decide) (fun c_ => absurd c_ (fun z => absurd ((nI_leI (by omega) (by omega)).mp z) (by omega))) (fun c_ => ?_)
              refine lv_iload_n hx hb dX0_lost_28 rfl (lv_at hl 1 rfl) ?_
              refine lv_aload_n hx hb dX0_lost_29 rfl (lv_at hl 0 rfl) ?_
              refine lv_iload_n hx hb dX0_lost_30 rfl (lv_at hl 2 rfl) ?_
              refine lv_iload_n hx hb dX0_lost_31 rfl (lv_at hl 3 rfl) ?_
              refine lv_iload hx hb dX0_lost_32 (lv_at hl 4 rfl) ?_
              refine hg_cVi (As := [.int (nI x), .int (nI y), .int (nI z)]) (rest := [.int (nI cv)]) (q0 := 0) (ci := 0) (wr := []) ⟨hx, hb, hml, hown, hts⟩ (mt_X0_wins l dC dI h0 a1 a2 a3 d1 d2 d3 _ r tu k hf wf lf mis x y z (by omega) (by omega) (by omega) htu hwo hk) (cwV 3 hts (lw_V q68 q70 qs2 q8 q71) rfl rfl rfl (by decide +kernel) ⟨Nat.le_of_ble_eq_true rfl, Nat.le_of_ble_eq_true rfl⟩) hK hP hD hS hA [0, 1, 2, 3] [] [0, 1, 2] rfl rfl rfl rfl rfl rfl (by decide) rfl rfl rfl rfl hl.1 rfl (Nat.le_of_ble_eq_true rfl) dX0_lost_34 ⟨Nat.le_of_ble_eq_true rfl, Nat.le_of_ble_eq_true rfl⟩ (fun v_1 u_ H locs hw1 hP hD hS => ?_)
              obtain ⟨k2, lf2⟩ := u_
              have hP : va_P (dC, dI) hg_cl (gx h0 a1 a2 a3 d1 d2 d3 r tu k2 hf wf lf2) H := hP
              have hD : va_D A (gx h0 a1 a2 a3 d1 d2 d3 r tu k2 hf wf lf2) := hD
              obtain ⟨hv1, hk2⟩ := hw1
              obtain rfl : v_1 = hg_b (hg_wn (hg_al r) mis x y z) := hv1
              have hat := hg_at_abc (hg_al r) mis (a := x) (b := y) (c := z) (by omega) (by omega)
              refine lv_if_eq (tgt := 44) hx hb dX0_lost_37 (by decide) (fun c1 => ?_) (fun c1 => ?_)
              · have c1 := hg_b_eq0.mp c1
                refine lv_iconst (v := nI 1) hx hb dX0_lost_44 (by decide) ?_
                refine lv_iadd hx hb dX0_lost_45 (hg_is (y := nI (cv + 1)) (nI_add _ _) ?_)
                refine lv_istore_n (lv' := [(1, .int (nI (cv + 1))), (0, .ref h0), (2, .int (nI x)), (3, .int (nI y)), (4, .int (nI z))]) hx hb dX0_lost_46 rfl hl (by decide) rfl (fun ls hl => ?_)
                refine lv_iinc (v := nI (z + 1)) (lv' := [(4, .int (nI (z + 1))), (1, .int (nI (cv + 1))), (0, .ref h0), (2, .int (nI x)), (3, .int (nI y))]) hx hb dX0_lost_47 hl (k := 4) rfl (nI_add _ 1) (by decide) rfl (fun ls hl => ?_)
                refine lv_goto (tgt := 21) hx hb dX0_lost_50 (by decide) ?_
                exact ih3 (z + 1) _ k2 lf2 (by omega) hk2 (by show cv + 1 = hg_cnt _ (256 * x + 16 * y + z) + (if hg_at _ _ (256 * x + 16 * y + z) = true then 0 else 1); rw [hat, c1, hcv]; rfl) H locs hP hD hS ls (lv_sub hl [2, 1, 3, 4, 0] rfl)
              · have c1 : hg_wn (hg_al r) mis x y z = true := by cases q : hg_wn (hg_al r) mis x y z with | true => rfl | false => exact absurd (hg_b_eq0.mpr q) c1
                refine lv_iconst (v := nI 0) hx hb dX0_lost_40 (by decide) ?_
                refine lv_goto (tgt := 45) hx hb dX0_lost_41 (by decide) ?_
                refine lv_iadd hx hb dX0_lost_45 (hg_is (y := nI (cv + 0)) (nI_add _ _) ?_)
                refine lv_istore_n (lv' := [(1, .int (nI (cv + 0))), (0, .ref h0), (2, .int (nI x)), (3, .int (nI y)), (4, .int (nI z))]) hx hb dX0_lost_46 rfl hl (by decide) rfl (fun ls hl => ?_)
                refine lv_iinc (v := nI (z + 1)) (lv' := [(4, .int (nI (z + 1))), (1, .int (nI (cv + 0))), (0, .ref h0), (2, .int (nI x)), (3, .int (nI y))]) hx hb dX0_lost_47 hl (k := 4) rfl (nI_add _ 1) (by decide) rfl (fun ls hl => ?_)
                refine lv_goto (tgt := 21) hx hb dX0_lost_50 (by decide) ?_
                exact ih3 (z + 1) _ k2 lf2 (by omega) hk2 (by show cv + 0 = hg_cnt _ (256 * x + 16 * y + z) + (if hg_at _ _ (256 * x + 16 * y + z) = true then 0 else 1); rw [hat, c1, hcv]; rfl) H locs hP hD hS ls (lv_sub hl [2, 1, 3, 4, 0] rfl)
          exact loop3 16 0 cv k lf (by omega) hk (by rw [hcv]; rfl) H locs hP hD hS ls (lv_sub hl [1, 2, 3, 4, 0] rfl)
      exact loop2 16 0 cv k lf (by omega) hk (by rw [hcv]; rfl) H locs hP hD hS ls (lv_sub hl [1, 2, 3, 0] rfl)
  refine lv_iconst (v := nI 0) hx hb dX0_lost_0 (by decide) ?_
  refine lv_istore_n (lv' := [(1, .int (nI 0)), (0, .ref h0)]) hx hb dX0_lost_1 rfl hl (by decide) rfl (fun ls hl => ?_)
  refine lv_iconst (v := nI 0) hx hb dX0_lost_2 (by decide) ?_
  refine lv_istore_n (lv' := [(2, .int (nI 0)), (1, .int (nI 0)), (0, .ref h0)]) hx hb dX0_lost_3 rfl hl (by decide) rfl (fun ls hl => ?_)
  exact loop 16 0 0 k lf (by omega) hk rfl _ _ hP hD hS ls (lv_sub hl [2, 1, 0] rfl)
end
section
/-- the model's table and count, once they are reckoned -/
def hg_mt (al : Nat → Bool) (mis : Bool) (k lo : Int32) (wf : Nat → Int32) : Prop := k = 1 ∧ lo = nI (hg_cnt (hg_at al mis) 4096) ∧ ∀ j, j < 4096 → wf j = hg_b (hg_at al mis j)
def hg_mtab (al : Nat → Bool) (mis : Bool) (k lo : Int32) (wf : Nat → Int32) : Prop := k = 0 ∨ hg_mt al mis k lo wf
set_option maxHeartbeats 4000000 in
set_option maxRecDepth 100000 in
/-- HeapGameModel.reckon -/
theorem mt_X1_reckon (l : Launch) (dC : Nat → ClassId) (dI : Nat → Nat → Nat) (g0 b1 b2 : Nat) (e1 e2 : ClassId) (sz : Nat) (mv mi k lo : Int32) (hf wf : Nat → Int32) (mis : Bool) (hmi : mi = hg_b mis) (hk : hg_mtab (hg_al mv) mis k lo wf) : Met l yX1_reckon (ws_ yX1_reckon cX1_reckon 7 none) ({ frames := 0, cells := 0, slots := 0, locals := 0 }) (va_Pc [.ref g0] (hg_PG (dC, dI) sz (tm e1 e2) (mx g0 b1 b2 e1 e2 mv mi k lo hf wf))) (va_Qv (fun (u : Int32 × Int32 × (Nat → Int32)) => hg_mt (hg_al mv) mis u.1 u.2.1 u.2.2) (fun u t => hg_BG (dC, dI) (va_A (mx g0 b1 b2 e1 e2 mv mi k lo hf wf) sz) (tm e1 e2) (mx g0 b1 b2 e1 e2 mv mi u.1 u.2.1 hf u.2.2) t) (va_A (mx g0 b1 b2 e1 e2 mv mi k lo hf wf) sz)) 0 0 (va_A (mx g0 b1 b2 e1 e2 mv mi k lo hf wf) sz) := by
  refine Met.ofW (cc := cX1_reckon) (maxL := 7) (ret := none) (by decide) rfl ?_
  intro p e s m args below meth c s₁ B hml hv
  obtain ⟨rfl, hsz, hP, hK, hD0⟩ := hv
  have hx := B.exec
  have hb := B.bytes
  have hr := B.returns
  have hts := atoms_spec (ws := (ws_ yX1_reckon cX1_reckon 7 none)) B.pre
  have hts : ∀ w ∈ lw_all, w.before _ s = true := fun w h => hts w (List.mem_cons_of_mem _ h)
  have hown : s.vm.findClass RX1 = some m.cls := findClass_of_methodNamed B.named
  have hlocks := B.notSynchronized
  subst hsz
  have hD := hD0.self (sz := s.heap.size)
  generalize hAe : va_A (mx g0 b1 b2 e1 e2 mv mi k lo hf wf) s.heap.size = A at hD ⊢
  have hA : ∀ q : Nat, s.heap.size ≤ q → A q := fun q h => by rw [← hAe]; exact Or.inr h
  have hS : va_S A s.heap s.heap [] := va_S.rf
  have hP : va_P (dC, dI) hg_cl (mx g0 b1 b2 e1 e2 mv mi k lo hf wf) s.heap := hP
  have hl := lv_entry ([.ref g0]) (n := 7) (Nat.le_of_ble_eq_true rfl)
  rw [lg_entry_eq]
  generalize (lg_sl ([.ref g0]) ++ List.replicate (7 - (lg_sl ([.ref g0])).length) Slot.unset).toArray = ls at hl ⊢
  have hl : lv_has ls 7 [(0, .ref g0)] := hl
  have hal := hg_ok_al mv
  have loop : ∀ (N x cv : Nat) (wf : Nat → Int32), x + N = 16 → cv = hg_cnt (hg_at (hg_al mv) mis) (256 * x) → (∀ j, j < 256 * x → wf j = hg_b (hg_at (hg_al mv) mis j)) → ∀ (H : Heap) (locs : List Loc), va_P (dC, dI) hg_cl (mx g0 b1 b2 e1 e2 mv mi 1 (nI cv) hf wf) H → va_D A (mx g0 b1 b2 e1 e2 mv mi 1 (nI cv) hf wf) → va_S A s.heap H locs → ∀ ls, lv_has ls 7 [(0, .ref g0), (1, .int (nI x))] → W p l e (headSpec (ws_ yX1_reckon cX1_reckon 7 none) ({ frames := 0, cells := 0, slots := 0, locals := 0 })).room s m ([.ref g0] : List Value).toArray below meth c H locs 0 0 (MQ below (va_Qv (fun (u : Int32 × Int32 × (Nat → Int32)) => hg_mt (hg_al mv) mis u.1 u.2.1 u.2.2) (fun u t => hg_BG (dC, dI) A (tm e1 e2) (mx g0 b1 b2 e1 e2 mv mi u.1 u.2.1 hf u.2.2) t) A) ([.ref g0] : List Value).toArray s 0 0 A) (F0 m 20 ls []) := by
    intro N
    induction N with
    | zero =>
      intro x cv wf hN hcv hj H locs hP hD hS ls hl
      refine lv_iload_n hx hb dX1_reckon_20 rfl (lv_at hl 1 rfl) ?_
      refine lv_bipush (v := nI 16) hx hb dX1_reckon_21 (by decide) ?_
      refine lv_icmp_ge (tgt := 287) hx hb dX1_reckon_23 (by decide) (fun c_ => ?_) (fun c_ => absurd ((nI_leI (by omega) (by omega)).mpr (by omega)) c_)
      exact W.vret hx hb hr (fun t_ ht_ hW_ => ⟨⟨(1, nI cv, wf), rfl, ⟨rfl, by have e : 256 * x = 4096 := (by omega); rw [← e]; exact congrArg nI hcv, fun j hj2 => hj j (by omega)⟩, hg_BGi hP hK hD ht_ hW_.alike⟩, hS.F ht_⟩) hS.2.2 dX1_reckon_287
    | succ N ih =>
      intro x cv wf hN hcv hj H locs hP hD hS ls hl
      refine lv_iload_n hx hb dX1_reckon_20 rfl (lv_at hl 1 rfl) ?_
      refine lv_bipush (v := nI 16) hx hb dX1_reckon_21 (by decide) ?_
      refine lv_icmp_ge (tgt := 287) hx hb dX1_reckon_23 (by decide) (fun c_ => absurd c_ (fun z => absurd ((nI_leI (by omega) (by omega)).mp z) (by omega))) (fun c_ => ?_)
      refine lv_iconst (v := nI 0) hx hb dX1_reckon_26 (by decide) ?_
      refine lv_istore_n (lv' := [(2, .int (nI 0)), (0, .ref g0), (1, .int (nI x))]) hx hb dX1_reckon_27 rfl hl (by decide) rfl (fun ls hl => ?_)
      have loop2 : ∀ (N y cv : Nat) (wf : Nat → Int32), y + N = 16 → cv = hg_cnt (hg_at (hg_al mv) mis) (256 * x + 16 * y) → (∀ j, j < 256 * x + 16 * y → wf j = hg_b (hg_at (hg_al mv) mis j)) → ∀ (H : Heap) (locs : List Loc), va_P (dC, dI) hg_cl (mx g0 b1 b2 e1 e2 mv mi 1 (nI cv) hf wf) H → va_D A (mx g0 b1 b2 e1 e2 mv mi 1 (nI cv) hf wf) → va_S A s.heap H locs → ∀ ls, lv_has ls 7 [(0, .ref g0), (1, .int (nI x)), (2, .int (nI y))] → W p l e (headSpec (ws_ yX1_reckon cX1_reckon 7 none) ({ frames := 0, cells := 0, slots := 0, locals := 0 })).room s m ([.ref g0] : List Value).toArray below meth c H locs 0 0 (MQ below (va_Qv (fun (u : Int32 × Int32 × (Nat → Int32)) => hg_mt (hg_al mv) mis u.1 u.2.1 u.2.2) (fun u t => hg_BG (dC, dI) A (tm e1 e2) (mx g0 b1 b2 e1 e2 mv mi u.1 u.2.1 hf u.2.2) t) A) ([.ref g0] : List Value).toArray s 0 0 A) (F0 m 28 ls []) := by
        intro N
        induction N with
        | zero =>
          intro y cv wf hN hcv hj H locs hP hD hS ls hl
          refine lv_iload_n hx hb dX1_reckon_28 rfl (lv_at hl 2 rfl) ?_
          refine lv_bipush (v := nI 16) hx hb dX1_reckon_29 (by decide) ?_
          refine lv_icmp_ge (tgt := 281) hx hb dX1_reckon_31 (by decide) (fun c_ => ?_) (fun c_ => absurd ((nI_leI (by omega) (by omega)).mpr (by omega)) c_)
          refine lv_iinc (v := nI (x + 1)) (lv' := [(1, .int (nI (x + 1))), (0, .ref g0), (2, .int (nI y))]) hx hb dX1_reckon_281 hl (k := 1) rfl (nI_add _ 1) (by decide) rfl (fun ls hl => ?_)
          refine lv_goto (tgt := 20) hx hb dX1_reckon_284 (by decide) ?_
          exact ih (x + 1) cv wf (by omega) (by rw [hcv]; exact congrArg _ (by omega)) (fun j hj2 => hj j (by omega)) H locs hP hD hS ls (lv_sub hl [1, 0] rfl)
        | succ N ih2 =>
          intro y cv wf hN hcv hj H locs hP hD hS ls hl
          refine lv_iload_n hx hb dX1_reckon_28 rfl (lv_at hl 2 rfl) ?_
          refine lv_bipush (v := nI 16) hx hb dX1_reckon_29 (by decide) ?_
          refine lv_icmp_ge (tgt := 281) hx hb dX1_reckon_31 (by decide) (fun c_ => absurd c_ (fun z => absurd ((nI_leI (by omega) (by omega)).mp z) (by omega))) (fun c_ => ?_)
          refine lv_iconst (v := nI 0) hx hb dX1_reckon_34 (by decide) ?_
          refine lv_istore_n (lv' := [(3, .int (nI 0)), (0, .ref g0), (1, .int (nI x)), (2, .int (nI y))]) hx hb dX1_reckon_35 rfl hl (by decide) rfl (fun ls hl => ?_)
          have loop3 : ∀ (N z cv : Nat) (wf : Nat → Int32), z + N = 16 → cv = hg_cnt (hg_at (hg_al mv) mis) (256 * x + 16 * y + z) → (∀ j, j < 256 * x + 16 * y + z → wf j = hg_b (hg_at (hg_al mv) mis j)) → ∀ (H : Heap) (locs : List Loc), va_P (dC, dI) hg_cl (mx g0 b1 b2 e1 e2 mv mi 1 (nI cv) hf wf) H → va_D A (mx g0 b1 b2 e1 e2 mv mi 1 (nI cv) hf wf) → va_S A s.heap H locs → ∀ ls, lv_has ls 7 [(0, .ref g0), (1, .int (nI x)), (2, .int (nI y)), (3, .int (nI z))] → W p l e (headSpec (ws_ yX1_reckon cX1_reckon 7 none) ({ frames := 0, cells := 0, slots := 0, locals := 0 })).room s m ([.ref g0] : List Value).toArray below meth c H locs 0 0 (MQ below (va_Qv (fun (u : Int32 × Int32 × (Nat → Int32)) => hg_mt (hg_al mv) mis u.1 u.2.1 u.2.2) (fun u t => hg_BG (dC, dI) A (tm e1 e2) (mx g0 b1 b2 e1 e2 mv mi u.1 u.2.1 hf u.2.2) t) A) ([.ref g0] : List Value).toArray s 0 0 A) (F0 m 36 ls []) := by
            intro N
            induction N with
            | zero =>
              intro z cv wf hN hcv hj H locs hP hD hS ls hl
              refine lv_iload_n hx hb dX1_reckon_36 rfl (lv_at hl 3 rfl) ?_
              refine lv_bipush (v := nI 16) hx hb dX1_reckon_37 (by decide) ?_
              refine lv_icmp_ge (tgt := 275) hx hb dX1_reckon_39 (by decide) (fun c_ => ?_) (fun c_ => absurd ((nI_leI (by omega) (by omega)).mpr (by omega)) c_)
              refine lv_iinc (v := nI (y + 1)) (lv' := [(2, .int (nI (y + 1))), (0, .ref g0), (1, .int (nI x)), (3, .int (nI z))]) hx hb dX1_reckon_275 hl (k := 2) rfl (nI_add _ 1) (by decide) rfl (fun ls hl => ?_)
              refine lv_goto (tgt := 28) hx hb dX1_reckon_278 (by decide) ?_
              exact ih2 (y + 1) cv wf (by omega) (by rw [hcv]; exact congrArg _ (by omega)) (fun j hj2 => hj j (by omega)) H locs hP hD hS ls (lv_sub hl [1, 2, 0] rfl)
            | succ N ih3 =>
              intro z cv wf hN hcv hj H locs hP hD hS ls hl
              have hat := hg_at_abc (hg_al mv) mis (a := x) (b := y) (c := z) (by omega) (by omega)
              have hwe := hg_wn_eq hal mis x y z
              refine lv_iload_n hx hb dX1_reckon_36 rfl (lv_at hl 3 rfl) ?_
              refine lv_bipush (v := nI 16) hx hb dX1_reckon_37 (by decide) ?_
              refine lv_icmp_ge (tgt := 275) hx hb dX1_reckon_39 (by decide) (fun c_ => absurd c_ (fun z => absurd ((nI_leI (by omega) (by omega)).mp z) (by omega))) (fun c_ => ?_)
              refine lv_iconst (v := hg_b false) hx hb dX1_reckon_42 (by decide) ?_
              refine lv_istore (lv' := [(4, .int (hg_b false)), (0, .ref g0), (1, .int (nI x)), (2, .int (nI y)), (3, .int (nI z))]) hx hb dX1_reckon_43 hl (by decide) rfl (fun ls hl => ?_)
              refine lv_iconst (v := hg_b false) hx hb dX1_reckon_45 (by decide) ?_
              refine lv_istore (lv' := [(5, .int (hg_b false)), (4, .int (hg_b false)), (0, .ref g0), (1, .int (nI x)), (2, .int (nI y)), (3, .int (nI z))]) hx hb dX1_reckon_46 hl (by decide) rfl (fun ls hl => ?_)
              refine lv_iconst (v := nI 1) hx hb dX1_reckon_48 (by decide) ?_
              refine lv_istore (lv' := [(6, .int (nI 1)), (5, .int (hg_b false)), (4, .int (hg_b false)), (0, .ref g0), (1, .int (nI x)), (2, .int (nI y)), (3, .int (nI z))]) hx hb dX1_reckon_49 hl (by decide) rfl (fun ls hl => ?_)
              have tloop : ∀ (N t : Nat) (av wv : Bool), t + N = 15 → 1 ≤ t → av = hg_an (hg_any (hg_al mv) x y z) t → wv = hg_an (hg_mv (hg_al mv) (hg_wn (hg_al mv) mis) x y z) t → ∀ ls, lv_has ls 7 [(0, .ref g0), (1, .int (nI x)), (2, .int (nI y)), (3, .int (nI z)), (4, .int (hg_b av)), (5, .int (hg_b wv)), (6, .int (nI t))] → W p l e (headSpec (ws_ yX1_reckon cX1_reckon 7 none) ({ frames := 0, cells := 0, slots := 0, locals := 0 })).room s m ([.ref g0] : List Value).toArray below meth c H locs 0 0 (MQ below (va_Qv (fun (u : Int32 × Int32 × (Nat → Int32)) => hg_mt (hg_al mv) mis u.1 u.2.1 u.2.2) (fun u t => hg_BG (dC, dI) A (tm e1 e2) (mx g0 b1 b2 e1 e2 mv mi u.1 u.2.1 hf u.2.2) t) A) ([.ref g0] : List Value).toArray s 0 0 A) (F0 m 51 ls []) := by
                intro N
                induction N with
                | zero =>
                  intro t av wv hN h1 hav hwv ls hl
                  have et : t = 15 := by omega
                  rw [et] at hav hwv
                  refine lv_iload hx hb dX1_reckon_51 (lv_at hl 6 rfl) ?_
                  refine lv_bipush (v := nI 15) hx hb dX1_reckon_53 (by decide) ?_
                  refine lv_icmp_ge (tgt := 208) hx hb dX1_reckon_55 (by decide) (fun c_ => ?_) (fun c_ => absurd ((nI_leI (by omega) (by omega)).mpr (by omega)) c_)
                  refine lv_aload_n hx hb dX1_reckon_208 rfl (lv_at hl 0 rfl) ?_
                  refine va_get (D := (dC, dI)) (ci := 1) (v := .ref b2) (C := RX1) (T := TX1) (N := 6) hx hb hts in_X1 hown hK hP 0 rfl rfl 3 (by decide) (hts _ q114) (fun _ h9 => h9) rfl dX1_reckon_209 ?_
                  refine lv_sipush (v := nI 256) hx hb dX1_reckon_212 (by decide) ?_
                  refine lv_iload_n hx hb dX1_reckon_215 rfl (lv_at hl 1 rfl) ?_
                  refine lv_imul hx hb dX1_reckon_216 (hg_is (y := nI (256 * x)) (pk_mul _ _) ?_)
                  refine lv_bipush (v := nI 16) hx hb dX1_reckon_217 (by decide) ?_
                  refine lv_iload_n hx hb dX1_reckon_219 rfl (lv_at hl 2 rfl) ?_
                  refine lv_imul hx hb dX1_reckon_220 (hg_is (y := nI (16 * y)) (pk_mul _ _) ?_)
                  refine lv_iadd hx hb dX1_reckon_221 (hg_is (y := nI ((256 * x) + (16 * y))) (nI_add _ _) ?_)
                  refine lv_iload_n hx hb dX1_reckon_222 rfl (lv_at hl 3 rfl) ?_
                  refine lv_iadd hx hb dX1_reckon_223 (hg_is (y := nI (((256 * x) + (16 * y)) + z)) (nI_add _ _) ?_)
                  refine lv_iload hx hb dX1_reckon_224 (lv_at hl 4 rfl) ?_
                  have join : ∀ v : Int32, v = hg_b (hg_wn (hg_al mv) mis x y z) → W p l e (headSpec (ws_ yX1_reckon cX1_reckon 7 none) ({ frames := 0, cells := 0, slots := 0, locals := 0 })).room s m ([.ref g0] : List Value).toArray below meth c H locs 0 0 (MQ below (va_Qv (fun (u : Int32 × Int32 × (Nat → Int32)) => hg_mt (hg_al mv) mis u.1 u.2.1 u.2.2) (fun u t => hg_BG (dC, dI) A (tm e1 e2) (mx g0 b1 b2 e1 e2 mv mi u.1 u.2.1 hf u.2.2) t) A) ([.ref g0] : List Value).toArray s 0 0 A) (F0 m 238 ls [.int v, .int (nI (((256 * x) + (16 * y)) + z)), .ref b2]) := by
                    intro v hv
                    subst hv
                    refine hg_zast hx hb hK hP hD hS 2 1 rfl rfl (by omega) (hg_b_narv _) (by decide) dX1_reckon_238 (fun H locs hP hD hS => ?_)
                    have hP : va_P (dC, dI) hg_cl (mx g0 b1 b2 e1 e2 mv mi 1 (nI cv) hf (upd wf (((256 * x) + (16 * y)) + z) (hg_b (hg_wn (hg_al mv) mis x y z)))) H := hP
                    have hD : va_D A (mx g0 b1 b2 e1 e2 mv mi 1 (nI cv) hf (upd wf (((256 * x) + (16 * y)) + z) (hg_b (hg_wn (hg_al mv) mis x y z)))) := hD
                    refine lv_aload_n hx hb dX1_reckon_239 rfl (lv_at hl 0 rfl) ?_
                    refine va_get (D := (dC, dI)) (ci := 1) (v := .ref b2) (C := RX1) (T := TX1) (N := 6) hx hb hts in_X1 hown hK hP 0 rfl rfl 3 (by decide) (hts _ q114) (fun _ h9 => h9) rfl dX1_reckon_240 ?_
                    refine lv_sipush (v := nI 256) hx hb dX1_reckon_243 (by decide) ?_
                    refine lv_iload_n hx hb dX1_reckon_246 rfl (lv_at hl 1 rfl) ?_
                    refine lv_imul hx hb dX1_reckon_247 (hg_is (y := nI (256 * x)) (pk_mul _ _) ?_)
                    refine lv_bipush (v := nI 16) hx hb dX1_reckon_248 (by decide) ?_
                    refine lv_iload_n hx hb dX1_reckon_250 rfl (lv_at hl 2 rfl) ?_
                    refine lv_imul hx hb dX1_reckon_251 (hg_is (y := nI (16 * y)) (pk_mul _ _) ?_)
                    refine lv_iadd hx hb dX1_reckon_252 (hg_is (y := nI ((256 * x) + (16 * y))) (nI_add _ _) ?_)
                    refine lv_iload_n hx hb dX1_reckon_253 rfl (lv_at hl 3 rfl) ?_
                    refine lv_iadd hx hb dX1_reckon_254 (hg_is (y := nI (((256 * x) + (16 * y)) + z)) (nI_add _ _) ?_)
                    refine hg_zald (v := hg_b (hg_wn (hg_al mv) mis x y z)) hx hb hK hP 2 1 rfl rfl (by omega) (pk_us) (by decide) dX1_reckon_255 ?_
                    have hj2 : ∀ i, i < 256 * x + 16 * y + (z + 1) → (upd wf (((256 * x) + (16 * y)) + z) (hg_b (hg_wn (hg_al mv) mis x y z))) i = hg_b (hg_at (hg_al mv) mis i) := by
                      intro i hi
                      by_cases q : i = 256 * x + 16 * y + z
                      · rw [q, pk_us, hat]
                      · rw [pk_un q, hj i (by omega)]
                    refine lv_if_ne (tgt := 269) hx hb dX1_reckon_256 (by decide) (fun c1 => ?_) (fun c1 => ?_)
                    · have c1 : hg_wn (hg_al mv) mis x y z = true := by cases q : hg_wn (hg_al mv) mis x y z with | true => rfl | false => exact absurd (hg_b_eq0.mpr q) c1
                      refine lv_iinc (v := nI (z + 1)) (lv' := [(3, .int (nI (z + 1))), (0, .ref g0), (1, .int (nI x)), (2, .int (nI y)), (4, .int (hg_b av)), (5, .int (hg_b wv)), (6, .int (nI t))]) hx hb dX1_reckon_269 hl (k := 3) rfl (nI_add _ 1) (by decide) rfl (fun ls hl => ?_)
                      refine lv_goto (tgt := 36) hx hb dX1_reckon_272 (by decide) ?_
                      exact ih3 (z + 1) cv _ (by omega) (by show cv = hg_cnt _ (256 * x + 16 * y + z) + (if hg_at _ _ (256 * x + 16 * y + z) = true then 0 else 1); rw [hat, c1, hcv]; rfl) hj2 H locs hP hD hS ls (lv_sub hl [1, 2, 3, 0] rfl)
                    · have c1 := hg_b_eq0.mp c1
                      refine lv_aload_n hx hb dX1_reckon_259 rfl (lv_at hl 0 rfl) ?_
                      refine lv_aload_n hx hb dX1_reckon_260 rfl (lv_at hl 0 rfl) ?_
                      refine va_get (D := (dC, dI)) (ci := 1) (v := .int (nI cv)) (C := RX1) (T := TX1) (N := 6) hx hb hts in_X1 hown hK hP 0 rfl rfl 5 (by decide) (hts _ q116) (fun _ h9 => h9) rfl dX1_reckon_261 ?_
                      refine lv_iconst (v := nI 1) hx hb dX1_reckon_264 (by decide) ?_
                      refine lv_iadd hx hb dX1_reckon_265 (hg_is (y := nI (cv + 1)) (nI_add _ _) ?_)
                      refine va_put (D := (dC, dI)) (ci := 1) (v := .int (nI (cv + 1))) (ty := .int) (C := RX1) (T := TX1) (N := 6) hx hb hts in_X1 tyX1 tyX1_ok nmX1 hown hK hP hD hS 0 rfl rfl 5 (by decide) (hts _ q116) (fun _ h9 => h9) rfl (by decide +kernel) rfl rfl (Nat.le_of_ble_eq_true rfl) dX1_reckon_266 (fun H locs hP hD hS => ?_)
                      have hP : va_P (dC, dI) hg_cl (mx g0 b1 b2 e1 e2 mv mi 1 (nI (cv + 1)) hf (upd wf (((256 * x) + (16 * y)) + z) (hg_b (hg_wn (hg_al mv) mis x y z)))) H := hP
                      have hD : va_D A (mx g0 b1 b2 e1 e2 mv mi 1 (nI (cv + 1)) hf (upd wf (((256 * x) + (16 * y)) + z) (hg_b (hg_wn (hg_al mv) mis x y z)))) := hD
                      refine lv_iinc (v := nI (z + 1)) (lv' := [(3, .int (nI (z + 1))), (0, .ref g0), (1, .int (nI x)), (2, .int (nI y)), (4, .int (hg_b av)), (5, .int (hg_b wv)), (6, .int (nI t))]) hx hb dX1_reckon_269 hl (k := 3) rfl (nI_add _ 1) (by decide) rfl (fun ls hl => ?_)
                      refine lv_goto (tgt := 36) hx hb dX1_reckon_272 (by decide) ?_
                      exact ih3 (z + 1) (cv + 1) _ (by omega) (by show cv + 1 = hg_cnt _ (256 * x + 16 * y + z) + (if hg_at _ _ (256 * x + 16 * y + z) = true then 0 else 1); rw [hat, c1, hcv]; rfl) hj2 H locs hP hD hS ls (lv_sub hl [1, 2, 3, 0] rfl)
                  refine lv_if_eq (tgt := 234) hx hb dX1_reckon_226 (by decide) (fun c1 => ?_) (fun c1 => ?_)
                  · have c1 := hg_b_eq0.mp c1
                    refine lv_aload_n hx hb dX1_reckon_234 rfl (lv_at hl 0 rfl) ?_
                    refine va_get (D := (dC, dI)) (ci := 1) (v := .int mi) (C := RX1) (T := TX1) (N := 6) hx hb hts in_X1 hown hK hP 0 rfl rfl 2 (by decide) (hts _ q113) (fun _ h9 => h9) rfl dX1_reckon_235 ?_
                    exact join mi (by rw [hmi, hwe, ← hav, c1]; rfl)
                  · have c1 : av = true := by cases q : av with | true => rfl | false => exact absurd (hg_b_eq0.mpr q) c1
                    refine lv_iload hx hb dX1_reckon_229 (lv_at hl 5 rfl) ?_
                    refine lv_goto (tgt := 238) hx hb dX1_reckon_231 (by decide) ?_
                    exact join (hg_b wv) (by rw [hwe, ← hav, c1, ← hwv]; rfl)
                | succ N iht =>
                  intro t av wv hN h1 hav hwv ls hl
                  refine lv_iload hx hb dX1_reckon_51 (lv_at hl 6 rfl) ?_
                  refine lv_bipush (v := nI 15) hx hb dX1_reckon_53 (by decide) ?_
                  refine lv_icmp_ge (tgt := 208) hx hb dX1_reckon_55 (by decide) (fun c_ => absurd c_ (fun z => absurd ((nI_leI (by omega) (by omega)).mp z) (by omega))) (fun c_ => ?_)
                  refine lv_aload_n hx hb dX1_reckon_58 rfl (lv_at hl 0 rfl) ?_
                  refine va_get (D := (dC, dI)) (ci := 1) (v := .int mv) (C := RX1) (T := TX1) (N := 6) hx hb hts in_X1 hown hK hP 0 rfl rfl 0 (by decide) (hts _ q111) (fun _ h9 => h9) rfl dX1_reckon_59 ?_
                  refine lv_iload hx hb dX1_reckon_62 (lv_at hl 6 rfl) ?_
                  refine lv_ishr hx hb dX1_reckon_64 ?_
                  refine lv_iconst (v := 1) hx hb dX1_reckon_65 (by decide) ?_
                  refine lv_iand hx hb dX1_reckon_66 (hg_is (y := hg_b (hg_al mv t)) (by rw [hg_al_mid mv (by omega) (by omega)]; exact hg_bit mv (by omega)) ?_)
                  refine lv_if_eq (tgt := 202) hx hb dX1_reckon_67 (by decide) (fun c1 => ?_) (fun c1 => ?_)
                  · have c1 := hg_b_eq0.mp c1
                    refine lv_iinc (v := nI (t + 1)) (lv' := [(6, .int (nI (t + 1))), (0, .ref g0), (1, .int (nI x)), (2, .int (nI y)), (3, .int (nI z)), (4, .int (hg_b av)), (5, .int (hg_b wv))]) hx hb dX1_reckon_202 hl (k := 6) rfl (nI_add _ 1) (by decide) rfl (fun ls hl => ?_)
                    refine lv_goto (tgt := 51) hx hb dX1_reckon_205 (by decide) ?_
                    exact iht (t + 1) av wv (by omega) (by omega) (by rw [hg_an_s, ← hav]; simp [hg_any, c1]) (by rw [hg_an_s, ← hwv]; simp [hg_mv, c1]) ls (lv_sub hl [1, 2, 3, 4, 5, 6, 0] rfl)
                  · have c1 : hg_al mv t = true := by cases q : hg_al mv t with | true => rfl | false => exact absurd (hg_b_eq0.mpr q) c1
                    have j202 : ∀ (a1 w1 : Bool), a1 = (((av || decide (t ≤ x)) || decide (t ≤ y)) || decide (t ≤ z)) → w1 = (((wv || (decide (t ≤ x) && !hg_wn (hg_al mv) mis (x - t) y z)) || (decide (t ≤ y) && !hg_wn (hg_al mv) mis x (y - t) z)) || (decide (t ≤ z) && !hg_wn (hg_al mv) mis x y (z - t))) → ∀ ls, lv_has ls 7 [(0, .ref g0), (1, .int (nI x)), (2, .int (nI y)), (3, .int (nI z)), (4, .int (hg_b a1)), (5, .int (hg_b w1)), (6, .int (nI t))] → W p l e (headSpec (ws_ yX1_reckon cX1_reckon 7 none) ({ frames := 0, cells := 0, slots := 0, locals := 0 })).room s m ([.ref g0] : List Value).toArray below meth c H locs 0 0 (MQ below (va_Qv (fun (u : Int32 × Int32 × (Nat → Int32)) => hg_mt (hg_al mv) mis u.1 u.2.1 u.2.2) (fun u t => hg_BG (dC, dI) A (tm e1 e2) (mx g0 b1 b2 e1 e2 mv mi u.1 u.2.1 hf u.2.2) t) A) ([.ref g0] : List Value).toArray s 0 0 A) (F0 m 202 ls []) := by
                      intro a1 w1 ha1 hw1 ls hl
                      refine lv_iinc (v := nI (t + 1)) (lv' := [(6, .int (nI (t + 1))), (0, .ref g0), (1, .int (nI x)), (2, .int (nI y)), (3, .int (nI z)), (4, .int (hg_b a1)), (5, .int (hg_b w1))]) hx hb dX1_reckon_202 hl (k := 6) rfl (nI_add _ 1) (by decide) rfl (fun ls hl => ?_)
                      refine lv_goto (tgt := 51) hx hb dX1_reckon_205 (by decide) ?_
                      exact iht (t + 1) a1 w1 (by omega) (by omega) (by rw [hg_an_s, ← hav, ha1]; simp [hg_any, c1, Bool.or_assoc]) (by rw [hg_an_s, ← hwv, hw1]; simp [hg_mv, c1, Bool.or_assoc]) ls (lv_sub hl [1, 2, 3, 4, 5, 6, 0] rfl)
                    have j158 : ∀ (a1 w1 : Bool), a1 = ((av || decide (t ≤ x)) || decide (t ≤ y)) → w1 = ((wv || (decide (t ≤ x) && !hg_wn (hg_al mv) mis (x - t) y z)) || (decide (t ≤ y) && !hg_wn (hg_al mv) mis x (y - t) z)) → ∀ ls, lv_has ls 7 [(0, .ref g0), (1, .int (nI x)), (2, .int (nI y)), (3, .int (nI z)), (4, .int (hg_b a1)), (5, .int (hg_b w1)), (6, .int (nI t))] → W p l e (headSpec (ws_ yX1_reckon cX1_reckon 7 none) ({ frames := 0, cells := 0, slots := 0, locals := 0 })).room s m ([.ref g0] : List Value).toArray below meth c H locs 0 0 (MQ below (va_Qv (fun (u : Int32 × Int32 × (Nat → Int32)) => hg_mt (hg_al mv) mis u.1 u.2.1 u.2.2) (fun u t => hg_BG (dC, dI) A (tm e1 e2) (mx g0 b1 b2 e1 e2 mv mi u.1 u.2.1 hf u.2.2) t) A) ([.ref g0] : List Value).toArray s 0 0 A) (F0 m 158 ls []) := by
                      intro a1 w1 ha1 hw1 ls hl
                      refine lv_iload hx hb dX1_reckon_158 (lv_at hl 6 rfl) ?_
                      refine lv_iload_n hx hb dX1_reckon_160 rfl (lv_at hl 3 rfl) ?_
                      refine lv_icmp_gt (tgt := 202) hx hb dX1_reckon_161 (by decide) (fun d1 => ?_) (fun d1 => ?_)
                      · have d1 : ¬ t ≤ z := by have := (nI_ltI (by omega) (by omega)).mp d1; omega
                        exact j202 a1 w1 (by rw [← ha1]; simp [d1]) (by rw [← hw1]; simp [d1]) ls (lv_sub hl [0, 1, 2, 3, 4, 5, 6] rfl)
                      · have d1 : t ≤ z := Nat.not_lt.mp (fun w_ => d1 ((nI_ltI (by omega) (by omega)).mpr w_))
                        refine lv_iconst (v := hg_b true) hx hb dX1_reckon_164 (by decide) ?_
                        refine lv_istore (lv' := [(4, .int (hg_b true)), (0, .ref g0), (1, .int (nI x)), (2, .int (nI y)), (3, .int (nI z)), (5, .int (hg_b w1)), (6, .int (nI t))]) hx hb dX1_reckon_165 hl (by decide) rfl (fun ls hl => ?_)
                        refine lv_iload hx hb dX1_reckon_167 (lv_at hl 5 rfl) ?_
                        refine lv_if_ne (tgt := 195) hx hb dX1_reckon_169 (by decide) (fun d2 => ?_) (fun d2 => ?_)
                        · have d2 : w1 = true := by cases q : w1 with | true => rfl | false => exact absurd (hg_b_eq0.mpr q) d2
                          refine lv_iconst (v := hg_b true) hx hb dX1_reckon_195 (by decide) ?_
                          refine lv_goto (tgt := 200) hx hb dX1_reckon_196 (by decide) ?_
                          refine lv_istore (lv' := [(5, .int (hg_b true)), (4, .int (hg_b true)), (0, .ref g0), (1, .int (nI x)), (2, .int (nI y)), (3, .int (nI z)), (6, .int (nI t))]) hx hb dX1_reckon_200 hl (by decide) rfl (fun ls hl => ?_)
                          exact j202 true true (by rw [← ha1]; simp [d1]) (by rw [← hw1]; simp [d2]) ls (lv_sub hl [2, 3, 4, 5, 1, 0, 6] rfl)
                        · have d2 := hg_b_eq0.mp d2
                          refine lv_aload_n hx hb dX1_reckon_172 rfl (lv_at hl 1 rfl) ?_
                          refine va_get (D := (dC, dI)) (ci := 1) (v := .ref b2) (C := RX1) (T := TX1) (N := 6) hx hb hts in_X1 hown hK hP 0 rfl rfl 3 (by decide) (hts _ q114) (fun _ h9 => h9) rfl dX1_reckon_173 ?_
                          refine lv_sipush (v := nI 256) hx hb dX1_reckon_176 (by decide) ?_
                          refine lv_iload_n hx hb dX1_reckon_179 rfl (lv_at hl 2 rfl) ?_
                          refine lv_imul hx hb dX1_reckon_180 (hg_is (y := nI (256 * x)) (pk_mul _ _) ?_)
                          refine lv_bipush (v := nI 16) hx hb dX1_reckon_181 (by decide) ?_
                          refine lv_iload_n hx hb dX1_reckon_183 rfl (lv_at hl 3 rfl) ?_
                          refine lv_imul hx hb dX1_reckon_184 (hg_is (y := nI (16 * y)) (pk_mul _ _) ?_)
                          refine lv_iadd hx hb dX1_reckon_185 (hg_is (y := nI ((256 * x) + (16 * y))) (nI_add _ _) ?_)
                          refine lv_iload_n hx hb dX1_reckon_186 rfl (lv_at hl 4 rfl) ?_
                          refine lv_iadd hx hb dX1_reckon_187 (hg_is (y := nI (((256 * x) + (16 * y)) + z)) (nI_add _ _) ?_)
                          refine lv_iload hx hb dX1_reckon_188 (lv_at hl 6 rfl) ?_
                          refine lv_isub hx hb dX1_reckon_190 (hg_is (y := nI (256 * x + 16 * y + (z - t))) (by rw [pk_sub (by omega)]; exact congrArg nI (by omega)) ?_)
                          refine hg_zald (v := hg_b (hg_wn (hg_al mv) mis x y (z - t))) hx hb hK hP 2 1 rfl rfl (by omega) (by rw [hj _ (by omega), hg_at_abc _ _ (by omega) (by omega)]) (by decide) dX1_reckon_191 ?_
                          refine lv_if_ne (tgt := 199) hx hb dX1_reckon_192 (by decide) (fun d3 => ?_) (fun d3 => ?_)
                          · have d3 : hg_wn (hg_al mv) mis x y (z - t) = true := by cases q : hg_wn (hg_al mv) mis x y (z - t) with | true => rfl | false => exact absurd (hg_b_eq0.mpr q) d3
                            refine lv_iconst (v := hg_b false) hx hb dX1_reckon_199 (by decide) ?_
                            refine lv_istore (lv' := [(5, .int (hg_b false)), (4, .int (hg_b true)), (0, .ref g0), (1, .int (nI x)), (2, .int (nI y)), (3, .int (nI z)), (6, .int (nI t))]) hx hb dX1_reckon_200 hl (by decide) rfl (fun ls hl => ?_)
                            exact j202 true false (by rw [← ha1]; simp [d1]) (by rw [← hw1]; simp [d2, d3]) ls (lv_sub hl [2, 3, 4, 5, 1, 0, 6] rfl)
                          · have d3 := hg_b_eq0.mp d3
                            refine lv_iconst (v := hg_b true) hx hb dX1_reckon_195 (by decide) ?_
                            refine lv_goto (tgt := 200) hx hb dX1_reckon_196 (by decide) ?_
                            refine lv_istore (lv' := [(5, .int (hg_b true)), (4, .int (hg_b true)), (0, .ref g0), (1, .int (nI x)), (2, .int (nI y)), (3, .int (nI z)), (6, .int (nI t))]) hx hb dX1_reckon_200 hl (by decide) rfl (fun ls hl => ?_)
                            exact j202 true true (by rw [← ha1]; simp [d1]) (by rw [← hw1]; simp [d1, d3]) ls (lv_sub hl [2, 3, 4, 5, 1, 0, 6] rfl)
                    have j114 : ∀ (a1 w1 : Bool), a1 = (av || decide (t ≤ x)) → w1 = (wv || (decide (t ≤ x) && !hg_wn (hg_al mv) mis (x - t) y z)) → ∀ ls, lv_has ls 7 [(0, .ref g0), (1, .int (nI x)), (2, .int (nI y)), (3, .int (nI z)), (4, .int (hg_b a1)), (5, .int (hg_b w1)), (6, .int (nI t))] → W p l e (headSpec (ws_ yX1_reckon cX1_reckon 7 none) ({ frames := 0, cells := 0, slots := 0, locals := 0 })).room s m ([.ref g0] : List Value).toArray below meth c H locs 0 0 (MQ below (va_Qv (fun (u : Int32 × Int32 × (Nat → Int32)) => hg_mt (hg_al mv) mis u.1 u.2.1 u.2.2) (fun u t => hg_BG (dC, dI) A (tm e1 e2) (mx g0 b1 b2 e1 e2 mv mi u.1 u.2.1 hf u.2.2) t) A) ([.ref g0] : List Value).toArray s 0 0 A) (F0 m 114 ls []) := by
                      intro a1 w1 ha1 hw1 ls hl
                      refine lv_iload hx hb dX1_reckon_114 (lv_at hl 6 rfl) ?_
                      refine lv_iload_n hx hb dX1_reckon_116 rfl (lv_at hl 2 rfl) ?_
                      refine lv_icmp_gt (tgt := 158) hx hb dX1_reckon_117 (by decide) (fun d1 => ?_) (fun d1 => ?_)
                      · have d1 : ¬ t ≤ y := by have := (nI_ltI (by omega) (by omega)).mp d1; omega
                        exact j158 a1 w1 (by rw [← ha1]; simp [d1]) (by rw [← hw1]; simp [d1]) ls (lv_sub hl [0, 1, 2, 3, 4, 5, 6] rfl)
                      · have d1 : t ≤ y := Nat.not_lt.mp (fun w_ => d1 ((nI_ltI (by omega) (by omega)).mpr w_))
                        refine lv_iconst (v := hg_b true) hx hb dX1_reckon_120 (by decide) ?_
                        refine lv_istore (lv' := [(4, .int (hg_b true)), (0, .ref g0), (1, .int (nI x)), (2, .int (nI y)), (3, .int (nI z)), (5, .int (hg_b w1)), (6, .int (nI t))]) hx hb dX1_reckon_121 hl (by decide) rfl (fun ls hl => ?_)
                        refine lv_iload hx hb dX1_reckon_123 (lv_at hl 5 rfl) ?_
                        refine lv_if_ne (tgt := 151) hx hb dX1_reckon_125 (by decide) (fun d2 => ?_) (fun d2 => ?_)
                        · have d2 : w1 = true := by cases q : w1 with | true => rfl | false => exact absurd (hg_b_eq0.mpr q) d2
                          refine lv_iconst (v := hg_b true) hx hb dX1_reckon_151 (by decide) ?_
                          refine lv_goto (tgt := 156) hx hb dX1_reckon_152 (by decide) ?_
                          refine lv_istore (lv' := [(5, .int (hg_b true)), (4, .int (hg_b true)), (0, .ref g0), (1, .int (nI x)), (2, .int (nI y)), (3, .int (nI z)), (6, .int (nI t))]) hx hb dX1_reckon_156 hl (by decide) rfl (fun ls hl => ?_)
                          exact j158 true true (by rw [← ha1]; simp [d1]) (by rw [← hw1]; simp [d2]) ls (lv_sub hl [2, 3, 4, 5, 1, 0, 6] rfl)
                        · have d2 := hg_b_eq0.mp d2
                          refine lv_aload_n hx hb dX1_reckon_128 rfl (lv_at hl 1 rfl) ?_
                          refine va_get (D := (dC, dI)) (ci := 1) (v := .ref b2) (C := RX1) (T := TX1) (N := 6) hx hb hts in_X1 hown hK hP 0 rfl rfl 3 (by decide) (hts _ q114) (fun _ h9 => h9) rfl dX1_reckon_129 ?_
                          refine lv_sipush (v := nI 256) hx hb dX1_reckon_132 (by decide) ?_
                          refine lv_iload_n hx hb dX1_reckon_135 rfl (lv_at hl 2 rfl) ?_
                          refine lv_imul hx hb dX1_reckon_136 (hg_is (y := nI (256 * x)) (pk_mul _ _) ?_)
                          refine lv_bipush (v := nI 16) hx hb dX1_reckon_137 (by decide) ?_
                          refine lv_iload_n hx hb dX1_reckon_139 rfl (lv_at hl 3 rfl) ?_
                          refine lv_iload hx hb dX1_reckon_140 (lv_at hl 6 rfl) ?_
                          refine lv_isub hx hb dX1_reckon_142 (hg_is (y := nI (y - t)) (pk_sub (by omega)) ?_)
                          refine lv_imul hx hb dX1_reckon_143 (hg_is (y := nI (16 * (y - t))) (pk_mul _ _) ?_)
                          refine lv_iadd hx hb dX1_reckon_144 (hg_is (y := nI ((256 * x) + (16 * (y - t)))) (nI_add _ _) ?_)
                          refine lv_iload_n hx hb dX1_reckon_145 rfl (lv_at hl 4 rfl) ?_
                          refine lv_iadd hx hb dX1_reckon_146 (hg_is (y := nI (((256 * x) + (16 * (y - t))) + z)) (nI_add _ _) ?_)
                          refine hg_zald (v := hg_b (hg_wn (hg_al mv) mis x (y - t) z)) hx hb hK hP 2 1 rfl rfl (by omega) (by rw [hj _ (by omega), hg_at_abc _ _ (by omega) (by omega)]) (by decide) dX1_reckon_147 ?_
                          refine lv_if_ne (tgt := 155) hx hb dX1_reckon_148 (by decide) (fun d3 => ?_) (fun d3 => ?_)
                          · have d3 : hg_wn (hg_al mv) mis x (y - t) z = true := by cases q : hg_wn (hg_al mv) mis x (y - t) z with | true => rfl | false => exact absurd (hg_b_eq0.mpr q) d3
                            refine lv_iconst (v := hg_b false) hx hb dX1_reckon_155 (by decide) ?_
                            refine lv_istore (lv' := [(5, .int (hg_b false)), (4, .int (hg_b true)), (0, .ref g0), (1, .int (nI x)), (2, .int (nI y)), (3, .int (nI z)), (6, .int (nI t))]) hx hb dX1_reckon_156 hl (by decide) rfl (fun ls hl => ?_)
                            exact j158 true false (by rw [← ha1]; simp [d1]) (by rw [← hw1]; simp [d2, d3]) ls (lv_sub hl [2, 3, 4, 5, 1, 0, 6] rfl)
                          · have d3 := hg_b_eq0.mp d3
                            refine lv_iconst (v := hg_b true) hx hb dX1_reckon_151 (by decide) ?_
                            refine lv_goto (tgt := 156) hx hb dX1_reckon_152 (by decide) ?_
                            refine lv_istore (lv' := [(5, .int (hg_b true)), (4, .int (hg_b true)), (0, .ref g0), (1, .int (nI x)), (2, .int (nI y)), (3, .int (nI z)), (6, .int (nI t))]) hx hb dX1_reckon_156 hl (by decide) rfl (fun ls hl => ?_)
                            exact j158 true true (by rw [← ha1]; simp [d1]) (by rw [← hw1]; simp [d1, d3]) ls (lv_sub hl [2, 3, 4, 5, 1, 0, 6] rfl)
                    refine lv_iload hx hb dX1_reckon_70 (lv_at hl 6 rfl) ?_
                    refine lv_iload_n hx hb dX1_reckon_72 rfl (lv_at hl 1 rfl) ?_
                    refine lv_icmp_gt (tgt := 114) hx hb dX1_reckon_73 (by decide) (fun d1 => ?_) (fun d1 => ?_)
                    · have d1 : ¬ t ≤ x := by have := (nI_ltI (by omega) (by omega)).mp d1; omega
                      exact j114 av wv (by skip; simp [d1]) (by skip; simp [d1]) ls (lv_sub hl [0, 1, 2, 3, 4, 5, 6] rfl)
                    · have d1 : t ≤ x := Nat.not_lt.mp (fun w_ => d1 ((nI_ltI (by omega) (by omega)).mpr w_))
                      refine lv_iconst (v := hg_b true) hx hb dX1_reckon_76 (by decide) ?_
                      refine lv_istore (lv' := [(4, .int (hg_b true)), (0, .ref g0), (1, .int (nI x)), (2, .int (nI y)), (3, .int (nI z)), (5, .int (hg_b wv)), (6, .int (nI t))]) hx hb dX1_reckon_77 hl (by decide) rfl (fun ls hl => ?_)
                      refine lv_iload hx hb dX1_reckon_79 (lv_at hl 5 rfl) ?_
                      refine lv_if_ne (tgt := 107) hx hb dX1_reckon_81 (by decide) (fun d2 => ?_) (fun d2 => ?_)
                      · have d2 : wv = true := by cases q : wv with | true => rfl | false => exact absurd (hg_b_eq0.mpr q) d2
                        refine lv_iconst (v := hg_b true) hx hb dX1_reckon_107 (by decide) ?_
                        refine lv_goto (tgt := 112) hx hb dX1_reckon_108 (by decide) ?_
                        refine lv_istore (lv' := [(5, .int (hg_b true)), (4, .int (hg_b true)), (0, .ref g0), (1, .int (nI x)), (2, .int (nI y)), (3, .int (nI z)), (6, .int (nI t))]) hx hb dX1_reckon_112 hl (by decide) rfl (fun ls hl => ?_)
                        exact j114 true true (by skip; simp [d1]) (by skip; simp [d2]) ls (lv_sub hl [2, 3, 4, 5, 1, 0, 6] rfl)
                      · have d2 := hg_b_eq0.mp d2
                        refine lv_aload_n hx hb dX1_reckon_84 rfl (lv_at hl 1 rfl) ?_
                        refine va_get (D := (dC, dI)) (ci := 1) (v := .ref b2) (C := RX1) (T := TX1) (N := 6) hx hb hts in_X1 hown hK hP 0 rfl rfl 3 (by decide) (hts _ q114) (fun _ h9 => h9) rfl dX1_reckon_85 ?_
                        refine lv_sipush (v := nI 256) hx hb dX1_reckon_88 (by decide) ?_
                        refine lv_iload_n hx hb dX1_reckon_91 rfl (lv_at hl 2 rfl) ?_
                        refine lv_iload hx hb dX1_reckon_92 (lv_at hl 6 rfl) ?_
                        refine lv_isub hx hb dX1_reckon_94 (hg_is (y := nI (x - t)) (pk_sub (by omega)) ?_)
                        refine lv_imul hx hb dX1_reckon_95 (hg_is (y := nI (256 * (x - t))) (pk_mul _ _) ?_)
                        refine lv_bipush (v := nI 16) hx hb dX1_reckon_96 (by decide) ?_
                        refine lv_iload_n hx hb dX1_reckon_98 rfl (lv_at hl 3 rfl) ?_
                        refine lv_imul hx hb dX1_reckon_99 (hg_is (y := nI (16 * y)) (pk_mul _ _) ?_)
                        refine lv_iadd hx hb dX1_reckon_100 (hg_is (y := nI ((256 * (x - t)) + (16 * y))) (nI_add _ _) ?_)
                        refine lv_iload_n hx hb dX1_reckon_101 rfl (lv_at hl 4 rfl) ?_
                        refine lv_iadd hx hb dX1_reckon_102 (hg_is (y := nI (((256 * (x - t)) + (16 * y)) + z)) (nI_add _ _) ?_)
                        refine hg_zald (v := hg_b (hg_wn (hg_al mv) mis (x - t) y z)) hx hb hK hP 2 1 rfl rfl (by omega) (by rw [hj _ (by omega), hg_at_abc _ _ (by omega) (by omega)]) (by decide) dX1_reckon_103 ?_
                        refine lv_if_ne (tgt := 111) hx hb dX1_reckon_104 (by decide) (fun d3 => ?_) (fun d3 => ?_)
                        · have d3 : hg_wn (hg_al mv) mis (x - t) y z = true := by cases q : hg_wn (hg_al mv) mis (x - t) y z with | true => rfl | false => exact absurd (hg_b_eq0.mpr q) d3
                          refine lv_iconst (v := hg_b false) hx hb dX1_reckon_111 (by decide) ?_
                          refine lv_istore (lv' := [(5, .int (hg_b false)), (4, .int (hg_b true)), (0, .ref g0), (1, .int (nI x)), (2, .int (nI y)), (3, .int (nI z)), (6, .int (nI t))]) hx hb dX1_reckon_112 hl (by decide) rfl (fun ls hl => ?_)
                          exact j114 true false (by skip; simp [d1]) (by skip; simp [d2, d3]) ls (lv_sub hl [2, 3, 4, 5, 1, 0, 6] rfl)
                        · have d3 := hg_b_eq0.mp d3
                          refine lv_iconst (v := hg_b true) hx hb dX1_reckon_107 (by decide) ?_
                          refine lv_goto (tgt := 112) hx hb dX1_reckon_108 (by decide) ?_
                          refine lv_istore (lv' := [(5, .int (hg_b true)), (4, .int (hg_b true)), (0, .ref g0), (1, .int (nI x)), (2, .int (nI y)), (3, .int (nI z)), (6, .int (nI t))]) hx hb dX1_reckon_112 hl (by decide) rfl (fun ls hl => ?_)
                          exact j114 true true (by skip; simp [d1]) (by skip; simp [d1, d3]) ls (lv_sub hl [2, 3, 4, 5, 1, 0, 6] rfl)
              exact tloop 14 1 false false (by omega) (by omega) (by simp [hg_an, hg_any, hg_al_0]) (by simp [hg_an, hg_mv, hg_al_0]) ls (lv_sub hl [3, 4, 5, 6, 2, 1, 0] rfl)
          exact loop3 16 0 cv wf (by omega) (by rw [hcv]; rfl) (fun j hj2 => hj j (by omega)) H locs hP hD hS ls (lv_sub hl [1, 2, 3, 0] rfl)
      exact loop2 16 0 cv wf (by omega) (by rw [hcv]; rfl) (fun j hj2 => hj j (by omega)) H locs hP hD hS ls (lv_sub hl [1, 2, 0] rfl)
  refine lv_aload_n hx hb dX1_reckon_0 rfl (lv_at hl 0 rfl) ?_
  refine va_get (D := (dC, dI)) (ci := 1) (v := .int k) (C := RX1) (T := TX1) (N := 6) hx hb hts in_X1 hown hK hP 0 rfl rfl 4 (by decide) (hts _ q115) (fun _ h9 => h9) rfl dX1_reckon_1 ?_
  refine lv_if_eq (tgt := 8) hx hb dX1_reckon_4 (by decide) (fun c0 => ?_) (fun c0 => ?_)
  · refine lv_aload_n hx hb dX1_reckon_8 rfl (lv_at hl 0 rfl) ?_
    refine lv_iconst (v := 1) hx hb dX1_reckon_9 (by decide) ?_
    refine va_put (D := (dC, dI)) (ci := 1) (v := .int 1) (ty := .boolean) (C := RX1) (T := TX1) (N := 6) hx hb hts in_X1 tyX1 tyX1_ok nmX1 hown hK hP hD hS 0 rfl rfl 4 (by decide) (hts _ q115) (fun _ h9 => h9) rfl (by decide +kernel) rfl rfl (Nat.le_of_ble_eq_true rfl) dX1_reckon_10 (fun H locs hP hD hS => ?_)
    have hP : va_P (dC, dI) hg_cl (mx g0 b1 b2 e1 e2 mv mi 1 lo hf wf) H := hP
    have hD : va_D A (mx g0 b1 b2 e1 e2 mv mi 1 lo hf wf) := hD
    refine lv_aload_n hx hb dX1_reckon_13 rfl (lv_at hl 0 rfl) ?_
    refine lv_iconst (v := nI 0) hx hb dX1_reckon_14 (by decide) ?_
    refine va_put (D := (dC, dI)) (ci := 1) (v := .int (nI 0)) (ty := .int) (C := RX1) (T := TX1) (N := 6) hx hb hts in_X1 tyX1 tyX1_ok nmX1 hown hK hP hD hS 0 rfl rfl 5 (by decide) (hts _ q116) (fun _ h9 => h9) rfl (by decide +kernel) rfl rfl (Nat.le_of_ble_eq_true rfl) dX1_reckon_15 (fun H locs hP hD hS => ?_)
    have hP : va_P (dC, dI) hg_cl (mx g0 b1 b2 e1 e2 mv mi 1 (nI 0) hf wf) H := hP
    have hD : va_D A (mx g0 b1 b2 e1 e2 mv mi 1 (nI 0) hf wf) := hD
    refine lv_iconst (v := nI 0) hx hb dX1_reckon_18 (by decide) ?_
    refine lv_istore_n (lv' := [(1, .int (nI 0)), (0, .ref g0)]) hx hb dX1_reckon_19 rfl hl (by decide) rfl (fun ls hl => ?_)
    exact loop 16 0 0 wf (by omega) rfl (fun j hj => absurd hj (by omega)) _ _ hP hD hS ls (lv_sub hl [1, 0] rfl)
  · have hk2 : hg_mt (hg_al mv) mis k lo wf := by
      rcases hk with q | q
      · exact absurd q c0
      · exact q
    exact W.vret hx hb hr (fun t_ ht_ hW_ => ⟨⟨(k, lo, wf), rfl, hk2, hg_BGi hP hK hD ht_ hW_.alike⟩, hS.F ht_⟩) hS.2.2 dX1_reckon_7
end
section
set_option maxHeartbeats 4000000 in
set_option maxRecDepth 100000 in
/-- HeapGameModel.first -/
theorem mt_X1_first (l : Launch) (dC : Nat → ClassId) (dI : Nat → Nat → Nat) (g0 b1 b2 : Nat) (e1 e2 : ClassId) (sz : Nat) (mv mi k lo : Int32) (hf wf : Nat → Int32) (mis : Bool) (hp : Nat → Nat) (hhf : ∀ i, i < 3 → hf i = nI (hp i) ∧ hp i < 16) (hmi : mi = hg_b mis) (hk : hg_mtab (hg_al mv) mis k lo wf) : Met l yX1_first (ws_ yX1_first cX1_first 1 (some .boolean)) ({ frames := 1, cells := 0, slots := 0, locals := 26 }) (va_Pc [.ref g0] (hg_PG (dC, dI) sz (tm e1 e2) (mx g0 b1 b2 e1 e2 mv mi k lo hf wf))) (va_Qi (fun (v : Int32) (u : Int32 × Int32 × (Nat → Int32)) => v = hg_b (hg_wn (hg_al mv) mis (hp 0) (hp 1) (hp 2)) ∧ hg_mt (hg_al mv) mis u.1 u.2.1 u.2.2) (fun u t => hg_BG (dC, dI) (va_A (mx g0 b1 b2 e1 e2 mv mi k lo hf wf) sz) (tm e1 e2) (mx g0 b1 b2 e1 e2 mv mi u.1 u.2.1 hf u.2.2) t) (va_A (mx g0 b1 b2 e1 e2 mv mi k lo hf wf) sz)) 0 0 (va_A (mx g0 b1 b2 e1 e2 mv mi k lo hf wf) sz) := by
  refine Met.ofW (cc := cX1_first) (maxL := 1) (ret := (some .boolean)) (by decide) rfl ?_
  intro p e s m args below meth c s₁ B hml hv
  obtain ⟨rfl, hsz, hP, hK, hD0⟩ := hv
  have hx := B.exec
  have hb := B.bytes
  have hr := B.returns
  have hts := atoms_spec (ws := (ws_ yX1_first cX1_first 1 (some .boolean))) B.pre
  have hts : ∀ w ∈ lw_all, w.before _ s = true := fun w h => hts w (List.mem_cons_of_mem _ h)
  have hown : s.vm.findClass RX1 = some m.cls := findClass_of_methodNamed B.named
  have hlocks := B.notSynchronized
  subst hsz
  have hD := hD0.self (sz := s.heap.size)
  generalize hAe : va_A (mx g0 b1 b2 e1 e2 mv mi k lo hf wf) s.heap.size = A at hD ⊢
  have hA : ∀ q : Nat, s.heap.size ≤ q → A q := fun q h => by rw [← hAe]; exact Or.inr h
  have hS : va_S A s.heap s.heap [] := va_S.rf
  have hP : va_P (dC, dI) hg_cl (mx g0 b1 b2 e1 e2 mv mi k lo hf wf) s.heap := hP
  have hl := lv_entry ([.ref g0]) (n := 1) (Nat.le_of_ble_eq_true rfl)
  rw [lg_entry_eq]
  generalize (lg_sl ([.ref g0]) ++ List.replicate (1 - (lg_sl ([.ref g0])).length) Slot.unset).toArray = ls at hl ⊢
  have hl : lv_has ls 1 [(0, .ref g0)] := hl
  have hp0 := hhf 0 (by omega)
  have hp1 := hhf 1 (by omega)
  have hp2 := hhf 2 (by omega)
  refine lv_aload_n hx hb dX1_first_0 rfl (lv_at hl 0 rfl) ?_
  refine hg_cVv (As := []) (rest := []) (q0 := 0) (ci := 1) (wr := []) ⟨hx, hb, hml, hown, hts⟩ (mt_X1_reckon l dC dI g0 b1 b2 e1 e2 _ mv mi k lo hf wf mis hmi hk) (cwV 0 hts (lw_V q147 q149 qs6 q10 q150) rfl rfl rfl (by decide +kernel) ⟨Nat.le_of_ble_eq_true rfl, Nat.le_of_ble_eq_true rfl⟩) hK hP hD hS hA [0, 1, 2] [] [0, 1] rfl rfl rfl rfl rfl rfl (by decide) rfl rfl rfl rfl hl.1 rfl (Nat.le_of_ble_eq_true rfl) dX1_first_1 ⟨Nat.le_of_ble_eq_true rfl, Nat.le_of_ble_eq_true rfl⟩ (fun u_ H locs hw1 hP hD hS => ?_)
  obtain ⟨k2, lo2, wf2⟩ := u_
  have hP : va_P (dC, dI) hg_cl (mx g0 b1 b2 e1 e2 mv mi k2 lo2 hf wf2) H := hP
  have hD : va_D A (mx g0 b1 b2 e1 e2 mv mi k2 lo2 hf wf2) := hD
  have hm2 : hg_mt (hg_al mv) mis k2 lo2 wf2 := hw1
  obtain ⟨hk2, hlo2, htb2⟩ := id hm2
  refine lv_aload_n hx hb dX1_first_4 rfl (lv_at hl 0 rfl) ?_
  refine va_get (D := (dC, dI)) (ci := 1) (v := .ref b2) (C := RX1) (T := TX1) (N := 6) hx hb hts in_X1 hown hK hP 0 rfl rfl 3 (by decide) (hts _ q114) (fun _ h9 => h9) rfl dX1_first_5 ?_
  refine lv_sipush (v := nI 256) hx hb dX1_first_8 (by decide) ?_
  refine lv_aload_n hx hb dX1_first_11 rfl (lv_at hl 0 rfl) ?_
  refine va_get (D := (dC, dI)) (ci := 1) (v := .ref b1) (C := RX1) (T := TX1) (N := 6) hx hb hts in_X1 hown hK hP 0 rfl rfl 1 (by decide) (hts _ q112) (fun _ h9 => h9) rfl dX1_first_12 ?_
  refine lv_iconst (v := nI 0) hx hb dX1_first_15 (by decide) ?_
  refine hg_iald (v := nI (hp 0)) hx hb hK hP 1 0 rfl rfl (by omega) (hp0.1) (by decide) dX1_first_16 ?_
  refine lv_imul hx hb dX1_first_17 (hg_is (y := nI (256 * (hp 0))) (pk_mul _ _) ?_)
  refine lv_bipush (v := nI 16) hx hb dX1_first_18 (by decide) ?_
  refine lv_aload_n hx hb dX1_first_20 rfl (lv_at hl 0 rfl) ?_
  refine va_get (D := (dC, dI)) (ci := 1) (v := .ref b1) (C := RX1) (T := TX1) (N := 6) hx hb hts in_X1 hown hK hP 0 rfl rfl 1 (by decide) (hts _ q112) (fun _ h9 => h9) rfl dX1_first_21 ?_
  refine lv_iconst (v := nI 1) hx hb dX1_first_24 (by decide) ?_
  refine hg_iald (v := nI (hp 1)) hx hb hK hP 1 0 rfl rfl (by omega) (hp1.1) (by decide) dX1_first_25 ?_
  refine lv_imul hx hb dX1_first_26 (hg_is (y := nI (16 * (hp 1))) (pk_mul _ _) ?_)
  refine lv_iadd hx hb dX1_first_27 (hg_is (y := nI ((256 * (hp 0)) + (16 * (hp 1)))) (nI_add _ _) ?_)
  refine lv_aload_n hx hb dX1_first_28 rfl (lv_at hl 0 rfl) ?_
  refine va_get (D := (dC, dI)) (ci := 1) (v := .ref b1) (C := RX1) (T := TX1) (N := 6) hx hb hts in_X1 hown hK hP 0 rfl rfl 1 (by decide) (hts _ q112) (fun _ h9 => h9) rfl dX1_first_29 ?_
  refine lv_iconst (v := nI 2) hx hb dX1_first_32 (by decide) ?_
  refine hg_iald (v := nI (hp 2)) hx hb hK hP 1 0 rfl rfl (by omega) (hp2.1) (by decide) dX1_first_33 ?_
  refine lv_iadd hx hb dX1_first_34 (hg_is (y := nI (((256 * (hp 0)) + (16 * (hp 1))) + (hp 2))) (nI_add _ _) ?_)
  refine hg_zald (v := hg_b (hg_wn (hg_al mv) mis (hp 0) (hp 1) (hp 2))) hx hb hK hP 2 1 rfl rfl (by omega) (by rw [htb2 _ (by omega), hg_at_abc _ _ (by omega) (by omega)]) (by decide) dX1_first_35 ?_
  exact W.zret (v := (hg_b (hg_wn (hg_al mv) mis (hp 0) (hp 1) (hp 2)))) hx hb hr (hg_b_nar _) (fun t_ ht_ hW_ => ⟨⟨(hg_b (hg_wn (hg_al mv) mis (hp 0) (hp 1) (hp 2))), (k2, lo2, wf2), rfl, ⟨rfl, hm2⟩, hg_BGi hP hK hD ht_ hW_.alike⟩, hS.F ht_⟩) hS.2.2 dX1_first_36
set_option maxHeartbeats 4000000 in
set_option maxRecDepth 100000 in
/-- HeapGameModel.lost -/
theorem mt_X1_lost (l : Launch) (dC : Nat → ClassId) (dI : Nat → Nat → Nat) (g0 b1 b2 : Nat) (e1 e2 : ClassId) (sz : Nat) (mv mi k lo : Int32) (hf wf : Nat → Int32) (mis : Bool) (hmi : mi = hg_b mis) (hk : hg_mtab (hg_al mv) mis k lo wf) : Met l yX1_lost (ws_ yX1_lost cX1_lost 1 (some .int)) ({ frames := 1, cells := 0, slots := 0, locals := 26 }) (va_Pc [.ref g0] (hg_PG (dC, dI) sz (tm e1 e2) (mx g0 b1 b2 e1 e2 mv mi k lo hf wf))) (va_Qi (fun (v : Int32) (u : Int32 × Int32 × (Nat → Int32)) => v = nI (hg_cnt (hg_at (hg_al mv) mis) 4096) ∧ hg_mt (hg_al mv) mis u.1 u.2.1 u.2.2) (fun u t => hg_BG (dC, dI) (va_A (mx g0 b1 b2 e1 e2 mv mi k lo hf wf) sz) (tm e1 e2) (mx g0 b1 b2 e1 e2 mv mi u.1 u.2.1 hf u.2.2) t) (va_A (mx g0 b1 b2 e1 e2 mv mi k lo hf wf) sz)) 0 0 (va_A (mx g0 b1 b2 e1 e2 mv mi k lo hf wf) sz) := by
  refine Met.ofW (cc := cX1_lost) (maxL := 1) (ret := (some .int)) (by decide) rfl ?_
  intro p e s m args below meth c s₁ B hml hv
  obtain ⟨rfl, hsz, hP, hK, hD0⟩ := hv
  have hx := B.exec
  have hb := B.bytes
  have hr := B.returns
  have hts := atoms_spec (ws := (ws_ yX1_lost cX1_lost 1 (some .int))) B.pre
  have hts : ∀ w ∈ lw_all, w.before _ s = true := fun w h => hts w (List.mem_cons_of_mem _ h)
  have hown : s.vm.findClass RX1 = some m.cls := findClass_of_methodNamed B.named
  have hlocks := B.notSynchronized
  subst hsz
  have hD := hD0.self (sz := s.heap.size)
  generalize hAe : va_A (mx g0 b1 b2 e1 e2 mv mi k lo hf wf) s.heap.size = A at hD ⊢
  have hA : ∀ q : Nat, s.heap.size ≤ q → A q := fun q h => by rw [← hAe]; exact Or.inr h
  have hS : va_S A s.heap s.heap [] := va_S.rf
  have hP : va_P (dC, dI) hg_cl (mx g0 b1 b2 e1 e2 mv mi k lo hf wf) s.heap := hP
  have hl := lv_entry ([.ref g0]) (n := 1) (Nat.le_of_ble_eq_true rfl)
  rw [lg_entry_eq]
  generalize (lg_sl ([.ref g0]) ++ List.replicate (1 - (lg_sl ([.ref g0])).length) Slot.unset).toArray = ls at hl ⊢
  have hl : lv_has ls 1 [(0, .ref g0)] := hl
  refine lv_aload_n hx hb dX1_lost_0 rfl (lv_at hl 0 rfl) ?_
  refine hg_cVv (As := []) (rest := []) (q0 := 0) (ci := 1) (wr := []) ⟨hx, hb, hml, hown, hts⟩ (mt_X1_reckon l dC dI g0 b1 b2 e1 e2 _ mv mi k lo hf wf mis hmi hk) (cwV 0 hts (lw_V q147 q149 qs6 q10 q150) rfl rfl rfl (by decide +kernel) ⟨Nat.le_of_ble_eq_true rfl, Nat.le_of_ble_eq_true rfl⟩) hK hP hD hS hA [0, 1, 2] [] [0, 1] rfl rfl rfl rfl rfl rfl (by decide) rfl rfl rfl rfl hl.1 rfl (Nat.le_of_ble_eq_true rfl) dX1_lost_1 ⟨Nat.le_of_ble_eq_true rfl, Nat.le_of_ble_eq_true rfl⟩ (fun u_ H locs hw1 hP hD hS => ?_)
  obtain ⟨k2, lo2, wf2⟩ := u_
  have hP : va_P (dC, dI) hg_cl (mx g0 b1 b2 e1 e2 mv mi k2 lo2 hf wf2) H := hP
  have hD : va_D A (mx g0 b1 b2 e1 e2 mv mi k2 lo2 hf wf2) := hD
  have hm2 : hg_mt (hg_al mv) mis k2 lo2 wf2 := hw1
  obtain ⟨hk2, hlo2, htb2⟩ := id hm2
  refine lv_aload_n hx hb dX1_lost_4 rfl (lv_at hl 0 rfl) ?_
  refine va_get (D := (dC, dI)) (ci := 1) (v := .int lo2) (C := RX1) (T := TX1) (N := 6) hx hb hts in_X1 hown hK hP 0 rfl rfl 5 (by decide) (hts _ q116) (fun _ h9 => h9) rfl dX1_lost_5 ?_
  exact W.iret (v := lo2) hx hb hr (fun t_ ht_ hW_ => ⟨⟨lo2, (k2, lo2, wf2), rfl, ⟨hlo2, hm2⟩, hg_BGi hP hK hD ht_ hW_.alike⟩, hS.F ht_⟩) hS.2.2 dX1_lost_8
set_option maxHeartbeats 4000000 in
set_option maxRecDepth 100000 in
/-- HeapGameModel.move -/
theorem mt_X1_move (l : Launch) (dC : Nat → ClassId) (dI : Nat → Nat → Nat) (g0 b1 b2 : Nat) (e1 e2 : ClassId) (sz : Nat) (mv mi k lo : Int32) (hf wf : Nat → Int32) (mis : Bool) (hp : Nat → Nat) (hhf : ∀ i, i < 3 → hf i = nI (hp i) ∧ hp i < 16) (hmi : mi = hg_b mis) (hk : hg_mtab (hg_al mv) mis k lo wf) : Met l yX1_move (ws_ yX1_move cX1_move 4 (some .int)) ({ frames := 1, cells := 0, slots := 0, locals := 26 }) (va_Pc [.ref g0] (hg_PG (dC, dI) sz (tm e1 e2) (mx g0 b1 b2 e1 e2 mv mi k lo hf wf))) (va_Qi (fun (v : Int32) (u : Int32 × Int32 × (Nat → Int32)) => hg_is_mv (hg_al mv) mis hp v ∧ hg_mt (hg_al mv) mis u.1 u.2.1 u.2.2) (fun u t => hg_BG (dC, dI) (va_A (mx g0 b1 b2 e1 e2 mv mi k lo hf wf) sz) (tm e1 e2) (mx g0 b1 b2 e1 e2 mv mi u.1 u.2.1 hf u.2.2) t) (va_A (mx g0 b1 b2 e1 e2 mv mi k lo hf wf) sz)) 0 0 (va_A (mx g0 b1 b2 e1 e2 mv mi k lo hf wf) sz) := by
  refine Met.ofW (cc := cX1_move) (maxL := 4) (ret := (some .int)) (by decide) rfl ?_
  intro p e s m args below meth c s₁ B hml hv
  obtain ⟨rfl, hsz, hP, hK, hD0⟩ := hv
  have hx := B.exec
  have hb := B.bytes
  have hr := B.returns
  have hts := atoms_spec (ws := (ws_ yX1_move cX1_move 4 (some .int))) B.pre
  have hts : ∀ w ∈ lw_all, w.before _ s = true := fun w h => hts w (List.mem_cons_of_mem _ h)
  have hown : s.vm.findClass RX1 = some m.cls := findClass_of_methodNamed B.named
  have hlocks := B.notSynchronized
  subst hsz
  have hD := hD0.self (sz := s.heap.size)
  generalize hAe : va_A (mx g0 b1 b2 e1 e2 mv mi k lo hf wf) s.heap.size = A at hD ⊢
  have hA : ∀ q : Nat, s.heap.size ≤ q → A q := fun q h => by rw [← hAe]; exact Or.inr h
  have hS : va_S A s.heap s.heap [] := va_S.rf
  have hP : va_P (dC, dI) hg_cl (mx g0 b1 b2 e1 e2 mv mi k lo hf wf) s.heap := hP
  have hl := lv_entry ([.ref g0]) (n := 4) (Nat.le_of_ble_eq_true rfl)
  rw [lg_entry_eq]
  generalize (lg_sl ([.ref g0]) ++ List.replicate (4 - (lg_sl ([.ref g0])).length) Slot.unset).toArray = ls at hl ⊢
  have hl : lv_has ls 4 [(0, .ref g0)] := hl
  refine lv_aload_n hx hb dX1_move_0 rfl (lv_at hl 0 rfl) ?_
  refine hg_cVv (As := []) (rest := []) (q0 := 0) (ci := 1) (wr := []) ⟨hx, hb, hml, hown, hts⟩ (mt_X1_reckon l dC dI g0 b1 b2 e1 e2 _ mv mi k lo hf wf mis hmi hk) (cwV 0 hts (lw_V q147 q149 qs6 q10 q150) rfl rfl rfl (by decide +kernel) ⟨Nat.le_of_ble_eq_true rfl, Nat.le_of_ble_eq_true rfl⟩) hK hP hD hS hA [0, 1, 2] [] [0, 1] rfl rfl rfl rfl rfl rfl (by decide) rfl rfl rfl rfl hl.1 rfl (Nat.le_of_ble_eq_true rfl) dX1_move_1 ⟨Nat.le_of_ble_eq_true rfl, Nat.le_of_ble_eq_true rfl⟩ (fun u_ H locs hw1 hP hD hS => ?_)
  obtain ⟨k2, lo2, wf2⟩ := u_
  have hP : va_P (dC, dI) hg_cl (mx g0 b1 b2 e1 e2 mv mi k2 lo2 hf wf2) H := hP
  have hD : va_D A (mx g0 b1 b2 e1 e2 mv mi k2 lo2 hf wf2) := hD
  have hm2 : hg_mt (hg_al mv) mis k2 lo2 wf2 := hw1
  obtain ⟨hk2, hlo2, htb2⟩ := id hm2
  have loop : ∀ (N hi : Nat), hi + N = 3 → (∀ h t, h < hi → hg_gd (hg_al mv) mis hp h t = false) → ∀ (H : Heap) (locs : List Loc), va_P (dC, dI) hg_cl (mx g0 b1 b2 e1 e2 mv mi k2 lo2 hf wf2) H → va_D A (mx g0 b1 b2 e1 e2 mv mi k2 lo2 hf wf2) → va_S A s.heap H locs → ∀ ls, lv_has ls 4 [(0, .ref g0), (1, .int (nI hi))] → W p l e (headSpec (ws_ yX1_move cX1_move 4 (some .int)) ({ frames := 1, cells := 0, slots := 0, locals := 26 })).room s m ([.ref g0] : List Value).toArray below meth c H locs 0 0 (MQ below (va_Qi (fun (v : Int32) (u : Int32 × Int32 × (Nat → Int32)) => hg_is_mv (hg_al mv) mis hp v ∧ hg_mt (hg_al mv) mis u.1 u.2.1 u.2.2) (fun u t => hg_BG (dC, dI) A (tm e1 e2) (mx g0 b1 b2 e1 e2 mv mi u.1 u.2.1 hf u.2.2) t) A) ([.ref g0] : List Value).toArray s 0 0 A) (F0 m 6 ls []) := by
    intro N
    induction N with
    | zero =>
      intro hi hN hno H locs hP hD hS ls hl
      refine lv_iload_n hx hb dX1_move_6 rfl (lv_at hl 1 rfl) ?_
      refine lv_iconst (v := nI 3) hx hb dX1_move_7 (by decide) ?_
      refine lv_icmp_ge (tgt := 132) hx hb dX1_move_8 (by decide) (fun c_ => ?_) (fun c_ => absurd ((nI_leI (by omega) (by omega)).mpr (by omega)) c_)
      refine lv_iconst (v := (-1)) hx hb dX1_move_132 (by decide) ?_
      exact W.iret (v := (-1)) hx hb hr (fun t_ ht_ hW_ => ⟨⟨(-1), (k2, lo2, wf2), rfl, ⟨Or.inl ⟨rfl, fun h t h3 => hno h t (by omega)⟩, hm2⟩, hg_BGi hP hK hD ht_ hW_.alike⟩, hS.F ht_⟩) hS.2.2 dX1_move_133
    | succ N ih =>
      intro hi hN hno H locs hP hD hS ls hl
      have hb1 := (hhf hi (by omega)).2
      refine lv_iload_n hx hb dX1_move_6 rfl (lv_at hl 1 rfl) ?_
      refine lv_iconst (v := nI 3) hx hb dX1_move_7 (by decide) ?_
      refine lv_icmp_ge (tgt := 132) hx hb dX1_move_8 (by decide) (fun c_ => absurd c_ (fun z => absurd ((nI_leI (by omega) (by omega)).mp z) (by omega))) (fun c_ => ?_)
      refine lv_iconst (v := nI 1) hx hb dX1_move_11 (by decide) ?_
      refine lv_istore_n (lv' := [(2, .int (nI 1)), (0, .ref g0), (1, .int (nI hi))]) hx hb dX1_move_12 rfl hl (by decide) rfl (fun ls hl => ?_)
      have inner : ∀ (N2 t : Nat), t + N2 = 15 → 1 ≤ t → (∀ u, u < t → hg_gd (hg_al mv) mis hp hi u = false) → ∀ (H : Heap) (locs : List Loc), va_P (dC, dI) hg_cl (mx g0 b1 b2 e1 e2 mv mi k2 lo2 hf wf2) H → va_D A (mx g0 b1 b2 e1 e2 mv mi k2 lo2 hf wf2) → va_S A s.heap H locs → ∀ ls, lv_has ls 4 [(0, .ref g0), (1, .int (nI hi)), (2, .int (nI t))] → W p l e (headSpec (ws_ yX1_move cX1_move 4 (some .int)) ({ frames := 1, cells := 0, slots := 0, locals := 26 })).room s m ([.ref g0] : List Value).toArray below meth c H locs 0 0 (MQ below (va_Qi (fun (v : Int32) (u : Int32 × Int32 × (Nat → Int32)) => hg_is_mv (hg_al mv) mis hp v ∧ hg_mt (hg_al mv) mis u.1 u.2.1 u.2.2) (fun u t => hg_BG (dC, dI) A (tm e1 e2) (mx g0 b1 b2 e1 e2 mv mi u.1 u.2.1 hf u.2.2) t) A) ([.ref g0] : List Value).toArray s 0 0 A) (F0 m 13 ls []) := by
        intro N2
        induction N2 with
        | zero =>
          intro t hN2 h1 hnt H locs hP hD hS ls hl
          refine lv_iload_n hx hb dX1_move_13 rfl (lv_at hl 2 rfl) ?_
          refine lv_bipush (v := nI 15) hx hb dX1_move_14 (by decide) ?_
          refine lv_icmp_ge (tgt := 126) hx hb dX1_move_16 (by decide) (fun c_ => ?_) (fun c_ => absurd ((nI_leI (by omega) (by omega)).mpr (by omega)) c_)
          refine lv_iinc (v := nI (hi + 1)) (lv' := [(1, .int (nI (hi + 1))), (0, .ref g0), (2, .int (nI t))]) hx hb dX1_move_126 hl (k := 1) rfl (nI_add _ 1) (by decide) rfl (fun ls hl => ?_)
          refine lv_goto (tgt := 6) hx hb dX1_move_129 (by decide) ?_
          refine ih (hi + 1) (by omega) (fun h u hu => ?_) H locs hP hD hS ls (lv_sub hl [1, 0] rfl)
          by_cases q : h = hi
          · subst q
            by_cases q2 : u < t
            · exact hnt u q2
            · simp [hg_gd, hg_al_hi mv (show 14 < u by omega)]
          · exact hno h u (by omega)
        | succ N2 ih2 =>
          intro t hN2 h1 hnt H locs hP hD hS ls hl
          refine lv_iload_n hx hb dX1_move_13 rfl (lv_at hl 2 rfl) ?_
          refine lv_bipush (v := nI 15) hx hb dX1_move_14 (by decide) ?_
          refine lv_icmp_ge (tgt := 126) hx hb dX1_move_16 (by decide) (fun c_ => absurd c_ (fun z => absurd ((nI_leI (by omega) (by omega)).mp z) (by omega))) (fun c_ => ?_)
          refine lv_aload_n hx hb dX1_move_19 rfl (lv_at hl 0 rfl) ?_
          refine va_get (D := (dC, dI)) (ci := 1) (v := .int mv) (C := RX1) (T := TX1) (N := 6) hx hb hts in_X1 hown hK hP 0 rfl rfl 0 (by decide) (hts _ q111) (fun _ h9 => h9) rfl dX1_move_20 ?_
          refine lv_iload_n hx hb dX1_move_23 rfl (lv_at hl 2 rfl) ?_
          refine lv_ishr hx hb dX1_move_24 ?_
          refine lv_iconst (v := 1) hx hb dX1_move_25 (by decide) ?_
          refine lv_iand hx hb dX1_move_26 (hg_is (y := hg_b (hg_al mv t)) (by rw [hg_al_mid mv (by omega) (by omega)]; exact hg_bit mv (by omega)) ?_)
          refine lv_if_eq (tgt := 120) hx hb dX1_move_27 (by decide) (fun c1 => ?_) (fun c1 => ?_)
          · have c1 := hg_b_eq0.mp c1
            refine lv_iinc (v := nI (t + 1)) (lv' := [(2, .int (nI (t + 1))), (0, .ref g0), (1, .int (nI hi))]) hx hb dX1_move_120 hl (k := 2) rfl (nI_add _ 1) (by decide) rfl (fun ls hl => ?_)
            refine lv_goto (tgt := 13) hx hb dX1_move_123 (by decide) ?_
            refine ih2 (t + 1) (by omega) (by omega) (fun u hu => ?_) H locs hP hD hS ls (lv_sub hl [1, 2, 0] rfl)
            by_cases q : u = t
            · subst q
              simp [hg_gd, c1]
            · exact hnt u (by omega)
          · have c1 : hg_al mv t = true := by cases q : hg_al mv t with | true => rfl | false => exact absurd (hg_b_eq0.mpr q) c1
            refine lv_iload_n hx hb dX1_move_30 rfl (lv_at hl 2 rfl) ?_
            refine lv_aload_n hx hb dX1_move_31 rfl (lv_at hl 0 rfl) ?_
            refine va_get (D := (dC, dI)) (ci := 1) (v := .ref b1) (C := RX1) (T := TX1) (N := 6) hx hb hts in_X1 hown hK hP 0 rfl rfl 1 (by decide) (hts _ q112) (fun _ h9 => h9) rfl dX1_move_32 ?_
            refine lv_iload_n hx hb dX1_move_35 rfl (lv_at hl 1 rfl) ?_
            refine hg_iald (v := nI (hp hi)) hx hb hK hP 1 0 rfl rfl (by omega) ((hhf hi (by omega)).1) (by decide) dX1_move_36 ?_
            refine lv_icmp_gt (tgt := 120) hx hb dX1_move_37 (by decide) (fun c2 => ?_) (fun c2 => ?_)
            · have c2 : ¬ t ≤ hp hi := by have := (nI_ltI (by omega) (by omega)).mp c2; omega
              refine lv_iinc (v := nI (t + 1)) (lv' := [(2, .int (nI (t + 1))), (0, .ref g0), (1, .int (nI hi))]) hx hb dX1_move_120 hl (k := 2) rfl (nI_add _ 1) (by decide) rfl (fun ls hl => ?_)
              refine lv_goto (tgt := 13) hx hb dX1_move_123 (by decide) ?_
              refine ih2 (t + 1) (by omega) (by omega) (fun u hu => ?_) H locs hP hD hS ls (lv_sub hl [1, 2, 0] rfl)
              by_cases q : u = t
              · subst q
                simp [hg_gd, c2]
              · exact hnt u (by omega)
            · have c2 : t ≤ hp hi := Nat.not_lt.mp (fun w_ => c2 ((nI_ltI (by omega) (by omega)).mpr w_))
              have hdn := hg_dn_upd hhf hi t (by omega)
              have hd0 := hdn 0 (by omega)
              have hd1 := hdn 1 (by omega)
              have hd2 := hdn 2 (by omega)
              refine lv_aload_n hx hb dX1_move_40 rfl (lv_at hl 0 rfl) ?_
              refine va_get (D := (dC, dI)) (ci := 1) (v := .ref b1) (C := RX1) (T := TX1) (N := 6) hx hb hts in_X1 hown hK hP 0 rfl rfl 1 (by decide) (hts _ q112) (fun _ h9 => h9) rfl dX1_move_41 ?_
              refine lv_iload_n hx hb dX1_move_44 rfl (lv_at hl 1 rfl) ?_
              refine lv_aload_n hx hb dX1_move_45 rfl (lv_at hl 0 rfl) ?_
              refine va_get (D := (dC, dI)) (ci := 1) (v := .ref b1) (C := RX1) (T := TX1) (N := 6) hx hb hts in_X1 hown hK hP 0 rfl rfl 1 (by decide) (hts _ q112) (fun _ h9 => h9) rfl dX1_move_46 ?_
              refine lv_iload_n hx hb dX1_move_49 rfl (lv_at hl 1 rfl) ?_
              refine hg_iald (v := nI (hp hi)) hx hb hK hP 1 0 rfl rfl (by omega) ((hhf hi (by omega)).1) (by decide) dX1_move_50 ?_
              refine lv_iload_n hx hb dX1_move_51 rfl (lv_at hl 2 rfl) ?_
              refine lv_isub hx hb dX1_move_52 (hg_is (y := nI ((hp hi) - t)) (pk_sub (by omega)) ?_)
              refine hg_iast hx hb hK hP hD hS 1 0 rfl rfl (by omega) (by decide) dX1_move_53 (fun H locs hP hD hS => ?_)
              have hP : va_P (dC, dI) hg_cl (mx g0 b1 b2 e1 e2 mv mi k2 lo2 (upd hf hi (nI ((hp hi) - t))) wf2) H := hP
              have hD : va_D A (mx g0 b1 b2 e1 e2 mv mi k2 lo2 (upd hf hi (nI ((hp hi) - t))) wf2) := hD
              refine lv_aload_n hx hb dX1_move_54 rfl (lv_at hl 0 rfl) ?_
              refine va_get (D := (dC, dI)) (ci := 1) (v := .ref b2) (C := RX1) (T := TX1) (N := 6) hx hb hts in_X1 hown hK hP 0 rfl rfl 3 (by decide) (hts _ q114) (fun _ h9 => h9) rfl dX1_move_55 ?_
              refine lv_sipush (v := nI 256) hx hb dX1_move_58 (by decide) ?_
              refine lv_aload_n hx hb dX1_move_61 rfl (lv_at hl 0 rfl) ?_
              refine va_get (D := (dC, dI)) (ci := 1) (v := .ref b1) (C := RX1) (T := TX1) (N := 6) hx hb hts in_X1 hown hK hP 0 rfl rfl 1 (by decide) (hts _ q112) (fun _ h9 => h9) rfl dX1_move_62 ?_
              refine lv_iconst (v := nI 0) hx hb dX1_move_65 (by decide) ?_
              refine hg_iald (v := nI (hg_dn hp hi t 0)) hx hb hK hP 1 0 rfl rfl (by omega) (hd0.1) (by decide) dX1_move_66 ?_
              refine lv_imul hx hb dX1_move_67 (hg_is (y := nI (256 * (hg_dn hp hi t 0))) (pk_mul _ _) ?_)
              refine lv_bipush (v := nI 16) hx hb dX1_move_68 (by decide) ?_
              refine lv_aload_n hx hb dX1_move_70 rfl (lv_at hl 0 rfl) ?_
              refine va_get (D := (dC, dI)) (ci := 1) (v := .ref b1) (C := RX1) (T := TX1) (N := 6) hx hb hts in_X1 hown hK hP 0 rfl rfl 1 (by decide) (hts _ q112) (fun _ h9 => h9) rfl dX1_move_71 ?_
              refine lv_iconst (v := nI 1) hx hb dX1_move_74 (by decide) ?_
              refine hg_iald (v := nI (hg_dn hp hi t 1)) hx hb hK hP 1 0 rfl rfl (by omega) (hd1.1) (by decide) dX1_move_75 ?_
              refine lv_imul hx hb dX1_move_76 (hg_is (y := nI (16 * (hg_dn hp hi t 1))) (pk_mul _ _) ?_)
              refine lv_iadd hx hb dX1_move_77 (hg_is (y := nI ((256 * (hg_dn hp hi t 0)) + (16 * (hg_dn hp hi t 1)))) (nI_add _ _) ?_)
              refine lv_aload_n hx hb dX1_move_78 rfl (lv_at hl 0 rfl) ?_
              refine va_get (D := (dC, dI)) (ci := 1) (v := .ref b1) (C := RX1) (T := TX1) (N := 6) hx hb hts in_X1 hown hK hP 0 rfl rfl 1 (by decide) (hts _ q112) (fun _ h9 => h9) rfl dX1_move_79 ?_
              refine lv_iconst (v := nI 2) hx hb dX1_move_82 (by decide) ?_
              refine hg_iald (v := nI (hg_dn hp hi t 2)) hx hb hK hP 1 0 rfl rfl (by omega) (hd2.1) (by decide) dX1_move_83 ?_
              refine lv_iadd hx hb dX1_move_84 (hg_is (y := nI (((256 * (hg_dn hp hi t 0)) + (16 * (hg_dn hp hi t 1))) + (hg_dn hp hi t 2))) (nI_add _ _) ?_)
              refine hg_zald (v := hg_b (hg_wn (hg_al mv) mis (hg_dn hp hi t 0) (hg_dn hp hi t 1) (hg_dn hp hi t 2))) hx hb hK hP 2 1 rfl rfl (by omega) (by rw [htb2 _ (by omega), hg_at_abc _ _ (by omega) (by omega)]) (by decide) dX1_move_85 ?_
              have join : ∀ v : Int32, v = hg_b (!hg_wn (hg_al mv) mis (hg_dn hp hi t 0) (hg_dn hp hi t 1) (hg_dn hp hi t 2)) → W p l e (headSpec (ws_ yX1_move cX1_move 4 (some .int)) ({ frames := 1, cells := 0, slots := 0, locals := 26 })).room s m ([.ref g0] : List Value).toArray below meth c H locs 0 0 (MQ below (va_Qi (fun (v : Int32) (u : Int32 × Int32 × (Nat → Int32)) => hg_is_mv (hg_al mv) mis hp v ∧ hg_mt (hg_al mv) mis u.1 u.2.1 u.2.2) (fun u t => hg_BG (dC, dI) A (tm e1 e2) (mx g0 b1 b2 e1 e2 mv mi u.1 u.2.1 hf u.2.2) t) A) ([.ref g0] : List Value).toArray s 0 0 A) (F0 m 94 ls [.int v]) := by
                intro v hv
                subst hv
                refine lv_istore_n (lv' := [(3, .int (hg_b (!hg_wn (hg_al mv) mis (hg_dn hp hi t 0) (hg_dn hp hi t 1) (hg_dn hp hi t 2)))), (0, .ref g0), (1, .int (nI hi)), (2, .int (nI t))]) hx hb dX1_move_94 rfl hl (by decide) rfl (fun ls hl => ?_)
                refine lv_aload_n hx hb dX1_move_95 rfl (lv_at hl 1 rfl) ?_
                refine va_get (D := (dC, dI)) (ci := 1) (v := .ref b1) (C := RX1) (T := TX1) (N := 6) hx hb hts in_X1 hown hK hP 0 rfl rfl 1 (by decide) (hts _ q112) (fun _ h9 => h9) rfl dX1_move_96 ?_
                refine lv_iload_n hx hb dX1_move_99 rfl (lv_at hl 2 rfl) ?_
                refine lv_aload_n hx hb dX1_move_100 rfl (lv_at hl 1 rfl) ?_
                refine va_get (D := (dC, dI)) (ci := 1) (v := .ref b1) (C := RX1) (T := TX1) (N := 6) hx hb hts in_X1 hown hK hP 0 rfl rfl 1 (by decide) (hts _ q112) (fun _ h9 => h9) rfl dX1_move_101 ?_
                refine lv_iload_n hx hb dX1_move_104 rfl (lv_at hl 2 rfl) ?_
                refine hg_iald (v := nI (hp hi - t)) hx hb hK hP 1 0 rfl rfl (by omega) (pk_us) (by decide) dX1_move_105 ?_
                refine lv_iload_n hx hb dX1_move_106 rfl (lv_at hl 3 rfl) ?_
                refine lv_iadd hx hb dX1_move_107 (hg_is (y := nI ((hp hi - t) + t)) (nI_add _ _) ?_)
                refine hg_iast hx hb hK hP hD hS 1 0 rfl rfl (by omega) (by decide) dX1_move_108 (fun H locs hP hD hS => ?_)
                have hP : va_P (dC, dI) hg_cl (mx g0 b1 b2 e1 e2 mv mi k2 lo2 (upd (upd hf hi (nI ((hp hi) - t))) hi (nI ((hp hi - t) + t))) wf2) H := hP
                have hD : va_D A (mx g0 b1 b2 e1 e2 mv mi k2 lo2 (upd (upd hf hi (nI ((hp hi) - t))) hi (nI ((hp hi - t) + t))) wf2) := hD
                have ehf : upd (upd hf hi (nI ((hp hi) - t))) hi (nI ((hp hi - t) + t)) = hf := by
                  funext j
                  by_cases q : j = hi
                  · subst q
                    rw [pk_us, (hhf _ (by omega)).1]
                    exact congrArg nI (by omega)
                  · rw [pk_un q, pk_un q]
                rw [ehf] at hP hD
                refine lv_iload_n hx hb dX1_move_109 rfl (lv_at hl 0 rfl) ?_
                refine lv_if_eq (tgt := 120) hx hb dX1_move_110 (by decide) (fun c3 => ?_) (fun c3 => ?_)
                · have c3 := hg_b_eq0.mp c3
                  refine lv_iinc (v := nI (t + 1)) (lv' := [(2, .int (nI (t + 1))), (3, .int (hg_b (!hg_wn (hg_al mv) mis (hg_dn hp hi t 0) (hg_dn hp hi t 1) (hg_dn hp hi t 2)))), (0, .ref g0), (1, .int (nI hi))]) hx hb dX1_move_120 hl (k := 3) rfl (nI_add _ 1) (by decide) rfl (fun ls hl => ?_)
                  refine lv_goto (tgt := 13) hx hb dX1_move_123 (by decide) ?_
                  refine ih2 (t + 1) (by omega) (by omega) (fun u hu => ?_) H locs hP hD hS ls (lv_sub hl [2, 3, 0] rfl)
                  by_cases q : u = t
                  · subst q
                    simp only [hg_gd, c3, Bool.and_false]
                  · exact hnt u (by omega)
                · have c3 : (!hg_wn (hg_al mv) mis (hg_dn hp hi t 0) (hg_dn hp hi t 1) (hg_dn hp hi t 2)) = true := by cases q : (!hg_wn (hg_al mv) mis (hg_dn hp hi t 0) (hg_dn hp hi t 1) (hg_dn hp hi t 2)) with | true => rfl | false => exact absurd (hg_b_eq0.mpr q) c3
                  refine lv_bipush (v := nI 16) hx hb dX1_move_113 (by decide) ?_
                  refine lv_iload_n hx hb dX1_move_115 rfl (lv_at hl 2 rfl) ?_
                  refine lv_imul hx hb dX1_move_116 (hg_is (y := nI (16 * hi)) (pk_mul _ _) ?_)
                  refine lv_iload_n hx hb dX1_move_117 rfl (lv_at hl 3 rfl) ?_
                  refine lv_iadd hx hb dX1_move_118 (hg_is (y := nI ((16 * hi) + t)) (nI_add _ _) ?_)
                  exact W.iret (v := (nI ((16 * hi) + t))) hx hb hr (fun t_ ht_ hW_ => ⟨⟨(nI ((16 * hi) + t)), (k2, lo2, wf2), rfl, ⟨Or.inr ⟨hi, t, by omega, by omega, rfl, by simp only [hg_gd, c1, c3, Bool.and_true, Bool.true_and]; exact decide_eq_true c2, hno, hnt⟩, hm2⟩, hg_BGi hP hK hD ht_ hW_.alike⟩, hS.F ht_⟩) hS.2.2 dX1_move_119
              refine lv_if_ne (tgt := 93) hx hb dX1_move_86 (by decide) (fun c4 => ?_) (fun c4 => ?_)
              · refine lv_iconst (v := 0) hx hb dX1_move_93 (by decide) ?_
                exact join 0 (by cases q : hg_wn (hg_al mv) mis (hg_dn hp hi t 0) (hg_dn hp hi t 1) (hg_dn hp hi t 2) with | true => rfl | false => exact absurd (by rw [q]; rfl) c4)
              · refine lv_iconst (v := 1) hx hb dX1_move_89 (by decide) ?_
                refine lv_goto (tgt := 94) hx hb dX1_move_90 (by decide) ?_
                exact join 1 (by rw [hg_b_eq0.mp c4]; rfl)
      exact inner 14 1 (by omega) (by omega) (fun u hu => by have e : u = 0 := (by omega); rw [e]; simp [hg_gd, hg_al_0]) H locs hP hD hS ls (lv_sub hl [1, 2, 0] rfl)
  refine lv_iconst (v := nI 0) hx hb dX1_move_4 (by decide) ?_
  refine lv_istore_n (lv' := [(1, .int (nI 0)), (0, .ref g0)]) hx hb dX1_move_5 rfl hl (by decide) rfl (fun ls hl => ?_)
  exact loop 3 0 (by omega) (fun h t hh => absurd hh (Nat.not_lt_zero h)) _ _ hP hD hS ls (lv_sub hl [1, 0] rfl)
set_option maxHeartbeats 4000000 in
set_option maxRecDepth 100000 in
/-- HeapGameModel.take -/
theorem mt_X1_take (l : Launch) (dC : Nat → ClassId) (dI : Nat → Nat → Nat) (g0 b1 b2 : Nat) (e1 e2 : ClassId) (sz : Nat) (mv mi k lo : Int32) (hf wf : Nat → Int32) (hp : Nat → Nat) (hhf : ∀ i, i < 3 → hf i = nI (hp i) ∧ hp i < 16) (x y : Int32) : Met l yX1_take (ws_ yX1_take cX1_take 5 (some .boolean)) ({ frames := 0, cells := 0, slots := 0, locals := 0 }) (va_Pc [.ref g0, .int x, .int y] (hg_PG (dC, dI) sz (tm e1 e2) (mx g0 b1 b2 e1 e2 mv mi k lo hf wf))) (va_Qi (fun (v : Int32) (u : Nat → Int32) => v = hg_b (hg_tk (hg_al mv) hp x y) ∧ ∀ i, i < 3 → u i = nI (hg_tkh (hg_al mv) hp x y i) ∧ hg_tkh (hg_al mv) hp x y i < 16) (fun u t => hg_BG (dC, dI) (va_A (mx g0 b1 b2 e1 e2 mv mi k lo hf wf) sz) (tm e1 e2) (mx g0 b1 b2 e1 e2 mv mi k lo u wf) t) (va_A (mx g0 b1 b2 e1 e2 mv mi k lo hf wf) sz)) 0 0 (va_A (mx g0 b1 b2 e1 e2 mv mi k lo hf wf) sz) := by
  refine Met.ofW (cc := cX1_take) (maxL := 5) (ret := (some .boolean)) (by decide) rfl ?_
  intro p e s m args below meth c s₁ B hml hv
  obtain ⟨rfl, hsz, hP, hK, hD0⟩ := hv
  have hx := B.exec
  have hb := B.bytes
  have hr := B.returns
  have hts := atoms_spec (ws := (ws_ yX1_take cX1_take 5 (some .boolean))) B.pre
  have hts : ∀ w ∈ lw_all, w.before _ s = true := fun w h => hts w (List.mem_cons_of_mem _ h)
  have hown : s.vm.findClass RX1 = some m.cls := findClass_of_methodNamed B.named
  have hlocks := B.notSynchronized
  subst hsz
  have hD := hD0.self (sz := s.heap.size)
  generalize hAe : va_A (mx g0 b1 b2 e1 e2 mv mi k lo hf wf) s.heap.size = A at hD ⊢
  have hA : ∀ q : Nat, s.heap.size ≤ q → A q := fun q h => by rw [← hAe]; exact Or.inr h
  have hS : va_S A s.heap s.heap [] := va_S.rf
  have hP : va_P (dC, dI) hg_cl (mx g0 b1 b2 e1 e2 mv mi k lo hf wf) s.heap := hP
  have hl := lv_entry ([.ref g0, .int x, .int y]) (n := 5) (Nat.le_of_ble_eq_true rfl)
  rw [lg_entry_eq]
  generalize (lg_sl ([.ref g0, .int x, .int y]) ++ List.replicate (5 - (lg_sl ([.ref g0, .int x, .int y])).length) Slot.unset).toArray = ls at hl ⊢
  have hl : lv_has ls 5 [(0, .ref g0), (1, .int x), (2, .int y)] := hl
  have hlx := hg_lo_lt x
  have hly := hg_lo_lt y
  have hfr := hg_fr_lt x
  have hmn := hg_mn_lt y
  have hb1 := (hhf (hg_fr x) hfr).2
  refine lv_iload_n hx hb dX1_take_0 rfl (lv_at hl 1 rfl) ?_
  refine lv_ldc (own := RX1) hx hb hown (hts _ q159) dX1_take_1 ?_
  refine lv_iand hx hb dX1_take_3 (hg_is (y := nI (hg_lo x)) (hg_lo_and x) ?_)
  refine lv_iconst (v := nI 3) hx hb dX1_take_4 (by decide) ?_
  refine lv_irem hx hb dX1_take_5 (by decide) (hg_is (y := nI (hg_fr x)) (pk_rem (by omega) (by omega) (by omega)) ?_)
  refine lv_istore_n (lv' := [(3, .int (nI (hg_fr x))), (0, .ref g0), (1, .int x), (2, .int y)]) hx hb dX1_take_6 rfl hl (by decide) rfl (fun ls hl => ?_)
  refine lv_iconst (v := nI 1) hx hb dX1_take_7 (by decide) ?_
  refine lv_iload_n hx hb dX1_take_8 rfl (lv_at hl 3 rfl) ?_
  refine lv_ldc (own := RX1) hx hb hown (hts _ q159) dX1_take_9 ?_
  refine lv_iand hx hb dX1_take_11 (hg_is (y := nI (hg_lo y)) (hg_lo_and y) ?_)
  refine lv_bipush (v := nI 14) hx hb dX1_take_12 (by decide) ?_
  refine lv_irem hx hb dX1_take_14 (by decide) (hg_is (y := nI ((hg_lo y) % 14)) (pk_rem (by omega) (by omega) (by omega)) ?_)
  refine lv_iadd hx hb dX1_take_15 (hg_is (y := nI (hg_mn y)) (nI_add _ _) ?_)
  refine lv_istore (lv' := [(4, .int (nI (hg_mn y))), (3, .int (nI (hg_fr x))), (0, .ref g0), (1, .int x), (2, .int y)]) hx hb dX1_take_16 hl (by decide) rfl (fun ls hl => ?_)
  refine lv_aload_n hx hb dX1_take_18 rfl (lv_at hl 2 rfl) ?_
  refine va_get (D := (dC, dI)) (ci := 1) (v := .int mv) (C := RX1) (T := TX1) (N := 6) hx hb hts in_X1 hown hK hP 0 rfl rfl 0 (by decide) (hts _ q111) (fun _ h9 => h9) rfl dX1_take_19 ?_
  refine lv_iload hx hb dX1_take_22 (lv_at hl 0 rfl) ?_
  refine lv_ishr hx hb dX1_take_24 ?_
  refine lv_iconst (v := 1) hx hb dX1_take_25 (by decide) ?_
  refine lv_iand hx hb dX1_take_26 (hg_is (y := hg_b (hg_al mv (hg_mn y))) (by rw [hg_al_mid mv (by omega) (by omega)]; exact hg_bit mv (by omega)) ?_)
  refine lv_if_eq (tgt := 41) hx hb dX1_take_27 (by decide) (fun c1 => ?_) (fun c1 => ?_)
  · have c1 := hg_b_eq0.mp c1
    refine lv_iconst (v := 0) hx hb dX1_take_41 (by decide) ?_
    have e : hg_tk (hg_al mv) hp x y = false := by simp [hg_tk, c1]
    exact W.zret (v := 0) hx hb hr (rfl) (fun t_ ht_ hW_ => ⟨⟨0, hf, rfl, ⟨by rw [e]; rfl, fun i hi => by unfold hg_tkh; rw [e]; exact hhf i hi⟩, hg_BGi hP hK hD ht_ hW_.alike⟩, hS.F ht_⟩) hS.2.2 dX1_take_42
  · have c1 : hg_al mv (hg_mn y) = true := by cases q : hg_al mv (hg_mn y) with | true => rfl | false => exact absurd (hg_b_eq0.mpr q) c1
    refine lv_iload hx hb dX1_take_30 (lv_at hl 0 rfl) ?_
    refine lv_aload_n hx hb dX1_take_32 rfl (lv_at hl 2 rfl) ?_
    refine va_get (D := (dC, dI)) (ci := 1) (v := .ref b1) (C := RX1) (T := TX1) (N := 6) hx hb hts in_X1 hown hK hP 0 rfl rfl 1 (by decide) (hts _ q112) (fun _ h9 => h9) rfl dX1_take_33 ?_
    refine lv_iload_n hx hb dX1_take_36 rfl (lv_at hl 1 rfl) ?_
    refine hg_iald (v := nI (hp (hg_fr x))) hx hb hK hP 1 0 rfl rfl (by omega) ((hhf _ hfr).1) (by decide) dX1_take_37 ?_
    refine lv_icmp_le (tgt := 43) hx hb dX1_take_38 (by decide) (fun c2 => ?_) (fun c2 => ?_)
    · have c2 := (nI_leI (by omega) (by omega)).mp c2
      refine lv_aload_n hx hb dX1_take_43 rfl (lv_at hl 2 rfl) ?_
      refine va_get (D := (dC, dI)) (ci := 1) (v := .ref b1) (C := RX1) (T := TX1) (N := 6) hx hb hts in_X1 hown hK hP 0 rfl rfl 1 (by decide) (hts _ q112) (fun _ h9 => h9) rfl dX1_take_44 ?_
      refine lv_iload_n hx hb dX1_take_47 rfl (lv_at hl 1 rfl) ?_
      refine lv_aload_n hx hb dX1_take_48 rfl (lv_at hl 2 rfl) ?_
      refine va_get (D := (dC, dI)) (ci := 1) (v := .ref b1) (C := RX1) (T := TX1) (N := 6) hx hb hts in_X1 hown hK hP 0 rfl rfl 1 (by decide) (hts _ q112) (fun _ h9 => h9) rfl dX1_take_49 ?_
      refine lv_iload_n hx hb dX1_take_52 rfl (lv_at hl 1 rfl) ?_
      refine hg_iald (v := nI (hp (hg_fr x))) hx hb hK hP 1 0 rfl rfl (by omega) ((hhf _ hfr).1) (by decide) dX1_take_53 ?_
      refine lv_iload hx hb dX1_take_54 (lv_at hl 0 rfl) ?_
      refine lv_isub hx hb dX1_take_56 (hg_is (y := nI ((hp (hg_fr x)) - (hg_mn y))) (pk_sub (by omega)) ?_)
      refine hg_iast hx hb hK hP hD hS 1 0 rfl rfl (by omega) (by decide) dX1_take_57 (fun H locs hP hD hS => ?_)
      have hP : va_P (dC, dI) hg_cl (mx g0 b1 b2 e1 e2 mv mi k lo (upd hf (hg_fr x) (nI ((hp (hg_fr x)) - (hg_mn y)))) wf) H := hP
      have hD : va_D A (mx g0 b1 b2 e1 e2 mv mi k lo (upd hf (hg_fr x) (nI ((hp (hg_fr x)) - (hg_mn y)))) wf) := hD
      refine lv_iconst (v := 1) hx hb dX1_take_58 (by decide) ?_
      have e : hg_tk (hg_al mv) hp x y = true := by simp [hg_tk, c1, c2]
      exact W.zret (v := 1) hx hb hr (rfl) (fun t_ ht_ hW_ => ⟨⟨1, upd hf (hg_fr x) (nI ((hp (hg_fr x)) - (hg_mn y))), rfl, ⟨by rw [e]; rfl, fun i hi => by unfold hg_tkh; rw [e]; exact hg_dn_upd hhf _ _ hfr i hi⟩, hg_BGi hP hK hD ht_ hW_.alike⟩, hS.F ht_⟩) hS.2.2 dX1_take_59
    · have c2 : ¬ hg_mn y ≤ hp (hg_fr x) := fun z => c2 ((nI_leI (by omega) (by omega)).mpr z)
      refine lv_iconst (v := 0) hx hb dX1_take_41 (by decide) ?_
      have e : hg_tk (hg_al mv) hp x y = false := by simp [hg_tk, c2]
      exact W.zret (v := 0) hx hb hr (rfl) (fun t_ ht_ hW_ => ⟨⟨0, hf, rfl, ⟨by rw [e]; rfl, fun i hi => by unfold hg_tkh; rw [e]; exact hhf i hi⟩, hg_BGi hP hK hD ht_ hW_.alike⟩, hS.F ht_⟩) hS.2.2 dX1_take_42
set_option maxHeartbeats 4000000 in
set_option maxRecDepth 100000 in
/-- HeapGameModel.heap -/
theorem mt_X1_heap (l : Launch) (dC : Nat → ClassId) (dI : Nat → Nat → Nat) (g0 b1 b2 : Nat) (e1 e2 : ClassId) (sz : Nat) (mv mi k lo : Int32) (hf wf : Nat → Int32) (hp : Nat → Nat) (hhf : ∀ i, i < 3 → hf i = nI (hp i) ∧ hp i < 16) (x : Int32) : Met l yX1_heap (ws_ yX1_heap cX1_heap 2 (some .int)) ({ frames := 0, cells := 0, slots := 0, locals := 0 }) (va_Pc [.ref g0, .int x] (hg_PG (dC, dI) sz (tm e1 e2) (mx g0 b1 b2 e1 e2 mv mi k lo hf wf))) (va_Qi (fun (v : Int32) (_ : Unit) => v = nI (hp (hg_fr x))) (fun u t => hg_BG (dC, dI) (va_A (mx g0 b1 b2 e1 e2 mv mi k lo hf wf) sz) (tm e1 e2) (mx g0 b1 b2 e1 e2 mv mi k lo hf wf) t) (va_A (mx g0 b1 b2 e1 e2 mv mi k lo hf wf) sz)) 0 0 (va_A (mx g0 b1 b2 e1 e2 mv mi k lo hf wf) sz) := by
  refine Met.ofW (cc := cX1_heap) (maxL := 2) (ret := (some .int)) (by decide) rfl ?_
  intro p e s m args below meth c s₁ B hml hv
  obtain ⟨rfl, hsz, hP, hK, hD0⟩ := hv
  have hx := B.exec
  have hb := B.bytes
  have hr := B.returns
  have hts := atoms_spec (ws := (ws_ yX1_heap cX1_heap 2 (some .int))) B.pre
  have hts : ∀ w ∈ lw_all, w.before _ s = true := fun w h => hts w (List.mem_cons_of_mem _ h)
  have hown : s.vm.findClass RX1 = some m.cls := findClass_of_methodNamed B.named
  have hlocks := B.notSynchronized
  subst hsz
  have hD := hD0.self (sz := s.heap.size)
  generalize hAe : va_A (mx g0 b1 b2 e1 e2 mv mi k lo hf wf) s.heap.size = A at hD ⊢
  have hA : ∀ q : Nat, s.heap.size ≤ q → A q := fun q h => by rw [← hAe]; exact Or.inr h
  have hS : va_S A s.heap s.heap [] := va_S.rf
  have hP : va_P (dC, dI) hg_cl (mx g0 b1 b2 e1 e2 mv mi k lo hf wf) s.heap := hP
  have hl := lv_entry ([.ref g0, .int x]) (n := 2) (Nat.le_of_ble_eq_true rfl)
  rw [lg_entry_eq]
  generalize (lg_sl ([.ref g0, .int x]) ++ List.replicate (2 - (lg_sl ([.ref g0, .int x])).length) Slot.unset).toArray = ls at hl ⊢
  have hl : lv_has ls 2 [(0, .ref g0), (1, .int x)] := hl
  have hlx := hg_lo_lt x
  have hfr := hg_fr_lt x
  refine lv_aload_n hx hb dX1_heap_0 rfl (lv_at hl 0 rfl) ?_
  refine va_get (D := (dC, dI)) (ci := 1) (v := .ref b1) (C := RX1) (T := TX1) (N := 6) hx hb hts in_X1 hown hK hP 0 rfl rfl 1 (by decide) (hts _ q112) (fun _ h9 => h9) rfl dX1_heap_1 ?_
  refine lv_iload_n hx hb dX1_heap_4 rfl (lv_at hl 1 rfl) ?_
  refine lv_ldc (own := RX1) hx hb hown (hts _ q159) dX1_heap_5 ?_
  refine lv_iand hx hb dX1_heap_7 (hg_is (y := nI (hg_lo x)) (hg_lo_and x) ?_)
  refine lv_iconst (v := nI 3) hx hb dX1_heap_8 (by decide) ?_
  refine lv_irem hx hb dX1_heap_9 (by decide) (hg_is (y := nI (hg_fr x)) (pk_rem (by omega) (by omega) (by omega)) ?_)
  refine hg_iald (v := nI (hp (hg_fr x))) hx hb hK hP 1 0 rfl rfl (by omega) ((hhf _ hfr).1) (by decide) dX1_heap_10 ?_
  exact W.iret (v := (nI (hp (hg_fr x)))) hx hb hr (fun t_ ht_ hW_ => ⟨⟨(nI (hp (hg_fr x))), (), rfl, rfl, hg_BGi hP hK hD ht_ hW_.alike⟩, hS.F ht_⟩) hS.2.2 dX1_heap_11
set_option maxHeartbeats 4000000 in
set_option maxRecDepth 100000 in
/-- HeapGameModel.rules -/
theorem mt_X1_rules (l : Launch) (dC : Nat → ClassId) (dI : Nat → Nat → Nat) (g0 b1 b2 : Nat) (e1 e2 : ClassId) (sz : Nat) (mv mi k lo : Int32) (hf wf : Nat → Int32) (x : Int32) : Met l yX1_rules (ws_ yX1_rules cX1_rules 2 none) ({ frames := 0, cells := 0, slots := 0, locals := 0 }) (va_Pc [.ref g0, .int x] (hg_PG (dC, dI) sz (tm e1 e2) (mx g0 b1 b2 e1 e2 mv mi k lo hf wf))) (va_Qv (fun (_ : Unit) => True) (fun u t => hg_BG (dC, dI) (va_A (mx g0 b1 b2 e1 e2 mv mi k lo hf wf) sz) (tm e1 e2) (mx g0 b1 b2 e1 e2 (x &&& 32766) mi 0 lo hf wf) t) (va_A (mx g0 b1 b2 e1 e2 mv mi k lo hf wf) sz)) 0 0 (va_A (mx g0 b1 b2 e1 e2 mv mi k lo hf wf) sz) := by
  refine Met.ofW (cc := cX1_rules) (maxL := 2) (ret := none) (by decide) rfl ?_
  intro p e s m args below meth c s₁ B hml hv
  obtain ⟨rfl, hsz, hP, hK, hD0⟩ := hv
  have hx := B.exec
  have hb := B.bytes
  have hr := B.returns
  have hts := atoms_spec (ws := (ws_ yX1_rules cX1_rules 2 none)) B.pre
  have hts : ∀ w ∈ lw_all, w.before _ s = true := fun w h => hts w (List.mem_cons_of_mem _ h)
  have hown : s.vm.findClass RX1 = some m.cls := findClass_of_methodNamed B.named
  have hlocks := B.notSynchronized
  subst hsz
  have hD := hD0.self (sz := s.heap.size)
  generalize hAe : va_A (mx g0 b1 b2 e1 e2 mv mi k lo hf wf) s.heap.size = A at hD ⊢
  have hA : ∀ q : Nat, s.heap.size ≤ q → A q := fun q h => by rw [← hAe]; exact Or.inr h
  have hS : va_S A s.heap s.heap [] := va_S.rf
  have hP : va_P (dC, dI) hg_cl (mx g0 b1 b2 e1 e2 mv mi k lo hf wf) s.heap := hP
  have hl := lv_entry ([.ref g0, .int x]) (n := 2) (Nat.le_of_ble_eq_true rfl)
  rw [lg_entry_eq]
  generalize (lg_sl ([.ref g0, .int x]) ++ List.replicate (2 - (lg_sl ([.ref g0, .int x])).length) Slot.unset).toArray = ls at hl ⊢
  have hl : lv_has ls 2 [(0, .ref g0), (1, .int x)] := hl
  refine lv_aload_n hx hb dX1_rules_0 rfl (lv_at hl 0 rfl) ?_
  refine lv_iload_n hx hb dX1_rules_1 rfl (lv_at hl 1 rfl) ?_
  refine lv_sipush (v := 32766) hx hb dX1_rules_2 (by decide) ?_
  refine lv_iand hx hb dX1_rules_5 ?_
  refine va_put (D := (dC, dI)) (ci := 1) (v := .int (x &&& 32766)) (ty := .int) (C := RX1) (T := TX1) (N := 6) hx hb hts in_X1 tyX1 tyX1_ok nmX1 hown hK hP hD hS 0 rfl rfl 0 (by decide) (hts _ q111) (fun _ h9 => h9) rfl (by decide +kernel) rfl rfl (Nat.le_of_ble_eq_true rfl) dX1_rules_6 (fun H locs hP hD hS => ?_)
  have hP : va_P (dC, dI) hg_cl (mx g0 b1 b2 e1 e2 (x &&& 32766) mi k lo hf wf) H := hP
  have hD : va_D A (mx g0 b1 b2 e1 e2 (x &&& 32766) mi k lo hf wf) := hD
  refine lv_aload_n hx hb dX1_rules_9 rfl (lv_at hl 0 rfl) ?_
  refine lv_iconst (v := 0) hx hb dX1_rules_10 (by decide) ?_
  refine va_put (D := (dC, dI)) (ci := 1) (v := .int 0) (ty := .boolean) (C := RX1) (T := TX1) (N := 6) hx hb hts in_X1 tyX1 tyX1_ok nmX1 hown hK hP hD hS 0 rfl rfl 4 (by decide) (hts _ q115) (fun _ h9 => h9) rfl (by decide +kernel) rfl rfl (Nat.le_of_ble_eq_true rfl) dX1_rules_11 (fun H locs hP hD hS => ?_)
  have hP : va_P (dC, dI) hg_cl (mx g0 b1 b2 e1 e2 (x &&& 32766) mi 0 lo hf wf) H := hP
  have hD : va_D A (mx g0 b1 b2 e1 e2 (x &&& 32766) mi 0 lo hf wf) := hD
  exact W.vret hx hb hr (fun t_ ht_ hW_ => ⟨⟨(), rfl, trivial, hg_BGi hP hK hD ht_ hW_.alike⟩, hS.F ht_⟩) hS.2.2 dX1_rules_14
set_option maxHeartbeats 4000000 in
set_option maxRecDepth 100000 in
/-- HeapGameModel.turned -/
theorem mt_X1_turned (l : Launch) (dC : Nat → ClassId) (dI : Nat → Nat → Nat) (g0 b1 b2 : Nat) (e1 e2 : ClassId) (sz : Nat) (mv mi k lo : Int32) (hf wf : Nat → Int32) (x : Int32) : Met l yX1_turned (ws_ yX1_turned cX1_turned 2 none) ({ frames := 0, cells := 0, slots := 0, locals := 0 }) (va_Pc [.ref g0, .int x] (hg_PG (dC, dI) sz (tm e1 e2) (mx g0 b1 b2 e1 e2 mv mi k lo hf wf))) (va_Qv (fun (_ : Unit) => True) (fun u t => hg_BG (dC, dI) (va_A (mx g0 b1 b2 e1 e2 mv mi k lo hf wf) sz) (tm e1 e2) (mx g0 b1 b2 e1 e2 mv (hg_b (hg_odd x)) 0 lo hf wf) t) (va_A (mx g0 b1 b2 e1 e2 mv mi k lo hf wf) sz)) 0 0 (va_A (mx g0 b1 b2 e1 e2 mv mi k lo hf wf) sz) := by
  refine Met.ofW (cc := cX1_turned) (maxL := 2) (ret := none) (by decide) rfl ?_
  intro p e s m args below meth c s₁ B hml hv
  obtain ⟨rfl, hsz, hP, hK, hD0⟩ := hv
  have hx := B.exec
  have hb := B.bytes
  have hr := B.returns
  have hts := atoms_spec (ws := (ws_ yX1_turned cX1_turned 2 none)) B.pre
  have hts : ∀ w ∈ lw_all, w.before _ s = true := fun w h => hts w (List.mem_cons_of_mem _ h)
  have hown : s.vm.findClass RX1 = some m.cls := findClass_of_methodNamed B.named
  have hlocks := B.notSynchronized
  subst hsz
  have hD := hD0.self (sz := s.heap.size)
  generalize hAe : va_A (mx g0 b1 b2 e1 e2 mv mi k lo hf wf) s.heap.size = A at hD ⊢
  have hA : ∀ q : Nat, s.heap.size ≤ q → A q := fun q h => by rw [← hAe]; exact Or.inr h
  have hS : va_S A s.heap s.heap [] := va_S.rf
  have hP : va_P (dC, dI) hg_cl (mx g0 b1 b2 e1 e2 mv mi k lo hf wf) s.heap := hP
  have hl := lv_entry ([.ref g0, .int x]) (n := 2) (Nat.le_of_ble_eq_true rfl)
  rw [lg_entry_eq]
  generalize (lg_sl ([.ref g0, .int x]) ++ List.replicate (2 - (lg_sl ([.ref g0, .int x])).length) Slot.unset).toArray = ls at hl ⊢
  have hl : lv_has ls 2 [(0, .ref g0), (1, .int x)] := hl
  refine lv_aload_n hx hb dX1_turned_0 rfl (lv_at hl 0 rfl) ?_
  refine lv_iload_n hx hb dX1_turned_1 rfl (lv_at hl 1 rfl) ?_
  refine lv_iconst (v := 1) hx hb dX1_turned_2 (by decide) ?_
  refine lv_iand hx hb dX1_turned_3 ?_
  have join : ∀ v : Int32, v = hg_b (hg_odd x) → W p l e (headSpec (ws_ yX1_turned cX1_turned 2 none) ({ frames := 0, cells := 0, slots := 0, locals := 0 })).room s m ([.ref g0, .int x] : List Value).toArray below meth c s.heap [] 0 0 (MQ below (va_Qv (fun (_ : Unit) => True) (fun u t => hg_BG (dC, dI) A (tm e1 e2) (mx g0 b1 b2 e1 e2 mv (hg_b (hg_odd x)) 0 lo hf wf) t) A) ([.ref g0, .int x] : List Value).toArray s 0 0 A) (F0 m 12 ls [.int v, .ref g0]) := by
    intro v hv
    subst hv
    refine va_put (D := (dC, dI)) (ci := 1) (v := .int (hg_b (hg_odd x))) (ty := .boolean) (C := RX1) (T := TX1) (N := 6) hx hb hts in_X1 tyX1 tyX1_ok nmX1 hown hK hP hD hS 0 rfl rfl 2 (by decide) (hts _ q113) (fun _ h9 => h9) rfl (by decide +kernel) (hg_b_nar _) (hg_b_fit _) (Nat.le_of_ble_eq_true rfl) dX1_turned_12 (fun H locs hP hD hS => ?_)
    have hP : va_P (dC, dI) hg_cl (mx g0 b1 b2 e1 e2 mv (hg_b (hg_odd x)) k lo hf wf) H := hP
    have hD : va_D A (mx g0 b1 b2 e1 e2 mv (hg_b (hg_odd x)) k lo hf wf) := hD
    refine lv_aload_n hx hb dX1_turned_15 rfl (lv_at hl 0 rfl) ?_
    refine lv_iconst (v := 0) hx hb dX1_turned_16 (by decide) ?_
    refine va_put (D := (dC, dI)) (ci := 1) (v := .int 0) (ty := .boolean) (C := RX1) (T := TX1) (N := 6) hx hb hts in_X1 tyX1 tyX1_ok nmX1 hown hK hP hD hS 0 rfl rfl 4 (by decide) (hts _ q115) (fun _ h9 => h9) rfl (by decide +kernel) rfl rfl (Nat.le_of_ble_eq_true rfl) dX1_turned_17 (fun H locs hP hD hS => ?_)
    have hP : va_P (dC, dI) hg_cl (mx g0 b1 b2 e1 e2 mv (hg_b (hg_odd x)) 0 lo hf wf) H := hP
    have hD : va_D A (mx g0 b1 b2 e1 e2 mv (hg_b (hg_odd x)) 0 lo hf wf) := hD
    exact W.vret hx hb hr (fun t_ ht_ hW_ => ⟨⟨(), rfl, trivial, hg_BGi hP hK hD ht_ hW_.alike⟩, hS.F ht_⟩) hS.2.2 dX1_turned_20
  refine lv_if_eq (tgt := 11) hx hb dX1_turned_4 (by decide) (fun c1 => ?_) (fun c1 => ?_)
  · refine lv_iconst (v := 0) hx hb dX1_turned_11 (by decide) ?_
    exact join 0 (by rw [(hg_odd_0 x).mp c1]; rfl)
  · refine lv_iconst (v := 1) hx hb dX1_turned_7 (by decide) ?_
    refine lv_goto (tgt := 12) hx hb dX1_turned_8 (by decide) ?_
    exact join 1 (by cases q : hg_odd x with | true => rfl | false => exact absurd ((hg_odd_0 x).mpr q) c1)
set_option maxHeartbeats 4000000 in
set_option maxRecDepth 100000 in
/-- HeapGameModel.heaps -/
theorem mt_X1_heaps (l : Launch) (dC : Nat → ClassId) (dI : Nat → Nat → Nat) (g0 b1 b2 : Nat) (e1 e2 : ClassId) (sz : Nat) (mv mi k lo : Int32) (hf wf : Nat → Int32) (x y z : Int32) : Met l yX1_heaps (ws_ yX1_heaps cX1_heaps 4 none) ({ frames := 0, cells := 0, slots := 0, locals := 0 }) (va_Pc [.ref g0, .int x, .int y, .int z] (hg_PG (dC, dI) sz (tm e1 e2) (mx g0 b1 b2 e1 e2 mv mi k lo hf wf))) (va_Qv (fun (u : Nat → Int32) => ∀ i, i < 3 → u i = nI (hg_hs x y z i) ∧ hg_hs x y z i < 16) (fun u t => hg_BG (dC, dI) (va_A (mx g0 b1 b2 e1 e2 mv mi k lo hf wf) sz) (tm e1 e2) (mx g0 b1 b2 e1 e2 mv mi k lo u wf) t) (va_A (mx g0 b1 b2 e1 e2 mv mi k lo hf wf) sz)) 0 0 (va_A (mx g0 b1 b2 e1 e2 mv mi k lo hf wf) sz) := by
  refine Met.ofW (cc := cX1_heaps) (maxL := 4) (ret := none) (by decide) rfl ?_
  intro p e s m args below meth c s₁ B hml hv
  obtain ⟨rfl, hsz, hP, hK, hD0⟩ := hv
  have hx := B.exec
  have hb := B.bytes
  have hr := B.returns
  have hts := atoms_spec (ws := (ws_ yX1_heaps cX1_heaps 4 none)) B.pre
  have hts : ∀ w ∈ lw_all, w.before _ s = true := fun w h => hts w (List.mem_cons_of_mem _ h)
  have hown : s.vm.findClass RX1 = some m.cls := findClass_of_methodNamed B.named
  have hlocks := B.notSynchronized
  subst hsz
  have hD := hD0.self (sz := s.heap.size)
  generalize hAe : va_A (mx g0 b1 b2 e1 e2 mv mi k lo hf wf) s.heap.size = A at hD ⊢
  have hA : ∀ q : Nat, s.heap.size ≤ q → A q := fun q h => by rw [← hAe]; exact Or.inr h
  have hS : va_S A s.heap s.heap [] := va_S.rf
  have hP : va_P (dC, dI) hg_cl (mx g0 b1 b2 e1 e2 mv mi k lo hf wf) s.heap := hP
  have hl := lv_entry ([.ref g0, .int x, .int y, .int z]) (n := 4) (Nat.le_of_ble_eq_true rfl)
  rw [lg_entry_eq]
  generalize (lg_sl ([.ref g0, .int x, .int y, .int z]) ++ List.replicate (4 - (lg_sl ([.ref g0, .int x, .int y, .int z])).length) Slot.unset).toArray = ls at hl ⊢
  have hl : lv_has ls 4 [(0, .ref g0), (1, .int x), (2, .int y), (3, .int z)] := hl
  refine lv_aload_n hx hb dX1_heaps_0 rfl (lv_at hl 0 rfl) ?_
  refine va_get (D := (dC, dI)) (ci := 1) (v := .ref b1) (C := RX1) (T := TX1) (N := 6) hx hb hts in_X1 hown hK hP 0 rfl rfl 1 (by decide) (hts _ q112) (fun _ h9 => h9) rfl dX1_heaps_1 ?_
  refine lv_iconst (v := nI 0) hx hb dX1_heaps_4 (by decide) ?_
  refine lv_iload_n hx hb dX1_heaps_5 rfl (lv_at hl 1 rfl) ?_
  refine lv_bipush (v := nI 15) hx hb dX1_heaps_6 (by decide) ?_
  refine lv_iand hx hb dX1_heaps_8 (hg_is (y := nI (hg_15 x)) (pk_and x 4 (by decide)) ?_)
  refine hg_iast hx hb hK hP hD hS 1 0 rfl rfl (by omega) (by decide) dX1_heaps_9 (fun H locs hP hD hS => ?_)
  have hP : va_P (dC, dI) hg_cl (mx g0 b1 b2 e1 e2 mv mi k lo (upd hf 0 (nI (hg_15 x))) wf) H := hP
  have hD : va_D A (mx g0 b1 b2 e1 e2 mv mi k lo (upd hf 0 (nI (hg_15 x))) wf) := hD
  refine lv_aload_n hx hb dX1_heaps_10 rfl (lv_at hl 0 rfl) ?_
  refine va_get (D := (dC, dI)) (ci := 1) (v := .ref b1) (C := RX1) (T := TX1) (N := 6) hx hb hts in_X1 hown hK hP 0 rfl rfl 1 (by decide) (hts _ q112) (fun _ h9 => h9) rfl dX1_heaps_11 ?_
  refine lv_iconst (v := nI 1) hx hb dX1_heaps_14 (by decide) ?_
  refine lv_iload_n hx hb dX1_heaps_15 rfl (lv_at hl 2 rfl) ?_
  refine lv_bipush (v := nI 15) hx hb dX1_heaps_16 (by decide) ?_
  refine lv_iand hx hb dX1_heaps_18 (hg_is (y := nI (hg_15 y)) (pk_and y 4 (by decide)) ?_)
  refine hg_iast hx hb hK hP hD hS 1 0 rfl rfl (by omega) (by decide) dX1_heaps_19 (fun H locs hP hD hS => ?_)
  have hP : va_P (dC, dI) hg_cl (mx g0 b1 b2 e1 e2 mv mi k lo (upd (upd hf 0 (nI (hg_15 x))) 1 (nI (hg_15 y))) wf) H := hP
  have hD : va_D A (mx g0 b1 b2 e1 e2 mv mi k lo (upd (upd hf 0 (nI (hg_15 x))) 1 (nI (hg_15 y))) wf) := hD
  refine lv_aload_n hx hb dX1_heaps_20 rfl (lv_at hl 0 rfl) ?_
  refine va_get (D := (dC, dI)) (ci := 1) (v := .ref b1) (C := RX1) (T := TX1) (N := 6) hx hb hts in_X1 hown hK hP 0 rfl rfl 1 (by decide) (hts _ q112) (fun _ h9 => h9) rfl dX1_heaps_21 ?_
  refine lv_iconst (v := nI 2) hx hb dX1_heaps_24 (by decide) ?_
  refine lv_iload_n hx hb dX1_heaps_25 rfl (lv_at hl 3 rfl) ?_
  refine lv_bipush (v := nI 15) hx hb dX1_heaps_26 (by decide) ?_
  refine lv_iand hx hb dX1_heaps_28 (hg_is (y := nI (hg_15 z)) (pk_and z 4 (by decide)) ?_)
  refine hg_iast hx hb hK hP hD hS 1 0 rfl rfl (by omega) (by decide) dX1_heaps_29 (fun H locs hP hD hS => ?_)
  have hP : va_P (dC, dI) hg_cl (mx g0 b1 b2 e1 e2 mv mi k lo (upd (upd (upd hf 0 (nI (hg_15 x))) 1 (nI (hg_15 y))) 2 (nI (hg_15 z))) wf) H := hP
  have hD : va_D A (mx g0 b1 b2 e1 e2 mv mi k lo (upd (upd (upd hf 0 (nI (hg_15 x))) 1 (nI (hg_15 y))) 2 (nI (hg_15 z))) wf) := hD
  exact W.vret hx hb hr (fun t_ ht_ hW_ => ⟨⟨upd (upd (upd hf 0 (nI (hg_15 x))) 1 (nI (hg_15 y))) 2 (nI (hg_15 z)), rfl, hg_hs_upd hf x y z, hg_BGi hP hK hD ht_ hW_.alike⟩, hS.F ht_⟩) hS.2.2 dX1_heaps_30
end
section
section HGI
variable {p : Program} {l : Launch} {e : Env} {R : Room} {s : State} {m : MethodId} {args : Array Value} {below : List Frame} {meth : Method} {c : Code} {H : Heap} {locs : List Loc} {cells slots : Nat} {Q : State → Prop}
variable {cc : ByteArray} {pc : Nat} {ls : Array Slot} {rest : List Value} {D : va_G} {A : Nat → Prop} {tys : List (ClassId × FieldType)} {ws wc wr : va_W} {H0 : Heap} {y : MethodName} {bytes : ByteArray} {maxL nL n index mc ms : Nat} {wsm : List Cond} {rm : Room} {own : String} {b : Addr} {As st0 : List Value}
/-- a constructor's call: it may make cells, of array classes that the tables know then -/
theorem hg_cI {Sx : Type} {post : Sx → Prop} {W1 : Sx → va_W} {T1 : Sx → List (ClassId × FieldType)} (S : CallFix p m c cc nL s args lw_all own) (hM : Met l y wsm rm (va_Pc (.ref b :: As) (hg_PG D H.size [] wc)) (va_Qv post (fun u t => hg_BG D (va_A wc H.size) (T1 u) (W1 u) t) (va_A wc H.size)) mc ms (va_A wc H.size)) (cw : CallB R s args own index y bytes maxL none wsm rm mc ms n ∧ y.name = "<init>" ∧ (Cond.instanceMethod y).before args s = true)
    (hK : va_K D hg_cl tys s) (hP : va_P D hg_cl ws H) (hD : va_D A ws) (hS : va_S A s.heap H locs) (hA : ∀ q, s.heap.size ≤ q → A q) (isC isR : List Nat) (hC : isC.map (fun i => ws[i]?) = wc.map some) (hCf : isC.filterMap (fun i => ws[i]?) = wc) (hR : isR.map (fun i => ws[i]?) = wr.map some) (hnC : va_nd isC = true) (hnR : va_nd isR = true) (hdis : ∀ i ∈ isR, i ∉ isC)
    (hln : As.length = n) (hls : ls.size = nL) (hst : st0 = As.reverse ++ .ref b :: rest) (hw : (rest.map fun v => v.category).sum ≤ 8) (hdg : decode cc pc = .ok (.invokespecial index, 3)) (hf : cells + mc ≤ R.cells ∧ slots + ms ≤ R.slots)
    (kk : ∀ (u : Sx) (H1 : Heap) (locs1 : List Loc), post u → va_K D hg_cl (tys ++ T1 u) s → va_P D hg_cl (wr ++ W1 u) H1 → va_D A (wr ++ W1 u) → va_S A s.heap H1 locs1 → W p l e R s m args below meth c H1 locs1 (cells + mc) (slots + ms) Q (F0 m (pc + 3) ls rest)) : W p l e R s m args below meth c H locs cells slots Q (F0 m pc ls st0) := by
  have hPc := hP.sub isC hCf
  have hDc := hD.sub isC hnC hC
  have hKc := hK.sub (tys' := []) [] rfl
  have hFc := va_free hD hS hA isC hC
  refine va_callv (va_runI (As := As) (rest := rest) S hM cw ⟨fun a U g mk q => by obtain ⟨q0, q1, qP, qK, qD⟩ := q; exact ⟨q0, q1, qP, va_K.moved (u := U) (U := U.calling g mk a) (Vm.Alike.refl U.vm) qK, qD⟩, fun U hU hW => ⟨rfl, by rw [hU], by rw [hU]; exact hPc, va_K.moved hW.alike hKc, hDc.weaken (fun _ _ _ _ => trivial)⟩⟩ rfl hln hls hst (lv_room hw) hdg hf) hS (fun q _ h => hFc q h) hFc (fun u t H1 locs1 ht hvm hw1 hB hz1 hk1 hS1 => ?_)
  obtain ⟨hP1, hK1, hD1⟩ := hB
  rw [ht] at hP1
  obtain ⟨hP2, hD2⟩ := va_join hP hD isC isR hC hR hnR hdis hk1 hFc hP1 hD1
  exact kk u H1 locs1 hw1 (hK.app (va_K.moved hvm.symm hK1)) hP2 hD2 hS1
end HGI
set_option maxHeartbeats 4000000 in
set_option maxRecDepth 100000 in
/-- HeapGame() -/
theorem mt_X0_init (l : Launch) (dC : Nat → ClassId) (dI : Nat → Nat → Nat) (h0 : Nat) (sz : Nat) : Met l yX0_init (ws_ yX0_init cX0_init 1 none) ({ frames := 2, cells := 3, slots := 4115, locals := 44 }) (va_Pc [.ref h0] (hg_PG (dC, dI) sz [] [(h0, .inr (0, [.int 0, .int 0, .null, .null, .null, .int 0]))])) (va_Qv (fun (u : (Nat × Nat × Nat) × (ClassId × ClassId × ClassId) × (Nat → Int32)) => hg_wo (hg_al 6) u.2.2) (fun (u : (Nat × Nat × Nat) × (ClassId × ClassId × ClassId) × (Nat → Int32)) t => hg_BG (dC, dI) (va_A [(h0, .inr (0, [.int 0, .int 0, .null, .null, .null, .int 0]))] sz) (tg u.2.1.1 u.2.1.2.1 u.2.1.2.2) (gx h0 u.1.1 u.1.2.1 u.1.2.2 u.2.1.1 u.2.1.2.1 u.2.1.2.2 6 0 0 (fun _ => 0) u.2.2 (fun _ => 0)) t) (va_A [(h0, .inr (0, [.int 0, .int 0, .null, .null, .null, .int 0]))] sz)) 3 4115 (va_A [(h0, .inr (0, [.int 0, .int 0, .null, .null, .null, .int 0]))] sz) := by
  refine Met.ofW (cc := cX0_init) (maxL := 1) (ret := none) (by decide) rfl ?_
  intro p e s m args below meth c s₁ B hml hv
  obtain ⟨rfl, hsz, hP, hK, hD0⟩ := hv
  have hx := B.exec
  have hb := B.bytes
  have hr := B.returns
  have hts := atoms_spec (ws := (ws_ yX0_init cX0_init 1 none)) B.pre
  have hts : ∀ w ∈ lw_all, w.before _ s = true := fun w h => hts w (List.mem_cons_of_mem _ h)
  have hown : s.vm.findClass RX0 = some m.cls := findClass_of_methodNamed B.named
  have hlocks := B.notSynchronized
  have hin : meth.name = "<init>" := (name_of_methodNamed B.named B.method).1
  subst hsz
  have hD := hD0.self (sz := s.heap.size)
  generalize hAe : va_A [(h0, .inr (0, [.int 0, .int 0, .null, .null, .null, .int 0]))] s.heap.size = A at hD ⊢
  have hA : ∀ q : Nat, s.heap.size ≤ q → A q := fun q h => by rw [← hAe]; exact Or.inr h
  have hS : va_S A s.heap s.heap [] := va_S.rf
  have hP : va_P (dC, dI) hg_cl [(h0, .inr (0, [.int 0, .int 0, .null, .null, .null, .int 0]))] s.heap := hP
  have hl := lv_entry ([.ref h0]) (n := 1) (Nat.le_of_ble_eq_true rfl)
  rw [lg_entry_eq]
  generalize (lg_sl ([.ref h0]) ++ List.replicate (1 - (lg_sl ([.ref h0])).length) Slot.unset).toArray = ls at hl ⊢
  have hl : lv_has ls 1 [(0, .ref h0)] := hl
  refine lv_aload_n hx hb dX0_init_0 rfl (lv_at hl 0 rfl) ?_
  refine W.objInit hx hb hown (hts _ q16) (hts _ q17) (hts _ q18) rfl (by rw [hml]; exact hl.1) rfl dX0_init_1 (Nat.le_of_ble_eq_true rfl) (Nat.le_of_ble_eq_true rfl) ?_
  refine W.eq (g2 := F0 m 4 ls []) rfl ?_
  refine lv_aload_n hx hb dX0_init_4 rfl (lv_at hl 0 rfl) ?_
  refine lv_bipush (v := 6) hx hb dX0_init_5 (by decide) ?_
  refine va_put (D := (dC, dI)) (ci := 0) (v := .int 6) (ty := .int) (C := RX0) (T := TX0) (N := 6) hx hb hts in_X0 tyX0 tyX0_ok nmX0 hown hK hP hD hS 0 rfl rfl 0 (by decide) (hts _ q31) (fun _ h9 => h9) rfl (by decide +kernel) rfl rfl (Nat.le_of_ble_eq_true rfl) dX0_init_7 (fun H locs hP hD hS => ?_)
  have hP : va_P (dC, dI) hg_cl ([(h0, .inr (0, [.int 6, .int 0, .null, .null, .null, .int 0]))]) H := hP
  have hD : va_D A ([(h0, .inr (0, [.int 6, .int 0, .null, .null, .null, .int 0]))]) := hD
  refine lv_aload_n hx hb dX0_init_10 rfl (lv_at hl 0 rfl) ?_
  refine lv_iconst (v := nI 3) hx hb dX0_init_11 (by decide) ?_
  refine va_newa (atype := .int) (ty := .int) (a0 := (3, .inl (fun _ => 0))) (N' := 3) hx hb (hts _ q50) rfl hK hP hD hS hA (fun _ => rfl) (by decide) (by decide) (by decide) (Nat.le_of_ble_eq_true rfl) (Nat.le_of_ble_eq_true rfl) dX0_init_12 (fun a1 d1 H hK hP hD hS => ?_)
  have hK : va_K (dC, dI) hg_cl [(d1, .int)] s := hK
  have hP : va_P (dC, dI) hg_cl ([(h0, .inr (0, [.int 6, .int 0, .null, .null, .null, .int 0])), (a1, .inl (d1, 3, .inl (fun _ => 0)))]) H := hP
  have hD : va_D A ([(h0, .inr (0, [.int 6, .int 0, .null, .null, .null, .int 0])), (a1, .inl (d1, 3, .inl (fun _ => 0)))]) := hD
  refine va_putF (D := (dC, dI)) (ci := 0) (v := .ref a1) (ty := (.array .int)) (C := RX0) (T := TX0) (N := 6) hx hb hts in_X0 tyX0 tyX0_ok nmX0 hown hK hP hD hS 0 rfl rfl 2 (by decide) (hts _ q33) (fun _ h9 => h9) rfl hin rfl (by decide +kernel) rfl rfl (Nat.le_of_ble_eq_true rfl) dX0_init_14 (fun H locs hP hD hS => ?_)
  have hP : va_P (dC, dI) hg_cl ([(h0, .inr (0, [.int 6, .int 0, .ref a1, .null, .null, .int 0])), (a1, .inl (d1, 3, .inl (fun _ => 0)))]) H := hP
  have hD : va_D A ([(h0, .inr (0, [.int 6, .int 0, .ref a1, .null, .null, .int 0])), (a1, .inl (d1, 3, .inl (fun _ => 0)))]) := hD
  refine lv_aload_n hx hb dX0_init_17 rfl (lv_at hl 0 rfl) ?_
  refine lv_bipush (v := nI 16) hx hb dX0_init_18 (by decide) ?_
  refine va_newa (atype := .int) (ty := .int) (a0 := (16, .inl (fun _ => 0))) (N' := 16) hx hb (hts _ q50) rfl hK hP hD hS hA (fun _ => rfl) (by decide) (by decide) (by decide) (Nat.le_of_ble_eq_true rfl) (Nat.le_of_ble_eq_true rfl) dX0_init_20 (fun a2 d2 H hK hP hD hS => ?_)
  have hK : va_K (dC, dI) hg_cl [(d1, .int), (d2, .int)] s := hK
  have hP : va_P (dC, dI) hg_cl ([(h0, .inr (0, [.int 6, .int 0, .ref a1, .null, .null, .int 0])), (a1, .inl (d1, 3, .inl (fun _ => 0))), (a2, .inl (d2, 16, .inl (fun _ => 0)))]) H := hP
  have hD : va_D A ([(h0, .inr (0, [.int 6, .int 0, .ref a1, .null, .null, .int 0])), (a1, .inl (d1, 3, .inl (fun _ => 0))), (a2, .inl (d2, 16, .inl (fun _ => 0)))]) := hD
  refine va_putF (D := (dC, dI)) (ci := 0) (v := .ref a2) (ty := (.array .int)) (C := RX0) (T := TX0) (N := 6) hx hb hts in_X0 tyX0 tyX0_ok nmX0 hown hK hP hD hS 0 rfl rfl 3 (by decide) (hts _ q34) (fun _ h9 => h9) rfl hin rfl (by decide +kernel) rfl rfl (Nat.le_of_ble_eq_true rfl) dX0_init_22 (fun H locs hP hD hS => ?_)
  have hP : va_P (dC, dI) hg_cl ([(h0, .inr (0, [.int 6, .int 0, .ref a1, .ref a2, .null, .int 0])), (a1, .inl (d1, 3, .inl (fun _ => 0))), (a2, .inl (d2, 16, .inl (fun _ => 0)))]) H := hP
  have hD : va_D A ([(h0, .inr (0, [.int 6, .int 0, .ref a1, .ref a2, .null, .int 0])), (a1, .inl (d1, 3, .inl (fun _ => 0))), (a2, .inl (d2, 16, .inl (fun _ => 0)))]) := hD
  refine lv_aload_n hx hb dX0_init_25 rfl (lv_at hl 0 rfl) ?_
  refine lv_sipush (v := nI 4096) hx hb dX0_init_26 (by decide) ?_
  refine va_newa (atype := .byte) (ty := .byte) (a0 := (4096, .inl (fun _ => 0))) (N' := 4096) hx hb (hts _ q51) rfl hK hP hD hS hA (fun _ => rfl) (by decide) (by decide) (by decide) (Nat.le_of_ble_eq_true rfl) (Nat.le_of_ble_eq_true rfl) dX0_init_29 (fun a3 d3 H hK hP hD hS => ?_)
  have hK : va_K (dC, dI) hg_cl [(d1, .int), (d2, .int), (d3, .byte)] s := hK
  have hP : va_P (dC, dI) hg_cl ([(h0, .inr (0, [.int 6, .int 0, .ref a1, .ref a2, .null, .int 0])), (a1, .inl (d1, 3, .inl (fun _ => 0))), (a2, .inl (d2, 16, .inl (fun _ => 0))), (a3, .inl (d3, 4096, .inl (fun _ => 0)))]) H := hP
  have hD : va_D A ([(h0, .inr (0, [.int 6, .int 0, .ref a1, .ref a2, .null, .int 0])), (a1, .inl (d1, 3, .inl (fun _ => 0))), (a2, .inl (d2, 16, .inl (fun _ => 0))), (a3, .inl (d3, 4096, .inl (fun _ => 0)))]) := hD
  refine va_putF (D := (dC, dI)) (ci := 0) (v := .ref a3) (ty := (.array .byte)) (C := RX0) (T := TX0) (N := 6) hx hb hts in_X0 tyX0 tyX0_ok nmX0 hown hK hP hD hS 0 rfl rfl 4 (by decide) (hts _ q35) (fun _ h9 => h9) rfl hin rfl (by decide +kernel) rfl rfl (Nat.le_of_ble_eq_true rfl) dX0_init_31 (fun H locs hP hD hS => ?_)
  have hP : va_P (dC, dI) hg_cl ([(h0, .inr (0, [.int 6, .int 0, .ref a1, .ref a2, .ref a3, .int 0])), (a1, .inl (d1, 3, .inl (fun _ => 0))), (a2, .inl (d2, 16, .inl (fun _ => 0))), (a3, .inl (d3, 4096, .inl (fun _ => 0)))]) H := hP
  have hD : va_D A ([(h0, .inr (0, [.int 6, .int 0, .ref a1, .ref a2, .ref a3, .int 0])), (a1, .inl (d1, 3, .inl (fun _ => 0))), (a2, .inl (d2, 16, .inl (fun _ => 0))), (a3, .inl (d3, 4096, .inl (fun _ => 0)))]) := hD
  refine W.widen (k := 3) (n := 4115) (Nat.le_of_ble_eq_true rfl) (Nat.le_of_ble_eq_true rfl) ?_
  have hK : va_K (dC, dI) hg_cl (tg d1 d2 d3) s := hK
  have hP : va_P (dC, dI) hg_cl (gx h0 a1 a2 a3 d1 d2 d3 6 0 0 (fun _ => 0) (fun _ => 0) (fun _ => 0)) H := hP
  have hD : va_D A (gx h0 a1 a2 a3 d1 d2 d3 6 0 0 (fun _ => 0) (fun _ => 0) (fun _ => 0)) := hD
  refine lv_aload_n hx hb dX0_init_34 rfl (lv_at hl 0 rfl) ?_
  refine hg_cVv (As := []) (rest := []) (q0 := 0) (ci := 0) (wr := []) ⟨hx, hb, hml, hown, hts⟩ (mt_X0_reckonWorths l dC dI h0 a1 a2 a3 d1 d2 d3 _ 6 0 0 (fun _ => 0) (fun _ => 0) (fun _ => 0)) (cwV 0 hts (lw_V q19 q21 qs0 q8 q22) rfl rfl rfl (by decide +kernel) ⟨Nat.le_of_ble_eq_true rfl, Nat.le_of_ble_eq_true rfl⟩) hK hP hD hS hA [0, 1, 2, 3] [] [0, 1, 2] rfl rfl rfl rfl rfl rfl (by decide) rfl rfl rfl rfl hl.1 rfl (Nat.le_of_ble_eq_true rfl) dX0_init_35 ⟨Nat.le_of_ble_eq_true rfl, Nat.le_of_ble_eq_true rfl⟩ (fun u_ H locs hw1 hP hD hS => ?_)
  have hP : va_P (dC, dI) hg_cl (gx h0 a1 a2 a3 d1 d2 d3 6 0 0 (fun _ => 0) u_ (fun _ => 0)) H := hP
  have hD : va_D A (gx h0 a1 a2 a3 d1 d2 d3 6 0 0 (fun _ => 0) u_ (fun _ => 0)) := hD
  exact W.vret hx hb hr (fun t_ ht_ hW_ => ⟨⟨((a1, a2, a3), (d1, d2, d3), u_), rfl, hw1, hg_BGi hP hK hD ht_ hW_.alike⟩, hS.F ht_⟩) hS.2.2 dX0_init_38
set_option maxHeartbeats 4000000 in
set_option maxRecDepth 100000 in
/-- HeapGameModel() -/
theorem mt_X1_init (l : Launch) (dC : Nat → ClassId) (dI : Nat → Nat → Nat) (g0 : Nat) (sz : Nat) : Met l yX1_init (ws_ yX1_init cX1_init 1 none) ({ frames := 1, cells := 2, slots := 4099, locals := 12 }) (va_Pc [.ref g0] (hg_PG (dC, dI) sz [] [(g0, .inr (1, [.int 0, .null, .int 0, .null, .int 0, .int 0]))])) (va_Qv (fun (u : (Nat × Nat) × (ClassId × ClassId)) => True) (fun (u : (Nat × Nat) × (ClassId × ClassId)) t => hg_BG (dC, dI) (va_A [(g0, .inr (1, [.int 0, .null, .int 0, .null, .int 0, .int 0]))] sz) (tm u.2.1 u.2.2) (mx g0 u.1.1 u.1.2 u.2.1 u.2.2 6 0 0 0 (fun _ => 0) (fun _ => 0)) t) (va_A [(g0, .inr (1, [.int 0, .null, .int 0, .null, .int 0, .int 0]))] sz)) 2 4099 (va_A [(g0, .inr (1, [.int 0, .null, .int 0, .null, .int 0, .int 0]))] sz) := by
  refine Met.ofW (cc := cX1_init) (maxL := 1) (ret := none) (by decide) rfl ?_
  intro p e s m args below meth c s₁ B hml hv
  obtain ⟨rfl, hsz, hP, hK, hD0⟩ := hv
  have hx := B.exec
  have hb := B.bytes
  have hr := B.returns
  have hts := atoms_spec (ws := (ws_ yX1_init cX1_init 1 none)) B.pre
  have hts : ∀ w ∈ lw_all, w.before _ s = true := fun w h => hts w (List.mem_cons_of_mem _ h)
  have hown : s.vm.findClass RX1 = some m.cls := findClass_of_methodNamed B.named
  have hlocks := B.notSynchronized
  have hin : meth.name = "<init>" := (name_of_methodNamed B.named B.method).1
  subst hsz
  have hD := hD0.self (sz := s.heap.size)
  generalize hAe : va_A [(g0, .inr (1, [.int 0, .null, .int 0, .null, .int 0, .int 0]))] s.heap.size = A at hD ⊢
  have hA : ∀ q : Nat, s.heap.size ≤ q → A q := fun q h => by rw [← hAe]; exact Or.inr h
  have hS : va_S A s.heap s.heap [] := va_S.rf
  have hP : va_P (dC, dI) hg_cl [(g0, .inr (1, [.int 0, .null, .int 0, .null, .int 0, .int 0]))] s.heap := hP
  have hl := lv_entry ([.ref g0]) (n := 1) (Nat.le_of_ble_eq_true rfl)
  rw [lg_entry_eq]
  generalize (lg_sl ([.ref g0]) ++ List.replicate (1 - (lg_sl ([.ref g0])).length) Slot.unset).toArray = ls at hl ⊢
  have hl : lv_has ls 1 [(0, .ref g0)] := hl
  refine lv_aload_n hx hb dX1_init_0 rfl (lv_at hl 0 rfl) ?_
  refine W.objInit hx hb hown (hts _ q110) (hts _ q17) (hts _ q18) rfl (by rw [hml]; exact hl.1) rfl dX1_init_1 (Nat.le_of_ble_eq_true rfl) (Nat.le_of_ble_eq_true rfl) ?_
  refine W.eq (g2 := F0 m 4 ls []) rfl ?_
  refine lv_aload_n hx hb dX1_init_4 rfl (lv_at hl 0 rfl) ?_
  refine lv_bipush (v := 6) hx hb dX1_init_5 (by decide) ?_
  refine va_put (D := (dC, dI)) (ci := 1) (v := .int 6) (ty := .int) (C := RX1) (T := TX1) (N := 6) hx hb hts in_X1 tyX1 tyX1_ok nmX1 hown hK hP hD hS 0 rfl rfl 0 (by decide) (hts _ q111) (fun _ h9 => h9) rfl (by decide +kernel) rfl rfl (Nat.le_of_ble_eq_true rfl) dX1_init_7 (fun H locs hP hD hS => ?_)
  have hP : va_P (dC, dI) hg_cl ([(g0, .inr (1, [.int 6, .null, .int 0, .null, .int 0, .int 0]))]) H := hP
  have hD : va_D A ([(g0, .inr (1, [.int 6, .null, .int 0, .null, .int 0, .int 0]))]) := hD
  refine lv_aload_n hx hb dX1_init_10 rfl (lv_at hl 0 rfl) ?_
  refine lv_iconst (v := nI 3) hx hb dX1_init_11 (by decide) ?_
  refine va_newa (atype := .int) (ty := .int) (a0 := (3, .inl (fun _ => 0))) (N' := 3) hx hb (hts _ q50) rfl hK hP hD hS hA (fun _ => rfl) (by decide) (by decide) (by decide) (Nat.le_of_ble_eq_true rfl) (Nat.le_of_ble_eq_true rfl) dX1_init_12 (fun b1 e1 H hK hP hD hS => ?_)
  have hK : va_K (dC, dI) hg_cl [(e1, .int)] s := hK
  have hP : va_P (dC, dI) hg_cl ([(g0, .inr (1, [.int 6, .null, .int 0, .null, .int 0, .int 0])), (b1, .inl (e1, 3, .inl (fun _ => 0)))]) H := hP
  have hD : va_D A ([(g0, .inr (1, [.int 6, .null, .int 0, .null, .int 0, .int 0])), (b1, .inl (e1, 3, .inl (fun _ => 0)))]) := hD
  refine va_putF (D := (dC, dI)) (ci := 1) (v := .ref b1) (ty := (.array .int)) (C := RX1) (T := TX1) (N := 6) hx hb hts in_X1 tyX1 tyX1_ok nmX1 hown hK hP hD hS 0 rfl rfl 1 (by decide) (hts _ q112) (fun _ h9 => h9) rfl hin rfl (by decide +kernel) rfl rfl (Nat.le_of_ble_eq_true rfl) dX1_init_14 (fun H locs hP hD hS => ?_)
  have hP : va_P (dC, dI) hg_cl ([(g0, .inr (1, [.int 6, .ref b1, .int 0, .null, .int 0, .int 0])), (b1, .inl (e1, 3, .inl (fun _ => 0)))]) H := hP
  have hD : va_D A ([(g0, .inr (1, [.int 6, .ref b1, .int 0, .null, .int 0, .int 0])), (b1, .inl (e1, 3, .inl (fun _ => 0)))]) := hD
  refine lv_aload_n hx hb dX1_init_17 rfl (lv_at hl 0 rfl) ?_
  refine lv_sipush (v := nI 4096) hx hb dX1_init_18 (by decide) ?_
  refine va_newa (atype := .boolean) (ty := .boolean) (a0 := (4096, .inl (fun _ => 0))) (N' := 4096) hx hb (hts _ q130) rfl hK hP hD hS hA (fun _ => rfl) (by decide) (by decide) (by decide) (Nat.le_of_ble_eq_true rfl) (Nat.le_of_ble_eq_true rfl) dX1_init_21 (fun b2 e2 H hK hP hD hS => ?_)
  have hK : va_K (dC, dI) hg_cl [(e1, .int), (e2, .boolean)] s := hK
  have hP : va_P (dC, dI) hg_cl ([(g0, .inr (1, [.int 6, .ref b1, .int 0, .null, .int 0, .int 0])), (b1, .inl (e1, 3, .inl (fun _ => 0))), (b2, .inl (e2, 4096, .inl (fun _ => 0)))]) H := hP
  have hD : va_D A ([(g0, .inr (1, [.int 6, .ref b1, .int 0, .null, .int 0, .int 0])), (b1, .inl (e1, 3, .inl (fun _ => 0))), (b2, .inl (e2, 4096, .inl (fun _ => 0)))]) := hD
  refine va_putF (D := (dC, dI)) (ci := 1) (v := .ref b2) (ty := (.array .boolean)) (C := RX1) (T := TX1) (N := 6) hx hb hts in_X1 tyX1 tyX1_ok nmX1 hown hK hP hD hS 0 rfl rfl 3 (by decide) (hts _ q114) (fun _ h9 => h9) rfl hin rfl (by decide +kernel) rfl rfl (Nat.le_of_ble_eq_true rfl) dX1_init_23 (fun H locs hP hD hS => ?_)
  have hP : va_P (dC, dI) hg_cl ([(g0, .inr (1, [.int 6, .ref b1, .int 0, .ref b2, .int 0, .int 0])), (b1, .inl (e1, 3, .inl (fun _ => 0))), (b2, .inl (e2, 4096, .inl (fun _ => 0)))]) H := hP
  have hD : va_D A ([(g0, .inr (1, [.int 6, .ref b1, .int 0, .ref b2, .int 0, .int 0])), (b1, .inl (e1, 3, .inl (fun _ => 0))), (b2, .inl (e2, 4096, .inl (fun _ => 0)))]) := hD
  refine W.widen (k := 2) (n := 4099) (Nat.le_of_ble_eq_true rfl) (Nat.le_of_ble_eq_true rfl) ?_
  have hK : va_K (dC, dI) hg_cl (tm e1 e2) s := hK
  have hP : va_P (dC, dI) hg_cl (mx g0 b1 b2 e1 e2 6 0 0 0 (fun _ => 0) (fun _ => 0)) H := hP
  have hD : va_D A (mx g0 b1 b2 e1 e2 6 0 0 0 (fun _ => 0) (fun _ => 0)) := hD
  exact W.vret hx hb hr (fun t_ ht_ hW_ => ⟨⟨((b1, b2), (e1, e2)), rfl, trivial, hg_BGi hP hK hD ht_ hW_.alike⟩, hS.F ht_⟩) hS.2.2 dX1_init_26
end
section
/-! THE CLAIM OUT OF ONE WALK OF THE LAW'S BODY. Your part is whole_start (and what it stands on); all else here is the same for every law, but numbers. -/
def R_law : String := "HeapGameLaw"
def lw_P (b : Addr) (xs : List Int32) (args : Array Value) (s : State) : Prop := args = #[.ref b] ∧ s.IntsAt b xs ∧ xs.length ≤ 256 ∧ (Jvm.Cond.and given_1 narrow_1).before args s = true
def lw_Q (_ : Array Value) (s : State) (o : Outcome) (t : State) : Prop := o = .returned (some (.int 1)) ∧ Framed s o t [] 600000 7290000
def lw_Z (below : List Frame) (a : Array Value) (s : State) : State → Prop := fun t => ∃ o, t.status = .running ∧ Ended t below o ∧ lw_Q a s o t
/-- the law's own end, with 1 on the stack, nothing written that was there before, its room as the claim has it -/
theorem lw_ret {p : Program} {l : Launch} {e : Env} {s : State} {m : MethodId} {below : List Frame} {meth : Method} {c : Code} {b : Nat} (hx : p.tables.exec = Jvm.exec) (hb : c.code = code) (hr : meth.sig.returnType = ret) (hlocks : meth.locks = false) {pc : Nat} {H : Heap} {ls : Array Slot} (hdg : decode code pc = .ok (.ireturn, 1)) : W p l e room_1 s m #[Value.ref b] below meth c H [] 600000 7290000 (lw_Z below #[Value.ref b] s) (F0 m pc ls [.int 1]) := by
  intro T hT X
  obtain ⟨fs, hret, hrun, hended, hW, hframe⟩ := X.leave (v := some (.int 1)) (hlocks := hlocks) (fun h => by rw [hr] at h; cases h)
  have hmeth' : T.vm.method? m = some meth := X.method'
  refine ⟨T.setFrames fs, ?_, .returned (some (.int 1)), hrun, hended, rfl, ⟨_, rfl⟩, hW, hframe⟩
  jvm_step X.here [X.here.top, hx, hb, hdg, hmeth', hr, ret, narrow_b1]
  (try refine ⟨rfl, ?_⟩); (try refine ⟨rfl, ?_⟩)
  first | (intro acts; rw [hret _ acts rfl rfl rfl]) | rw [hret _ _ rfl rfl rfl]
  exact Steps.refl _
/-- what holds at the law's entry: the machine, the code, the tables' words (any of lw_tbl by 'hts w (by decide +kernel)'), the script of L ints xs at the cell b, what the Statement gives of the start (any of its parts by flat_of_before) -/
def lw_At (p : Program) (s : State) (m : MethodId) (meth : Method) (c : Code) (b L : Nat) (xs : Nat → Int32) : Prop :=
  p.tables.exec = Jvm.exec ∧ c.code = code ∧ meth.sig.returnType = ret ∧ c.maxLocals = 4 ∧ s.vm.findClass R_law = some m.cls ∧ (∀ w ∈ lw_tbl, w.before #[Value.ref b] s = true) ∧ va_X b L xs s s.heap ∧ b < s.heap.size ∧ meth.locks = false ∧ (Jvm.Cond.and given_1 narrow_1).before #[Value.ref b] s = true
end
section
section HGL
variable {p : Program} {l : Launch} {e : Env} {R : Room} {s : State} {m : MethodId} {args : Array Value} {below : List Frame} {meth : Method} {c : Code} {H : Heap} {locs : List Loc} {cells slots : Nat} {Q : State → Prop}
variable {cc : ByteArray} {pc : Nat} {ls : Array Slot} {rest : List Value} {A : Nat → Prop} {H0 : Heap}
theorem hg_sld (hexec : p.tables.exec = Jvm.exec) (hb : c.code = cc) {b L : Nat} {xs : Nat → Int32} (hX : va_X b L xs s H0) (hbl : b < H0.size) (hbA : ¬ A b) (hS : va_S A H0 H locs) {i : Nat} (hi : i < L) (hL : L < 2 ^ 31) (hdg : decode cc pc = .ok (.iaload, 1))
    (kk : W p l e R s m args below meth c H locs cells slots Q (F0 m (pc + 1) ls (.int (xs i) :: rest))) : W p l e R s m args below meth c H locs cells slots Q (F0 m pc ls (.int (nI i) :: .ref b :: rest)) := by
  refine va_sld hexec hb hX hbl hbA hS (vp_in_nI hi hL) hdg ?_
  rw [nI_clamp (Nat.lt_trans hi hL)]
  exact kk
end HGL
theorem hg_cmp {L i : Nat} (hL : L < 2 ^ 30) (hi : i < 2 ^ 30) : nI L - nI 4 < nI i ↔ L < i + 4 := by
  rw [Int32.lt_iff_toInt_lt, pk_sub_toInt hL (by decide), nI_toInt (by omega)]
  omega
/-- HeapGame's state tells the game: rules r, turned mis, heaps hp -/
def hg_IG (mis : Bool) (hp : Nat → Nat) (r tu k : Int32) (hf wf lf : Nat → Int32) : Prop := tu = hg_b mis ∧ hg_wo (hg_al r) wf ∧ hg_tab (hg_al r) k lf ∧ ∀ i, i < 3 → hf i = nI (hp i) ∧ hp i < 16
/-- and so does the model's -/
def hg_IM (mis : Bool) (hp : Nat → Nat) (mv mi k lo : Int32) (hf wf : Nat → Int32) : Prop := mi = hg_b mis ∧ hg_mtab (hg_al mv) mis k lo wf ∧ ∀ i, i < 3 → hf i = nI (hp i) ∧ hp i < 16
set_option maxHeartbeats 4000000 in
set_option maxRecDepth 100000 in
/-- the law's loop at its head: both objects tell the same game -/
theorem law_loop {p : Program} {e : Env} {s : State} {m : MethodId} {below : List Frame} {meth : Method} {c : Code} {l : Launch} {b L : Nat} {xs : Nat → Int32} (hL : L ≤ 256) (C0 : lw_At p s m meth c b L xs) (dC : Nat → ClassId) (dI : Nat → Nat → Nat) (h0 a1 a2 a3 : Nat) (d1 d2 d3 : ClassId) (g0 b1 b2 : Nat) (e1 e2 : ClassId) (hK : va_K (dC, dI) hg_cl (tg d1 d2 d3 ++ tm e1 e2) s) : ∀ (N i : Nat) (mis : Bool) (hp : Nat → Nat) (r tu k : Int32) (hf wf lf : Nat → Int32) (mv mi k2 lo : Int32) (hf2 wf2 : Nat → Int32), L < i + 4 * N + 4 → i ≤ 260 → hg_al mv = hg_al r → hg_IG mis hp r tu k hf wf lf → hg_IM mis hp mv mi k2 lo hf2 wf2 → ∀ (H : Heap) (locs : List Loc), va_P (dC, dI) hg_cl (gx h0 a1 a2 a3 d1 d2 d3 r tu k hf wf lf ++ mx g0 b1 b2 e1 e2 mv mi k2 lo hf2 wf2) H → va_D (fun q : Nat => s.heap.size ≤ q) (gx h0 a1 a2 a3 d1 d2 d3 r tu k hf wf lf ++ mx g0 b1 b2 e1 e2 mv mi k2 lo hf2 wf2) → va_S (fun q : Nat => s.heap.size ≤ q) s.heap H locs → ∀ ls, lv_has ls 4 [(0, .ref b), (1, .ref h0), (2, .ref g0), (3, .int (nI i))] → W p l e room_1 s m #[Value.ref b] below meth c H locs 7 8226 (lw_Z below #[Value.ref b] s) (F0 m 18 ls []) := by
  obtain ⟨hx, hb, hr, hml, hown, hts0, hX, hbl, hlocks, hgv⟩ := id C0
  have hts : ∀ w ∈ lw_all, w.before #[Value.ref b] s = true := fun w h => hts0 w (lw_all_tbl h)
  have hA : ∀ q : Nat, s.heap.size ≤ q → (fun q : Nat => s.heap.size ≤ q) q := fun _ h => h
  have hbA : ¬ (fun q : Nat => s.heap.size ≤ q) b := Nat.not_le.mpr hbl
  have hfin : ∀ (H : Heap) (locs : List Loc) (ls : Array Slot), va_S (fun q : Nat => s.heap.size ≤ q) s.heap H locs → W p l e room_1 s m #[Value.ref b] below meth c H locs 7 8226 (lw_Z below #[Value.ref b] s) (F0 m 264 ls []) := by
    intro H locs ls hS
    refine lv_iconst (v := 1) hx hb dL_law_264 (by decide) ?_
    refine va_forget hS.2.2 ?_
    refine W.widen (k := 600000) (n := 7290000) (Nat.le_of_ble_eq_true rfl) (Nat.le_of_ble_eq_true rfl) ?_
    exact lw_ret hx hb hr hlocks dL_law_265
  intro N
  induction N with
  | zero =>
    intro i mis hp r tu k hf wf lf mv mi k2 lo hf2 wf2 hN hi hal hG hM H locs hP hD hS ls hl
    refine lv_iload_n hx hb dL_law_18 rfl (lv_at hl 3 rfl) ?_
    refine lv_aload_n hx hb dL_law_19 rfl (lv_at hl 0 rfl) ?_
    refine va_slen hx hb hX hbl hbA hS dL_law_20 ?_
    refine lv_iconst (v := nI 4) hx hb dL_law_21 (by decide) ?_
    refine lv_isub hx hb dL_law_22 (hg_is (y := nI L - nI 4) (rfl) ?_)
    refine lv_icmp_gt (tgt := 264) hx hb dL_law_23 (by decide) (fun c_ => ?_) (fun c_ => absurd ((hg_cmp (by omega) (by omega)).mpr (by omega)) c_)
    exact hfin H locs ls hS
  | succ N ih =>
    intro i mis hp r tu k hf wf lf mv mi k2 lo hf2 wf2 hN hi hal hG hM H locs hP hD hS ls hl
    refine lv_iload_n hx hb dL_law_18 rfl (lv_at hl 3 rfl) ?_
    refine lv_aload_n hx hb dL_law_19 rfl (lv_at hl 0 rfl) ?_
    refine va_slen hx hb hX hbl hbA hS dL_law_20 ?_
    refine lv_iconst (v := nI 4) hx hb dL_law_21 (by decide) ?_
    refine lv_isub hx hb dL_law_22 (hg_is (y := nI L - nI 4) (rfl) ?_)
    refine lv_icmp_gt (tgt := 264) hx hb dL_law_23 (by decide) (fun c0 => ?_) (fun c0 => ?_)
    · exact hfin H locs ls hS
    · have c0 : i + 4 ≤ L := Nat.not_lt.mp (fun q => c0 ((hg_cmp (by omega) (by omega)).mpr q))
      obtain ⟨itu, iwo, itab, ihf⟩ := id hG
      obtain ⟨imi, imt, ihf2⟩ := id hM
      obtain ⟨j, hj, ej⟩ := pk_andE (xs i) (m := nI 7) 3 (by decide)
      refine lv_aload_n hx hb dL_law_26 rfl (lv_at hl 0 rfl) ?_
      refine lv_iload_n hx hb dL_law_27 rfl (lv_at hl 3 rfl) ?_
      refine hg_sld hx hb hX hbl hbA hS (by omega) (by omega) dL_law_28 ?_
      refine lv_bipush (v := nI 7) hx hb dL_law_29 (by decide) ?_
      refine lv_iand hx hb dL_law_31 (hg_is (y := nI j) (ej) ?_)
      rcases (show j = 0 ∨ j = 1 ∨ j = 2 ∨ j = 3 ∨ j = 4 ∨ j = 5 ∨ j = 6 ∨ j = 7 by omega) with rfl | rfl | rfl | rfl | rfl | rfl | rfl | rfl
      · refine lv_tableIn (off := 48) (tgt := 80) hx hb dL_law_32 (by decide) (by decide) (by decide) (by decide) ?_
        refine lv_aload_n hx hb dL_law_80 rfl (lv_at hl 1 rfl) ?_
        refine lv_aload_n hx hb dL_law_81 rfl (lv_at hl 0 rfl) ?_
        refine lv_iload_n hx hb dL_law_82 rfl (lv_at hl 3 rfl) ?_
        refine lv_iconst (v := nI 1) hx hb dL_law_83 (by decide) ?_
        refine lv_iadd hx hb dL_law_84 (hg_is (y := nI (i + 1)) (nI_add _ _) ?_)
        refine hg_sld hx hb hX hbl hbA hS (by omega) (by omega) dL_law_85 ?_
        refine hg_cVv (As := [.int (xs (i + 1))]) (rest := []) (q0 := 0) (ci := 0) (wr := mx g0 b1 b2 e1 e2 mv mi k2 lo hf2 wf2) ⟨hx, hb, hml, hown, hts⟩ (mt_X0_rules l dC dI h0 a1 a2 a3 d1 d2 d3 _ r tu k hf wf lf (xs (i + 1))) (cwV 1 hts (lw_V q52 q53 q54 q8 q55) rfl rfl rfl (by decide +kernel) ⟨Nat.le_of_ble_eq_true rfl, Nat.le_of_ble_eq_true rfl⟩) hK hP hD hS hA [0, 1, 2, 3] [4, 5, 6] [0, 1, 2] rfl rfl rfl rfl rfl rfl (by decide) rfl rfl rfl rfl hl.1 rfl (Nat.le_of_ble_eq_true rfl) dL_law_86 ⟨Nat.le_of_ble_eq_true rfl, Nat.le_of_ble_eq_true rfl⟩ (fun wf_ H locs hw1 hP hD hS => ?_)
        have hP : va_P (dC, dI) hg_cl (mx g0 b1 b2 e1 e2 mv mi k2 lo hf2 wf2 ++ gx h0 a1 a2 a3 d1 d2 d3 (xs (i + 1)) tu 0 hf wf_ lf) H := hP
        have hD : va_D (fun q : Nat => s.heap.size ≤ q) (mx g0 b1 b2 e1 e2 mv mi k2 lo hf2 wf2 ++ gx h0 a1 a2 a3 d1 d2 d3 (xs (i + 1)) tu 0 hf wf_ lf) := hD
        refine lv_aload_n hx hb dL_law_89 rfl (lv_at hl 2 rfl) ?_
        refine lv_aload_n hx hb dL_law_90 rfl (lv_at hl 0 rfl) ?_
        refine lv_iload_n hx hb dL_law_91 rfl (lv_at hl 3 rfl) ?_
        refine lv_iconst (v := nI 1) hx hb dL_law_92 (by decide) ?_
        refine lv_iadd hx hb dL_law_93 (hg_is (y := nI (i + 1)) (nI_add _ _) ?_)
        refine hg_sld hx hb hX hbl hbA hS (by omega) (by omega) dL_law_94 ?_
        refine hg_cVv (As := [.int (xs (i + 1))]) (rest := []) (q0 := 0) (ci := 1) (wr := gx h0 a1 a2 a3 d1 d2 d3 (xs (i + 1)) tu 0 hf wf_ lf) ⟨hx, hb, hml, hown, hts⟩ (mt_X1_rules l dC dI g0 b1 b2 e1 e2 _ mv mi k2 lo hf2 wf2 (xs (i + 1))) (cwV 1 hts (lw_V q131 q132 q133 q10 q134) rfl rfl rfl (by decide +kernel) ⟨Nat.le_of_ble_eq_true rfl, Nat.le_of_ble_eq_true rfl⟩) hK hP hD hS hA [0, 1, 2] [3, 4, 5, 6] [3, 4] rfl rfl rfl rfl rfl rfl (by decide) rfl rfl rfl rfl hl.1 rfl (Nat.le_of_ble_eq_true rfl) dL_law_95 ⟨Nat.le_of_ble_eq_true rfl, Nat.le_of_ble_eq_true rfl⟩ (fun u_ H locs hw2 hP hD hS => ?_)
        have hP : va_P (dC, dI) hg_cl (gx h0 a1 a2 a3 d1 d2 d3 (xs (i + 1)) tu 0 hf wf_ lf ++ mx g0 b1 b2 e1 e2 ((xs (i + 1)) &&& 32766) mi 0 lo hf2 wf2) H := hP
        have hD : va_D (fun q : Nat => s.heap.size ≤ q) (gx h0 a1 a2 a3 d1 d2 d3 (xs (i + 1)) tu 0 hf wf_ lf ++ mx g0 b1 b2 e1 e2 ((xs (i + 1)) &&& 32766) mi 0 lo hf2 wf2) := hD
        refine lv_goto (tgt := 258) hx hb dL_law_98 (by decide) ?_
        refine lv_iinc (v := nI (i + 4)) (lv' := [(3, .int (nI (i + 4))), (0, .ref b), (1, .ref h0), (2, .ref g0)]) hx hb dL_law_258 hl (k := 3) rfl (nI_add _ 4) (by decide) rfl (fun ls hl => ?_)
        refine lv_goto (tgt := 18) hx hb dL_law_261 (by decide) ?_
        exact ih (i + 4) mis hp (xs (i + 1)) tu 0 hf wf_ lf ((xs (i + 1)) &&& 32766) mi 0 lo hf2 wf2 (by omega) (by omega) (hg_al_mask _) (⟨itu, hw1, Or.inl rfl, ihf⟩) (⟨imi, Or.inl rfl, ihf2⟩) H locs hP hD hS ls (lv_sub hl [1, 2, 3, 0] rfl)
      · refine lv_tableIn (off := 69) (tgt := 101) hx hb dL_law_32 (by decide) (by decide) (by decide) (by decide) ?_
        refine lv_aload_n hx hb dL_law_101 rfl (lv_at hl 1 rfl) ?_
        refine lv_aload_n hx hb dL_law_102 rfl (lv_at hl 0 rfl) ?_
        refine lv_iload_n hx hb dL_law_103 rfl (lv_at hl 3 rfl) ?_
        refine lv_iconst (v := nI 1) hx hb dL_law_104 (by decide) ?_
        refine lv_iadd hx hb dL_law_105 (hg_is (y := nI (i + 1)) (nI_add _ _) ?_)
        refine hg_sld hx hb hX hbl hbA hS (by omega) (by omega) dL_law_106 ?_
        refine hg_cVv (As := [.int (xs (i + 1))]) (rest := []) (q0 := 0) (ci := 0) (wr := mx g0 b1 b2 e1 e2 mv mi k2 lo hf2 wf2) ⟨hx, hb, hml, hown, hts⟩ (mt_X0_turned l dC dI h0 a1 a2 a3 d1 d2 d3 _ r tu k hf wf lf (xs (i + 1))) (cwV 1 hts (lw_V q56 q57 q58 q8 q59) rfl rfl rfl (by decide +kernel) ⟨Nat.le_of_ble_eq_true rfl, Nat.le_of_ble_eq_true rfl⟩) hK hP hD hS hA [0, 1, 2, 3] [4, 5, 6] [0, 1, 2] rfl rfl rfl rfl rfl rfl (by decide) rfl rfl rfl rfl hl.1 rfl (Nat.le_of_ble_eq_true rfl) dL_law_107 ⟨Nat.le_of_ble_eq_true rfl, Nat.le_of_ble_eq_true rfl⟩ (fun u_ H locs hw1 hP hD hS => ?_)
        have hP : va_P (dC, dI) hg_cl (mx g0 b1 b2 e1 e2 mv mi k2 lo hf2 wf2 ++ gx h0 a1 a2 a3 d1 d2 d3 r (hg_b (hg_odd (xs (i + 1)))) k hf wf lf) H := hP
        have hD : va_D (fun q : Nat => s.heap.size ≤ q) (mx g0 b1 b2 e1 e2 mv mi k2 lo hf2 wf2 ++ gx h0 a1 a2 a3 d1 d2 d3 r (hg_b (hg_odd (xs (i + 1)))) k hf wf lf) := hD
        refine lv_aload_n hx hb dL_law_110 rfl (lv_at hl 2 rfl) ?_
        refine lv_aload_n hx hb dL_law_111 rfl (lv_at hl 0 rfl) ?_
        refine lv_iload_n hx hb dL_law_112 rfl (lv_at hl 3 rfl) ?_
        refine lv_iconst (v := nI 1) hx hb dL_law_113 (by decide) ?_
        refine lv_iadd hx hb dL_law_114 (hg_is (y := nI (i + 1)) (nI_add _ _) ?_)
        refine hg_sld hx hb hX hbl hbA hS (by omega) (by omega) dL_law_115 ?_
        refine hg_cVv (As := [.int (xs (i + 1))]) (rest := []) (q0 := 0) (ci := 1) (wr := gx h0 a1 a2 a3 d1 d2 d3 r (hg_b (hg_odd (xs (i + 1)))) k hf wf lf) ⟨hx, hb, hml, hown, hts⟩ (mt_X1_turned l dC dI g0 b1 b2 e1 e2 _ mv mi k2 lo hf2 wf2 (xs (i + 1))) (cwV 1 hts (lw_V q135 q136 q137 q10 q138) rfl rfl rfl (by decide +kernel) ⟨Nat.le_of_ble_eq_true rfl, Nat.le_of_ble_eq_true rfl⟩) hK hP hD hS hA [0, 1, 2] [3, 4, 5, 6] [3, 4] rfl rfl rfl rfl rfl rfl (by decide) rfl rfl rfl rfl hl.1 rfl (Nat.le_of_ble_eq_true rfl) dL_law_116 ⟨Nat.le_of_ble_eq_true rfl, Nat.le_of_ble_eq_true rfl⟩ (fun u_ H locs hw2 hP hD hS => ?_)
        have hP : va_P (dC, dI) hg_cl (gx h0 a1 a2 a3 d1 d2 d3 r (hg_b (hg_odd (xs (i + 1)))) k hf wf lf ++ mx g0 b1 b2 e1 e2 mv (hg_b (hg_odd (xs (i + 1)))) 0 lo hf2 wf2) H := hP
        have hD : va_D (fun q : Nat => s.heap.size ≤ q) (gx h0 a1 a2 a3 d1 d2 d3 r (hg_b (hg_odd (xs (i + 1)))) k hf wf lf ++ mx g0 b1 b2 e1 e2 mv (hg_b (hg_odd (xs (i + 1)))) 0 lo hf2 wf2) := hD
        refine lv_goto (tgt := 258) hx hb dL_law_119 (by decide) ?_
        refine lv_iinc (v := nI (i + 4)) (lv' := [(3, .int (nI (i + 4))), (0, .ref b), (1, .ref h0), (2, .ref g0)]) hx hb dL_law_258 hl (k := 3) rfl (nI_add _ 4) (by decide) rfl (fun ls hl => ?_)
        refine lv_goto (tgt := 18) hx hb dL_law_261 (by decide) ?_
        exact ih (i + 4) (hg_odd (xs (i + 1))) hp r (hg_b (hg_odd (xs (i + 1)))) k hf wf lf mv (hg_b (hg_odd (xs (i + 1)))) 0 lo hf2 wf2 (by omega) (by omega) (hal) (⟨rfl, iwo, itab, ihf⟩) (⟨rfl, Or.inl rfl, ihf2⟩) H locs hP hD hS ls (lv_sub hl [1, 2, 3, 0] rfl)
      · refine lv_tableIn (off := 90) (tgt := 122) hx hb dL_law_32 (by decide) (by decide) (by decide) (by decide) ?_
        refine lv_aload_n hx hb dL_law_122 rfl (lv_at hl 1 rfl) ?_
        refine lv_aload_n hx hb dL_law_123 rfl (lv_at hl 0 rfl) ?_
        refine lv_iload_n hx hb dL_law_124 rfl (lv_at hl 3 rfl) ?_
        refine lv_iconst (v := nI 1) hx hb dL_law_125 (by decide) ?_
        refine lv_iadd hx hb dL_law_126 (hg_is (y := nI (i + 1)) (nI_add _ _) ?_)
        refine hg_sld hx hb hX hbl hbA hS (by omega) (by omega) dL_law_127 ?_
        refine lv_aload_n hx hb dL_law_128 rfl (lv_at hl 0 rfl) ?_
        refine lv_iload_n hx hb dL_law_129 rfl (lv_at hl 3 rfl) ?_
        refine lv_iconst (v := nI 2) hx hb dL_law_130 (by decide) ?_
        refine lv_iadd hx hb dL_law_131 (hg_is (y := nI (i + 2)) (nI_add _ _) ?_)
        refine hg_sld hx hb hX hbl hbA hS (by omega) (by omega) dL_law_132 ?_
        refine lv_aload_n hx hb dL_law_133 rfl (lv_at hl 0 rfl) ?_
        refine lv_iload_n hx hb dL_law_134 rfl (lv_at hl 3 rfl) ?_
        refine lv_iconst (v := nI 3) hx hb dL_law_135 (by decide) ?_
        refine lv_iadd hx hb dL_law_136 (hg_is (y := nI (i + 3)) (nI_add _ _) ?_)
        refine hg_sld hx hb hX hbl hbA hS (by omega) (by omega) dL_law_137 ?_
        refine hg_cVv (As := [.int (xs (i + 1)), .int (xs (i + 2)), .int (xs (i + 3))]) (rest := []) (q0 := 0) (ci := 0) (wr := mx g0 b1 b2 e1 e2 mv mi k2 lo hf2 wf2) ⟨hx, hb, hml, hown, hts⟩ (mt_X0_heaps l dC dI h0 a1 a2 a3 d1 d2 d3 _ r tu k hf wf lf (xs (i + 1)) (xs (i + 2)) (xs (i + 3))) (cwV 3 hts (lw_V q60 q61 q62 q8 q63) rfl rfl rfl (by decide +kernel) ⟨Nat.le_of_ble_eq_true rfl, Nat.le_of_ble_eq_true rfl⟩) hK hP hD hS hA [0, 1, 2, 3] [4, 5, 6] [0, 1, 2] rfl rfl rfl rfl rfl rfl (by decide) rfl rfl rfl rfl hl.1 rfl (Nat.le_of_ble_eq_true rfl) dL_law_138 ⟨Nat.le_of_ble_eq_true rfl, Nat.le_of_ble_eq_true rfl⟩ (fun hf_ H locs hw1 hP hD hS => ?_)
        have hP : va_P (dC, dI) hg_cl (mx g0 b1 b2 e1 e2 mv mi k2 lo hf2 wf2 ++ gx h0 a1 a2 a3 d1 d2 d3 r tu k hf_ wf lf) H := hP
        have hD : va_D (fun q : Nat => s.heap.size ≤ q) (mx g0 b1 b2 e1 e2 mv mi k2 lo hf2 wf2 ++ gx h0 a1 a2 a3 d1 d2 d3 r tu k hf_ wf lf) := hD
        refine lv_aload_n hx hb dL_law_141 rfl (lv_at hl 2 rfl) ?_
        refine lv_aload_n hx hb dL_law_142 rfl (lv_at hl 0 rfl) ?_
        refine lv_iload_n hx hb dL_law_143 rfl (lv_at hl 3 rfl) ?_
        refine lv_iconst (v := nI 1) hx hb dL_law_144 (by decide) ?_
        refine lv_iadd hx hb dL_law_145 (hg_is (y := nI (i + 1)) (nI_add _ _) ?_)
        refine hg_sld hx hb hX hbl hbA hS (by omega) (by omega) dL_law_146 ?_
        refine lv_aload_n hx hb dL_law_147 rfl (lv_at hl 0 rfl) ?_
        refine lv_iload_n hx hb dL_law_148 rfl (lv_at hl 3 rfl) ?_
        refine lv_iconst (v := nI 2) hx hb dL_law_149 (by decide) ?_
        refine lv_iadd hx hb dL_law_150 (hg_is (y := nI (i + 2)) (nI_add _ _) ?_)
        refine hg_sld hx hb hX hbl hbA hS (by omega) (by omega) dL_law_151 ?_
        refine lv_aload_n hx hb dL_law_152 rfl (lv_at hl 0 rfl) ?_
        refine lv_iload_n hx hb dL_law_153 rfl (lv_at hl 3 rfl) ?_
        refine lv_iconst (v := nI 3) hx hb dL_law_154 (by decide) ?_
        refine lv_iadd hx hb dL_law_155 (hg_is (y := nI (i + 3)) (nI_add _ _) ?_)
        refine hg_sld hx hb hX hbl hbA hS (by omega) (by omega) dL_law_156 ?_
        refine hg_cVv (As := [.int (xs (i + 1)), .int (xs (i + 2)), .int (xs (i + 3))]) (rest := []) (q0 := 0) (ci := 1) (wr := gx h0 a1 a2 a3 d1 d2 d3 r tu k hf_ wf lf) ⟨hx, hb, hml, hown, hts⟩ (mt_X1_heaps l dC dI g0 b1 b2 e1 e2 _ mv mi k2 lo hf2 wf2 (xs (i + 1)) (xs (i + 2)) (xs (i + 3))) (cwV 3 hts (lw_V q139 q140 q141 q10 q142) rfl rfl rfl (by decide +kernel) ⟨Nat.le_of_ble_eq_true rfl, Nat.le_of_ble_eq_true rfl⟩) hK hP hD hS hA [0, 1, 2] [3, 4, 5, 6] [3, 4] rfl rfl rfl rfl rfl rfl (by decide) rfl rfl rfl rfl hl.1 rfl (Nat.le_of_ble_eq_true rfl) dL_law_157 ⟨Nat.le_of_ble_eq_true rfl, Nat.le_of_ble_eq_true rfl⟩ (fun hf2_ H locs hw2 hP hD hS => ?_)
        have hP : va_P (dC, dI) hg_cl (gx h0 a1 a2 a3 d1 d2 d3 r tu k hf_ wf lf ++ mx g0 b1 b2 e1 e2 mv mi k2 lo hf2_ wf2) H := hP
        have hD : va_D (fun q : Nat => s.heap.size ≤ q) (gx h0 a1 a2 a3 d1 d2 d3 r tu k hf_ wf lf ++ mx g0 b1 b2 e1 e2 mv mi k2 lo hf2_ wf2) := hD
        refine lv_goto (tgt := 258) hx hb dL_law_160 (by decide) ?_
        refine lv_iinc (v := nI (i + 4)) (lv' := [(3, .int (nI (i + 4))), (0, .ref b), (1, .ref h0), (2, .ref g0)]) hx hb dL_law_258 hl (k := 3) rfl (nI_add _ 4) (by decide) rfl (fun ls hl => ?_)
        refine lv_goto (tgt := 18) hx hb dL_law_261 (by decide) ?_
        exact ih (i + 4) mis (hg_hs (xs (i + 1)) (xs (i + 2)) (xs (i + 3))) r tu k hf_ wf lf mv mi k2 lo hf2_ wf2 (by omega) (by omega) (hal) (⟨itu, iwo, itab, hw1⟩) (⟨imi, imt, hw2⟩) H locs hP hD hS ls (lv_sub hl [1, 2, 3, 0] rfl)
      · refine lv_tableIn (off := 131) (tgt := 163) hx hb dL_law_32 (by decide) (by decide) (by decide) (by decide) ?_
        refine lv_aload_n hx hb dL_law_163 rfl (lv_at hl 1 rfl) ?_
        refine hg_cVi (As := []) (rest := []) (q0 := 0) (ci := 0) (wr := mx g0 b1 b2 e1 e2 mv mi k2 lo hf2 wf2) ⟨hx, hb, hml, hown, hts⟩ (mt_X0_first l dC dI h0 a1 a2 a3 d1 d2 d3 _ r tu k hf wf lf mis (hp 0) (hp 1) (hp 2) (ihf 0 (by omega)).2 (ihf 1 (by omega)).2 (ihf 2 (by omega)).2 (ihf 0 (by omega)).1 (ihf 1 (by omega)).1 (ihf 2 (by omega)).1 itu iwo itab) (cwV 0 hts (lw_V q64 q65 q66 q8 q67) rfl rfl rfl (by decide +kernel) ⟨Nat.le_of_ble_eq_true rfl, Nat.le_of_ble_eq_true rfl⟩) hK hP hD hS hA [0, 1, 2, 3] [4, 5, 6] [0, 1, 2] rfl rfl rfl rfl rfl rfl (by decide) rfl rfl rfl rfl hl.1 rfl (Nat.le_of_ble_eq_true rfl) dL_law_164 ⟨Nat.le_of_ble_eq_true rfl, Nat.le_of_ble_eq_true rfl⟩ (fun v_1 u_ H locs hw1 hP hD hS => ?_)
        obtain ⟨k_, lf_⟩ := u_
        have hP : va_P (dC, dI) hg_cl (mx g0 b1 b2 e1 e2 mv mi k2 lo hf2 wf2 ++ gx h0 a1 a2 a3 d1 d2 d3 r tu k_ hf wf lf_) H := hP
        have hD : va_D (fun q : Nat => s.heap.size ≤ q) (mx g0 b1 b2 e1 e2 mv mi k2 lo hf2 wf2 ++ gx h0 a1 a2 a3 d1 d2 d3 r tu k_ hf wf lf_) := hD
        refine lv_aload_n hx hb dL_law_167 rfl (lv_at hl 2 rfl) ?_
        refine hg_cVi (As := []) (rest := [.int v_1]) (q0 := 0) (ci := 1) (wr := gx h0 a1 a2 a3 d1 d2 d3 r tu k_ hf wf lf_) ⟨hx, hb, hml, hown, hts⟩ (mt_X1_first l dC dI g0 b1 b2 e1 e2 _ mv mi k2 lo hf2 wf2 mis hp ihf2 imi imt) (cwV 0 hts (lw_V q143 q144 q145 q10 q146) rfl rfl rfl (by decide +kernel) ⟨Nat.le_of_ble_eq_true rfl, Nat.le_of_ble_eq_true rfl⟩) hK hP hD hS hA [0, 1, 2] [3, 4, 5, 6] [3, 4] rfl rfl rfl rfl rfl rfl (by decide) rfl rfl rfl rfl hl.1 rfl (Nat.le_of_ble_eq_true rfl) dL_law_168 ⟨Nat.le_of_ble_eq_true rfl, Nat.le_of_ble_eq_true rfl⟩ (fun v_2 u_ H locs hw2 hP hD hS => ?_)
        obtain ⟨k2_, lo_, wf2_⟩ := u_
        have hP : va_P (dC, dI) hg_cl (gx h0 a1 a2 a3 d1 d2 d3 r tu k_ hf wf lf_ ++ mx g0 b1 b2 e1 e2 mv mi k2_ lo_ hf2 wf2_) H := hP
        have hD : va_D (fun q : Nat => s.heap.size ≤ q) (gx h0 a1 a2 a3 d1 d2 d3 r tu k_ hf wf lf_ ++ mx g0 b1 b2 e1 e2 mv mi k2_ lo_ hf2 wf2_) := hD
        obtain ⟨hv1, ht1⟩ := hw1
        obtain ⟨hv2, ht2⟩ := hw2
        refine lv_icmp_eq (tgt := 258) hx hb dL_law_171 (by decide) (fun c_ => ?_) (fun c_ => absurd (by rw [hv1, hv2, hal]) c_)
        refine lv_iinc (v := nI (i + 4)) (lv' := [(3, .int (nI (i + 4))), (0, .ref b), (1, .ref h0), (2, .ref g0)]) hx hb dL_law_258 hl (k := 3) rfl (nI_add _ 4) (by decide) rfl (fun ls hl => ?_)
        refine lv_goto (tgt := 18) hx hb dL_law_261 (by decide) ?_
        exact ih (i + 4) mis hp r tu k_ hf wf lf_ mv mi k2_ lo_ hf2 wf2_ (by omega) (by omega) (hal) (⟨itu, iwo, ht1, ihf⟩) (⟨imi, Or.inr ht2, ihf2⟩) H locs hP hD hS ls (lv_sub hl [1, 2, 3, 0] rfl)
      · refine lv_tableIn (off := 144) (tgt := 176) hx hb dL_law_32 (by decide) (by decide) (by decide) (by decide) ?_
        refine lv_aload_n hx hb dL_law_176 rfl (lv_at hl 1 rfl) ?_
        refine hg_cVi (As := []) (rest := []) (q0 := 0) (ci := 0) (wr := mx g0 b1 b2 e1 e2 mv mi k2 lo hf2 wf2) ⟨hx, hb, hml, hown, hts⟩ (mt_X0_move l dC dI h0 a1 a2 a3 d1 d2 d3 _ r tu k hf wf lf mis hp ihf itu iwo itab) (cwV 0 hts (lw_V q83 q84 q85 q8 q86) rfl rfl rfl (by decide +kernel) ⟨Nat.le_of_ble_eq_true rfl, Nat.le_of_ble_eq_true rfl⟩) hK hP hD hS hA [0, 1, 2, 3] [4, 5, 6] [0, 1, 2] rfl rfl rfl rfl rfl rfl (by decide) rfl rfl rfl rfl hl.1 rfl (Nat.le_of_ble_eq_true rfl) dL_law_177 ⟨Nat.le_of_ble_eq_true rfl, Nat.le_of_ble_eq_true rfl⟩ (fun v_1 u_ H locs hw1 hP hD hS => ?_)
        obtain ⟨k_, lf_⟩ := u_
        have hP : va_P (dC, dI) hg_cl (mx g0 b1 b2 e1 e2 mv mi k2 lo hf2 wf2 ++ gx h0 a1 a2 a3 d1 d2 d3 r tu k_ hf wf lf_) H := hP
        have hD : va_D (fun q : Nat => s.heap.size ≤ q) (mx g0 b1 b2 e1 e2 mv mi k2 lo hf2 wf2 ++ gx h0 a1 a2 a3 d1 d2 d3 r tu k_ hf wf lf_) := hD
        refine lv_aload_n hx hb dL_law_180 rfl (lv_at hl 2 rfl) ?_
        refine hg_cVi (As := []) (rest := [.int v_1]) (q0 := 0) (ci := 1) (wr := gx h0 a1 a2 a3 d1 d2 d3 r tu k_ hf wf lf_) ⟨hx, hb, hml, hown, hts⟩ (mt_X1_move l dC dI g0 b1 b2 e1 e2 _ mv mi k2 lo hf2 wf2 mis hp ihf2 imi imt) (cwV 0 hts (lw_V q151 q152 q153 q10 q154) rfl rfl rfl (by decide +kernel) ⟨Nat.le_of_ble_eq_true rfl, Nat.le_of_ble_eq_true rfl⟩) hK hP hD hS hA [0, 1, 2] [3, 4, 5, 6] [3, 4] rfl rfl rfl rfl rfl rfl (by decide) rfl rfl rfl rfl hl.1 rfl (Nat.le_of_ble_eq_true rfl) dL_law_181 ⟨Nat.le_of_ble_eq_true rfl, Nat.le_of_ble_eq_true rfl⟩ (fun v_2 u_ H locs hw2 hP hD hS => ?_)
        obtain ⟨k2_, lo_, wf2_⟩ := u_
        have hP : va_P (dC, dI) hg_cl (gx h0 a1 a2 a3 d1 d2 d3 r tu k_ hf wf lf_ ++ mx g0 b1 b2 e1 e2 mv mi k2_ lo_ hf2 wf2_) H := hP
        have hD : va_D (fun q : Nat => s.heap.size ≤ q) (gx h0 a1 a2 a3 d1 d2 d3 r tu k_ hf wf lf_ ++ mx g0 b1 b2 e1 e2 mv mi k2_ lo_ hf2 wf2_) := hD
        obtain ⟨hv1, ht1⟩ := hw1
        obtain ⟨hv2, ht2⟩ := hw2
        refine lv_icmp_eq (tgt := 258) hx hb dL_law_184 (by decide) (fun c_ => ?_) (fun c_ => absurd (by rw [hal] at hv2; exact hg_mv_un hv1 hv2) c_)
        refine lv_iinc (v := nI (i + 4)) (lv' := [(3, .int (nI (i + 4))), (0, .ref b), (1, .ref h0), (2, .ref g0)]) hx hb dL_law_258 hl (k := 3) rfl (nI_add _ 4) (by decide) rfl (fun ls hl => ?_)
        refine lv_goto (tgt := 18) hx hb dL_law_261 (by decide) ?_
        exact ih (i + 4) mis hp r tu k_ hf wf lf_ mv mi k2_ lo_ hf2 wf2_ (by omega) (by omega) (hal) (⟨itu, iwo, ht1, ihf⟩) (⟨imi, Or.inr ht2, ihf2⟩) H locs hP hD hS ls (lv_sub hl [1, 2, 3, 0] rfl)
      · refine lv_tableIn (off := 157) (tgt := 189) hx hb dL_law_32 (by decide) (by decide) (by decide) (by decide) ?_
        refine lv_aload_n hx hb dL_law_189 rfl (lv_at hl 1 rfl) ?_
        refine lv_aload_n hx hb dL_law_190 rfl (lv_at hl 0 rfl) ?_
        refine lv_iload_n hx hb dL_law_191 rfl (lv_at hl 3 rfl) ?_
        refine lv_iconst (v := nI 1) hx hb dL_law_192 (by decide) ?_
        refine lv_iadd hx hb dL_law_193 (hg_is (y := nI (i + 1)) (nI_add _ _) ?_)
        refine hg_sld hx hb hX hbl hbA hS (by omega) (by omega) dL_law_194 ?_
        refine lv_aload_n hx hb dL_law_195 rfl (lv_at hl 0 rfl) ?_
        refine lv_iload_n hx hb dL_law_196 rfl (lv_at hl 3 rfl) ?_
        refine lv_iconst (v := nI 2) hx hb dL_law_197 (by decide) ?_
        refine lv_iadd hx hb dL_law_198 (hg_is (y := nI (i + 2)) (nI_add _ _) ?_)
        refine hg_sld hx hb hX hbl hbA hS (by omega) (by omega) dL_law_199 ?_
        refine hg_cVi (As := [.int (xs (i + 1)), .int (xs (i + 2))]) (rest := []) (q0 := 0) (ci := 0) (wr := mx g0 b1 b2 e1 e2 mv mi k2 lo hf2 wf2) ⟨hx, hb, hml, hown, hts⟩ (mt_X0_take l dC dI h0 a1 a2 a3 d1 d2 d3 _ r tu k hf wf lf hp ihf (xs (i + 1)) (xs (i + 2))) (cwV 2 hts (lw_V q92 q93 q94 q8 q95) rfl rfl rfl (by decide +kernel) ⟨Nat.le_of_ble_eq_true rfl, Nat.le_of_ble_eq_true rfl⟩) hK hP hD hS hA [0, 1, 2, 3] [4, 5, 6] [0, 1, 2] rfl rfl rfl rfl rfl rfl (by decide) rfl rfl rfl rfl hl.1 rfl (Nat.le_of_ble_eq_true rfl) dL_law_200 ⟨Nat.le_of_ble_eq_true rfl, Nat.le_of_ble_eq_true rfl⟩ (fun v_1 hf_ H locs hw1 hP hD hS => ?_)
        have hP : va_P (dC, dI) hg_cl (mx g0 b1 b2 e1 e2 mv mi k2 lo hf2 wf2 ++ gx h0 a1 a2 a3 d1 d2 d3 r tu k hf_ wf lf) H := hP
        have hD : va_D (fun q : Nat => s.heap.size ≤ q) (mx g0 b1 b2 e1 e2 mv mi k2 lo hf2 wf2 ++ gx h0 a1 a2 a3 d1 d2 d3 r tu k hf_ wf lf) := hD
        refine lv_aload_n hx hb dL_law_203 rfl (lv_at hl 2 rfl) ?_
        refine lv_aload_n hx hb dL_law_204 rfl (lv_at hl 0 rfl) ?_
        refine lv_iload_n hx hb dL_law_205 rfl (lv_at hl 3 rfl) ?_
        refine lv_iconst (v := nI 1) hx hb dL_law_206 (by decide) ?_
        refine lv_iadd hx hb dL_law_207 (hg_is (y := nI (i + 1)) (nI_add _ _) ?_)
        refine hg_sld hx hb hX hbl hbA hS (by omega) (by omega) dL_law_208 ?_
        refine lv_aload_n hx hb dL_law_209 rfl (lv_at hl 0 rfl) ?_
        refine lv_iload_n hx hb dL_law_210 rfl (lv_at hl 3 rfl) ?_
        refine lv_iconst (v := nI 2) hx hb dL_law_211 (by decide) ?_
        refine lv_iadd hx hb dL_law_212 (hg_is (y := nI (i + 2)) (nI_add _ _) ?_)
        refine hg_sld hx hb hX hbl hbA hS (by omega) (by omega) dL_law_213 ?_
        refine hg_cVi (As := [.int (xs (i + 1)), .int (xs (i + 2))]) (rest := [.int v_1]) (q0 := 0) (ci := 1) (wr := gx h0 a1 a2 a3 d1 d2 d3 r tu k hf_ wf lf) ⟨hx, hb, hml, hown, hts⟩ (mt_X1_take l dC dI g0 b1 b2 e1 e2 _ mv mi k2 lo hf2 wf2 hp ihf2 (xs (i + 1)) (xs (i + 2))) (cwV 2 hts (lw_V q155 q156 q157 q10 q158) rfl rfl rfl (by decide +kernel) ⟨Nat.le_of_ble_eq_true rfl, Nat.le_of_ble_eq_true rfl⟩) hK hP hD hS hA [0, 1, 2] [3, 4, 5, 6] [3, 4] rfl rfl rfl rfl rfl rfl (by decide) rfl rfl rfl rfl hl.1 rfl (Nat.le_of_ble_eq_true rfl) dL_law_214 ⟨Nat.le_of_ble_eq_true rfl, Nat.le_of_ble_eq_true rfl⟩ (fun v_2 hf2_ H locs hw2 hP hD hS => ?_)
        have hP : va_P (dC, dI) hg_cl (gx h0 a1 a2 a3 d1 d2 d3 r tu k hf_ wf lf ++ mx g0 b1 b2 e1 e2 mv mi k2 lo hf2_ wf2) H := hP
        have hD : va_D (fun q : Nat => s.heap.size ≤ q) (gx h0 a1 a2 a3 d1 d2 d3 r tu k hf_ wf lf ++ mx g0 b1 b2 e1 e2 mv mi k2 lo hf2_ wf2) := hD
        obtain ⟨hv1, ht1⟩ := hw1
        obtain ⟨hv2, ht2⟩ := hw2
        rw [hal] at hv2 ht2
        refine lv_icmp_eq (tgt := 258) hx hb dL_law_217 (by decide) (fun c_ => ?_) (fun c_ => absurd (by rw [hv1, hv2]) c_)
        refine lv_iinc (v := nI (i + 4)) (lv' := [(3, .int (nI (i + 4))), (0, .ref b), (1, .ref h0), (2, .ref g0)]) hx hb dL_law_258 hl (k := 3) rfl (nI_add _ 4) (by decide) rfl (fun ls hl => ?_)
        refine lv_goto (tgt := 18) hx hb dL_law_261 (by decide) ?_
        exact ih (i + 4) mis (hg_tkh (hg_al r) hp (xs (i + 1)) (xs (i + 2))) r tu k hf_ wf lf mv mi k2 lo hf2_ wf2 (by omega) (by omega) (hal) (⟨itu, iwo, itab, ht1⟩) (⟨imi, imt, ht2⟩) H locs hP hD hS ls (lv_sub hl [1, 2, 3, 0] rfl)
      · refine lv_tableIn (off := 190) (tgt := 222) hx hb dL_law_32 (by decide) (by decide) (by decide) (by decide) ?_
        refine lv_aload_n hx hb dL_law_222 rfl (lv_at hl 1 rfl) ?_
        refine lv_aload_n hx hb dL_law_223 rfl (lv_at hl 0 rfl) ?_
        refine lv_iload_n hx hb dL_law_224 rfl (lv_at hl 3 rfl) ?_
        refine lv_iconst (v := nI 1) hx hb dL_law_225 (by decide) ?_
        refine lv_iadd hx hb dL_law_226 (hg_is (y := nI (i + 1)) (nI_add _ _) ?_)
        refine hg_sld hx hb hX hbl hbA hS (by omega) (by omega) dL_law_227 ?_
        refine hg_cVi (As := [.int (xs (i + 1))]) (rest := []) (q0 := 0) (ci := 0) (wr := mx g0 b1 b2 e1 e2 mv mi k2 lo hf2 wf2) ⟨hx, hb, hml, hown, hts⟩ (mt_X0_heap l dC dI h0 a1 a2 a3 d1 d2 d3 _ r tu k hf wf lf hp ihf (xs (i + 1))) (cwV 1 hts (lw_V q97 q98 q99 q8 q100) rfl rfl rfl (by decide +kernel) ⟨Nat.le_of_ble_eq_true rfl, Nat.le_of_ble_eq_true rfl⟩) hK hP hD hS hA [0, 1, 2, 3] [4, 5, 6] [0, 1, 2] rfl rfl rfl rfl rfl rfl (by decide) rfl rfl rfl rfl hl.1 rfl (Nat.le_of_ble_eq_true rfl) dL_law_228 ⟨Nat.le_of_ble_eq_true rfl, Nat.le_of_ble_eq_true rfl⟩ (fun v_1 u_ H locs hw1 hP hD hS => ?_)
        have hP : va_P (dC, dI) hg_cl (mx g0 b1 b2 e1 e2 mv mi k2 lo hf2 wf2 ++ gx h0 a1 a2 a3 d1 d2 d3 r tu k hf wf lf) H := hP
        have hD : va_D (fun q : Nat => s.heap.size ≤ q) (mx g0 b1 b2 e1 e2 mv mi k2 lo hf2 wf2 ++ gx h0 a1 a2 a3 d1 d2 d3 r tu k hf wf lf) := hD
        refine lv_aload_n hx hb dL_law_231 rfl (lv_at hl 2 rfl) ?_
        refine lv_aload_n hx hb dL_law_232 rfl (lv_at hl 0 rfl) ?_
        refine lv_iload_n hx hb dL_law_233 rfl (lv_at hl 3 rfl) ?_
        refine lv_iconst (v := nI 1) hx hb dL_law_234 (by decide) ?_
        refine lv_iadd hx hb dL_law_235 (hg_is (y := nI (i + 1)) (nI_add _ _) ?_)
        refine hg_sld hx hb hX hbl hbA hS (by omega) (by omega) dL_law_236 ?_
        refine hg_cVi (As := [.int (xs (i + 1))]) (rest := [.int v_1]) (q0 := 0) (ci := 1) (wr := gx h0 a1 a2 a3 d1 d2 d3 r tu k hf wf lf) ⟨hx, hb, hml, hown, hts⟩ (mt_X1_heap l dC dI g0 b1 b2 e1 e2 _ mv mi k2 lo hf2 wf2 hp ihf2 (xs (i + 1))) (cwV 1 hts (lw_V q160 q161 q162 q10 q163) rfl rfl rfl (by decide +kernel) ⟨Nat.le_of_ble_eq_true rfl, Nat.le_of_ble_eq_true rfl⟩) hK hP hD hS hA [0, 1, 2] [3, 4, 5, 6] [3, 4] rfl rfl rfl rfl rfl rfl (by decide) rfl rfl rfl rfl hl.1 rfl (Nat.le_of_ble_eq_true rfl) dL_law_237 ⟨Nat.le_of_ble_eq_true rfl, Nat.le_of_ble_eq_true rfl⟩ (fun v_2 u_ H locs hw2 hP hD hS => ?_)
        have hP : va_P (dC, dI) hg_cl (gx h0 a1 a2 a3 d1 d2 d3 r tu k hf wf lf ++ mx g0 b1 b2 e1 e2 mv mi k2 lo hf2 wf2) H := hP
        have hD : va_D (fun q : Nat => s.heap.size ≤ q) (gx h0 a1 a2 a3 d1 d2 d3 r tu k hf wf lf ++ mx g0 b1 b2 e1 e2 mv mi k2 lo hf2 wf2) := hD
        refine lv_icmp_eq (tgt := 258) hx hb dL_law_240 (by decide) (fun c_ => ?_) (fun c_ => absurd (Eq.trans hw1 (Eq.symm hw2)) c_)
        refine lv_iinc (v := nI (i + 4)) (lv' := [(3, .int (nI (i + 4))), (0, .ref b), (1, .ref h0), (2, .ref g0)]) hx hb dL_law_258 hl (k := 3) rfl (nI_add _ 4) (by decide) rfl (fun ls hl => ?_)
        refine lv_goto (tgt := 18) hx hb dL_law_261 (by decide) ?_
        exact ih (i + 4) mis hp r tu k hf wf lf mv mi k2 lo hf2 wf2 (by omega) (by omega) (hal) (hG) (hM) H locs hP hD hS ls (lv_sub hl [1, 2, 3, 0] rfl)
      · refine lv_tableIn (off := 213) (tgt := 245) hx hb dL_law_32 (by decide) (by decide) (by decide) (by decide) ?_
        refine lv_aload_n hx hb dL_law_245 rfl (lv_at hl 1 rfl) ?_
        refine hg_cVi (As := []) (rest := []) (q0 := 0) (ci := 0) (wr := mx g0 b1 b2 e1 e2 mv mi k2 lo hf2 wf2) ⟨hx, hb, hml, hown, hts⟩ (mt_X0_lost l dC dI h0 a1 a2 a3 d1 d2 d3 _ r tu k hf wf lf mis itu iwo itab) (cwV 0 hts (lw_V q101 q102 q103 q8 q104) rfl rfl rfl (by decide +kernel) ⟨Nat.le_of_ble_eq_true rfl, Nat.le_of_ble_eq_true rfl⟩) hK hP hD hS hA [0, 1, 2, 3] [4, 5, 6] [0, 1, 2] rfl rfl rfl rfl rfl rfl (by decide) rfl rfl rfl rfl hl.1 rfl (Nat.le_of_ble_eq_true rfl) dL_law_246 ⟨Nat.le_of_ble_eq_true rfl, Nat.le_of_ble_eq_true rfl⟩ (fun v_1 u_ H locs hw1 hP hD hS => ?_)
        obtain ⟨k_, lf_⟩ := u_
        have hP : va_P (dC, dI) hg_cl (mx g0 b1 b2 e1 e2 mv mi k2 lo hf2 wf2 ++ gx h0 a1 a2 a3 d1 d2 d3 r tu k_ hf wf lf_) H := hP
        have hD : va_D (fun q : Nat => s.heap.size ≤ q) (mx g0 b1 b2 e1 e2 mv mi k2 lo hf2 wf2 ++ gx h0 a1 a2 a3 d1 d2 d3 r tu k_ hf wf lf_) := hD
        refine lv_aload_n hx hb dL_law_249 rfl (lv_at hl 2 rfl) ?_
        refine hg_cVi (As := []) (rest := [.int v_1]) (q0 := 0) (ci := 1) (wr := gx h0 a1 a2 a3 d1 d2 d3 r tu k_ hf wf lf_) ⟨hx, hb, hml, hown, hts⟩ (mt_X1_lost l dC dI g0 b1 b2 e1 e2 _ mv mi k2 lo hf2 wf2 mis imi imt) (cwV 0 hts (lw_V q164 q165 q166 q10 q167) rfl rfl rfl (by decide +kernel) ⟨Nat.le_of_ble_eq_true rfl, Nat.le_of_ble_eq_true rfl⟩) hK hP hD hS hA [0, 1, 2] [3, 4, 5, 6] [3, 4] rfl rfl rfl rfl rfl rfl (by decide) rfl rfl rfl rfl hl.1 rfl (Nat.le_of_ble_eq_true rfl) dL_law_250 ⟨Nat.le_of_ble_eq_true rfl, Nat.le_of_ble_eq_true rfl⟩ (fun v_2 u_ H locs hw2 hP hD hS => ?_)
        obtain ⟨k2_, lo_, wf2_⟩ := u_
        have hP : va_P (dC, dI) hg_cl (gx h0 a1 a2 a3 d1 d2 d3 r tu k_ hf wf lf_ ++ mx g0 b1 b2 e1 e2 mv mi k2_ lo_ hf2 wf2_) H := hP
        have hD : va_D (fun q : Nat => s.heap.size ≤ q) (gx h0 a1 a2 a3 d1 d2 d3 r tu k_ hf wf lf_ ++ mx g0 b1 b2 e1 e2 mv mi k2_ lo_ hf2 wf2_) := hD
        obtain ⟨hv1, ht1⟩ := hw1
        obtain ⟨hv2, ht2⟩ := hw2
        refine lv_icmp_eq (tgt := 258) hx hb dL_law_253 (by decide) (fun c_ => ?_) (fun c_ => absurd (by rw [hv1, hv2, hal]) c_)
        refine lv_iinc (v := nI (i + 4)) (lv' := [(3, .int (nI (i + 4))), (0, .ref b), (1, .ref h0), (2, .ref g0)]) hx hb dL_law_258 hl (k := 3) rfl (nI_add _ 4) (by decide) rfl (fun ls hl => ?_)
        refine lv_goto (tgt := 18) hx hb dL_law_261 (by decide) ?_
        exact ih (i + 4) mis hp r tu k_ hf wf lf_ mv mi k2_ lo_ hf2 wf2_ (by omega) (by omega) (hal) (⟨itu, iwo, ht1, ihf⟩) (⟨imi, Or.inr ht2, ihf2⟩) H locs hP hD hS ls (lv_sub hl [1, 2, 3, 0] rfl)
set_option maxHeartbeats 4000000 in
set_option maxRecDepth 100000 in
theorem whole_start {p : Program} {e : Env} {s : State} {m : MethodId} {below : List Frame} {meth : Method} {c : Code} (l : Launch) {b L : Nat} {xs : Nat → Int32} (hL : L ≤ 256) (C0 : lw_At p s m meth c b L xs) : W p l e room_1 s m #[Value.ref b] below meth c s.heap [] 0 0 (lw_Z below #[Value.ref b] s) (entryFrame m ([Value.ref b] : List Value).toArray 4) := by
  obtain ⟨hx, hb, hr, hml, hown, hts0, hX, hbl, hlocks, hgv⟩ := id C0
  have hts : ∀ w ∈ lw_all, w.before #[Value.ref b] s = true := fun w h => hts0 w (lw_all_tbl h)
  have hA : ∀ q : Nat, s.heap.size ≤ q → (fun q : Nat => s.heap.size ≤ q) q := fun _ h => h
  have hbA : ¬ (fun q : Nat => s.heap.size ≤ q) b := Nat.not_le.mpr hbl
  obtain ⟨c0_, iS0, hKn0⟩ := u_known (C := RX0) (T := TX0) (N := 6) (n := 6) hts in_X0 (hts _ q12)
  obtain ⟨c1_, iS1, hKn1⟩ := u_known (C := RX1) (T := TX1) (N := 6) (n := 6) hts in_X1 (hts _ q106)
  obtain ⟨dC, dI, hKc⟩ : ∃ (dC : Nat → ClassId) (dI : Nat → Nat → Nat), ∀ (k : Nat) (q : vw_C), hg_cl[k]? = some q → u_Kn s q.1 q.2.1 q.2.2 (dC k) (dI k) := by
    refine ⟨fun k => if k = 0 then c0_ else c1_, fun k => if k = 0 then iS0 else iS1, ?_⟩
    intro k q hq
    match k, hq with
    | 0, hq => cases hq; exact hKn0
    | 1, hq => cases hq; exact hKn1
    | k + 2, hq => simp [hg_cl] at hq
  have hS : va_S (fun q : Nat => s.heap.size ≤ q) s.heap s.heap [] := va_S.rf
  have hK : va_K (dC, dI) hg_cl [] s := ⟨hKc, fun k q h => by simp at h⟩
  have hP : va_P (dC, dI) hg_cl [] s.heap := fun k q h => by simp at h
  have hD : va_D (fun q : Nat => s.heap.size ≤ q) [] := ⟨fun i j p q h => by simp at h, fun k q h => by simp at h⟩
  have hl := lv_entry ([.ref b]) (n := 4) (Nat.le_of_ble_eq_true rfl)
  rw [lg_entry_eq]
  generalize (lg_sl ([.ref b]) ++ List.replicate (4 - (lg_sl ([.ref b])).length) Slot.unset).toArray = ls at hl ⊢
  have hl : lv_has ls 4 [(0, .ref b)] := hl
  refine va_new (ci := 0) (fs := [.int 0, .int 0, .null, .null, .null, .int 0]) (C := RX0) (T := TX0) (N := 6) hx hb hts in_X0 tyX0 tyX0_ok hown (hts _ q11) (hts _ q12) (hts _ q8) hK hP hD hS hA rfl (fun j hj => by rcases (show j = 0 ∨ j = 1 ∨ j = 2 ∨ j = 3 ∨ j = 4 ∨ j = 5 by omega) with rfl | rfl | rfl | rfl | rfl | rfl <;> rfl) (Nat.le_of_ble_eq_true rfl) (Nat.le_of_ble_eq_true rfl) dL_law_0 (fun h0 H hP hD hS => ?_)
  have hP : va_P (dC, dI) hg_cl [(h0, .inr (0, [.int 0, .int 0, .null, .null, .null, .int 0]))] H := hP
  have hD : va_D (fun q : Nat => s.heap.size ≤ q) [(h0, .inr (0, [.int 0, .int 0, .null, .null, .null, .int 0]))] := hD
  refine W.widen (k := 1) (n := 6) (Nat.le_of_ble_eq_true rfl) (Nat.le_of_ble_eq_true rfl) ?_
  refine lv_dup hx hb dL_law_3 rfl ?_
  refine hg_cI (As := []) (rest := [.ref h0]) (wr := []) ⟨hx, hb, hml, hown, hts⟩ (mt_X0_init l dC dI h0 _) (cwI 0 hts (lw_meth q15) rfl rfl rfl (hts _ q8) (hts _ q13) (hts _ q14) rfl (by decide +kernel) ⟨Nat.le_of_ble_eq_true rfl, Nat.le_of_ble_eq_true rfl⟩) hK hP hD hS hA [0] [] rfl rfl rfl rfl rfl (by decide) rfl hl.1 rfl (Nat.le_of_ble_eq_true rfl) dL_law_4 ⟨Nat.le_of_ble_eq_true rfl, Nat.le_of_ble_eq_true rfl⟩ (fun u_ H locs hw1 hK hP hD hS => ?_)
  obtain ⟨⟨a1, a2, a3⟩, ⟨d1, d2, d3⟩, wf⟩ := u_
  have hw1 : hg_wo (hg_al 6) wf := hw1
  have hK : va_K (dC, dI) hg_cl (tg d1 d2 d3) s := hK
  have hP : va_P (dC, dI) hg_cl (gx h0 a1 a2 a3 d1 d2 d3 6 0 0 (fun _ => 0) wf (fun _ => 0)) H := hP
  have hD : va_D (fun q : Nat => s.heap.size ≤ q) (gx h0 a1 a2 a3 d1 d2 d3 6 0 0 (fun _ => 0) wf (fun _ => 0)) := hD
  refine W.widen (k := 4) (n := 4121) (Nat.le_of_ble_eq_true rfl) (Nat.le_of_ble_eq_true rfl) ?_
  refine lv_astore_n (lv' := [(1, .ref h0), (0, .ref b)]) hx hb dL_law_7 rfl hl (by decide) rfl (fun ls hl => ?_)
  refine va_new (ci := 1) (fs := [.int 0, .null, .int 0, .null, .int 0, .int 0]) (C := RX1) (T := TX1) (N := 6) hx hb hts in_X1 tyX1 tyX1_ok hown (hts _ q105) (hts _ q106) (hts _ q10) hK hP hD hS hA rfl (fun j hj => by rcases (show j = 0 ∨ j = 1 ∨ j = 2 ∨ j = 3 ∨ j = 4 ∨ j = 5 by omega) with rfl | rfl | rfl | rfl | rfl | rfl <;> rfl) (Nat.le_of_ble_eq_true rfl) (Nat.le_of_ble_eq_true rfl) dL_law_8 (fun g0 H hP hD hS => ?_)
  refine W.widen (k := 5) (n := 4127) (Nat.le_of_ble_eq_true rfl) (Nat.le_of_ble_eq_true rfl) ?_
  refine lv_dup hx hb dL_law_11 rfl ?_
  refine hg_cI (As := []) (rest := [.ref g0]) (wr := gx h0 a1 a2 a3 d1 d2 d3 6 0 0 (fun _ => 0) wf (fun _ => 0)) ⟨hx, hb, hml, hown, hts⟩ (mt_X1_init l dC dI g0 _) (cwI 0 hts (lw_meth q109) rfl rfl rfl (hts _ q10) (hts _ q107) (hts _ q108) rfl (by decide +kernel) ⟨Nat.le_of_ble_eq_true rfl, Nat.le_of_ble_eq_true rfl⟩) hK hP hD hS hA [4] [0, 1, 2, 3] rfl rfl rfl rfl rfl (by decide) rfl hl.1 rfl (Nat.le_of_ble_eq_true rfl) dL_law_12 ⟨Nat.le_of_ble_eq_true rfl, Nat.le_of_ble_eq_true rfl⟩ (fun u_ H locs hw2 hK hP hD hS => ?_)
  obtain ⟨⟨b1, b2⟩, e1, e2⟩ := u_
  have hK : va_K (dC, dI) hg_cl (tg d1 d2 d3 ++ tm e1 e2) s := hK
  refine W.widen (k := 7) (n := 8226) (Nat.le_of_ble_eq_true rfl) (Nat.le_of_ble_eq_true rfl) ?_
  refine lv_astore_n (lv' := [(2, .ref g0), (1, .ref h0), (0, .ref b)]) hx hb dL_law_15 rfl hl (by decide) rfl (fun ls hl => ?_)
  refine lv_iconst (v := nI 0) hx hb dL_law_16 (by decide) ?_
  refine lv_istore_n (lv' := [(3, .int (nI 0)), (2, .ref g0), (1, .ref h0), (0, .ref b)]) hx hb dL_law_17 rfl hl (by decide) rfl (fun ls hl => ?_)
  exact law_loop hL C0 dC dI h0 a1 a2 a3 d1 d2 d3 g0 b1 b2 e1 e2 hK (L + 1) 0 false (fun _ => 0) 6 0 0 (fun _ => 0) wf (fun _ => 0) 6 0 0 0 (fun _ => 0) (fun _ => 0) (by omega) (by omega) rfl ⟨rfl, hw1, Or.inl rfl, fun i hi => ⟨rfl, (by decide : (0 : Nat) < 16)⟩⟩ ⟨rfl, Or.inl rfl, fun i hi => ⟨rfl, (by decide : (0 : Nat) < 16)⟩⟩ H locs hP hD hS ls (lv_sub hl [3, 2, 1, 0] rfl)
end
section
set_option maxHeartbeats 4000000 in
theorem lw_walk (l : Launch) (b : Addr) (xs : List Int32) : MetFree l x (headSpec (Jvm.Cond.code x code maxLocals ret :: tables_1) room_1) (lw_P b xs) (fun _ _ _ _ _ => True) lw_Q := by
  refine MetFree.of_bodyS (code := code) (maxLocals := maxLocals) (ret := ret) (by decide) ?_ ?_
  · intro args s m h hn
    obtain ⟨meth, c, h1, h2, h3, h4, h5, h6, -, -⟩ := Cond.code_spec hn (atoms_spec (ws := Jvm.Cond.code x code maxLocals ret :: tables_1) h _ List.mem_cons_self)
    exact ⟨meth, c, h1, h2, h3, h4, h5, h6⟩
  · intro p e s m args below meth c s₁ B hml0 hP _
    obtain ⟨rfl, hx, hbd, hgv⟩ := hP
    obtain ⟨scr, harrAt, hlist, hof, hsmall⟩ := hx
    obtain ⟨hcb, hkn, -, -⟩ := State.arrayAt?_spec harrAt
    have hown : s.vm.findClass R_law = some m.cls := findClass_of_methodNamed B.named
    have hts0 : ∀ c ∈ (Jvm.Cond.code x code maxLocals ret :: tables_1), c.before #[Value.ref b] s = true := atoms_spec (ws := Jvm.Cond.code x code maxLocals ret :: tables_1) B.pre
    have hts : ∀ w ∈ lw_tbl, w.before #[Value.ref b] s = true := k2_hts_sels lw_privs (fun w hw => hts0 w (List.mem_cons_of_mem _ hw)) lw_privs_ok
    have hml : c.maxLocals = 4 := B.maxLocals_eq (hts0 _ List.mem_cons_self)
    have X₀ : Stand p l e room_1 s m #[Value.ref b] below meth c s₁ [] 0 0 := Stand.of_body B
    have hh0 : s₁.heap = s.heap := by rw [B.state]; rfl
    have hsz : scr.slots.size = xs.length := by rw [← Array.length_toList, hlist, List.length_map]
    have hval : ∀ j : Nat, j < xs.length → scr.slots[j]? = some (.int (xs.getD j 0)) := fun j hj => by
      rw [← Array.getElem?_toList, hlist]
      simp [hj]
    have hbl : b < s.heap.size := (Array.getElem?_eq_some_iff.mp hcb).1
    have hX : va_X b xs.length (fun j => xs.getD j 0) s s.heap := ⟨scr, hcb, hof, hkn, hsz, hval⟩
    have K : W p l e room_1 s m #[Value.ref b] below meth c s₁.heap [] 0 0 (lw_Z below #[Value.ref b] s) (entryFrame m ([Value.ref b] : List Value).toArray 4) := by
      rw [hh0]
      exact whole_start l hbd ⟨B.exec, B.bytes, B.returns, hml, hown, hts, hX, hbl, B.notSynchronized, hgv⟩
    obtain ⟨t, a1, o, b1, b2, b3⟩ := K s₁ rfl X₀
    exact ⟨t, o, a1, b1, b2, b3⟩
theorem lw_pre_spec {args : Array Value} {s : State} (h : (Jvm.Cond.and given_1 narrow_1).before args s = true) (hr : rest_1_c.before args s = true) : ∃ (b : Addr) (xs : List Int32), lw_P b xs args s := by
  have hs := flat_of_before _ h
  have hq := flat_of_before _ hr
  have hc : (Cond.count 1).before args s = true := hs _ (by decide +kernel)
  have harr : (Cond.arrayOf (.arg 0) .int).before args s = true := hs _ (by decide +kernel)
  have hle : (Cond.le (.length (.arg 0)) (.int 256)).before args s = true := hs _ (by decide +kernel)
  have hlen : (Cond.isInt (.length (.arg 0))).before args s = true := hq _ (by decide +kernel)
  have hall : (Cond.all (.arg 0) (.isInt (.elem (.arg 0) (.index 0)))).before args s = true := hq _ (by decide +kernel)
  obtain ⟨b, xs, hb, hx⟩ := State.ints_of_pre rfl harr hlen hall
  have hsm : xs.length < 2 ^ 31 := hx.choose_spec.2.2.2
  have hev : (Term.length (.arg 0)).eval args s none [] s = some (.int xs.length.toInt32) := hx.length_eval hb
  have hv := Cond.le_ints hev (show (Term.int 256).eval args s none [] s = some (.int 256) from rfl)
  have hd : xs.length.toInt32 ≤ 256 := by
    simpa [Cond.before, Cond.holds, hv] using hle
  have hN : xs.length ≤ 256 := (Int32.ofNat_le_ofNat hsm (by decide)).mp (show Int32.ofNat xs.length ≤ Int32.ofNat 256 from hd)
  exact ⟨b, xs, Cond.one_arg hc (show args[0]? = some (.ref b) from hb), hx, hN, h⟩
theorem lw_comes (l : Launch) : Comes l x (Jvm.Cond.code x code maxLocals ret :: tables_1) room_1 (fun tb e args s => Calls_1 tb e args s ∧ rest_1 tb e args s ∧ Pre_1 tb e args s)
    (fun _ _ args s o t => lw_Q args s o t) := by
  intro p e ha hc hk s m args below hf hfit hheap happ hpre
  obtain ⟨b, xs, hP⟩ := lw_pre_spec hpre.2.2 hpre.2.1
  obtain ⟨k, o, h1, h2, h3, hQ⟩ := lw_walk l b xs p e ha hc hk s m args below hf ((Spec.applies_iff_loose hf).mp happ).1 hP trivial
  exact ⟨k, o, h1, h2, h3, hQ⟩
theorem lw_frame {s t : State} {o : Outcome} {args : Array Value} (h : Framed s o t [] 600000 7290000) :
    Framed s o t (fieldLocs frame_1_writes args s ++ arrayLocs frame_1_arrays args s ++ staticLocs frame_1_statics s) 600000 7290000 := h
theorem lw_limb (L : Cond) (hL : ∀ (args : Array Value) (s t : State), L.after args s (.returned (some (.int 1))) t = true) :
    ArmFor flags0 classFile x code maxLocals ret World_1 tables_1 room_1 Calls_1 rest_1 Pre_1
      (fun tb e a s o t => postC L tb e a s o t ∧ Framed s o t (fieldLocs frame_1_writes a s ++ arrayLocs frame_1_arrays a s ++ staticLocs frame_1_statics s) 600000 7290000) := by
  intro l _ _ _ p e ha hc hk s m args below hf hfit hheap happ hpre
  obtain ⟨k, o, h1, h2, h3, rfl, hF⟩ := lw_comes l p e ha hc hk s m args below hf hfit hheap happ hpre
  exact ⟨k, _, h1, h2, h3, hL args s _, lw_frame hF⟩
theorem i_vc : Claimed_1_1 ∧ Claimed_1_2 := ⟨lw_limb limb_1_1 (fun args s t => by simp [limb_1_1, Cond.after, Cond.holds, Cond.value]), lw_limb limb_1_2 (fun args s t => Cond.after_iff.mpr (by
  first | (rw [show limb_1_2 = Cond.eq .result (.int 1) from rfl, Cond.eq_ints (x := 1) (y := 1) rfl rfl]; simp; done) | (simp [limb_1_2, Cond.value, Term.eval]; done)))⟩
end
