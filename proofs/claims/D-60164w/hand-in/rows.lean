section
-- ===== PART A: goes FIRST, ahead of the names: the tables' words, and 'selects' of the private methods out of them =====
/-- a private method of a class that the tables say can be made, by its rows of tables_1 -/
def lw_okq (q : MethodName × Nat) : Prop := (q.1.cls ≠ "java/lang/invoke/MethodHandle" ∧ q.1.cls ≠ "java/lang/invoke/VarHandle") ∧ Cond.instantiable q.1.cls q.2 ∈ tables_1 ∧ Cond.privateMethod q.1 ∈ tables_1 ∧ Cond.instanceMethod q.1 ∈ tables_1
set_option maxRecDepth 100000
theorem lw_p0 : lw_okq (⟨"SquareSumsModel", "make", "()V"⟩, 3) := ⟨⟨by decide +kernel, by decide +kernel⟩, List.mem_of_getElem? (i := 53) rfl, List.mem_of_getElem? (i := 85) rfl, List.mem_of_getElem? (i := 86) rfl⟩
def lw_privs_1 : List (MethodName × Nat) := [(⟨"SquareSumsModel", "make", "()V"⟩, 3)]
theorem lw_r1 : ∀ q ∈ lw_privs_1, lw_okq q := List.forall_mem_cons.mpr ⟨lw_p0, fun _ h => absurd h List.not_mem_nil⟩
def lw_privs : List (MethodName × Nat) := lw_privs_1
def lw_tbl : List Cond := k2_sels lw_privs ++ tables_1
theorem lw_privs_ok : ∀ q ∈ lw_privs, lw_okq q := lw_r1
-- ===== ONE list of words for every method: the tables' words that hold all through a run =====
def lw_all : List Cond := lw_tbl.filter goodWord
/-- a word of the tables by its place: claim/WORDS.tsv -/
theorem lw_w {w : Cond} (i : Nat) (h : lw_tbl[i]? = some w) (g : goodWord w = true) : w ∈ lw_all := List.mem_filter.mpr ⟨List.mem_of_getElem? h, g⟩
theorem lw_all_tbl {w : Cond} (h : w ∈ lw_all) : w ∈ lw_tbl := (List.mem_filter.mp h).1
theorem lw_self : GoodIn lw_all lw_all := fun w h => ⟨h, good_of_word (List.mem_filter.mp h).2⟩
/-- a class's field words, by their places -/
theorem lw_in (ws : List Cond) (ps : List Nat) (hp : ws = ps.filterMap (fun i => lw_tbl[i]?)) (hg : ws.all goodWord = true) : ∀ w ∈ ws, w ∈ lw_all := by
  intro w h
  have h1 := List.all_eq_true.mp hg w h
  rw [hp] at h
  obtain ⟨i, -, hi⟩ := List.mem_filterMap.mp h
  exact lw_w i hi h1
/-- the words of a contract for the method y with code b, L locals, answer r -/
abbrev ws_ (y : MethodName) (b : ByteArray) (L : Nat) (r : Option FieldType) : List Cond := Cond.code y b L r :: lw_all
theorem lw_meth {y : MethodName} {b : ByteArray} {L : Nat} {r : Option FieldType} (h : Cond.code y b L r ∈ lw_all) : GoodIn lw_all (ws_ y b L r) := by
  intro w hw
  rcases List.mem_cons.mp hw with e | e
  · rw [e]
    exact lw_self _ h
  · exact lw_self _ e
theorem lw_app {a c : List Cond} (ha : ∀ w ∈ a, w ∈ lw_all) (hc : GoodIn lw_all c) : GoodIn lw_all (a ++ c) := by
  intro w hw
  rcases List.mem_append.mp hw with e | e
  · exact lw_self w (ha w e)
  · exact hc w e
/-- what a call through an object asks: cwV n hts (lw_V ..) -/
theorem lw_V {own : String} {idx : Nat} {C : String} {y : MethodName} {b : ByteArray} {L : Nat} {r : Option FieldType} (h1 : Cond.methodLink own idx y ∈ lw_all) (h2 : Cond.instanceMethod y ∈ lw_all) (h3 : Cond.selects C y y ∈ lw_all) (h4 : Cond.initialized C ∈ lw_all) (h5 : Cond.code y b L r ∈ lw_all) : GoodIn lw_all (wsV own idx C y (ws_ y b L r)) := by
  refine lw_app ?_ (lw_meth h5)
  intro w hw
  simp only [List.mem_cons, List.not_mem_nil, or_false] at hw
  rcases hw with e | e | e | e
  · rw [e]; exact h1
  · rw [e]; exact h2
  · rw [e]; exact h3
  · rw [e]; exact h4
/-- what a static call asks: va_cwS n hts (lw_S ..) -/
theorem lw_S {own : String} {idx : Nat} {y : MethodName} {b : ByteArray} {L : Nat} {r : Option FieldType} (h1 : Cond.methodLink own idx y ∈ lw_all) (h2 : Cond.static y ∈ lw_all) (h3 : Cond.initialized y.cls ∈ lw_all) (h4 : Cond.code y b L r ∈ lw_all) : GoodIn lw_all (va_wsS own idx y (ws_ y b L r)) := by
  refine lw_app ?_ (lw_meth h4)
  intro w hw
  simp only [List.mem_cons, List.not_mem_nil, or_false] at hw
  rcases hw with e | e | e
  · rw [e]; exact h1
  · rw [e]; exact h2
  · rw [e]; exact h3
/-- the words of a contract for a method WITH HANDLERS (hh: its table) -/
abbrev wsW_ (y : MethodName) (b : ByteArray) (L : Nat) (r : Option FieldType) (hh : List (Nat × Nat × Nat × Nat)) : List Cond := Cond.codeWith y b L r hh :: lw_all
theorem lw_methW {y : MethodName} {b : ByteArray} {L : Nat} {r : Option FieldType} {hh : List (Nat × Nat × Nat × Nat)} (h : Cond.codeWith y b L r hh ∈ lw_all) : GoodIn lw_all (wsW_ y b L r hh) := by
  intro w hw
  rcases List.mem_cons.mp hw with e | e
  · rw [e]
    exact lw_self _ h
  · exact lw_self _ e
/-- any list of words by their places (lw_in), good -/
theorem lw_good {ws : List Cond} (h : ∀ w ∈ ws, w ∈ lw_all) : GoodIn lw_all ws := fun w hw => lw_self w (h w hw)
/-- what a call of a method with handlers asks: vx_cwVW n hts (lw_VW ..), vx_cwSW n hts (lw_SW ..) -/
theorem lw_VW {own : String} {idx : Nat} {C : String} {y : MethodName} {b : ByteArray} {L : Nat} {r : Option FieldType} {hh : List (Nat × Nat × Nat × Nat)} (h1 : Cond.methodLink own idx y ∈ lw_all) (h2 : Cond.instanceMethod y ∈ lw_all) (h3 : Cond.selects C y y ∈ lw_all) (h4 : Cond.initialized C ∈ lw_all) (h5 : Cond.codeWith y b L r hh ∈ lw_all) : GoodIn lw_all (wsV own idx C y (wsW_ y b L r hh)) := by
  refine lw_app ?_ (lw_methW h5)
  intro w hw
  simp only [List.mem_cons, List.not_mem_nil, or_false] at hw
  rcases hw with e | e | e | e
  · rw [e]; exact h1
  · rw [e]; exact h2
  · rw [e]; exact h3
  · rw [e]; exact h4
theorem lw_SW {own : String} {idx : Nat} {y : MethodName} {b : ByteArray} {L : Nat} {r : Option FieldType} {hh : List (Nat × Nat × Nat × Nat)} (h1 : Cond.methodLink own idx y ∈ lw_all) (h2 : Cond.static y ∈ lw_all) (h3 : Cond.initialized y.cls ∈ lw_all) (h4 : Cond.codeWith y b L r hh ∈ lw_all) : GoodIn lw_all (va_wsS own idx y (wsW_ y b L r hh)) := by
  refine lw_app ?_ (lw_methW h4)
  intro w hw
  simp only [List.mem_cons, List.not_mem_nil, or_false] at hw
  rcases hw with e | e | e
  · rw [e]; exact h1
  · rw [e]; exact h2
  · rw [e]; exact h3
/-- a word by its place in its run of the tables -/
theorem lw_at {r : List Cond} (hr : ∀ w ∈ r, w ∈ lw_tbl) {w : Cond} (i : Nat) (h : r[i]? = some w) : w ∈ lw_tbl := hr w (List.mem_of_getElem? h)
theorem lw_g {w : Cond} (h : w ∈ lw_tbl) (g : goodWord w = true) : w ∈ lw_all := List.mem_filter.mpr ⟨h, g⟩
theorem lw_ms : ∀ w ∈ k2_sels lw_privs, w ∈ lw_tbl := fun w h => show w ∈ k2_sels lw_privs ++ tables_1 from List.mem_append_left _ h
theorem lw_m0 : ∀ w ∈ tables_1, w ∈ lw_tbl := fun w h => show w ∈ k2_sels lw_privs ++ tables_1 from List.mem_append_right (k2_sels lw_privs) h
theorem qs0 : (Cond.selects "SquareSumsModel" ⟨"SquareSumsModel", "make", "()V"⟩ ⟨"SquareSumsModel", "make", "()V"⟩) ∈ lw_all := lw_g (lw_at lw_ms 0 rfl) rfl
end
section
/-! java/lang/Object -/
set_option maxRecDepth 100000
def RJ0 : String := "java/lang/Object"
abbrev cJ0_init : ByteArray := object_method_1_code
def yJ0_init : MethodName := ⟨RJ0, "<init>", "()V"⟩
theorem dJ0_init_0 : decode cJ0_init 0 = .ok (.return_, 1) := by decide +kernel
theorem q10 : (Jvm.Cond.instanceMethod ({ cls := "java/lang/Object", name := "<init>", desc := "()V" } : Jvm.MethodName)) ∈ lw_all := lw_g (lw_at lw_m0 9 rfl) rfl
theorem q11 : (Jvm.Cond.code ({ cls := "java/lang/Object", name := "<init>", desc := "()V" } : Jvm.MethodName) object_method_1_code (1 : Nat) (Option.none : Option Jvm.ClassFile.FieldType)) ∈ lw_all := lw_g (lw_at lw_m0 10 rfl) rfl
/-! SquareSums -/
set_option maxRecDepth 100000
def RX0 : String := "SquareSums"
def TX0 : u_T := fun k => match k with
  | _ => ("SquareSums", "n", "I", false)
def tyX0 : Nat → FieldType := fun k => match k with
  | _ => .int
abbrev wsX00 : List Cond := u_ws RX0 TX0 1
theorem nmX0 : ∀ a, a < 1 → ∀ b, b < 1 → a ≠ b → (TX0 a).2.1 ≠ (TX0 b).2.1 := by decide +kernel
theorem tyX0_ok : ∀ k, k < 1 → parseFieldDescriptor (TX0 k).2.2.1 = some (tyX0 k) := by decide +kernel
abbrev cX0_init : ByteArray := prog_1_method_1_code
def yX0_init : MethodName := ⟨RX0, "<init>", "()V"⟩
theorem dX0_init_0 : decode cX0_init 0 = .ok (.aload_n 0, 1) := by decide +kernel
theorem dX0_init_1 : decode cX0_init 1 = .ok (.invokespecial 1, 3) := by decide +kernel
theorem dX0_init_4 : decode cX0_init 4 = .ok (.aload_n 0, 1) := by decide +kernel
theorem dX0_init_5 : decode cX0_init 5 = .ok (.iconst 1, 1) := by decide +kernel
theorem dX0_init_6 : decode cX0_init 6 = .ok (.putfield 7, 3) := by decide +kernel
theorem dX0_init_9 : decode cX0_init 9 = .ok (.return_, 1) := by decide +kernel
abbrev cX0_load : ByteArray := prog_1_method_2_code
def yX0_load : MethodName := ⟨RX0, "load", "(I)V"⟩
theorem dX0_load_0 : decode cX0_load 0 = .ok (.aload_n 0, 1) := by decide +kernel
theorem dX0_load_1 : decode cX0_load 1 = .ok (.iload_n 1, 1) := by decide +kernel
theorem dX0_load_2 : decode cX0_load 2 = .ok (.sipush 511, 3) := by decide +kernel
theorem dX0_load_5 : decode cX0_load 5 = .ok (.iand, 1) := by decide +kernel
theorem dX0_load_6 : decode cX0_load 6 = .ok (.putfield 7, 3) := by decide +kernel
theorem dX0_load_9 : decode cX0_load 9 = .ok (.return_, 1) := by decide +kernel
abbrev cX0_one : ByteArray := prog_1_method_6_code
def yX0_one : MethodName := ⟨RX0, "one", "()I"⟩
theorem dX0_one_0 : decode cX0_one 0 = .ok (.aload_n 0, 1) := by decide +kernel
theorem dX0_one_1 : decode cX0_one 1 = .ok (.getfield 7, 3) := by decide +kernel
theorem dX0_one_4 : decode cX0_one 4 = .ok (.ifCond .ne 7, 3) := by decide +kernel
theorem dX0_one_7 : decode cX0_one 7 = .ok (.iconst 1, 1) := by decide +kernel
theorem dX0_one_8 : decode cX0_one 8 = .ok (.goto 18, 3) := by decide +kernel
theorem dX0_one_11 : decode cX0_one 11 = .ok (.aload_n 0, 1) := by decide +kernel
theorem dX0_one_12 : decode cX0_one 12 = .ok (.getfield 7, 3) := by decide +kernel
theorem dX0_one_15 : decode cX0_one 15 = .ok (.invokestatic 17, 3) := by decide +kernel
theorem dX0_one_18 : decode cX0_one 18 = .ok (.ifCond .eq 7, 3) := by decide +kernel
theorem dX0_one_21 : decode cX0_one 21 = .ok (.iconst 2, 1) := by decide +kernel
theorem dX0_one_22 : decode cX0_one 22 = .ok (.goto 4, 3) := by decide +kernel
theorem dX0_one_25 : decode cX0_one 25 = .ok (.iconst 0, 1) := by decide +kernel
theorem dX0_one_26 : decode cX0_one 26 = .ok (.ireturn, 1) := by decide +kernel
abbrev cX0_isSquare : ByteArray := prog_1_method_5_code
def yX0_isSquare : MethodName := ⟨RX0, "isSquare", "(I)Z"⟩
theorem dX0_isSquare_0 : decode cX0_isSquare 0 = .ok (.iconst 0, 1) := by decide +kernel
theorem dX0_isSquare_1 : decode cX0_isSquare 1 = .ok (.istore_n 1, 1) := by decide +kernel
theorem dX0_isSquare_2 : decode cX0_isSquare 2 = .ok (.iload_n 1, 1) := by decide +kernel
theorem dX0_isSquare_3 : decode cX0_isSquare 3 = .ok (.iconst 1, 1) := by decide +kernel
theorem dX0_isSquare_4 : decode cX0_isSquare 4 = .ok (.iadd, 1) := by decide +kernel
theorem dX0_isSquare_5 : decode cX0_isSquare 5 = .ok (.iload_n 1, 1) := by decide +kernel
theorem dX0_isSquare_6 : decode cX0_isSquare 6 = .ok (.iconst 1, 1) := by decide +kernel
theorem dX0_isSquare_7 : decode cX0_isSquare 7 = .ok (.iadd, 1) := by decide +kernel
theorem dX0_isSquare_8 : decode cX0_isSquare 8 = .ok (.imul, 1) := by decide +kernel
theorem dX0_isSquare_9 : decode cX0_isSquare 9 = .ok (.iload_n 0, 1) := by decide +kernel
theorem dX0_isSquare_10 : decode cX0_isSquare 10 = .ok (.if_icmp .gt 9, 3) := by decide +kernel
theorem dX0_isSquare_13 : decode cX0_isSquare 13 = .ok (.iinc 1 1, 3) := by decide +kernel
theorem dX0_isSquare_16 : decode cX0_isSquare 16 = .ok (.goto (-14), 3) := by decide +kernel
theorem dX0_isSquare_19 : decode cX0_isSquare 19 = .ok (.iload_n 1, 1) := by decide +kernel
theorem dX0_isSquare_20 : decode cX0_isSquare 20 = .ok (.iload_n 1, 1) := by decide +kernel
theorem dX0_isSquare_21 : decode cX0_isSquare 21 = .ok (.imul, 1) := by decide +kernel
theorem dX0_isSquare_22 : decode cX0_isSquare 22 = .ok (.iload_n 0, 1) := by decide +kernel
theorem dX0_isSquare_23 : decode cX0_isSquare 23 = .ok (.if_icmp .ne 7, 3) := by decide +kernel
theorem dX0_isSquare_26 : decode cX0_isSquare 26 = .ok (.iconst 1, 1) := by decide +kernel
theorem dX0_isSquare_27 : decode cX0_isSquare 27 = .ok (.goto 4, 3) := by decide +kernel
theorem dX0_isSquare_30 : decode cX0_isSquare 30 = .ok (.iconst 0, 1) := by decide +kernel
theorem dX0_isSquare_31 : decode cX0_isSquare 31 = .ok (.ireturn, 1) := by decide +kernel
abbrev cX0_two : ByteArray := prog_1_method_7_code
def yX0_two : MethodName := ⟨RX0, "two", "()I"⟩
theorem dX0_two_0 : decode cX0_two 0 = .ok (.aload_n 0, 1) := by decide +kernel
theorem dX0_two_1 : decode cX0_two 1 = .ok (.getfield 7, 3) := by decide +kernel
theorem dX0_two_4 : decode cX0_two 4 = .ok (.invokestatic 21, 3) := by decide +kernel
theorem dX0_two_7 : decode cX0_two 7 = .ok (.ireturn, 1) := by decide +kernel
abbrev cX0_pairs : ByteArray := prog_1_method_4_code
def yX0_pairs : MethodName := ⟨RX0, "pairs", "(I)I"⟩
theorem dX0_pairs_0 : decode cX0_pairs 0 = .ok (.iload_n 0, 1) := by decide +kernel
theorem dX0_pairs_1 : decode cX0_pairs 1 = .ok (.ifCond .ne 7, 3) := by decide +kernel
theorem dX0_pairs_4 : decode cX0_pairs 4 = .ok (.iconst 1, 1) := by decide +kernel
theorem dX0_pairs_5 : decode cX0_pairs 5 = .ok (.goto 9, 3) := by decide +kernel
theorem dX0_pairs_8 : decode cX0_pairs 8 = .ok (.iconst 4, 1) := by decide +kernel
theorem dX0_pairs_9 : decode cX0_pairs 9 = .ok (.iload_n 0, 1) := by decide +kernel
theorem dX0_pairs_10 : decode cX0_pairs 10 = .ok (.invokestatic 13, 3) := by decide +kernel
theorem dX0_pairs_13 : decode cX0_pairs 13 = .ok (.imul, 1) := by decide +kernel
theorem dX0_pairs_14 : decode cX0_pairs 14 = .ok (.ireturn, 1) := by decide +kernel
abbrev cX0_characters : ByteArray := prog_1_method_3_code
def yX0_characters : MethodName := ⟨RX0, "characters", "(I)I"⟩
theorem dX0_characters_0 : decode cX0_characters 0 = .ok (.iconst 0, 1) := by decide +kernel
theorem dX0_characters_1 : decode cX0_characters 1 = .ok (.istore_n 1, 1) := by decide +kernel
theorem dX0_characters_2 : decode cX0_characters 2 = .ok (.iconst 1, 1) := by decide +kernel
theorem dX0_characters_3 : decode cX0_characters 3 = .ok (.istore_n 2, 1) := by decide +kernel
theorem dX0_characters_4 : decode cX0_characters 4 = .ok (.iload_n 2, 1) := by decide +kernel
theorem dX0_characters_5 : decode cX0_characters 5 = .ok (.iload_n 0, 1) := by decide +kernel
theorem dX0_characters_6 : decode cX0_characters 6 = .ok (.if_icmp .gt 38, 3) := by decide +kernel
theorem dX0_characters_9 : decode cX0_characters 9 = .ok (.iload_n 0, 1) := by decide +kernel
theorem dX0_characters_10 : decode cX0_characters 10 = .ok (.iload_n 2, 1) := by decide +kernel
theorem dX0_characters_11 : decode cX0_characters 11 = .ok (.irem, 1) := by decide +kernel
theorem dX0_characters_12 : decode cX0_characters 12 = .ok (.ifCond .eq 6, 3) := by decide +kernel
theorem dX0_characters_15 : decode cX0_characters 15 = .ok (.goto 23, 3) := by decide +kernel
theorem dX0_characters_18 : decode cX0_characters 18 = .ok (.iload_n 2, 1) := by decide +kernel
theorem dX0_characters_19 : decode cX0_characters 19 = .ok (.iconst 3, 1) := by decide +kernel
theorem dX0_characters_20 : decode cX0_characters 20 = .ok (.iand, 1) := by decide +kernel
theorem dX0_characters_21 : decode cX0_characters 21 = .ok (.istore_n 3, 1) := by decide +kernel
theorem dX0_characters_22 : decode cX0_characters 22 = .ok (.iload_n 3, 1) := by decide +kernel
theorem dX0_characters_23 : decode cX0_characters 23 = .ok (.iconst 1, 1) := by decide +kernel
theorem dX0_characters_24 : decode cX0_characters 24 = .ok (.if_icmp .ne 6, 3) := by decide +kernel
theorem dX0_characters_27 : decode cX0_characters 27 = .ok (.iinc 1 1, 3) := by decide +kernel
theorem dX0_characters_30 : decode cX0_characters 30 = .ok (.iload_n 3, 1) := by decide +kernel
theorem dX0_characters_31 : decode cX0_characters 31 = .ok (.iconst 3, 1) := by decide +kernel
theorem dX0_characters_32 : decode cX0_characters 32 = .ok (.if_icmp .ne 6, 3) := by decide +kernel
theorem dX0_characters_35 : decode cX0_characters 35 = .ok (.iinc 1 (-1), 3) := by decide +kernel
theorem dX0_characters_38 : decode cX0_characters 38 = .ok (.iinc 2 1, 3) := by decide +kernel
theorem dX0_characters_41 : decode cX0_characters 41 = .ok (.goto (-37), 3) := by decide +kernel
theorem dX0_characters_44 : decode cX0_characters 44 = .ok (.iload_n 1, 1) := by decide +kernel
theorem dX0_characters_45 : decode cX0_characters 45 = .ok (.ireturn, 1) := by decide +kernel
abbrev cX0_three : ByteArray := prog_1_method_8_code
def yX0_three : MethodName := ⟨RX0, "three", "()I"⟩
theorem dX0_three_0 : decode cX0_three 0 = .ok (.aload_n 0, 1) := by decide +kernel
theorem dX0_three_1 : decode cX0_three 1 = .ok (.getfield 7, 3) := by decide +kernel
theorem dX0_three_4 : decode cX0_three 4 = .ok (.invokestatic 21, 3) := by decide +kernel
theorem dX0_three_7 : decode cX0_three 7 = .ok (.istore_n 1, 1) := by decide +kernel
theorem dX0_three_8 : decode cX0_three 8 = .ok (.iconst 1, 1) := by decide +kernel
theorem dX0_three_9 : decode cX0_three 9 = .ok (.istore_n 2, 1) := by decide +kernel
theorem dX0_three_10 : decode cX0_three 10 = .ok (.iload_n 2, 1) := by decide +kernel
theorem dX0_three_11 : decode cX0_three 11 = .ok (.iload_n 2, 1) := by decide +kernel
theorem dX0_three_12 : decode cX0_three 12 = .ok (.imul, 1) := by decide +kernel
theorem dX0_three_13 : decode cX0_three 13 = .ok (.aload_n 0, 1) := by decide +kernel
theorem dX0_three_14 : decode cX0_three 14 = .ok (.getfield 7, 3) := by decide +kernel
theorem dX0_three_17 : decode cX0_three 17 = .ok (.if_icmp .gt 25, 3) := by decide +kernel
theorem dX0_three_20 : decode cX0_three 20 = .ok (.iload_n 1, 1) := by decide +kernel
theorem dX0_three_21 : decode cX0_three 21 = .ok (.iconst 2, 1) := by decide +kernel
theorem dX0_three_22 : decode cX0_three 22 = .ok (.aload_n 0, 1) := by decide +kernel
theorem dX0_three_23 : decode cX0_three 23 = .ok (.getfield 7, 3) := by decide +kernel
theorem dX0_three_26 : decode cX0_three 26 = .ok (.iload_n 2, 1) := by decide +kernel
theorem dX0_three_27 : decode cX0_three 27 = .ok (.iload_n 2, 1) := by decide +kernel
theorem dX0_three_28 : decode cX0_three 28 = .ok (.imul, 1) := by decide +kernel
theorem dX0_three_29 : decode cX0_three 29 = .ok (.isub, 1) := by decide +kernel
theorem dX0_three_30 : decode cX0_three 30 = .ok (.invokestatic 21, 3) := by decide +kernel
theorem dX0_three_33 : decode cX0_three 33 = .ok (.imul, 1) := by decide +kernel
theorem dX0_three_34 : decode cX0_three 34 = .ok (.iadd, 1) := by decide +kernel
theorem dX0_three_35 : decode cX0_three 35 = .ok (.istore_n 1, 1) := by decide +kernel
theorem dX0_three_36 : decode cX0_three 36 = .ok (.iinc 2 1, 3) := by decide +kernel
theorem dX0_three_39 : decode cX0_three 39 = .ok (.goto (-29), 3) := by decide +kernel
theorem dX0_three_42 : decode cX0_three 42 = .ok (.iload_n 1, 1) := by decide +kernel
theorem dX0_three_43 : decode cX0_three 43 = .ok (.ireturn, 1) := by decide +kernel
abbrev cX0_four : ByteArray := prog_1_method_9_code
def yX0_four : MethodName := ⟨RX0, "four", "()I"⟩
theorem dX0_four_0 : decode cX0_four 0 = .ok (.aload_n 0, 1) := by decide +kernel
theorem dX0_four_1 : decode cX0_four 1 = .ok (.getfield 7, 3) := by decide +kernel
theorem dX0_four_4 : decode cX0_four 4 = .ok (.ifCond .ne 5, 3) := by decide +kernel
theorem dX0_four_7 : decode cX0_four 7 = .ok (.iconst 1, 1) := by decide +kernel
theorem dX0_four_8 : decode cX0_four 8 = .ok (.ireturn, 1) := by decide +kernel
theorem dX0_four_9 : decode cX0_four 9 = .ok (.iconst 0, 1) := by decide +kernel
theorem dX0_four_10 : decode cX0_four 10 = .ok (.istore_n 1, 1) := by decide +kernel
theorem dX0_four_11 : decode cX0_four 11 = .ok (.iconst 1, 1) := by decide +kernel
theorem dX0_four_12 : decode cX0_four 12 = .ok (.istore_n 2, 1) := by decide +kernel
theorem dX0_four_13 : decode cX0_four 13 = .ok (.iload_n 2, 1) := by decide +kernel
theorem dX0_four_14 : decode cX0_four 14 = .ok (.aload_n 0, 1) := by decide +kernel
theorem dX0_four_15 : decode cX0_four 15 = .ok (.getfield 7, 3) := by decide +kernel
theorem dX0_four_18 : decode cX0_four 18 = .ok (.if_icmp .gt 28, 3) := by decide +kernel
theorem dX0_four_21 : decode cX0_four 21 = .ok (.aload_n 0, 1) := by decide +kernel
theorem dX0_four_22 : decode cX0_four 22 = .ok (.getfield 7, 3) := by decide +kernel
theorem dX0_four_25 : decode cX0_four 25 = .ok (.iload_n 2, 1) := by decide +kernel
theorem dX0_four_26 : decode cX0_four 26 = .ok (.irem, 1) := by decide +kernel
theorem dX0_four_27 : decode cX0_four 27 = .ok (.ifCond .ne 13, 3) := by decide +kernel
theorem dX0_four_30 : decode cX0_four 30 = .ok (.iload_n 2, 1) := by decide +kernel
theorem dX0_four_31 : decode cX0_four 31 = .ok (.iconst 3, 1) := by decide +kernel
theorem dX0_four_32 : decode cX0_four 32 = .ok (.iand, 1) := by decide +kernel
theorem dX0_four_33 : decode cX0_four 33 = .ok (.ifCond .eq 7, 3) := by decide +kernel
theorem dX0_four_36 : decode cX0_four 36 = .ok (.iload_n 1, 1) := by decide +kernel
theorem dX0_four_37 : decode cX0_four 37 = .ok (.iload_n 2, 1) := by decide +kernel
theorem dX0_four_38 : decode cX0_four 38 = .ok (.iadd, 1) := by decide +kernel
theorem dX0_four_39 : decode cX0_four 39 = .ok (.istore_n 1, 1) := by decide +kernel
theorem dX0_four_40 : decode cX0_four 40 = .ok (.iinc 2 1, 3) := by decide +kernel
theorem dX0_four_43 : decode cX0_four 43 = .ok (.goto (-30), 3) := by decide +kernel
theorem dX0_four_46 : decode cX0_four 46 = .ok (.bipush 8, 2) := by decide +kernel
theorem dX0_four_48 : decode cX0_four 48 = .ok (.iload_n 1, 1) := by decide +kernel
theorem dX0_four_49 : decode cX0_four 49 = .ok (.imul, 1) := by decide +kernel
theorem dX0_four_50 : decode cX0_four 50 = .ok (.ireturn, 1) := by decide +kernel
abbrev cX0_triangles : ByteArray := prog_1_method_10_code
def yX0_triangles : MethodName := ⟨RX0, "triangles", "()I"⟩
theorem dX0_triangles_0 : decode cX0_triangles 0 = .ok (.iconst 4, 1) := by decide +kernel
theorem dX0_triangles_1 : decode cX0_triangles 1 = .ok (.aload_n 0, 1) := by decide +kernel
theorem dX0_triangles_2 : decode cX0_triangles 2 = .ok (.getfield 7, 3) := by decide +kernel
theorem dX0_triangles_5 : decode cX0_triangles 5 = .ok (.imul, 1) := by decide +kernel
theorem dX0_triangles_6 : decode cX0_triangles 6 = .ok (.iconst 1, 1) := by decide +kernel
theorem dX0_triangles_7 : decode cX0_triangles 7 = .ok (.iadd, 1) := by decide +kernel
theorem dX0_triangles_8 : decode cX0_triangles 8 = .ok (.invokestatic 13, 3) := by decide +kernel
theorem dX0_triangles_11 : decode cX0_triangles 11 = .ok (.ireturn, 1) := by decide +kernel
abbrev cX0_fewest : ByteArray := prog_1_method_11_code
def yX0_fewest : MethodName := ⟨RX0, "fewest", "()I"⟩
theorem dX0_fewest_0 : decode cX0_fewest 0 = .ok (.aload_n 0, 1) := by decide +kernel
theorem dX0_fewest_1 : decode cX0_fewest 1 = .ok (.getfield 7, 3) := by decide +kernel
theorem dX0_fewest_4 : decode cX0_fewest 4 = .ok (.ifCond .ne 5, 3) := by decide +kernel
theorem dX0_fewest_7 : decode cX0_fewest 7 = .ok (.iconst 0, 1) := by decide +kernel
theorem dX0_fewest_8 : decode cX0_fewest 8 = .ok (.ireturn, 1) := by decide +kernel
theorem dX0_fewest_9 : decode cX0_fewest 9 = .ok (.aload_n 0, 1) := by decide +kernel
theorem dX0_fewest_10 : decode cX0_fewest 10 = .ok (.getfield 7, 3) := by decide +kernel
theorem dX0_fewest_13 : decode cX0_fewest 13 = .ok (.invokestatic 17, 3) := by decide +kernel
theorem dX0_fewest_16 : decode cX0_fewest 16 = .ok (.ifCond .eq 5, 3) := by decide +kernel
theorem dX0_fewest_19 : decode cX0_fewest 19 = .ok (.iconst 1, 1) := by decide +kernel
theorem dX0_fewest_20 : decode cX0_fewest 20 = .ok (.ireturn, 1) := by decide +kernel
theorem dX0_fewest_21 : decode cX0_fewest 21 = .ok (.aload_n 0, 1) := by decide +kernel
theorem dX0_fewest_22 : decode cX0_fewest 22 = .ok (.getfield 7, 3) := by decide +kernel
theorem dX0_fewest_25 : decode cX0_fewest 25 = .ok (.invokestatic 13, 3) := by decide +kernel
theorem dX0_fewest_28 : decode cX0_fewest 28 = .ok (.ifCond .le 5, 3) := by decide +kernel
theorem dX0_fewest_31 : decode cX0_fewest 31 = .ok (.iconst 2, 1) := by decide +kernel
theorem dX0_fewest_32 : decode cX0_fewest 32 = .ok (.ireturn, 1) := by decide +kernel
theorem dX0_fewest_33 : decode cX0_fewest 33 = .ok (.aload_n 0, 1) := by decide +kernel
theorem dX0_fewest_34 : decode cX0_fewest 34 = .ok (.getfield 7, 3) := by decide +kernel
theorem dX0_fewest_37 : decode cX0_fewest 37 = .ok (.istore_n 1, 1) := by decide +kernel
theorem dX0_fewest_38 : decode cX0_fewest 38 = .ok (.iload_n 1, 1) := by decide +kernel
theorem dX0_fewest_39 : decode cX0_fewest 39 = .ok (.iconst 3, 1) := by decide +kernel
theorem dX0_fewest_40 : decode cX0_fewest 40 = .ok (.iand, 1) := by decide +kernel
theorem dX0_fewest_41 : decode cX0_fewest 41 = .ok (.ifCond .ne 10, 3) := by decide +kernel
theorem dX0_fewest_44 : decode cX0_fewest 44 = .ok (.iload_n 1, 1) := by decide +kernel
theorem dX0_fewest_45 : decode cX0_fewest 45 = .ok (.iconst 2, 1) := by decide +kernel
theorem dX0_fewest_46 : decode cX0_fewest 46 = .ok (.ishr, 1) := by decide +kernel
theorem dX0_fewest_47 : decode cX0_fewest 47 = .ok (.istore_n 1, 1) := by decide +kernel
theorem dX0_fewest_48 : decode cX0_fewest 48 = .ok (.goto (-10), 3) := by decide +kernel
theorem dX0_fewest_51 : decode cX0_fewest 51 = .ok (.iload_n 1, 1) := by decide +kernel
theorem dX0_fewest_52 : decode cX0_fewest 52 = .ok (.bipush 7, 2) := by decide +kernel
theorem dX0_fewest_54 : decode cX0_fewest 54 = .ok (.iand, 1) := by decide +kernel
theorem dX0_fewest_55 : decode cX0_fewest 55 = .ok (.bipush 7, 2) := by decide +kernel
theorem dX0_fewest_57 : decode cX0_fewest 57 = .ok (.if_icmp .ne 7, 3) := by decide +kernel
theorem dX0_fewest_60 : decode cX0_fewest 60 = .ok (.iconst 4, 1) := by decide +kernel
theorem dX0_fewest_61 : decode cX0_fewest 61 = .ok (.goto 4, 3) := by decide +kernel
theorem dX0_fewest_64 : decode cX0_fewest 64 = .ok (.iconst 3, 1) := by decide +kernel
theorem dX0_fewest_65 : decode cX0_fewest 65 = .ok (.ireturn, 1) := by decide +kernel
theorem q2 : (Jvm.Cond.initialized "SquareSums") ∈ lw_all := lw_g (lw_at lw_m0 1 rfl) rfl
theorem q5 : (Jvm.Cond.instantiable "SquareSums" (1 : Nat)) ∈ lw_all := lw_g (lw_at lw_m0 4 rfl) rfl
theorem q7 : (Jvm.Cond.instanceMethod ({ cls := "SquareSums", name := "<init>", desc := "()V" } : Jvm.MethodName)) ∈ lw_all := lw_g (lw_at lw_m0 6 rfl) rfl
theorem q8 : (Jvm.Cond.code ({ cls := "SquareSums", name := "<init>", desc := "()V" } : Jvm.MethodName) prog_1_method_1_code (1 : Nat) (Option.none : Option Jvm.ClassFile.FieldType)) ∈ lw_all := lw_g (lw_at lw_m0 7 rfl) rfl
theorem q9 : (Jvm.Cond.methodLink "SquareSums" (1 : Nat) ({ cls := "java/lang/Object", name := "<init>", desc := "()V" } : Jvm.MethodName)) ∈ lw_all := lw_g (lw_at lw_m0 8 rfl) rfl
theorem q12 : (Jvm.Cond.fieldLink "SquareSums" (7 : Nat) "SquareSums" "n" "I") ∈ lw_all := lw_g (lw_at lw_m0 11 rfl) rfl
theorem q13 : (Jvm.Cond.lays "SquareSums" "SquareSums" "n" "I") ∈ lw_all := lw_g (lw_at lw_m0 12 rfl) rfl
theorem q14 : (Jvm.Cond.soleField "SquareSums" "n") ∈ lw_all := lw_g (lw_at lw_m0 13 rfl) rfl
theorem q15 : (Jvm.Cond.superclass "SquareSums" "java/lang/Object") ∈ lw_all := lw_g (lw_at lw_m0 14 rfl) rfl
theorem q17 : (Jvm.Cond.instanceMethod ({ cls := "SquareSums", name := "load", desc := "(I)V" } : Jvm.MethodName)) ∈ lw_all := lw_g (lw_at lw_m0 16 rfl) rfl
theorem q18 : (Jvm.Cond.selects "SquareSums" ({ cls := "SquareSums", name := "load", desc := "(I)V" } : Jvm.MethodName) ({ cls := "SquareSums", name := "load", desc := "(I)V" } : Jvm.MethodName)) ∈ lw_all := lw_g (lw_at lw_m0 17 rfl) rfl
theorem q19 : (Jvm.Cond.code ({ cls := "SquareSums", name := "load", desc := "(I)V" } : Jvm.MethodName) prog_1_method_2_code (2 : Nat) (Option.none : Option Jvm.ClassFile.FieldType)) ∈ lw_all := lw_g (lw_at lw_m0 18 rfl) rfl
theorem q21 : (Jvm.Cond.instanceMethod ({ cls := "SquareSums", name := "one", desc := "()I" } : Jvm.MethodName)) ∈ lw_all := lw_g (lw_at lw_m0 20 rfl) rfl
theorem q22 : (Jvm.Cond.selects "SquareSums" ({ cls := "SquareSums", name := "one", desc := "()I" } : Jvm.MethodName) ({ cls := "SquareSums", name := "one", desc := "()I" } : Jvm.MethodName)) ∈ lw_all := lw_g (lw_at lw_m0 21 rfl) rfl
theorem q23 : (Jvm.Cond.code ({ cls := "SquareSums", name := "one", desc := "()I" } : Jvm.MethodName) prog_1_method_6_code (1 : Nat) (Option.some Jvm.ClassFile.FieldType.int)) ∈ lw_all := lw_g (lw_at lw_m0 22 rfl) rfl
theorem q24 : (Jvm.Cond.methodLink "SquareSums" (17 : Nat) ({ cls := "SquareSums", name := "isSquare", desc := "(I)Z" } : Jvm.MethodName)) ∈ lw_all := lw_g (lw_at lw_m0 23 rfl) rfl
theorem q25 : (Jvm.Cond.static ({ cls := "SquareSums", name := "isSquare", desc := "(I)Z" } : Jvm.MethodName)) ∈ lw_all := lw_g (lw_at lw_m0 24 rfl) rfl
theorem q26 : (Jvm.Cond.code ({ cls := "SquareSums", name := "isSquare", desc := "(I)Z" } : Jvm.MethodName) prog_1_method_5_code (2 : Nat) (Option.some Jvm.ClassFile.FieldType.boolean)) ∈ lw_all := lw_g (lw_at lw_m0 25 rfl) rfl
theorem q28 : (Jvm.Cond.instanceMethod ({ cls := "SquareSums", name := "two", desc := "()I" } : Jvm.MethodName)) ∈ lw_all := lw_g (lw_at lw_m0 27 rfl) rfl
theorem q29 : (Jvm.Cond.selects "SquareSums" ({ cls := "SquareSums", name := "two", desc := "()I" } : Jvm.MethodName) ({ cls := "SquareSums", name := "two", desc := "()I" } : Jvm.MethodName)) ∈ lw_all := lw_g (lw_at lw_m0 28 rfl) rfl
theorem q30 : (Jvm.Cond.code ({ cls := "SquareSums", name := "two", desc := "()I" } : Jvm.MethodName) prog_1_method_7_code (1 : Nat) (Option.some Jvm.ClassFile.FieldType.int)) ∈ lw_all := lw_g (lw_at lw_m0 29 rfl) rfl
theorem q31 : (Jvm.Cond.methodLink "SquareSums" (21 : Nat) ({ cls := "SquareSums", name := "pairs", desc := "(I)I" } : Jvm.MethodName)) ∈ lw_all := lw_g (lw_at lw_m0 30 rfl) rfl
theorem q32 : (Jvm.Cond.static ({ cls := "SquareSums", name := "pairs", desc := "(I)I" } : Jvm.MethodName)) ∈ lw_all := lw_g (lw_at lw_m0 31 rfl) rfl
theorem q33 : (Jvm.Cond.code ({ cls := "SquareSums", name := "pairs", desc := "(I)I" } : Jvm.MethodName) prog_1_method_4_code (1 : Nat) (Option.some Jvm.ClassFile.FieldType.int)) ∈ lw_all := lw_g (lw_at lw_m0 32 rfl) rfl
theorem q34 : (Jvm.Cond.methodLink "SquareSums" (13 : Nat) ({ cls := "SquareSums", name := "characters", desc := "(I)I" } : Jvm.MethodName)) ∈ lw_all := lw_g (lw_at lw_m0 33 rfl) rfl
theorem q35 : (Jvm.Cond.static ({ cls := "SquareSums", name := "characters", desc := "(I)I" } : Jvm.MethodName)) ∈ lw_all := lw_g (lw_at lw_m0 34 rfl) rfl
theorem q36 : (Jvm.Cond.code ({ cls := "SquareSums", name := "characters", desc := "(I)I" } : Jvm.MethodName) prog_1_method_3_code (4 : Nat) (Option.some Jvm.ClassFile.FieldType.int)) ∈ lw_all := lw_g (lw_at lw_m0 35 rfl) rfl
theorem q38 : (Jvm.Cond.instanceMethod ({ cls := "SquareSums", name := "three", desc := "()I" } : Jvm.MethodName)) ∈ lw_all := lw_g (lw_at lw_m0 37 rfl) rfl
theorem q39 : (Jvm.Cond.selects "SquareSums" ({ cls := "SquareSums", name := "three", desc := "()I" } : Jvm.MethodName) ({ cls := "SquareSums", name := "three", desc := "()I" } : Jvm.MethodName)) ∈ lw_all := lw_g (lw_at lw_m0 38 rfl) rfl
theorem q40 : (Jvm.Cond.code ({ cls := "SquareSums", name := "three", desc := "()I" } : Jvm.MethodName) prog_1_method_8_code (3 : Nat) (Option.some Jvm.ClassFile.FieldType.int)) ∈ lw_all := lw_g (lw_at lw_m0 39 rfl) rfl
theorem q42 : (Jvm.Cond.instanceMethod ({ cls := "SquareSums", name := "four", desc := "()I" } : Jvm.MethodName)) ∈ lw_all := lw_g (lw_at lw_m0 41 rfl) rfl
theorem q43 : (Jvm.Cond.selects "SquareSums" ({ cls := "SquareSums", name := "four", desc := "()I" } : Jvm.MethodName) ({ cls := "SquareSums", name := "four", desc := "()I" } : Jvm.MethodName)) ∈ lw_all := lw_g (lw_at lw_m0 42 rfl) rfl
theorem q44 : (Jvm.Cond.code ({ cls := "SquareSums", name := "four", desc := "()I" } : Jvm.MethodName) prog_1_method_9_code (3 : Nat) (Option.some Jvm.ClassFile.FieldType.int)) ∈ lw_all := lw_g (lw_at lw_m0 43 rfl) rfl
theorem q46 : (Jvm.Cond.instanceMethod ({ cls := "SquareSums", name := "triangles", desc := "()I" } : Jvm.MethodName)) ∈ lw_all := lw_g (lw_at lw_m0 45 rfl) rfl
theorem q47 : (Jvm.Cond.selects "SquareSums" ({ cls := "SquareSums", name := "triangles", desc := "()I" } : Jvm.MethodName) ({ cls := "SquareSums", name := "triangles", desc := "()I" } : Jvm.MethodName)) ∈ lw_all := lw_g (lw_at lw_m0 46 rfl) rfl
theorem q48 : (Jvm.Cond.code ({ cls := "SquareSums", name := "triangles", desc := "()I" } : Jvm.MethodName) prog_1_method_10_code (1 : Nat) (Option.some Jvm.ClassFile.FieldType.int)) ∈ lw_all := lw_g (lw_at lw_m0 47 rfl) rfl
theorem q50 : (Jvm.Cond.instanceMethod ({ cls := "SquareSums", name := "fewest", desc := "()I" } : Jvm.MethodName)) ∈ lw_all := lw_g (lw_at lw_m0 49 rfl) rfl
theorem q51 : (Jvm.Cond.selects "SquareSums" ({ cls := "SquareSums", name := "fewest", desc := "()I" } : Jvm.MethodName) ({ cls := "SquareSums", name := "fewest", desc := "()I" } : Jvm.MethodName)) ∈ lw_all := lw_g (lw_at lw_m0 50 rfl) rfl
theorem q52 : (Jvm.Cond.code ({ cls := "SquareSums", name := "fewest", desc := "()I" } : Jvm.MethodName) prog_1_method_11_code (2 : Nat) (Option.some Jvm.ClassFile.FieldType.int)) ∈ lw_all := lw_g (lw_at lw_m0 51 rfl) rfl
theorem in_X0 : ∀ w ∈ wsX00, w ∈ lw_all := lw_in wsX00 [13] (by decide +kernel) (by decide +kernel)
end
section
/-! SquareSumsModel -/
set_option maxRecDepth 100000
def RX1 : String := "SquareSumsModel"
def TX1 : u_T := fun k => match k with
  | 0 => ("SquareSumsModel", "n", "I", false)
  | 1 => ("SquareSumsModel", "two", "[I", true)
  | _ => ("SquareSumsModel", "made", "Z", false)
def tyX1 : Nat → FieldType := fun k => match k with
  | 0 => .int
  | 1 => .array .int
  | _ => .boolean
abbrev wsX10 : List Cond := u_ws RX1 TX1 3
theorem nmX1 : ∀ a, a < 3 → ∀ b, b < 3 → a ≠ b → (TX1 a).2.1 ≠ (TX1 b).2.1 := by decide +kernel
theorem tyX1_ok : ∀ k, k < 3 → parseFieldDescriptor (TX1 k).2.2.1 = some (tyX1 k) := by decide +kernel
abbrev cX1_init : ByteArray := prog_3_method_1_code
def yX1_init : MethodName := ⟨RX1, "<init>", "()V"⟩
theorem dX1_init_0 : decode cX1_init 0 = .ok (.aload_n 0, 1) := by decide +kernel
theorem dX1_init_1 : decode cX1_init 1 = .ok (.invokespecial 1, 3) := by decide +kernel
theorem dX1_init_4 : decode cX1_init 4 = .ok (.aload_n 0, 1) := by decide +kernel
theorem dX1_init_5 : decode cX1_init 5 = .ok (.iconst 1, 1) := by decide +kernel
theorem dX1_init_6 : decode cX1_init 6 = .ok (.putfield 7, 3) := by decide +kernel
theorem dX1_init_9 : decode cX1_init 9 = .ok (.aload_n 0, 1) := by decide +kernel
theorem dX1_init_10 : decode cX1_init 10 = .ok (.sipush 512, 3) := by decide +kernel
theorem dX1_init_13 : decode cX1_init 13 = .ok (.newarray .int, 2) := by decide +kernel
theorem dX1_init_15 : decode cX1_init 15 = .ok (.putfield 13, 3) := by decide +kernel
theorem dX1_init_18 : decode cX1_init 18 = .ok (.return_, 1) := by decide +kernel
abbrev cX1_load : ByteArray := prog_3_method_2_code
def yX1_load : MethodName := ⟨RX1, "load", "(I)V"⟩
theorem dX1_load_0 : decode cX1_load 0 = .ok (.aload_n 0, 1) := by decide +kernel
theorem dX1_load_1 : decode cX1_load 1 = .ok (.iload_n 1, 1) := by decide +kernel
theorem dX1_load_2 : decode cX1_load 2 = .ok (.sipush 511, 3) := by decide +kernel
theorem dX1_load_5 : decode cX1_load 5 = .ok (.iand, 1) := by decide +kernel
theorem dX1_load_6 : decode cX1_load 6 = .ok (.putfield 7, 3) := by decide +kernel
theorem dX1_load_9 : decode cX1_load 9 = .ok (.return_, 1) := by decide +kernel
abbrev cX1_one : ByteArray := prog_3_method_5_code
def yX1_one : MethodName := ⟨RX1, "one", "()I"⟩
theorem dX1_one_0 : decode cX1_one 0 = .ok (.aload_n 0, 1) := by decide +kernel
theorem dX1_one_1 : decode cX1_one 1 = .ok (.getfield 7, 3) := by decide +kernel
theorem dX1_one_4 : decode cX1_one 4 = .ok (.invokestatic 21, 3) := by decide +kernel
theorem dX1_one_7 : decode cX1_one 7 = .ok (.ireturn, 1) := by decide +kernel
abbrev cX1_ones : ByteArray := prog_3_method_3_code
def yX1_ones : MethodName := ⟨RX1, "ones", "(I)I"⟩
theorem dX1_ones_0 : decode cX1_ones 0 = .ok (.iload_n 0, 1) := by decide +kernel
theorem dX1_ones_1 : decode cX1_ones 1 = .ok (.ifCond .ge 5, 3) := by decide +kernel
theorem dX1_ones_4 : decode cX1_ones 4 = .ok (.iconst 0, 1) := by decide +kernel
theorem dX1_ones_5 : decode cX1_ones 5 = .ok (.ireturn, 1) := by decide +kernel
theorem dX1_ones_6 : decode cX1_ones 6 = .ok (.iconst 0, 1) := by decide +kernel
theorem dX1_ones_7 : decode cX1_ones 7 = .ok (.istore_n 1, 1) := by decide +kernel
theorem dX1_ones_8 : decode cX1_ones 8 = .ok (.iload_n 1, 1) := by decide +kernel
theorem dX1_ones_9 : decode cX1_ones 9 = .ok (.iload_n 1, 1) := by decide +kernel
theorem dX1_ones_10 : decode cX1_ones 10 = .ok (.imul, 1) := by decide +kernel
theorem dX1_ones_11 : decode cX1_ones 11 = .ok (.iload_n 0, 1) := by decide +kernel
theorem dX1_ones_12 : decode cX1_ones 12 = .ok (.if_icmp .ge 10, 3) := by decide +kernel
theorem dX1_ones_15 : decode cX1_ones 15 = .ok (.iload_n 1, 1) := by decide +kernel
theorem dX1_ones_16 : decode cX1_ones 16 = .ok (.iconst 1, 1) := by decide +kernel
theorem dX1_ones_17 : decode cX1_ones 17 = .ok (.iadd, 1) := by decide +kernel
theorem dX1_ones_18 : decode cX1_ones 18 = .ok (.istore_n 1, 1) := by decide +kernel
theorem dX1_ones_19 : decode cX1_ones 19 = .ok (.goto (-11), 3) := by decide +kernel
theorem dX1_ones_22 : decode cX1_ones 22 = .ok (.iload_n 1, 1) := by decide +kernel
theorem dX1_ones_23 : decode cX1_ones 23 = .ok (.iload_n 1, 1) := by decide +kernel
theorem dX1_ones_24 : decode cX1_ones 24 = .ok (.imul, 1) := by decide +kernel
theorem dX1_ones_25 : decode cX1_ones 25 = .ok (.iload_n 0, 1) := by decide +kernel
theorem dX1_ones_26 : decode cX1_ones 26 = .ok (.if_icmp .ne 15, 3) := by decide +kernel
theorem dX1_ones_29 : decode cX1_ones 29 = .ok (.iload_n 1, 1) := by decide +kernel
theorem dX1_ones_30 : decode cX1_ones 30 = .ok (.ifCond .ne 7, 3) := by decide +kernel
theorem dX1_ones_33 : decode cX1_ones 33 = .ok (.iconst 1, 1) := by decide +kernel
theorem dX1_ones_34 : decode cX1_ones 34 = .ok (.goto 8, 3) := by decide +kernel
theorem dX1_ones_37 : decode cX1_ones 37 = .ok (.iconst 2, 1) := by decide +kernel
theorem dX1_ones_38 : decode cX1_ones 38 = .ok (.goto 4, 3) := by decide +kernel
theorem dX1_ones_41 : decode cX1_ones 41 = .ok (.iconst 0, 1) := by decide +kernel
theorem dX1_ones_42 : decode cX1_ones 42 = .ok (.ireturn, 1) := by decide +kernel
abbrev cX1_two : ByteArray := prog_3_method_6_code
def yX1_two : MethodName := ⟨RX1, "two", "()I"⟩
theorem dX1_two_0 : decode cX1_two 0 = .ok (.aload_n 0, 1) := by decide +kernel
theorem dX1_two_1 : decode cX1_two 1 = .ok (.invokevirtual 25, 3) := by decide +kernel
theorem dX1_two_4 : decode cX1_two 4 = .ok (.aload_n 0, 1) := by decide +kernel
theorem dX1_two_5 : decode cX1_two 5 = .ok (.getfield 13, 3) := by decide +kernel
theorem dX1_two_8 : decode cX1_two 8 = .ok (.aload_n 0, 1) := by decide +kernel
theorem dX1_two_9 : decode cX1_two 9 = .ok (.getfield 7, 3) := by decide +kernel
theorem dX1_two_12 : decode cX1_two 12 = .ok (.iaload, 1) := by decide +kernel
theorem dX1_two_13 : decode cX1_two 13 = .ok (.ireturn, 1) := by decide +kernel
abbrev cX1_make : ByteArray := prog_3_method_4_code
def yX1_make : MethodName := ⟨RX1, "make", "()V"⟩
theorem dX1_make_0 : decode cX1_make 0 = .ok (.aload_n 0, 1) := by decide +kernel
theorem dX1_make_1 : decode cX1_make 1 = .ok (.getfield 17, 3) := by decide +kernel
theorem dX1_make_4 : decode cX1_make 4 = .ok (.ifCond .eq 4, 3) := by decide +kernel
theorem dX1_make_7 : decode cX1_make 7 = .ok (.return_, 1) := by decide +kernel
theorem dX1_make_8 : decode cX1_make 8 = .ok (.aload_n 0, 1) := by decide +kernel
theorem dX1_make_9 : decode cX1_make 9 = .ok (.iconst 1, 1) := by decide +kernel
theorem dX1_make_10 : decode cX1_make 10 = .ok (.putfield 17, 3) := by decide +kernel
theorem dX1_make_13 : decode cX1_make 13 = .ok (.iconst 0, 1) := by decide +kernel
theorem dX1_make_14 : decode cX1_make 14 = .ok (.istore_n 1, 1) := by decide +kernel
theorem dX1_make_15 : decode cX1_make 15 = .ok (.iload_n 1, 1) := by decide +kernel
theorem dX1_make_16 : decode cX1_make 16 = .ok (.sipush 512, 3) := by decide +kernel
theorem dX1_make_19 : decode cX1_make 19 = .ok (.if_icmp .ge 44, 3) := by decide +kernel
theorem dX1_make_22 : decode cX1_make 22 = .ok (.iconst 0, 1) := by decide +kernel
theorem dX1_make_23 : decode cX1_make 23 = .ok (.istore_n 2, 1) := by decide +kernel
theorem dX1_make_24 : decode cX1_make 24 = .ok (.bipush (-22), 2) := by decide +kernel
theorem dX1_make_26 : decode cX1_make 26 = .ok (.istore_n 3, 1) := by decide +kernel
theorem dX1_make_27 : decode cX1_make 27 = .ok (.iload_n 3, 1) := by decide +kernel
theorem dX1_make_28 : decode cX1_make 28 = .ok (.bipush 22, 2) := by decide +kernel
theorem dX1_make_30 : decode cX1_make 30 = .ok (.if_icmp .gt 20, 3) := by decide +kernel
theorem dX1_make_33 : decode cX1_make 33 = .ok (.iload_n 2, 1) := by decide +kernel
theorem dX1_make_34 : decode cX1_make 34 = .ok (.iload_n 1, 1) := by decide +kernel
theorem dX1_make_35 : decode cX1_make 35 = .ok (.iload_n 3, 1) := by decide +kernel
theorem dX1_make_36 : decode cX1_make 36 = .ok (.iload_n 3, 1) := by decide +kernel
theorem dX1_make_37 : decode cX1_make 37 = .ok (.imul, 1) := by decide +kernel
theorem dX1_make_38 : decode cX1_make 38 = .ok (.isub, 1) := by decide +kernel
theorem dX1_make_39 : decode cX1_make 39 = .ok (.invokestatic 21, 3) := by decide +kernel
theorem dX1_make_42 : decode cX1_make 42 = .ok (.iadd, 1) := by decide +kernel
theorem dX1_make_43 : decode cX1_make 43 = .ok (.istore_n 2, 1) := by decide +kernel
theorem dX1_make_44 : decode cX1_make 44 = .ok (.iinc 3 1, 3) := by decide +kernel
theorem dX1_make_47 : decode cX1_make 47 = .ok (.goto (-20), 3) := by decide +kernel
theorem dX1_make_50 : decode cX1_make 50 = .ok (.aload_n 0, 1) := by decide +kernel
theorem dX1_make_51 : decode cX1_make 51 = .ok (.getfield 13, 3) := by decide +kernel
theorem dX1_make_54 : decode cX1_make 54 = .ok (.iload_n 1, 1) := by decide +kernel
theorem dX1_make_55 : decode cX1_make 55 = .ok (.iload_n 2, 1) := by decide +kernel
theorem dX1_make_56 : decode cX1_make 56 = .ok (.iastore, 1) := by decide +kernel
theorem dX1_make_57 : decode cX1_make 57 = .ok (.iinc 1 1, 3) := by decide +kernel
theorem dX1_make_60 : decode cX1_make 60 = .ok (.goto (-45), 3) := by decide +kernel
theorem dX1_make_63 : decode cX1_make 63 = .ok (.return_, 1) := by decide +kernel
abbrev cX1_three : ByteArray := prog_3_method_7_code
def yX1_three : MethodName := ⟨RX1, "three", "()I"⟩
theorem dX1_three_0 : decode cX1_three 0 = .ok (.aload_n 0, 1) := by decide +kernel
theorem dX1_three_1 : decode cX1_three 1 = .ok (.invokevirtual 25, 3) := by decide +kernel
theorem dX1_three_4 : decode cX1_three 4 = .ok (.iconst 0, 1) := by decide +kernel
theorem dX1_three_5 : decode cX1_three 5 = .ok (.istore_n 1, 1) := by decide +kernel
theorem dX1_three_6 : decode cX1_three 6 = .ok (.bipush (-22), 2) := by decide +kernel
theorem dX1_three_8 : decode cX1_three 8 = .ok (.istore_n 2, 1) := by decide +kernel
theorem dX1_three_9 : decode cX1_three 9 = .ok (.iload_n 2, 1) := by decide +kernel
theorem dX1_three_10 : decode cX1_three 10 = .ok (.bipush 22, 2) := by decide +kernel
theorem dX1_three_12 : decode cX1_three 12 = .ok (.if_icmp .gt 35, 3) := by decide +kernel
theorem dX1_three_15 : decode cX1_three 15 = .ok (.iload_n 2, 1) := by decide +kernel
theorem dX1_three_16 : decode cX1_three 16 = .ok (.iload_n 2, 1) := by decide +kernel
theorem dX1_three_17 : decode cX1_three 17 = .ok (.imul, 1) := by decide +kernel
theorem dX1_three_18 : decode cX1_three 18 = .ok (.aload_n 0, 1) := by decide +kernel
theorem dX1_three_19 : decode cX1_three 19 = .ok (.getfield 7, 3) := by decide +kernel
theorem dX1_three_22 : decode cX1_three 22 = .ok (.if_icmp .gt 19, 3) := by decide +kernel
theorem dX1_three_25 : decode cX1_three 25 = .ok (.iload_n 1, 1) := by decide +kernel
theorem dX1_three_26 : decode cX1_three 26 = .ok (.aload_n 0, 1) := by decide +kernel
theorem dX1_three_27 : decode cX1_three 27 = .ok (.getfield 13, 3) := by decide +kernel
theorem dX1_three_30 : decode cX1_three 30 = .ok (.aload_n 0, 1) := by decide +kernel
theorem dX1_three_31 : decode cX1_three 31 = .ok (.getfield 7, 3) := by decide +kernel
theorem dX1_three_34 : decode cX1_three 34 = .ok (.iload_n 2, 1) := by decide +kernel
theorem dX1_three_35 : decode cX1_three 35 = .ok (.iload_n 2, 1) := by decide +kernel
theorem dX1_three_36 : decode cX1_three 36 = .ok (.imul, 1) := by decide +kernel
theorem dX1_three_37 : decode cX1_three 37 = .ok (.isub, 1) := by decide +kernel
theorem dX1_three_38 : decode cX1_three 38 = .ok (.iaload, 1) := by decide +kernel
theorem dX1_three_39 : decode cX1_three 39 = .ok (.iadd, 1) := by decide +kernel
theorem dX1_three_40 : decode cX1_three 40 = .ok (.istore_n 1, 1) := by decide +kernel
theorem dX1_three_41 : decode cX1_three 41 = .ok (.iinc 2 1, 3) := by decide +kernel
theorem dX1_three_44 : decode cX1_three 44 = .ok (.goto (-35), 3) := by decide +kernel
theorem dX1_three_47 : decode cX1_three 47 = .ok (.iload_n 1, 1) := by decide +kernel
theorem dX1_three_48 : decode cX1_three 48 = .ok (.ireturn, 1) := by decide +kernel
abbrev cX1_four : ByteArray := prog_3_method_8_code
def yX1_four : MethodName := ⟨RX1, "four", "()I"⟩
theorem dX1_four_0 : decode cX1_four 0 = .ok (.aload_n 0, 1) := by decide +kernel
theorem dX1_four_1 : decode cX1_four 1 = .ok (.invokevirtual 25, 3) := by decide +kernel
theorem dX1_four_4 : decode cX1_four 4 = .ok (.iconst 0, 1) := by decide +kernel
theorem dX1_four_5 : decode cX1_four 5 = .ok (.istore_n 1, 1) := by decide +kernel
theorem dX1_four_6 : decode cX1_four 6 = .ok (.iconst 0, 1) := by decide +kernel
theorem dX1_four_7 : decode cX1_four 7 = .ok (.istore_n 2, 1) := by decide +kernel
theorem dX1_four_8 : decode cX1_four 8 = .ok (.iload_n 2, 1) := by decide +kernel
theorem dX1_four_9 : decode cX1_four 9 = .ok (.aload_n 0, 1) := by decide +kernel
theorem dX1_four_10 : decode cX1_four 10 = .ok (.getfield 7, 3) := by decide +kernel
theorem dX1_four_13 : decode cX1_four 13 = .ok (.if_icmp .gt 30, 3) := by decide +kernel
theorem dX1_four_16 : decode cX1_four 16 = .ok (.iload_n 1, 1) := by decide +kernel
theorem dX1_four_17 : decode cX1_four 17 = .ok (.aload_n 0, 1) := by decide +kernel
theorem dX1_four_18 : decode cX1_four 18 = .ok (.getfield 13, 3) := by decide +kernel
theorem dX1_four_21 : decode cX1_four 21 = .ok (.iload_n 2, 1) := by decide +kernel
theorem dX1_four_22 : decode cX1_four 22 = .ok (.iaload, 1) := by decide +kernel
theorem dX1_four_23 : decode cX1_four 23 = .ok (.aload_n 0, 1) := by decide +kernel
theorem dX1_four_24 : decode cX1_four 24 = .ok (.getfield 13, 3) := by decide +kernel
theorem dX1_four_27 : decode cX1_four 27 = .ok (.aload_n 0, 1) := by decide +kernel
theorem dX1_four_28 : decode cX1_four 28 = .ok (.getfield 7, 3) := by decide +kernel
theorem dX1_four_31 : decode cX1_four 31 = .ok (.iload_n 2, 1) := by decide +kernel
theorem dX1_four_32 : decode cX1_four 32 = .ok (.isub, 1) := by decide +kernel
theorem dX1_four_33 : decode cX1_four 33 = .ok (.iaload, 1) := by decide +kernel
theorem dX1_four_34 : decode cX1_four 34 = .ok (.imul, 1) := by decide +kernel
theorem dX1_four_35 : decode cX1_four 35 = .ok (.iadd, 1) := by decide +kernel
theorem dX1_four_36 : decode cX1_four 36 = .ok (.istore_n 1, 1) := by decide +kernel
theorem dX1_four_37 : decode cX1_four 37 = .ok (.iinc 2 1, 3) := by decide +kernel
theorem dX1_four_40 : decode cX1_four 40 = .ok (.goto (-32), 3) := by decide +kernel
theorem dX1_four_43 : decode cX1_four 43 = .ok (.iload_n 1, 1) := by decide +kernel
theorem dX1_four_44 : decode cX1_four 44 = .ok (.ireturn, 1) := by decide +kernel
abbrev cX1_triangles : ByteArray := prog_3_method_9_code
def yX1_triangles : MethodName := ⟨RX1, "triangles", "()I"⟩
theorem dX1_triangles_0 : decode cX1_triangles 0 = .ok (.iconst 0, 1) := by decide +kernel
theorem dX1_triangles_1 : decode cX1_triangles 1 = .ok (.istore_n 1, 1) := by decide +kernel
theorem dX1_triangles_2 : decode cX1_triangles 2 = .ok (.iconst 0, 1) := by decide +kernel
theorem dX1_triangles_3 : decode cX1_triangles 3 = .ok (.istore_n 2, 1) := by decide +kernel
theorem dX1_triangles_4 : decode cX1_triangles 4 = .ok (.iload_n 2, 1) := by decide +kernel
theorem dX1_triangles_5 : decode cX1_triangles 5 = .ok (.iload_n 2, 1) := by decide +kernel
theorem dX1_triangles_6 : decode cX1_triangles 6 = .ok (.iconst 1, 1) := by decide +kernel
theorem dX1_triangles_7 : decode cX1_triangles 7 = .ok (.iadd, 1) := by decide +kernel
theorem dX1_triangles_8 : decode cX1_triangles 8 = .ok (.imul, 1) := by decide +kernel
theorem dX1_triangles_9 : decode cX1_triangles 9 = .ok (.iconst 2, 1) := by decide +kernel
theorem dX1_triangles_10 : decode cX1_triangles 10 = .ok (.idiv, 1) := by decide +kernel
theorem dX1_triangles_11 : decode cX1_triangles 11 = .ok (.aload_n 0, 1) := by decide +kernel
theorem dX1_triangles_12 : decode cX1_triangles 12 = .ok (.getfield 7, 3) := by decide +kernel
theorem dX1_triangles_15 : decode cX1_triangles 15 = .ok (.if_icmp .gt 65, 3) := by decide +kernel
theorem dX1_triangles_18 : decode cX1_triangles 18 = .ok (.iconst 0, 1) := by decide +kernel
theorem dX1_triangles_19 : decode cX1_triangles 19 = .ok (.istore_n 3, 1) := by decide +kernel
theorem dX1_triangles_20 : decode cX1_triangles 20 = .ok (.iload_n 2, 1) := by decide +kernel
theorem dX1_triangles_21 : decode cX1_triangles 21 = .ok (.iload_n 2, 1) := by decide +kernel
theorem dX1_triangles_22 : decode cX1_triangles 22 = .ok (.iconst 1, 1) := by decide +kernel
theorem dX1_triangles_23 : decode cX1_triangles 23 = .ok (.iadd, 1) := by decide +kernel
theorem dX1_triangles_24 : decode cX1_triangles 24 = .ok (.imul, 1) := by decide +kernel
theorem dX1_triangles_25 : decode cX1_triangles 25 = .ok (.iconst 2, 1) := by decide +kernel
theorem dX1_triangles_26 : decode cX1_triangles 26 = .ok (.idiv, 1) := by decide +kernel
theorem dX1_triangles_27 : decode cX1_triangles 27 = .ok (.iload_n 3, 1) := by decide +kernel
theorem dX1_triangles_28 : decode cX1_triangles 28 = .ok (.iload_n 3, 1) := by decide +kernel
theorem dX1_triangles_29 : decode cX1_triangles 29 = .ok (.iconst 1, 1) := by decide +kernel
theorem dX1_triangles_30 : decode cX1_triangles 30 = .ok (.iadd, 1) := by decide +kernel
theorem dX1_triangles_31 : decode cX1_triangles 31 = .ok (.imul, 1) := by decide +kernel
theorem dX1_triangles_32 : decode cX1_triangles 32 = .ok (.iconst 2, 1) := by decide +kernel
theorem dX1_triangles_33 : decode cX1_triangles 33 = .ok (.idiv, 1) := by decide +kernel
theorem dX1_triangles_34 : decode cX1_triangles 34 = .ok (.iadd, 1) := by decide +kernel
theorem dX1_triangles_35 : decode cX1_triangles 35 = .ok (.aload_n 0, 1) := by decide +kernel
theorem dX1_triangles_36 : decode cX1_triangles 36 = .ok (.getfield 7, 3) := by decide +kernel
theorem dX1_triangles_39 : decode cX1_triangles 39 = .ok (.if_icmp .gt 35, 3) := by decide +kernel
theorem dX1_triangles_42 : decode cX1_triangles 42 = .ok (.iload_n 2, 1) := by decide +kernel
theorem dX1_triangles_43 : decode cX1_triangles 43 = .ok (.iload_n 2, 1) := by decide +kernel
theorem dX1_triangles_44 : decode cX1_triangles 44 = .ok (.iconst 1, 1) := by decide +kernel
theorem dX1_triangles_45 : decode cX1_triangles 45 = .ok (.iadd, 1) := by decide +kernel
theorem dX1_triangles_46 : decode cX1_triangles 46 = .ok (.imul, 1) := by decide +kernel
theorem dX1_triangles_47 : decode cX1_triangles 47 = .ok (.iconst 2, 1) := by decide +kernel
theorem dX1_triangles_48 : decode cX1_triangles 48 = .ok (.idiv, 1) := by decide +kernel
theorem dX1_triangles_49 : decode cX1_triangles 49 = .ok (.iload_n 3, 1) := by decide +kernel
theorem dX1_triangles_50 : decode cX1_triangles 50 = .ok (.iload_n 3, 1) := by decide +kernel
theorem dX1_triangles_51 : decode cX1_triangles 51 = .ok (.iconst 1, 1) := by decide +kernel
theorem dX1_triangles_52 : decode cX1_triangles 52 = .ok (.iadd, 1) := by decide +kernel
theorem dX1_triangles_53 : decode cX1_triangles 53 = .ok (.imul, 1) := by decide +kernel
theorem dX1_triangles_54 : decode cX1_triangles 54 = .ok (.iconst 2, 1) := by decide +kernel
theorem dX1_triangles_55 : decode cX1_triangles 55 = .ok (.idiv, 1) := by decide +kernel
theorem dX1_triangles_56 : decode cX1_triangles 56 = .ok (.iadd, 1) := by decide +kernel
theorem dX1_triangles_57 : decode cX1_triangles 57 = .ok (.aload_n 0, 1) := by decide +kernel
theorem dX1_triangles_58 : decode cX1_triangles 58 = .ok (.getfield 7, 3) := by decide +kernel
theorem dX1_triangles_61 : decode cX1_triangles 61 = .ok (.if_icmp .ne 7, 3) := by decide +kernel
theorem dX1_triangles_64 : decode cX1_triangles 64 = .ok (.iload_n 1, 1) := by decide +kernel
theorem dX1_triangles_65 : decode cX1_triangles 65 = .ok (.iconst 1, 1) := by decide +kernel
theorem dX1_triangles_66 : decode cX1_triangles 66 = .ok (.iadd, 1) := by decide +kernel
theorem dX1_triangles_67 : decode cX1_triangles 67 = .ok (.istore_n 1, 1) := by decide +kernel
theorem dX1_triangles_68 : decode cX1_triangles 68 = .ok (.iinc 3 1, 3) := by decide +kernel
theorem dX1_triangles_71 : decode cX1_triangles 71 = .ok (.goto (-51), 3) := by decide +kernel
theorem dX1_triangles_74 : decode cX1_triangles 74 = .ok (.iinc 2 1, 3) := by decide +kernel
theorem dX1_triangles_77 : decode cX1_triangles 77 = .ok (.goto (-73), 3) := by decide +kernel
theorem dX1_triangles_80 : decode cX1_triangles 80 = .ok (.iload_n 1, 1) := by decide +kernel
theorem dX1_triangles_81 : decode cX1_triangles 81 = .ok (.ireturn, 1) := by decide +kernel
abbrev cX1_fewest : ByteArray := prog_3_method_10_code
def yX1_fewest : MethodName := ⟨RX1, "fewest", "()I"⟩
theorem dX1_fewest_0 : decode cX1_fewest 0 = .ok (.aload_n 0, 1) := by decide +kernel
theorem dX1_fewest_1 : decode cX1_fewest 1 = .ok (.invokevirtual 25, 3) := by decide +kernel
theorem dX1_fewest_4 : decode cX1_fewest 4 = .ok (.aload_n 0, 1) := by decide +kernel
theorem dX1_fewest_5 : decode cX1_fewest 5 = .ok (.getfield 7, 3) := by decide +kernel
theorem dX1_fewest_8 : decode cX1_fewest 8 = .ok (.ifCond .ne 5, 3) := by decide +kernel
theorem dX1_fewest_11 : decode cX1_fewest 11 = .ok (.iconst 0, 1) := by decide +kernel
theorem dX1_fewest_12 : decode cX1_fewest 12 = .ok (.ireturn, 1) := by decide +kernel
theorem dX1_fewest_13 : decode cX1_fewest 13 = .ok (.aload_n 0, 1) := by decide +kernel
theorem dX1_fewest_14 : decode cX1_fewest 14 = .ok (.getfield 7, 3) := by decide +kernel
theorem dX1_fewest_17 : decode cX1_fewest 17 = .ok (.invokestatic 21, 3) := by decide +kernel
theorem dX1_fewest_20 : decode cX1_fewest 20 = .ok (.ifCond .le 7, 3) := by decide +kernel
theorem dX1_fewest_23 : decode cX1_fewest 23 = .ok (.iconst 1, 1) := by decide +kernel
theorem dX1_fewest_24 : decode cX1_fewest 24 = .ok (.goto 31, 3) := by decide +kernel
theorem dX1_fewest_27 : decode cX1_fewest 27 = .ok (.aload_n 0, 1) := by decide +kernel
theorem dX1_fewest_28 : decode cX1_fewest 28 = .ok (.getfield 13, 3) := by decide +kernel
theorem dX1_fewest_31 : decode cX1_fewest 31 = .ok (.aload_n 0, 1) := by decide +kernel
theorem dX1_fewest_32 : decode cX1_fewest 32 = .ok (.getfield 7, 3) := by decide +kernel
theorem dX1_fewest_35 : decode cX1_fewest 35 = .ok (.iaload, 1) := by decide +kernel
theorem dX1_fewest_36 : decode cX1_fewest 36 = .ok (.ifCond .le 7, 3) := by decide +kernel
theorem dX1_fewest_39 : decode cX1_fewest 39 = .ok (.iconst 2, 1) := by decide +kernel
theorem dX1_fewest_40 : decode cX1_fewest 40 = .ok (.goto 15, 3) := by decide +kernel
theorem dX1_fewest_43 : decode cX1_fewest 43 = .ok (.aload_n 0, 1) := by decide +kernel
theorem dX1_fewest_44 : decode cX1_fewest 44 = .ok (.invokevirtual 28, 3) := by decide +kernel
theorem dX1_fewest_47 : decode cX1_fewest 47 = .ok (.ifCond .le 7, 3) := by decide +kernel
theorem dX1_fewest_50 : decode cX1_fewest 50 = .ok (.iconst 3, 1) := by decide +kernel
theorem dX1_fewest_51 : decode cX1_fewest 51 = .ok (.goto 4, 3) := by decide +kernel
theorem dX1_fewest_54 : decode cX1_fewest 54 = .ok (.iconst 4, 1) := by decide +kernel
theorem dX1_fewest_55 : decode cX1_fewest 55 = .ok (.ireturn, 1) := by decide +kernel
theorem q3 : (Jvm.Cond.initialized "SquareSumsModel") ∈ lw_all := lw_g (lw_at lw_m0 2 rfl) rfl
theorem q54 : (Jvm.Cond.instantiable "SquareSumsModel" (3 : Nat)) ∈ lw_all := lw_g (lw_at lw_m0 53 rfl) rfl
theorem q56 : (Jvm.Cond.instanceMethod ({ cls := "SquareSumsModel", name := "<init>", desc := "()V" } : Jvm.MethodName)) ∈ lw_all := lw_g (lw_at lw_m0 55 rfl) rfl
theorem q57 : (Jvm.Cond.code ({ cls := "SquareSumsModel", name := "<init>", desc := "()V" } : Jvm.MethodName) prog_3_method_1_code (1 : Nat) (Option.none : Option Jvm.ClassFile.FieldType)) ∈ lw_all := lw_g (lw_at lw_m0 56 rfl) rfl
theorem q58 : (Jvm.Cond.methodLink "SquareSumsModel" (1 : Nat) ({ cls := "java/lang/Object", name := "<init>", desc := "()V" } : Jvm.MethodName)) ∈ lw_all := lw_g (lw_at lw_m0 57 rfl) rfl
theorem q59 : (Jvm.Cond.fieldLink "SquareSumsModel" (7 : Nat) "SquareSumsModel" "n" "I") ∈ lw_all := lw_g (lw_at lw_m0 58 rfl) rfl
theorem q60 : (Jvm.Cond.fieldLink "SquareSumsModel" (13 : Nat) "SquareSumsModel" "two" "[I") ∈ lw_all := lw_g (lw_at lw_m0 59 rfl) rfl
theorem q61 : (Jvm.Cond.fieldLink "SquareSumsModel" (17 : Nat) "SquareSumsModel" "made" "Z") ∈ lw_all := lw_g (lw_at lw_m0 60 rfl) rfl
theorem q62 : (Jvm.Cond.lays "SquareSumsModel" "SquareSumsModel" "n" "I") ∈ lw_all := lw_g (lw_at lw_m0 61 rfl) rfl
theorem q63 : (Jvm.Cond.soleField "SquareSumsModel" "n") ∈ lw_all := lw_g (lw_at lw_m0 62 rfl) rfl
theorem q64 : (Jvm.Cond.laysFinal "SquareSumsModel" "SquareSumsModel" "two" "[I") ∈ lw_all := lw_g (lw_at lw_m0 63 rfl) rfl
theorem q65 : (Jvm.Cond.soleField "SquareSumsModel" "two") ∈ lw_all := lw_g (lw_at lw_m0 64 rfl) rfl
theorem q66 : (Jvm.Cond.lays "SquareSumsModel" "SquareSumsModel" "made" "Z") ∈ lw_all := lw_g (lw_at lw_m0 65 rfl) rfl
theorem q67 : (Jvm.Cond.soleField "SquareSumsModel" "made") ∈ lw_all := lw_g (lw_at lw_m0 66 rfl) rfl
theorem q68 : (Jvm.Cond.superclass "SquareSumsModel" "java/lang/Object") ∈ lw_all := lw_g (lw_at lw_m0 67 rfl) rfl
theorem q71 : (Jvm.Cond.instanceMethod ({ cls := "SquareSumsModel", name := "load", desc := "(I)V" } : Jvm.MethodName)) ∈ lw_all := lw_g (lw_at lw_m0 70 rfl) rfl
theorem q72 : (Jvm.Cond.selects "SquareSumsModel" ({ cls := "SquareSumsModel", name := "load", desc := "(I)V" } : Jvm.MethodName) ({ cls := "SquareSumsModel", name := "load", desc := "(I)V" } : Jvm.MethodName)) ∈ lw_all := lw_g (lw_at lw_m0 71 rfl) rfl
theorem q73 : (Jvm.Cond.code ({ cls := "SquareSumsModel", name := "load", desc := "(I)V" } : Jvm.MethodName) prog_3_method_2_code (2 : Nat) (Option.none : Option Jvm.ClassFile.FieldType)) ∈ lw_all := lw_g (lw_at lw_m0 72 rfl) rfl
theorem q75 : (Jvm.Cond.instanceMethod ({ cls := "SquareSumsModel", name := "one", desc := "()I" } : Jvm.MethodName)) ∈ lw_all := lw_g (lw_at lw_m0 74 rfl) rfl
theorem q76 : (Jvm.Cond.selects "SquareSumsModel" ({ cls := "SquareSumsModel", name := "one", desc := "()I" } : Jvm.MethodName) ({ cls := "SquareSumsModel", name := "one", desc := "()I" } : Jvm.MethodName)) ∈ lw_all := lw_g (lw_at lw_m0 75 rfl) rfl
theorem q77 : (Jvm.Cond.code ({ cls := "SquareSumsModel", name := "one", desc := "()I" } : Jvm.MethodName) prog_3_method_5_code (1 : Nat) (Option.some Jvm.ClassFile.FieldType.int)) ∈ lw_all := lw_g (lw_at lw_m0 76 rfl) rfl
theorem q78 : (Jvm.Cond.methodLink "SquareSumsModel" (21 : Nat) ({ cls := "SquareSumsModel", name := "ones", desc := "(I)I" } : Jvm.MethodName)) ∈ lw_all := lw_g (lw_at lw_m0 77 rfl) rfl
theorem q79 : (Jvm.Cond.static ({ cls := "SquareSumsModel", name := "ones", desc := "(I)I" } : Jvm.MethodName)) ∈ lw_all := lw_g (lw_at lw_m0 78 rfl) rfl
theorem q80 : (Jvm.Cond.code ({ cls := "SquareSumsModel", name := "ones", desc := "(I)I" } : Jvm.MethodName) prog_3_method_3_code (2 : Nat) (Option.some Jvm.ClassFile.FieldType.int)) ∈ lw_all := lw_g (lw_at lw_m0 79 rfl) rfl
theorem q82 : (Jvm.Cond.instanceMethod ({ cls := "SquareSumsModel", name := "two", desc := "()I" } : Jvm.MethodName)) ∈ lw_all := lw_g (lw_at lw_m0 81 rfl) rfl
theorem q83 : (Jvm.Cond.selects "SquareSumsModel" ({ cls := "SquareSumsModel", name := "two", desc := "()I" } : Jvm.MethodName) ({ cls := "SquareSumsModel", name := "two", desc := "()I" } : Jvm.MethodName)) ∈ lw_all := lw_g (lw_at lw_m0 82 rfl) rfl
theorem q84 : (Jvm.Cond.code ({ cls := "SquareSumsModel", name := "two", desc := "()I" } : Jvm.MethodName) prog_3_method_6_code (1 : Nat) (Option.some Jvm.ClassFile.FieldType.int)) ∈ lw_all := lw_g (lw_at lw_m0 83 rfl) rfl
theorem q85 : (Jvm.Cond.methodLink "SquareSumsModel" (25 : Nat) ({ cls := "SquareSumsModel", name := "make", desc := "()V" } : Jvm.MethodName)) ∈ lw_all := lw_g (lw_at lw_m0 84 rfl) rfl
theorem q86 : (Jvm.Cond.privateMethod ({ cls := "SquareSumsModel", name := "make", desc := "()V" } : Jvm.MethodName)) ∈ lw_tbl := lw_at lw_m0 85 rfl
theorem q87 : (Jvm.Cond.instanceMethod ({ cls := "SquareSumsModel", name := "make", desc := "()V" } : Jvm.MethodName)) ∈ lw_all := lw_g (lw_at lw_m0 86 rfl) rfl
theorem q88 : (Jvm.Cond.code ({ cls := "SquareSumsModel", name := "make", desc := "()V" } : Jvm.MethodName) prog_3_method_4_code (4 : Nat) (Option.none : Option Jvm.ClassFile.FieldType)) ∈ lw_all := lw_g (lw_at lw_m0 87 rfl) rfl
theorem q90 : (Jvm.Cond.instanceMethod ({ cls := "SquareSumsModel", name := "three", desc := "()I" } : Jvm.MethodName)) ∈ lw_all := lw_g (lw_at lw_m0 89 rfl) rfl
theorem q91 : (Jvm.Cond.selects "SquareSumsModel" ({ cls := "SquareSumsModel", name := "three", desc := "()I" } : Jvm.MethodName) ({ cls := "SquareSumsModel", name := "three", desc := "()I" } : Jvm.MethodName)) ∈ lw_all := lw_g (lw_at lw_m0 90 rfl) rfl
theorem q92 : (Jvm.Cond.code ({ cls := "SquareSumsModel", name := "three", desc := "()I" } : Jvm.MethodName) prog_3_method_7_code (3 : Nat) (Option.some Jvm.ClassFile.FieldType.int)) ∈ lw_all := lw_g (lw_at lw_m0 91 rfl) rfl
theorem q94 : (Jvm.Cond.instanceMethod ({ cls := "SquareSumsModel", name := "four", desc := "()I" } : Jvm.MethodName)) ∈ lw_all := lw_g (lw_at lw_m0 93 rfl) rfl
theorem q95 : (Jvm.Cond.selects "SquareSumsModel" ({ cls := "SquareSumsModel", name := "four", desc := "()I" } : Jvm.MethodName) ({ cls := "SquareSumsModel", name := "four", desc := "()I" } : Jvm.MethodName)) ∈ lw_all := lw_g (lw_at lw_m0 94 rfl) rfl
theorem q96 : (Jvm.Cond.code ({ cls := "SquareSumsModel", name := "four", desc := "()I" } : Jvm.MethodName) prog_3_method_8_code (3 : Nat) (Option.some Jvm.ClassFile.FieldType.int)) ∈ lw_all := lw_g (lw_at lw_m0 95 rfl) rfl
theorem q98 : (Jvm.Cond.instanceMethod ({ cls := "SquareSumsModel", name := "triangles", desc := "()I" } : Jvm.MethodName)) ∈ lw_all := lw_g (lw_at lw_m0 97 rfl) rfl
theorem q99 : (Jvm.Cond.selects "SquareSumsModel" ({ cls := "SquareSumsModel", name := "triangles", desc := "()I" } : Jvm.MethodName) ({ cls := "SquareSumsModel", name := "triangles", desc := "()I" } : Jvm.MethodName)) ∈ lw_all := lw_g (lw_at lw_m0 98 rfl) rfl
theorem q100 : (Jvm.Cond.code ({ cls := "SquareSumsModel", name := "triangles", desc := "()I" } : Jvm.MethodName) prog_3_method_9_code (4 : Nat) (Option.some Jvm.ClassFile.FieldType.int)) ∈ lw_all := lw_g (lw_at lw_m0 99 rfl) rfl
theorem q102 : (Jvm.Cond.instanceMethod ({ cls := "SquareSumsModel", name := "fewest", desc := "()I" } : Jvm.MethodName)) ∈ lw_all := lw_g (lw_at lw_m0 101 rfl) rfl
theorem q103 : (Jvm.Cond.selects "SquareSumsModel" ({ cls := "SquareSumsModel", name := "fewest", desc := "()I" } : Jvm.MethodName) ({ cls := "SquareSumsModel", name := "fewest", desc := "()I" } : Jvm.MethodName)) ∈ lw_all := lw_g (lw_at lw_m0 102 rfl) rfl
theorem q104 : (Jvm.Cond.code ({ cls := "SquareSumsModel", name := "fewest", desc := "()I" } : Jvm.MethodName) prog_3_method_10_code (1 : Nat) (Option.some Jvm.ClassFile.FieldType.int)) ∈ lw_all := lw_g (lw_at lw_m0 103 rfl) rfl
theorem q105 : (Jvm.Cond.methodLink "SquareSumsModel" (28 : Nat) ({ cls := "SquareSumsModel", name := "three", desc := "()I" } : Jvm.MethodName)) ∈ lw_all := lw_g (lw_at lw_m0 104 rfl) rfl
theorem in_X1 : ∀ w ∈ wsX10, w ∈ lw_all := lw_in wsX10 [62, 64, 66] (by decide +kernel) (by decide +kernel)
end
section
theorem q1 : (Jvm.Cond.initialized "SquareSumsLaw") ∈ lw_all := lw_g (lw_at lw_m0 0 rfl) rfl
set_option maxRecDepth 100000
theorem q4 : (Jvm.Cond.classLink "SquareSumsLaw" (7 : Nat) "SquareSums") ∈ lw_all := lw_g (lw_at lw_m0 3 rfl) rfl
theorem q6 : (Jvm.Cond.methodLink "SquareSumsLaw" (9 : Nat) ({ cls := "SquareSums", name := "<init>", desc := "()V" } : Jvm.MethodName)) ∈ lw_all := lw_g (lw_at lw_m0 5 rfl) rfl
theorem q16 : (Jvm.Cond.methodLink "SquareSumsLaw" (13 : Nat) ({ cls := "SquareSums", name := "load", desc := "(I)V" } : Jvm.MethodName)) ∈ lw_all := lw_g (lw_at lw_m0 15 rfl) rfl
theorem q20 : (Jvm.Cond.methodLink "SquareSumsLaw" (18 : Nat) ({ cls := "SquareSums", name := "one", desc := "()I" } : Jvm.MethodName)) ∈ lw_all := lw_g (lw_at lw_m0 19 rfl) rfl
theorem q27 : (Jvm.Cond.methodLink "SquareSumsLaw" (23 : Nat) ({ cls := "SquareSums", name := "two", desc := "()I" } : Jvm.MethodName)) ∈ lw_all := lw_g (lw_at lw_m0 26 rfl) rfl
theorem q37 : (Jvm.Cond.methodLink "SquareSumsLaw" (27 : Nat) ({ cls := "SquareSums", name := "three", desc := "()I" } : Jvm.MethodName)) ∈ lw_all := lw_g (lw_at lw_m0 36 rfl) rfl
theorem q41 : (Jvm.Cond.methodLink "SquareSumsLaw" (31 : Nat) ({ cls := "SquareSums", name := "four", desc := "()I" } : Jvm.MethodName)) ∈ lw_all := lw_g (lw_at lw_m0 40 rfl) rfl
theorem q45 : (Jvm.Cond.methodLink "SquareSumsLaw" (35 : Nat) ({ cls := "SquareSums", name := "triangles", desc := "()I" } : Jvm.MethodName)) ∈ lw_all := lw_g (lw_at lw_m0 44 rfl) rfl
theorem q49 : (Jvm.Cond.methodLink "SquareSumsLaw" (39 : Nat) ({ cls := "SquareSums", name := "fewest", desc := "()I" } : Jvm.MethodName)) ∈ lw_all := lw_g (lw_at lw_m0 48 rfl) rfl
theorem q53 : (Jvm.Cond.classLink "SquareSumsLaw" (10 : Nat) "SquareSumsModel") ∈ lw_all := lw_g (lw_at lw_m0 52 rfl) rfl
theorem q55 : (Jvm.Cond.methodLink "SquareSumsLaw" (12 : Nat) ({ cls := "SquareSumsModel", name := "<init>", desc := "()V" } : Jvm.MethodName)) ∈ lw_all := lw_g (lw_at lw_m0 54 rfl) rfl
theorem q70 : (Jvm.Cond.methodLink "SquareSumsLaw" (17 : Nat) ({ cls := "SquareSumsModel", name := "load", desc := "(I)V" } : Jvm.MethodName)) ∈ lw_all := lw_g (lw_at lw_m0 69 rfl) rfl
theorem q74 : (Jvm.Cond.methodLink "SquareSumsLaw" (22 : Nat) ({ cls := "SquareSumsModel", name := "one", desc := "()I" } : Jvm.MethodName)) ∈ lw_all := lw_g (lw_at lw_m0 73 rfl) rfl
theorem q81 : (Jvm.Cond.methodLink "SquareSumsLaw" (26 : Nat) ({ cls := "SquareSumsModel", name := "two", desc := "()I" } : Jvm.MethodName)) ∈ lw_all := lw_g (lw_at lw_m0 80 rfl) rfl
theorem q89 : (Jvm.Cond.methodLink "SquareSumsLaw" (30 : Nat) ({ cls := "SquareSumsModel", name := "three", desc := "()I" } : Jvm.MethodName)) ∈ lw_all := lw_g (lw_at lw_m0 88 rfl) rfl
theorem q93 : (Jvm.Cond.methodLink "SquareSumsLaw" (34 : Nat) ({ cls := "SquareSumsModel", name := "four", desc := "()I" } : Jvm.MethodName)) ∈ lw_all := lw_g (lw_at lw_m0 92 rfl) rfl
theorem q97 : (Jvm.Cond.methodLink "SquareSumsLaw" (38 : Nat) ({ cls := "SquareSumsModel", name := "triangles", desc := "()I" } : Jvm.MethodName)) ∈ lw_all := lw_g (lw_at lw_m0 96 rfl) rfl
theorem q101 : (Jvm.Cond.methodLink "SquareSumsLaw" (42 : Nat) ({ cls := "SquareSumsModel", name := "fewest", desc := "()I" } : Jvm.MethodName)) ∈ lw_all := lw_g (lw_at lw_m0 100 rfl) rfl
theorem q69 : (Jvm.Cond.arrayClass Jvm.ClassFile.FieldType.int) ∈ lw_all := lw_g (lw_at lw_m0 68 rfl) rfl
set_option maxRecDepth 100000
/-! the law's own entry -/
set_option maxRecDepth 100000
abbrev cL_law : ByteArray := code
theorem dL_law_0 : decode cL_law 0 = .ok (.new 7, 3) := by decide +kernel
theorem dL_law_3 : decode cL_law 3 = .ok (.dup, 1) := by decide +kernel
theorem dL_law_4 : decode cL_law 4 = .ok (.invokespecial 9, 3) := by decide +kernel
theorem dL_law_7 : decode cL_law 7 = .ok (.astore_n 1, 1) := by decide +kernel
theorem dL_law_8 : decode cL_law 8 = .ok (.new 10, 3) := by decide +kernel
theorem dL_law_11 : decode cL_law 11 = .ok (.dup, 1) := by decide +kernel
theorem dL_law_12 : decode cL_law 12 = .ok (.invokespecial 12, 3) := by decide +kernel
theorem dL_law_15 : decode cL_law 15 = .ok (.astore_n 2, 1) := by decide +kernel
theorem dL_law_16 : decode cL_law 16 = .ok (.iconst 0, 1) := by decide +kernel
theorem dL_law_17 : decode cL_law 17 = .ok (.istore_n 3, 1) := by decide +kernel
theorem dL_law_18 : decode cL_law 18 = .ok (.iload_n 3, 1) := by decide +kernel
theorem dL_law_19 : decode cL_law 19 = .ok (.aload_n 0, 1) := by decide +kernel
theorem dL_law_20 : decode cL_law 20 = .ok (.arraylength, 1) := by decide +kernel
theorem dL_law_21 : decode cL_law 21 = .ok (.iconst 2, 1) := by decide +kernel
theorem dL_law_22 : decode cL_law 22 = .ok (.isub, 1) := by decide +kernel
theorem dL_law_23 : decode cL_law 23 = .ok (.if_icmp .gt 158, 3) := by decide +kernel
theorem dL_law_26 : decode cL_law 26 = .ok (.aload_n 0, 1) := by decide +kernel
theorem dL_law_27 : decode cL_law 27 = .ok (.iload_n 3, 1) := by decide +kernel
theorem dL_law_28 : decode cL_law 28 = .ok (.iaload, 1) := by decide +kernel
theorem dL_law_29 : decode cL_law 29 = .ok (.bipush 7, 2) := by decide +kernel
theorem dL_law_31 : decode cL_law 31 = .ok (.iand, 1) := by decide +kernel
theorem dL_law_32 : decode cL_law 32 = .ok (.tableswitch 143 0 6 #[44, 65, 78, 91, 104, 117, 130], 44) := by decide +kernel
theorem dL_law_76 : decode cL_law 76 = .ok (.aload_n 1, 1) := by decide +kernel
theorem dL_law_77 : decode cL_law 77 = .ok (.aload_n 0, 1) := by decide +kernel
theorem dL_law_78 : decode cL_law 78 = .ok (.iload_n 3, 1) := by decide +kernel
theorem dL_law_79 : decode cL_law 79 = .ok (.iconst 1, 1) := by decide +kernel
theorem dL_law_80 : decode cL_law 80 = .ok (.iadd, 1) := by decide +kernel
theorem dL_law_81 : decode cL_law 81 = .ok (.iaload, 1) := by decide +kernel
theorem dL_law_82 : decode cL_law 82 = .ok (.invokevirtual 13, 3) := by decide +kernel
theorem dL_law_85 : decode cL_law 85 = .ok (.aload_n 2, 1) := by decide +kernel
theorem dL_law_86 : decode cL_law 86 = .ok (.aload_n 0, 1) := by decide +kernel
theorem dL_law_87 : decode cL_law 87 = .ok (.iload_n 3, 1) := by decide +kernel
theorem dL_law_88 : decode cL_law 88 = .ok (.iconst 1, 1) := by decide +kernel
theorem dL_law_89 : decode cL_law 89 = .ok (.iadd, 1) := by decide +kernel
theorem dL_law_90 : decode cL_law 90 = .ok (.iaload, 1) := by decide +kernel
theorem dL_law_91 : decode cL_law 91 = .ok (.invokevirtual 17, 3) := by decide +kernel
theorem dL_law_94 : decode cL_law 94 = .ok (.goto 81, 3) := by decide +kernel
theorem dL_law_97 : decode cL_law 97 = .ok (.aload_n 1, 1) := by decide +kernel
theorem dL_law_98 : decode cL_law 98 = .ok (.invokevirtual 18, 3) := by decide +kernel
theorem dL_law_101 : decode cL_law 101 = .ok (.aload_n 2, 1) := by decide +kernel
theorem dL_law_102 : decode cL_law 102 = .ok (.invokevirtual 22, 3) := by decide +kernel
theorem dL_law_105 : decode cL_law 105 = .ok (.if_icmp .eq 70, 3) := by decide +kernel
theorem dL_law_108 : decode cL_law 108 = .ok (.iconst 0, 1) := by decide +kernel
theorem dL_law_109 : decode cL_law 109 = .ok (.ireturn, 1) := by decide +kernel
theorem dL_law_110 : decode cL_law 110 = .ok (.aload_n 1, 1) := by decide +kernel
theorem dL_law_111 : decode cL_law 111 = .ok (.invokevirtual 23, 3) := by decide +kernel
theorem dL_law_114 : decode cL_law 114 = .ok (.aload_n 2, 1) := by decide +kernel
theorem dL_law_115 : decode cL_law 115 = .ok (.invokevirtual 26, 3) := by decide +kernel
theorem dL_law_118 : decode cL_law 118 = .ok (.if_icmp .eq 57, 3) := by decide +kernel
theorem dL_law_121 : decode cL_law 121 = .ok (.iconst 0, 1) := by decide +kernel
theorem dL_law_122 : decode cL_law 122 = .ok (.ireturn, 1) := by decide +kernel
theorem dL_law_123 : decode cL_law 123 = .ok (.aload_n 1, 1) := by decide +kernel
theorem dL_law_124 : decode cL_law 124 = .ok (.invokevirtual 27, 3) := by decide +kernel
theorem dL_law_127 : decode cL_law 127 = .ok (.aload_n 2, 1) := by decide +kernel
theorem dL_law_128 : decode cL_law 128 = .ok (.invokevirtual 30, 3) := by decide +kernel
theorem dL_law_131 : decode cL_law 131 = .ok (.if_icmp .eq 44, 3) := by decide +kernel
theorem dL_law_134 : decode cL_law 134 = .ok (.iconst 0, 1) := by decide +kernel
theorem dL_law_135 : decode cL_law 135 = .ok (.ireturn, 1) := by decide +kernel
theorem dL_law_136 : decode cL_law 136 = .ok (.aload_n 1, 1) := by decide +kernel
theorem dL_law_137 : decode cL_law 137 = .ok (.invokevirtual 31, 3) := by decide +kernel
theorem dL_law_140 : decode cL_law 140 = .ok (.aload_n 2, 1) := by decide +kernel
theorem dL_law_141 : decode cL_law 141 = .ok (.invokevirtual 34, 3) := by decide +kernel
theorem dL_law_144 : decode cL_law 144 = .ok (.if_icmp .eq 31, 3) := by decide +kernel
theorem dL_law_147 : decode cL_law 147 = .ok (.iconst 0, 1) := by decide +kernel
theorem dL_law_148 : decode cL_law 148 = .ok (.ireturn, 1) := by decide +kernel
theorem dL_law_149 : decode cL_law 149 = .ok (.aload_n 1, 1) := by decide +kernel
theorem dL_law_150 : decode cL_law 150 = .ok (.invokevirtual 35, 3) := by decide +kernel
theorem dL_law_153 : decode cL_law 153 = .ok (.aload_n 2, 1) := by decide +kernel
theorem dL_law_154 : decode cL_law 154 = .ok (.invokevirtual 38, 3) := by decide +kernel
theorem dL_law_157 : decode cL_law 157 = .ok (.if_icmp .eq 18, 3) := by decide +kernel
theorem dL_law_160 : decode cL_law 160 = .ok (.iconst 0, 1) := by decide +kernel
theorem dL_law_161 : decode cL_law 161 = .ok (.ireturn, 1) := by decide +kernel
theorem dL_law_162 : decode cL_law 162 = .ok (.aload_n 1, 1) := by decide +kernel
theorem dL_law_163 : decode cL_law 163 = .ok (.invokevirtual 39, 3) := by decide +kernel
theorem dL_law_166 : decode cL_law 166 = .ok (.aload_n 2, 1) := by decide +kernel
theorem dL_law_167 : decode cL_law 167 = .ok (.invokevirtual 42, 3) := by decide +kernel
theorem dL_law_170 : decode cL_law 170 = .ok (.if_icmp .eq 5, 3) := by decide +kernel
theorem dL_law_173 : decode cL_law 173 = .ok (.iconst 0, 1) := by decide +kernel
theorem dL_law_174 : decode cL_law 174 = .ok (.ireturn, 1) := by decide +kernel
theorem dL_law_175 : decode cL_law 175 = .ok (.iinc 3 2, 3) := by decide +kernel
theorem dL_law_178 : decode cL_law 178 = .ok (.goto (-160), 3) := by decide +kernel
theorem dL_law_181 : decode cL_law 181 = .ok (.iconst 1, 1) := by decide +kernel
theorem dL_law_182 : decode cL_law 182 = .ok (.ireturn, 1) := by decide +kernel
end
section
/-! THE PLAIN LAW: what both sides compute, as functions of natural numbers; nothing of the machine -/
set_option maxRecDepth 100000
/-- the sum of f over k < n -/
noncomputable def ss_S (f : Nat → Nat) (n : Nat) : Nat := Nat.rec (motive := fun _ => Nat) 0 (fun k ih => Nat.add ih (f k)) n
theorem ss_S_0 (f : Nat → Nat) : ss_S f 0 = 0 := rfl
theorem ss_S_s (f : Nat → Nat) (k : Nat) : ss_S f (k + 1) = ss_S f k + f k := rfl
theorem ss_S_add (f : Nat → Nat) (a b : Nat) : ss_S f (a + b) = ss_S f a + ss_S (fun j => f (a + j)) b := by
  induction b with
  | zero => rfl
  | succ b ih =>
    rw [← Nat.add_assoc, ss_S_s, ih, ss_S_s, Nat.add_assoc]
theorem ss_S_ext {f g : Nat → Nat} (n : Nat) (h : ∀ k, k < n → f k = g k) : ss_S f n = ss_S g n := by
  induction n with
  | zero => rfl
  | succ n ih =>
    rw [ss_S_s, ss_S_s, ih (fun k hk => h k (by omega)), h n (by omega)]
/-- terms that are nought may be left out at the end -/
theorem ss_S_cut {f : Nat → Nat} (a d : Nat) (h : ∀ k, a ≤ k → k < a + d → f k = 0) : ss_S f (a + d) = ss_S f a := by
  induction d with
  | zero => rfl
  | succ d ih =>
    rw [← Nat.add_assoc, ss_S_s, ih (fun k h1 h2 => h k h1 (by omega)), h (a + d) (by omega) (by omega), Nat.add_zero]
theorem ss_S_cut' {f : Nat → Nat} {a b : Nat} (hab : a ≤ b) (h : ∀ k, a ≤ k → k < b → f k = 0) : ss_S f b = ss_S f a := by
  have e : b = a + (b - a) := by omega
  rw [e]
  exact ss_S_cut a (b - a) (fun k h1 h2 => h k h1 (by omega))
/-- the same sum in blocks of 64, for the kernel -/
noncomputable def ss_Bk (f : Nat → Nat) (q : Nat) : Nat := Nat.rec (motive := fun _ => Nat) 0 (fun i ih => Nat.add ih (ss_S (fun j => f (Nat.add (Nat.mul 64 i) j)) 64)) q
theorem ss_Bk_eq (f : Nat → Nat) (q : Nat) : ss_S f (64 * q) = ss_Bk f q := by
  induction q with
  | zero => rfl
  | succ q ih =>
    rw [Nat.mul_add, Nat.mul_one, ss_S_add, ih]
    rfl
noncomputable def ss_F (f : Nat → Nat) (n : Nat) : Nat := Nat.add (ss_Bk f (Nat.div n 64)) (ss_S (fun j => f (Nat.add (Nat.mul 64 (Nat.div n 64)) j)) (Nat.mod n 64))
theorem ss_F_eq (f : Nat → Nat) (n : Nat) : ss_F f n = ss_S f n := by
  have e : n = 64 * (n / 64) + n % 64 := (Nat.div_add_mod n 64).symm
  have h : ss_S f (64 * (n / 64) + n % 64) = ss_F f n := by
    rw [ss_S_add, ss_Bk_eq]
    rfl
  rw [← h, ← e]
/-- a test of every k in lo .. lo + n - 1, for the kernel -/
noncomputable def ss_all (p : Nat → Bool) (lo n : Nat) : Bool := Nat.rec (motive := fun _ => Bool) true (fun k ih => and (p (Nat.add lo k)) ih) n
theorem ss_all_ok {p : Nat → Bool} {lo n : Nat} (h : ss_all p lo n = true) : ∀ k, lo ≤ k → k < lo + n → p k = true := by
  induction n with
  | zero => intro k h1 h2; omega
  | succ n ih =>
    have h' : (p (lo + n) && ss_all p lo n) = true := h
    rw [Bool.and_eq_true] at h'
    intro k h1 h2
    by_cases hk : k = lo + n
    · rw [hk]; exact h'.1
    · exact ih h'.2 k h1 (by omega)
theorem ss_beq {a b : Nat} (h : Nat.beq a b = true) : a = b := Nat.eq_of_beq_eq_true h
theorem ss_cle {α : Type} (a b : Nat) (x y : α) : cond (Nat.ble a b) x y = if a ≤ b then x else y := by
  by_cases h : a ≤ b
  · rw [if_pos h, Nat.ble_eq_true_of_le h]
    rfl
  · rw [if_neg h, show Nat.ble a b = false from Bool.eq_false_iff.mpr (fun q => h (Nat.le_of_ble_eq_true q))]
    rfl
theorem ss_ceq {α : Type} (a b : Nat) (x y : α) : cond (Nat.beq a b) x y = if a = b then x else y := by
  by_cases h : a = b
  · rw [if_pos h, h, Nat.beq_refl]
    rfl
  · rw [if_neg h, show Nat.beq a b = false from Bool.eq_false_iff.mpr (fun q => h (Nat.eq_of_beq_eq_true q))]
    rfl
/-! numbers of ways as tables: a byte for each number below 512; squares and triangles as bits -/
def ss_TW : Nat := 498003426503889073210207682056352707385454935173981463639408467788697014716718247250975907065438944251192053191171370556475690201989058018180725232715198308504025295144462184722264573993771124180273288166950169316193453589977718946339830112548621533713219181537593497860193619105361176205612278549147178432225224360961634980906290237055156693434629040777454829349746107090205038410190743657529339232823813088274151545992031141456738510939833098542058133382402458501159526555791780439887508988652232043023840884692751512763270343474490092363055077863857664863757263458655194352622711175571557988974816451006845894435659707618953407397946334536975985079039660353859753461422934373648582557768228661828769240916740880727246315369463886386426294841657331882234974759675395874272748631624005734652269881954263067742181116229573339006013372261576654595380211955639970464605870544671387858741360596721825098927200923394872111039546787392032706559275055660521101850750079126427347608462282866829368102385980246376166713829530302170884095000227418316983520039263486408585812760357452166756520261189783097610270527551432033161143296565252246777740182720973081399244094471211634373724686872581163516421172922028152844209069805291308319745
def ss_SQ : Nat := 49947976805061554129639117687772955575832370139565190488243445757427619559944541429258075072285081220358155068860948440673001041569165854828986899
def ss_TR : Nat := 204586913088777072235423572786935985480764413240710573312462820963957291064386360090614222931452426173425905499952470306559069553808671474166328755275
/-- pairs for v, by the table -/
def ss_tw (v : Nat) : Nat := Nat.mod (Nat.shiftRight ss_TW (Nat.mul 8 v)) 256
/-- 1 for a square below 512, else 0 -/
def ss_sq (v : Nat) : Nat := Nat.mod (Nat.shiftRight ss_SQ v) 2
/-- 1 for a triangle below 512, else 0 -/
def ss_tr (v : Nat) : Nat := Nat.mod (Nat.shiftRight ss_TR v) 2
/-- ways as one square -/
def ss_ones (v : Nat) : Nat := cond (Nat.beq v 0) 1 (Nat.mul 2 (ss_sq v))
/-- the absolute value of i - 22 -/
def ss_aa (i : Nat) : Nat := cond (Nat.ble 22 i) (Nat.sub i 22) (Nat.sub 22 i)
def ss_a2 (i : Nat) : Nat := Nat.mul (ss_aa i) (ss_aa i)
/-- what the reference adds to two[v] at a = i - 22 -/
def ss_on (v i : Nat) : Nat := cond (Nat.ble (ss_a2 i) v) (ss_ones (Nat.sub v (ss_a2 i))) 0
/-- 1 + the character of k + 1 where k + 1 divides m, 1 where it doesn't -/
def ss_w (m k : Nat) : Nat := cond (Nat.beq (Nat.mod m (Nat.add k 1)) 0) (cond (Nat.beq (Nat.mod (Nat.add k 1) 4) 1) 2 (cond (Nat.beq (Nat.mod (Nat.add k 1) 4) 3) 0 1)) 1
/-- m + characters(m) -/
noncomputable def ss_ch (m : Nat) : Nat := ss_S (ss_w m) m
def ss_t3 (n j : Nat) : Nat := cond (Nat.ble (Nat.mul (Nat.add j 1) (Nat.add j 1)) n) (Nat.mul 2 (ss_tw (Nat.sub n (Nat.mul (Nat.add j 1) (Nat.add j 1))))) 0
noncomputable def ss_x3 (n : Nat) : Nat := Nat.add (ss_tw n) (ss_S (ss_t3 n) 22)
def ss_m3 (n i : Nat) : Nat := cond (Nat.ble (ss_a2 i) n) (ss_tw (Nat.sub n (ss_a2 i))) 0
def ss_t4 (n j : Nat) : Nat := cond (Nat.beq (Nat.mod n (Nat.add j 1)) 0) (cond (Nat.beq (Nat.mod (Nat.add j 1) 4) 0) 0 (Nat.add j 1)) 0
noncomputable def ss_x4 (n : Nat) : Nat := cond (Nat.beq n 0) 1 (Nat.mul 8 (ss_S (ss_t4 n) n))
def ss_m4 (n v : Nat) : Nat := Nat.mul (ss_tw v) (ss_tw (Nat.sub n v))
/-- the a-th triangle -/
def ss_tt (a : Nat) : Nat := Nat.div (Nat.mul a (Nat.add a 1)) 2
def ss_row (n a : Nat) : Nat := cond (Nat.ble (ss_tt a) n) (ss_tr (Nat.sub n (ss_tt a))) 0
noncomputable def ss_tri (n : Nat) : Nat := ss_S (ss_row n) 32
/-- n without its factors 4, at most f of them -/
noncomputable def ss_st (f : Nat) : Nat → Nat := Nat.rec (motive := fun _ => Nat → Nat) (fun k => k) (fun _ ih k => cond (Nat.beq (Nat.mod k 4) 0) (ih (Nat.div k 4)) k) f
noncomputable def ss_few (n : Nat) : Nat := cond (Nat.beq n 0) 0 (cond (Nat.beq (ss_sq n) 1) 1 (cond (Nat.ble 1 (ss_tw n)) 2 (cond (Nat.beq (Nat.mod (ss_st 5 n) 8) 7) 4 3)))
noncomputable def ss_mfew (n : Nat) : Nat := cond (Nat.beq n 0) 0 (cond (Nat.ble 1 (ss_ones n)) 1 (cond (Nat.ble 1 (ss_tw n)) 2 (cond (Nat.ble 1 (ss_S (ss_m3 n) 45)) 3 4)))
/-! what the kernel computes: each n below 512 -/
theorem ss_k_tw : ss_all (fun v => Nat.beq (ss_S (ss_on v) 45) (ss_tw v)) 0 512 = true := by decide +kernel
theorem ss_k_sq : ss_all (fun r => Nat.beq (ss_sq (Nat.mul r r)) 1) 0 23 = true := by decide +kernel
theorem ss_k_sq1 : ss_all (fun v => Nat.ble (ss_sq v) 1) 0 512 = true := by decide +kernel
theorem ss_k_sq2 : ss_all (fun v => Nat.beq (ss_sq v) (ss_S (fun r => cond (Nat.beq (Nat.mul r r) v) 1 0) 23)) 0 512 = true := by decide +kernel
theorem ss_k_tr : ss_all (fun v => Nat.beq (ss_tr v) (ss_S (fun b => cond (Nat.beq (ss_tt b) v) 1 0) 32)) 0 512 = true := by decide +kernel
theorem ss_k_ch : ss_all (fun m => Nat.beq (Nat.mul 4 (ss_F (ss_w m) m)) (Nat.add (Nat.mul 4 m) (ss_tw m))) 1 511 = true := by decide +kernel
theorem ss_k_tri0 : ss_all (fun n => Nat.beq (ss_F (ss_w (Nat.add (Nat.mul 4 n) 1)) (Nat.add (Nat.mul 4 n) 1)) (Nat.add (Nat.add (Nat.mul 4 n) 1) (ss_tri n))) 0 64 = true := by decide +kernel
theorem ss_k_tri1 : ss_all (fun n => Nat.beq (ss_F (ss_w (Nat.add (Nat.mul 4 n) 1)) (Nat.add (Nat.mul 4 n) 1)) (Nat.add (Nat.add (Nat.mul 4 n) 1) (ss_tri n))) 64 64 = true := by decide +kernel
theorem ss_k_tri2 : ss_all (fun n => Nat.beq (ss_F (ss_w (Nat.add (Nat.mul 4 n) 1)) (Nat.add (Nat.mul 4 n) 1)) (Nat.add (Nat.add (Nat.mul 4 n) 1) (ss_tri n))) 128 64 = true := by decide +kernel
theorem ss_k_tri3 : ss_all (fun n => Nat.beq (ss_F (ss_w (Nat.add (Nat.mul 4 n) 1)) (Nat.add (Nat.mul 4 n) 1)) (Nat.add (Nat.add (Nat.mul 4 n) 1) (ss_tri n))) 192 64 = true := by decide +kernel
theorem ss_k_tri4 : ss_all (fun n => Nat.beq (ss_F (ss_w (Nat.add (Nat.mul 4 n) 1)) (Nat.add (Nat.mul 4 n) 1)) (Nat.add (Nat.add (Nat.mul 4 n) 1) (ss_tri n))) 256 64 = true := by decide +kernel
theorem ss_k_tri5 : ss_all (fun n => Nat.beq (ss_F (ss_w (Nat.add (Nat.mul 4 n) 1)) (Nat.add (Nat.mul 4 n) 1)) (Nat.add (Nat.add (Nat.mul 4 n) 1) (ss_tri n))) 320 64 = true := by decide +kernel
theorem ss_k_tri6 : ss_all (fun n => Nat.beq (ss_F (ss_w (Nat.add (Nat.mul 4 n) 1)) (Nat.add (Nat.mul 4 n) 1)) (Nat.add (Nat.add (Nat.mul 4 n) 1) (ss_tri n))) 384 64 = true := by decide +kernel
theorem ss_k_tri7 : ss_all (fun n => Nat.beq (ss_F (ss_w (Nat.add (Nat.mul 4 n) 1)) (Nat.add (Nat.mul 4 n) 1)) (Nat.add (Nat.add (Nat.mul 4 n) 1) (ss_tri n))) 448 64 = true := by decide +kernel
theorem ss_k_3 : ss_all (fun n => Nat.beq (ss_S (ss_m3 n) 45) (ss_x3 n)) 0 512 = true := by decide +kernel
theorem ss_k_40 : ss_all (fun n => Nat.beq (ss_S (ss_m4 n) (Nat.add n 1)) (ss_x4 n)) 0 128 = true := by decide +kernel
theorem ss_k_41 : ss_all (fun n => Nat.beq (ss_S (ss_m4 n) (Nat.add n 1)) (ss_x4 n)) 128 128 = true := by decide +kernel
theorem ss_k_42 : ss_all (fun n => Nat.beq (ss_S (ss_m4 n) (Nat.add n 1)) (ss_x4 n)) 256 128 = true := by decide +kernel
theorem ss_k_43 : ss_all (fun n => Nat.beq (ss_S (ss_m4 n) (Nat.add n 1)) (ss_x4 n)) 384 128 = true := by decide +kernel
theorem ss_k_few : ss_all (fun n => Nat.beq (ss_mfew n) (ss_few n)) 0 512 = true := by decide +kernel
/-! and what they mean -/
theorem ss_p_tw {v : Nat} (h : v < 512) : ss_S (ss_on v) 45 = ss_tw v := ss_beq (ss_all_ok ss_k_tw v (Nat.zero_le v) (by omega))
theorem ss_p_sqr {r : Nat} (h : r * r < 512) : ss_sq (r * r) = 1 := by
  have hr : r < 23 := by
    rcases Nat.lt_or_ge r 23 with q | q
    · exact q
    · have := Nat.mul_le_mul q q
      omega
  exact ss_beq (ss_all_ok ss_k_sq r (Nat.zero_le r) (by omega))
theorem ss_p_sq1 {v : Nat} (h : v < 512) : ss_sq v ≤ 1 := Nat.le_of_ble_eq_true (ss_all_ok ss_k_sq1 v (Nat.zero_le v) (by omega))
/-- no square: 0 -/
theorem ss_p_sq0 {v : Nat} (h : v < 512) (hn : ∀ r, r * r ≠ v) : ss_sq v = 0 := by
  have e : ss_sq v = ss_S (fun r => cond (Nat.beq (Nat.mul r r) v) 1 0) 23 := ss_beq (ss_all_ok ss_k_sq2 v (Nat.zero_le v) (by omega))
  exact e.trans (ss_S_cut' (f := fun r => cond (Nat.beq (Nat.mul r r) v) 1 0) (a := 0) (b := 23) (by omega) (fun k _ _ => (ss_ceq _ _ _ _).trans (if_neg (hn k))))
theorem ss_p_tr {v : Nat} (h : v < 512) : ss_tr v = ss_S (fun b => cond (Nat.beq (ss_tt b) v) 1 0) 32 := ss_beq (ss_all_ok ss_k_tr v (Nat.zero_le v) (by omega))
theorem ss_p_ch {m : Nat} (h0 : 0 < m) (h : m < 512) : 4 * ss_ch m = 4 * m + ss_tw m := by
  have e := ss_beq (ss_all_ok ss_k_ch m h0 (by omega))
  rw [ss_F_eq] at e
  exact e
theorem ss_p_tri {n : Nat} (h : n < 512) : ss_ch (4 * n + 1) = (4 * n + 1) + ss_tri n := by
  have e : Nat.beq (ss_F (ss_w (4 * n + 1)) (4 * n + 1)) ((4 * n + 1) + ss_tri n) = true := by
    by_cases h0 : n < 64
    · exact ss_all_ok ss_k_tri0 n (by omega) (by omega)
    by_cases h1 : n < 128
    · exact ss_all_ok ss_k_tri1 n (by omega) (by omega)
    by_cases h2 : n < 192
    · exact ss_all_ok ss_k_tri2 n (by omega) (by omega)
    by_cases h3 : n < 256
    · exact ss_all_ok ss_k_tri3 n (by omega) (by omega)
    by_cases h4 : n < 320
    · exact ss_all_ok ss_k_tri4 n (by omega) (by omega)
    by_cases h5 : n < 384
    · exact ss_all_ok ss_k_tri5 n (by omega) (by omega)
    by_cases h6 : n < 448
    · exact ss_all_ok ss_k_tri6 n (by omega) (by omega)
    exact ss_all_ok ss_k_tri7 n (by omega) (by omega)
  have e := ss_beq e
  rw [ss_F_eq] at e
  exact e
theorem ss_p_3 {n : Nat} (h : n < 512) : ss_S (ss_m3 n) 45 = ss_x3 n := ss_beq (ss_all_ok ss_k_3 n (Nat.zero_le n) (by omega))
theorem ss_p_4 {n : Nat} (h : n < 512) : ss_S (ss_m4 n) (n + 1) = ss_x4 n := by
  by_cases h0 : n < 128
  · exact ss_beq (ss_all_ok ss_k_40 n (by omega) (by omega))
  by_cases h1 : n < 256
  · exact ss_beq (ss_all_ok ss_k_41 n (by omega) (by omega))
  by_cases h2 : n < 384
  · exact ss_beq (ss_all_ok ss_k_42 n (by omega) (by omega))
  exact ss_beq (ss_all_ok ss_k_43 n (by omega) (by omega))
theorem ss_p_few {n : Nat} (h : n < 512) : ss_mfew n = ss_few n := ss_beq (ss_all_ok ss_k_few n (Nat.zero_le n) (by omega))
end
section
/-! small rows of this claim: a top of the stack renamed, sums and differences of small numbers -/
set_option maxRecDepth 100000
section SSR
variable {p : Program} {l : Launch} {e : Env} {R : Room} {s : State} {m : MethodId} {args : Array Value} {below : List Frame} {meth : Method} {c : Code} {H : Heap} {locs : List Loc} {cells slots : Nat} {Q : State → Prop}
variable {pc : Nat} {ls : Array Slot} {rest : List Value}
theorem ss_top {x y : Int32} (h : x = y) (k : W p l e R s m args below meth c H locs cells slots Q (F0 m pc ls (.int y :: rest))) : W p l e R s m args below meth c H locs cells slots Q (F0 m pc ls (.int x :: rest)) := by
  rw [h]
  exact k
end SSR
theorem ss_z {n : Nat} (hn : n < 2 ^ 31) : nI n = 0 ↔ n = 0 := by
  constructor
  · intro h
    rcases Nat.eq_zero_or_pos n with q | q
    · exact q
    · exact absurd h (nI_ne0 q hn)
  · intro h
    rw [h]
    exact nI_0
theorem ss_inc (a : Nat) : nI a + Int32.ofInt 1 = nI (a + 1) := nI_1 a
theorem ss_s1 (S k : Nat) : nI S - nI k = nI (S + 1) - nI (k + 1) := by
  rw [← nI_1, ← nI_1]
  grind
theorem ss_s2 (S k : Nat) : nI S - nI k + Int32.ofInt 1 = nI (S + 2) - nI (k + 1) := by
  have h : nI (S + 2) = nI S + 1 + 1 := by rw [nI_1, nI_1]
  have h1 : Int32.ofInt 1 = 1 := by decide
  rw [h, h1, ← nI_1 k]
  grind
theorem ss_s3 (S k : Nat) : nI S - nI k + Int32.ofInt (-1) = nI (S + 0) - nI (k + 1) := by
  have h1 : Int32.ofInt (-1) = -1 := by decide
  rw [h1, ← nI_1 k, Nat.add_zero]
  grind
theorem ss_i22 (i : Nat) : nI i - nI 22 + Int32.ofInt 1 = nI (i + 1) - nI 22 := by
  have h1 : Int32.ofInt 1 = 1 := by decide
  rw [h1, ← nI_1 i]
  grind
theorem ss_q22 : ∀ i, i < 46 → (nI i - nI 22) * (nI i - nI 22) = nI (ss_a2 i) := by decide +kernel
theorem ss_g22 : ∀ i, i < 46 → (nI 22 < nI i - nI 22 ↔ 45 ≤ i) := by decide +kernel
theorem ss_b22 : ∀ i, i < 46 → ss_a2 i ≤ 529 := by decide +kernel
theorem ss_pr {c m t : Nat} (h : 4 * c = 4 * m + t) : nI 4 * (nI c - nI m) = nI t := by
  have e : nI 4 * nI c = nI 4 * nI m + nI t := by rw [pk_mul, pk_mul, nI_add, h]
  grind
theorem ss_dif {c m t : Nat} (h : c = m + t) : nI c - nI m = nI t := by
  rw [h, ← nI_add]
  grind
theorem ss_r23 {r n : Nat} (h : r * r ≤ n) (hn : n < 512) : r ≤ 22 := by
  rcases Nat.lt_or_ge r 23 with q | q
  · omega
  · have := Nat.mul_le_mul q q
    omega
/-! the terms of the plain sums, case by case -/
theorem ss_w_no {m k : Nat} (h : m % (k + 1) ≠ 0) : ss_w m k = 1 := (ss_ceq _ _ _ _).trans (if_neg h)
theorem ss_w_1 {m k : Nat} (h : m % (k + 1) = 0) (h1 : (k + 1) % 4 = 1) : ss_w m k = 2 := ((ss_ceq _ _ _ _).trans (if_pos h)).trans ((ss_ceq _ _ _ _).trans (if_pos h1))
theorem ss_w_3 {m k : Nat} (h : m % (k + 1) = 0) (h1 : (k + 1) % 4 = 3) : ss_w m k = 0 := ((ss_ceq _ _ _ _).trans (if_pos h)).trans (((ss_ceq _ _ _ _).trans (if_neg (fun q => by have q : (k + 1) % 4 = 1 := q; omega))).trans ((ss_ceq _ _ _ _).trans (if_pos h1)))
theorem ss_w_0 {m k : Nat} (h : m % (k + 1) = 0) (h1 : ¬ (k + 1) % 4 = 1) (h3 : ¬ (k + 1) % 4 = 3) : ss_w m k = 1 := ((ss_ceq _ _ _ _).trans (if_pos h)).trans (((ss_ceq _ _ _ _).trans (if_neg h1)).trans ((ss_ceq _ _ _ _).trans (if_neg h3)))
theorem ss_t3_in {n j : Nat} (h : (j + 1) * (j + 1) ≤ n) : ss_t3 n j = 2 * ss_tw (n - (j + 1) * (j + 1)) := (ss_cle _ _ _ _).trans (if_pos h)
theorem ss_t3_out {n j : Nat} (h : ¬ (j + 1) * (j + 1) ≤ n) : ss_t3 n j = 0 := (ss_cle _ _ _ _).trans (if_neg h)
theorem ss_m3_in {n i : Nat} (h : ss_a2 i ≤ n) : ss_m3 n i = ss_tw (n - ss_a2 i) := (ss_cle _ _ _ _).trans (if_pos h)
theorem ss_m3_out {n i : Nat} (h : ¬ ss_a2 i ≤ n) : ss_m3 n i = 0 := (ss_cle _ _ _ _).trans (if_neg h)
theorem ss_on_in {n i : Nat} (h : ss_a2 i ≤ n) : ss_on n i = ss_ones (n - ss_a2 i) := (ss_cle _ _ _ _).trans (if_pos h)
theorem ss_on_out {n i : Nat} (h : ¬ ss_a2 i ≤ n) : ss_on n i = 0 := (ss_cle _ _ _ _).trans (if_neg h)
theorem ss_t4_no {n j : Nat} (h : n % (j + 1) ≠ 0) : ss_t4 n j = 0 := (ss_ceq _ _ _ _).trans (if_neg h)
theorem ss_t4_0 {n j : Nat} (h : n % (j + 1) = 0) (h1 : (j + 1) % 4 = 0) : ss_t4 n j = 0 := ((ss_ceq _ _ _ _).trans (if_pos h)).trans ((ss_ceq _ _ _ _).trans (if_pos h1))
theorem ss_t4_1 {n j : Nat} (h : n % (j + 1) = 0) (h1 : ¬ (j + 1) % 4 = 0) : ss_t4 n j = j + 1 := ((ss_ceq _ _ _ _).trans (if_pos h)).trans ((ss_ceq _ _ _ _).trans (if_neg h1))
theorem ss_ones_0 : ss_ones 0 = 1 := rfl
theorem ss_ones_p {v : Nat} (h : v ≠ 0) : ss_ones v = 2 * ss_sq v := (ss_ceq _ _ _ _).trans (if_neg h)
theorem ss_x4_0 : ss_x4 0 = 1 := rfl
theorem ss_x4_p {n : Nat} (h : n ≠ 0) : ss_x4 n = 8 * ss_S (ss_t4 n) n := (ss_ceq _ _ _ _).trans (if_neg h)
theorem ss_tw_0 : ss_tw 0 = 1 := by decide +kernel
theorem ss_few_0 : ss_few 0 = 0 := rfl
theorem ss_few_1 {n : Nat} (h : n ≠ 0) (h1 : ss_sq n = 1) : ss_few n = 1 := ((ss_ceq _ _ _ _).trans (if_neg h)).trans ((ss_ceq _ _ _ _).trans (if_pos h1))
theorem ss_few_2 {n : Nat} (h : n ≠ 0) (h1 : ss_sq n ≠ 1) (h2 : 1 ≤ ss_tw n) : ss_few n = 2 := ((ss_ceq _ _ _ _).trans (if_neg h)).trans (((ss_ceq _ _ _ _).trans (if_neg h1)).trans ((ss_cle _ _ _ _).trans (if_pos h2)))
theorem ss_few_4 {n : Nat} (h : n ≠ 0) (h1 : ss_sq n ≠ 1) (h2 : ¬ 1 ≤ ss_tw n) (h3 : ss_st 5 n % 8 = 7) : ss_few n = 4 := ((ss_ceq _ _ _ _).trans (if_neg h)).trans (((ss_ceq _ _ _ _).trans (if_neg h1)).trans (((ss_cle _ _ _ _).trans (if_neg h2)).trans ((ss_ceq _ _ _ _).trans (if_pos h3))))
theorem ss_few_3 {n : Nat} (h : n ≠ 0) (h1 : ss_sq n ≠ 1) (h2 : ¬ 1 ≤ ss_tw n) (h3 : ¬ ss_st 5 n % 8 = 7) : ss_few n = 3 := ((ss_ceq _ _ _ _).trans (if_neg h)).trans (((ss_ceq _ _ _ _).trans (if_neg h1)).trans (((ss_cle _ _ _ _).trans (if_neg h2)).trans ((ss_ceq _ _ _ _).trans (if_neg h3))))
theorem ss_mfew_0 : ss_mfew 0 = 0 := rfl
theorem ss_mfew_1 {n : Nat} (h : n ≠ 0) (h1 : 1 ≤ ss_ones n) : ss_mfew n = 1 := ((ss_ceq _ _ _ _).trans (if_neg h)).trans ((ss_cle _ _ _ _).trans (if_pos h1))
theorem ss_mfew_2 {n : Nat} (h : n ≠ 0) (h1 : ¬ 1 ≤ ss_ones n) (h2 : 1 ≤ ss_tw n) : ss_mfew n = 2 := ((ss_ceq _ _ _ _).trans (if_neg h)).trans (((ss_cle _ _ _ _).trans (if_neg h1)).trans ((ss_cle _ _ _ _).trans (if_pos h2)))
theorem ss_mfew_3 {n : Nat} (h : n ≠ 0) (h1 : ¬ 1 ≤ ss_ones n) (h2 : ¬ 1 ≤ ss_tw n) (h3 : 1 ≤ ss_S (ss_m3 n) 45) : ss_mfew n = 3 := ((ss_ceq _ _ _ _).trans (if_neg h)).trans (((ss_cle _ _ _ _).trans (if_neg h1)).trans (((ss_cle _ _ _ _).trans (if_neg h2)).trans ((ss_cle _ _ _ _).trans (if_pos h3))))
theorem ss_mfew_4 {n : Nat} (h : n ≠ 0) (h1 : ¬ 1 ≤ ss_ones n) (h2 : ¬ 1 ≤ ss_tw n) (h3 : ¬ 1 ≤ ss_S (ss_m3 n) 45) : ss_mfew n = 4 := ((ss_ceq _ _ _ _).trans (if_neg h)).trans (((ss_cle _ _ _ _).trans (if_neg h1)).trans (((ss_cle _ _ _ _).trans (if_neg h2)).trans ((ss_cle _ _ _ _).trans (if_neg h3))))
theorem ss_st_0 {f k : Nat} (h : k % 4 = 0) : ss_st (f + 1) k = ss_st f (k / 4) := (ss_ceq _ _ _ _).trans (if_pos h)
theorem ss_st_1 {f k : Nat} (h : ¬ k % 4 = 0) : ss_st (f + 1) k = k := (ss_ceq _ _ _ _).trans (if_neg h)
/-! bounds: every answer is small -/
theorem ss_tw_le (v : Nat) : ss_tw v < 256 := Nat.mod_lt _ (by decide)
theorem ss_sq_01 (v : Nat) : ss_sq v < 2 := Nat.mod_lt _ (by decide)
theorem ss_tr_01 (v : Nat) : ss_tr v < 2 := Nat.mod_lt _ (by decide)
theorem ss_S_le {f : Nat → Nat} {b : Nat} (h : ∀ k, f k ≤ b) (n : Nat) : ss_S f n ≤ n * b := by
  induction n with
  | zero => exact Nat.zero_le _
  | succ n ih =>
    rw [ss_S_s, Nat.succ_mul]
    exact Nat.add_le_add ih (h n)
theorem ss_m3_le (n i : Nat) : ss_m3 n i ≤ 255 := by
  by_cases h : ss_a2 i ≤ n
  · rw [ss_m3_in h]
    have := ss_tw_le (n - ss_a2 i)
    omega
  · rw [ss_m3_out h]
    exact Nat.zero_le _
theorem ss_m3_b (n : Nat) : ss_S (ss_m3 n) 45 < 2 ^ 31 := Nat.lt_of_le_of_lt (ss_S_le (ss_m3_le n) 45) (by decide)
/-! triangles -/
theorem ss_tt_mono {a b : Nat} (h : a ≤ b) : ss_tt a ≤ ss_tt b := Nat.div_le_div_right (Nat.mul_le_mul h (Nat.add_le_add_right h 1))
theorem ss_tt_le : ∀ a, a < 34 → ss_tt a ≤ 561 := by decide +kernel
theorem ss_tt_32 {a n : Nat} (h : ss_tt a ≤ n) (hn : n < 512) : a < 32 := by
  rcases Nat.lt_or_ge a 32 with q | q
  · exact q
  · have h1 := ss_tt_mono q
    have h2 : ss_tt 32 = 528 := by decide
    omega
/-- 1 where the a-th and the b-th triangle make n -/
def ss_ce (n a b : Nat) : Nat := cond (Nat.beq (ss_tt a + ss_tt b) n) 1 0
theorem ss_ce_1 {n a b : Nat} (h : ss_tt a + ss_tt b = n) : ss_ce n a b = 1 := (ss_ceq _ _ _ _).trans (if_pos h)
theorem ss_ce_0 {n a b : Nat} (h : ¬ ss_tt a + ss_tt b = n) : ss_ce n a b = 0 := (ss_ceq _ _ _ _).trans (if_neg h)
theorem ss_row_eq {n a : Nat} (hn : n < 512) : ss_S (ss_ce n a) 32 = ss_row n a := by
  by_cases h : ss_tt a ≤ n
  · have e : ss_row n a = ss_tr (n - ss_tt a) := (ss_cle _ _ _ _).trans (if_pos h)
    rw [e, ss_p_tr (by omega)]
    refine ss_S_ext 32 (fun b _ => ?_)
    by_cases hb : ss_tt a + ss_tt b = n
    · rw [ss_ce_1 hb, ss_ceq, if_pos (by omega)]
    · rw [ss_ce_0 hb, ss_ceq, if_neg (by omega)]
  · have e : ss_row n a = 0 := (ss_cle _ _ _ _).trans (if_neg h)
    rw [e]
    exact ss_S_cut' (f := ss_ce n a) (a := 0) (b := 32) (by omega) (fun b _ _ => ss_ce_0 (by omega))
theorem ss_row_out {n a : Nat} (h : ¬ ss_tt a ≤ n) : ss_row n a = 0 := (ss_cle _ _ _ _).trans (if_neg h)
end
section
/-! SquareSums: its contracts -/
set_option maxRecDepth 100000
abbrev vwCl : List vw_C := [(RX0, TX0, 1), (RX1, TX1, 3)]
abbrev wsX0_characters : List Cond := ws_ yX0_characters cX0_characters 4 (some .int)
set_option maxHeartbeats 4000000 in
set_option maxRecDepth 100000 in
/-- characters(m): the sum of the characters of the divisors of m -/
theorem met_characters (l : Launch) (m0 : Nat) (hm : m0 < 2048) : Met l yX0_characters wsX0_characters ({ frames := 0, cells := 0, slots := 0, locals := 0 }) (va_Pc [.int (nI m0)] (fun _ => True)) (vp_Si (fun r => r = nI (ss_ch m0) - nI m0)) 0 0 (fun _ => False) := by
  refine Met.ofW (cc := cX0_characters) (maxL := 4) (ret := (some .int)) (by decide) rfl ?_
  intro p e s m args below meth c s₁ B hml hv
  obtain ⟨rfl, -⟩ := hv
  have hx := B.exec
  have hb := B.bytes
  have hr := B.returns
  have hts := atoms_spec (ws := wsX0_characters) B.pre
  have hts : ∀ w ∈ lw_all, w.before _ s = true := fun w h => hts w (List.mem_cons_of_mem _ h)
  have hown : s.vm.findClass RX0 = some m.cls := findClass_of_methodNamed B.named
  have hlocks := B.notSynchronized
  have hl := lv_entry ([.int (nI m0)]) (n := 4) (Nat.le_of_ble_eq_true rfl)
  rw [lg_entry_eq]
  generalize (lg_sl ([.int (nI m0)]) ++ List.replicate (4 - (lg_sl ([.int (nI m0)])).length) Slot.unset).toArray = ls at hl ⊢
  have hl : lv_has ls 4 [(0, .int (nI m0))] := hl
  refine lv_iconst (v := nI 0) hx hb dX0_characters_0 (by decide) ?_
  refine lv_istore_n (lv' := [(1, .int (nI 0)), (0, .int (nI m0))]) hx hb dX0_characters_1 rfl hl (by decide) rfl (fun ls hl => ?_)
  refine lv_iconst (v := nI 1) hx hb dX0_characters_2 (by decide) ?_
  refine lv_istore_n (lv' := [(2, .int (nI 1)), (1, .int (nI 0)), (0, .int (nI m0))]) hx hb dX0_characters_3 rfl hl (by decide) rfl (fun ls hl => ?_)
  have loop : ∀ (f k : Nat) (x1 : Int32), x1 = nI (ss_S (ss_w m0) k) - nI k → k ≤ m0 → m0 + 1 ≤ k + f → ∀ ls : Array Slot, lv_has ls 4 [(0, .int (nI m0)), (1, .int x1), (2, .int (nI (k + 1)))] → W p l e (headSpec wsX0_characters ({ frames := 0, cells := 0, slots := 0, locals := 0 })).room s m ([.int (nI m0)] : List Value).toArray below meth c s.heap [] 0 0 (MQ below (vp_Si (fun r => r = nI (ss_ch m0) - nI m0)) ([.int (nI m0)] : List Value).toArray s 0 0 (fun _ => False)) (F0 m 4 ls []) := by
    intro f
    induction f with
    | zero => intro k x1 _ h1 h2; exact absurd h2 (by omega)
    | succ f ih =>
      intro k x1 ex1 hk hf ls hl
      subst ex1
      have tail : ∀ (x1 : Int32) (ls : Array Slot), k + 1 ≤ m0 → x1 = nI (ss_S (ss_w m0) (k + 1)) - nI (k + 1) → lv_has ls 4 [(0, .int (nI m0)), (1, .int (x1)), (2, .int (nI (k + 1)))] → W p l e (headSpec wsX0_characters ({ frames := 0, cells := 0, slots := 0, locals := 0 })).room s m ([.int (nI m0)] : List Value).toArray below meth c s.heap [] 0 0 (MQ below (vp_Si (fun r => r = nI (ss_ch m0) - nI m0)) ([.int (nI m0)] : List Value).toArray s 0 0 (fun _ => False)) (F0 m 38 ls []) := by
        intro x1 ls hk2 ex1 hl
        subst ex1
        refine lv_iinc (v := nI (k + 1 + 1)) (lv' := [(2, .int (nI (k + 1 + 1))), (0, .int (nI m0)), (1, .int (nI (ss_S (ss_w m0) (k + 1)) - nI (k + 1)))]) hx hb dX0_characters_38 hl (k := 2) rfl (ss_inc (k + 1)) (by decide) rfl (fun ls hl => ?_)
        refine lv_goto (tgt := 4) hx hb dX0_characters_41 (by decide) ?_
        exact ih (k + 1) _ rfl hk2 (by omega) ls (lv_sub hl [1, 2, 0] rfl)
      refine lv_iload_n hx hb dX0_characters_4 rfl (lv_at hl 2 rfl) ?_
      refine lv_iload_n hx hb dX0_characters_5 rfl (lv_at hl 0 rfl) ?_
      refine lv_icmp_gt (tgt := 44) hx hb dX0_characters_6 (by decide) (fun hc => ?_) (fun hc => ?_)
      · skip
        have hk2 : k = m0 := by have := (nI_ltI (by omega) (by omega)).mp hc; omega
        refine lv_iload_n hx hb dX0_characters_44 rfl (lv_at hl 1 rfl) ?_
        exact W.iret (v := nI (ss_S (ss_w m0) k) - nI k) hx hb hr (fun t ht hW => ⟨_, rfl, by rw [hk2]; rfl, ht⟩) (fun q h => by cases h) dX0_characters_45
      · skip
        have hk2 : k + 1 ≤ m0 := by have := mt (nI_ltI (by omega) (by omega)).mpr hc; omega
        refine lv_iload_n hx hb dX0_characters_9 rfl (lv_at hl 0 rfl) ?_
        refine lv_iload_n hx hb dX0_characters_10 rfl (lv_at hl 2 rfl) ?_
        refine lv_irem hx hb dX0_characters_11 (nI_ne0 (by omega) (by omega)) ?_
        refine ss_top (y := nI (m0 % (k + 1))) (pk_rem (by omega) (by omega) (by omega)) ?_
        have hmd : m0 % (k + 1) < 2 ^ 31 := Nat.lt_of_lt_of_le (Nat.mod_lt _ (by omega)) (by omega)
        refine lv_if_eq (tgt := 18) hx hb dX0_characters_12 (by decide) (fun hc => ?_) (fun hc => ?_)
        · skip
          have hd : m0 % (k + 1) = 0 := (ss_z hmd).mp hc
          refine lv_iload_n hx hb dX0_characters_18 rfl (lv_at hl 2 rfl) ?_
          refine lv_iconst (v := nI 3) hx hb dX0_characters_19 (by decide) ?_
          refine lv_iand hx hb dX0_characters_20 ?_
          refine ss_top (y := nI ((k + 1) % 4)) (pk_andN (by omega) 2 (by decide)) ?_
          refine lv_istore_n (lv' := [(3, .int (nI ((k + 1) % 4))), (0, .int (nI m0)), (1, .int (nI (ss_S (ss_w m0) k) - nI k)), (2, .int (nI (k + 1)))]) hx hb dX0_characters_21 rfl hl (by decide) rfl (fun ls hl => ?_)
          refine lv_iload_n hx hb dX0_characters_22 rfl (lv_at hl 0 rfl) ?_
          refine lv_iconst (v := nI 1) hx hb dX0_characters_23 (by decide) ?_
          have h4 : (k + 1) % 4 < 4 := Nat.mod_lt _ (by decide)
          refine lv_icmp_ne (tgt := 30) hx hb dX0_characters_24 (by decide) (fun hc1 => ?_) (fun hc1 => ?_)
          · skip
            have h1 : ¬ (k + 1) % 4 = 1 := mt (nI_eq (by omega) (by omega)).mpr hc1
            refine lv_iload_n hx hb dX0_characters_30 rfl (lv_at hl 0 rfl) ?_
            refine lv_iconst (v := nI 3) hx hb dX0_characters_31 (by decide) ?_
            refine lv_icmp_ne (tgt := 38) hx hb dX0_characters_32 (by decide) (fun hc3 => ?_) (fun hc3 => ?_)
            · skip
              have h3 : ¬ (k + 1) % 4 = 3 := mt (nI_eq (by omega) (by omega)).mpr hc3
              exact tail _ ls hk2 (by rw [ss_S_s, ss_w_0 hd h1 h3]; exact ss_s1 _ _) (lv_sub hl [1, 2, 3] rfl)
            · skip
              have h3 : (k + 1) % 4 = 3 := (nI_eq (by omega) (by omega)).mp hc3
              refine lv_iinc (v := nI (ss_S (ss_w m0) k) - nI k + Int32.ofInt (-1)) (lv' := [(1, .int (nI (ss_S (ss_w m0) k) - nI k + Int32.ofInt (-1))), (3, .int (nI ((k + 1) % 4))), (0, .int (nI m0)), (2, .int (nI (k + 1)))]) hx hb dX0_characters_35 hl (k := 2) rfl (rfl) (by decide) rfl (fun ls hl => ?_)
              exact tail _ ls hk2 (by rw [ss_S_s, ss_w_3 hd h3]; exact ss_s3 _ _) (lv_sub hl [2, 0, 3] rfl)
          · skip
            have h1 : (k + 1) % 4 = 1 := (nI_eq (by omega) (by omega)).mp hc1
            refine lv_iinc (v := nI (ss_S (ss_w m0) k) - nI k + Int32.ofInt 1) (lv' := [(1, .int (nI (ss_S (ss_w m0) k) - nI k + Int32.ofInt 1)), (3, .int (nI ((k + 1) % 4))), (0, .int (nI m0)), (2, .int (nI (k + 1)))]) hx hb dX0_characters_27 hl (k := 2) rfl (rfl) (by decide) rfl (fun ls hl => ?_)
            refine lv_iload_n hx hb dX0_characters_30 rfl (lv_at hl 1 rfl) ?_
            refine lv_iconst (v := nI 3) hx hb dX0_characters_31 (by decide) ?_
            refine lv_icmp_ne (tgt := 38) hx hb dX0_characters_32 (by decide) (fun hc3 => ?_) (fun hc3 => ?_)
            · skip
              exact tail _ ls hk2 (by rw [ss_S_s, ss_w_1 hd h1]; exact ss_s2 _ _) (lv_sub hl [2, 0, 3] rfl)
            · skip
              have h3 : (k + 1) % 4 = 3 := (nI_eq (by omega) (by omega)).mp hc3
              exact absurd h1 (by omega)
        · skip
          have hd : m0 % (k + 1) ≠ 0 := mt (ss_z hmd).mpr hc
          refine lv_goto (tgt := 38) hx hb dX0_characters_15 (by decide) ?_
          exact tail _ ls hk2 (by rw [ss_S_s, ss_w_no hd]; exact ss_s1 _ _) (lv_sub hl [0, 1, 2] rfl)
  exact loop (m0 + 1) 0 (nI 0) (by rw [ss_S_0]; decide) (Nat.zero_le m0) (by omega) ls (lv_sub hl [2, 1, 0] rfl)
abbrev wsX0_pairs : List Cond := ws_ yX0_pairs cX0_pairs 1 (some .int)
set_option maxHeartbeats 4000000 in
set_option maxRecDepth 100000 in
/-- pairs(m) -/
theorem met_pairs (l : Launch) (m0 : Nat) (hm : m0 < 512) : Met l yX0_pairs wsX0_pairs ({ frames := 1, cells := 0, slots := 0, locals := 23 }) (va_Pc [.int (nI m0)] (fun _ => True)) (vp_Si (fun r => r = nI (ss_tw m0))) 0 0 (fun _ => False) := by
  refine Met.ofW (cc := cX0_pairs) (maxL := 1) (ret := (some .int)) (by decide) rfl ?_
  intro p e s m args below meth c s₁ B hml hv
  obtain ⟨rfl, -⟩ := hv
  have hx := B.exec
  have hb := B.bytes
  have hr := B.returns
  have hts := atoms_spec (ws := wsX0_pairs) B.pre
  have hts : ∀ w ∈ lw_all, w.before _ s = true := fun w h => hts w (List.mem_cons_of_mem _ h)
  have hown : s.vm.findClass RX0 = some m.cls := findClass_of_methodNamed B.named
  have hlocks := B.notSynchronized
  have hl := lv_entry ([.int (nI m0)]) (n := 1) (Nat.le_of_ble_eq_true rfl)
  rw [lg_entry_eq]
  generalize (lg_sl ([.int (nI m0)]) ++ List.replicate (1 - (lg_sl ([.int (nI m0)])).length) Slot.unset).toArray = ls at hl ⊢
  have hl : lv_has ls 1 [(0, .int (nI m0))] := hl
  refine lv_iload_n hx hb dX0_pairs_0 rfl (lv_at hl 0 rfl) ?_
  refine lv_if_ne (tgt := 8) hx hb dX0_pairs_1 (by decide) (fun hc => ?_) (fun hc => ?_)
  · skip
    have h0 : m0 ≠ 0 := mt (ss_z (by omega)).mpr hc
    refine lv_iconst (v := nI 4) hx hb dX0_pairs_8 (by decide) ?_
    refine lv_iload_n hx hb dX0_pairs_9 rfl (lv_at hl 0 rfl) ?_
    refine vp_callSi (W.runS (As := [.int (nI m0)]) (rest := [.int (nI 4)]) ⟨hx, hb, hml, hown, hts⟩ (met_characters l m0 (by omega)) (va_cwS 1 hts (lw_S q34 q35 q2 q36) rfl rfl rfl (by decide +kernel) ⟨Nat.le_of_ble_eq_true rfl, Nat.le_of_ble_eq_true rfl⟩) ⟨fun a U g mk q => q, fun U hU hW => ⟨rfl, trivial⟩⟩ rfl rfl hl.1 rfl (lv_room (Nat.le_of_ble_eq_true rfl)) dX0_pairs_10 ⟨Nat.le_of_ble_eq_true rfl, Nat.le_of_ble_eq_true rfl⟩) (fun rr hq => ?_)
    obtain rfl : rr = nI (ss_ch m0) - nI m0 := hq
    refine lv_imul hx hb dX0_pairs_13 ?_
    refine ss_top (y := nI (ss_tw m0)) (ss_pr (ss_p_ch (by omega) hm)) ?_
    exact W.iret (v := nI (ss_tw m0)) hx hb hr (fun t ht hW => ⟨_, rfl, rfl, ht⟩) (fun q h => by cases h) dX0_pairs_14
  · skip
    have h0 : m0 = 0 := (ss_z (by omega)).mp hc
    refine lv_iconst (v := nI 1) hx hb dX0_pairs_4 (by decide) ?_
    refine lv_goto (tgt := 14) hx hb dX0_pairs_5 (by decide) ?_
    exact W.iret (v := nI 1) hx hb hr (fun t ht hW => ⟨_, rfl, by rw [h0, ss_tw_0], ht⟩) (fun q h => by cases h) dX0_pairs_14
abbrev wsX0_isSquare : List Cond := ws_ yX0_isSquare cX0_isSquare 2 (some .boolean)
set_option maxHeartbeats 4000000 in
set_option maxRecDepth 100000 in
/-- isSquare(m) -/
theorem met_isSquare (l : Launch) (m0 : Nat) (hm : m0 < 512) : Met l yX0_isSquare wsX0_isSquare ({ frames := 0, cells := 0, slots := 0, locals := 0 }) (va_Pc [.int (nI m0)] (fun _ => True)) (vp_Si (fun r => r = nI (ss_sq m0))) 0 0 (fun _ => False) := by
  refine Met.ofW (cc := cX0_isSquare) (maxL := 2) (ret := (some .boolean)) (by decide) rfl ?_
  intro p e s m args below meth c s₁ B hml hv
  obtain ⟨rfl, -⟩ := hv
  have hx := B.exec
  have hb := B.bytes
  have hr := B.returns
  have hts := atoms_spec (ws := wsX0_isSquare) B.pre
  have hts : ∀ w ∈ lw_all, w.before _ s = true := fun w h => hts w (List.mem_cons_of_mem _ h)
  have hown : s.vm.findClass RX0 = some m.cls := findClass_of_methodNamed B.named
  have hlocks := B.notSynchronized
  have hl := lv_entry ([.int (nI m0)]) (n := 2) (Nat.le_of_ble_eq_true rfl)
  rw [lg_entry_eq]
  generalize (lg_sl ([.int (nI m0)]) ++ List.replicate (2 - (lg_sl ([.int (nI m0)])).length) Slot.unset).toArray = ls at hl ⊢
  have hl : lv_has ls 2 [(0, .int (nI m0))] := hl
  refine lv_iconst (v := nI 0) hx hb dX0_isSquare_0 (by decide) ?_
  refine lv_istore_n (lv' := [(1, .int (nI 0)), (0, .int (nI m0))]) hx hb dX0_isSquare_1 rfl hl (by decide) rfl (fun ls hl => ?_)
  have loop : ∀ (f r : Nat), r * r ≤ m0 → 23 ≤ r + f → ∀ ls : Array Slot, lv_has ls 2 [(0, .int (nI m0)), (1, .int (nI r))] → W p l e (headSpec wsX0_isSquare ({ frames := 0, cells := 0, slots := 0, locals := 0 })).room s m ([.int (nI m0)] : List Value).toArray below meth c s.heap [] 0 0 (MQ below (vp_Si (fun r => r = nI (ss_sq m0))) ([.int (nI m0)] : List Value).toArray s 0 0 (fun _ => False)) (F0 m 2 ls []) := by
    intro f
    induction f with
    | zero => intro r h1 h2; exact absurd (ss_r23 h1 hm) (by omega)
    | succ f ih =>
      intro r hk hf ls hl
      have hr22 := ss_r23 hk hm
      have hb1 : (r + 1) * (r + 1) ≤ 23 * 23 := Nat.mul_le_mul (by omega) (by omega)
      refine lv_iload_n hx hb dX0_isSquare_2 rfl (lv_at hl 1 rfl) ?_
      refine lv_iconst (v := nI 1) hx hb dX0_isSquare_3 (by decide) ?_
      refine lv_iadd hx hb dX0_isSquare_4 ?_
      refine ss_top (y := nI (r + 1)) (nI_add (r) (1)) ?_
      refine lv_iload_n hx hb dX0_isSquare_5 rfl (lv_at hl 1 rfl) ?_
      refine lv_iconst (v := nI 1) hx hb dX0_isSquare_6 (by decide) ?_
      refine lv_iadd hx hb dX0_isSquare_7 ?_
      refine ss_top (y := nI (r + 1)) (nI_add (r) (1)) ?_
      refine lv_imul hx hb dX0_isSquare_8 ?_
      refine ss_top (y := nI ((r + 1) * (r + 1))) (pk_mul ((r + 1)) ((r + 1))) ?_
      refine lv_iload_n hx hb dX0_isSquare_9 rfl (lv_at hl 0 rfl) ?_
      refine lv_icmp_gt (tgt := 19) hx hb dX0_isSquare_10 (by decide) (fun hc => ?_) (fun hc => ?_)
      · skip
        have hk2 : m0 < (r + 1) * (r + 1) := (nI_ltI (by omega) (by omega)).mp hc
        refine lv_iload_n hx hb dX0_isSquare_19 rfl (lv_at hl 1 rfl) ?_
        refine lv_iload_n hx hb dX0_isSquare_20 rfl (lv_at hl 1 rfl) ?_
        refine lv_imul hx hb dX0_isSquare_21 ?_
        refine ss_top (y := nI (r * r)) (pk_mul (r) (r)) ?_
        refine lv_iload_n hx hb dX0_isSquare_22 rfl (lv_at hl 0 rfl) ?_
        refine lv_icmp_ne (tgt := 30) hx hb dX0_isSquare_23 (by decide) (fun hc2 => ?_) (fun hc2 => ?_)
        · skip
          have hne : r * r ≠ m0 := mt (nI_eq (by omega) (by omega)).mpr hc2
          refine lv_iconst (v := nI 0) hx hb dX0_isSquare_30 (by decide) ?_
          have hsq : ss_sq m0 = 0 := ss_p_sq0 hm (fun q hq => by
            rcases Nat.lt_or_ge q (r + 1) with h1 | h1
            · have h2 := Nat.mul_le_mul (Nat.le_of_lt_succ h1) (Nat.le_of_lt_succ h1)
              omega
            · have h2 := Nat.mul_le_mul h1 h1
              omega)
          exact W.zret (v := nI 0) hx hb hr rfl (fun t ht hW => ⟨_, rfl, by rw [hsq], ht⟩) (fun q h => by cases h) dX0_isSquare_31
        · skip
          have heq : r * r = m0 := (nI_eq (by omega) (by omega)).mp hc2
          have hsq : ss_sq m0 = 1 := by rw [← heq]; exact ss_p_sqr (by omega)
          refine lv_iconst (v := nI 1) hx hb dX0_isSquare_26 (by decide) ?_
          refine lv_goto (tgt := 31) hx hb dX0_isSquare_27 (by decide) ?_
          exact W.zret (v := nI 1) hx hb hr rfl (fun t ht hW => ⟨_, rfl, by rw [hsq], ht⟩) (fun q h => by cases h) dX0_isSquare_31
      · skip
        have hk2 : (r + 1) * (r + 1) ≤ m0 := by have := mt (nI_ltI (by omega) (by omega)).mpr hc; omega
        refine lv_iinc (v := nI (r + 1)) (lv' := [(1, .int (nI (r + 1))), (0, .int (nI m0))]) hx hb dX0_isSquare_13 hl (k := 1) rfl (ss_inc r) (by decide) rfl (fun ls hl => ?_)
        refine lv_goto (tgt := 2) hx hb dX0_isSquare_16 (by decide) ?_
        exact ih (r + 1) hk2 (by omega) ls (lv_sub hl [1, 0] rfl)
  exact loop 23 0 (by omega) (by omega) ls (lv_sub hl [1, 0] rfl)
abbrev wsX0_one : List Cond := ws_ yX0_one cX0_one 1 (some .int)
set_option maxHeartbeats 4000000 in
set_option maxRecDepth 100000 in
/-- one(): ways as one square -/
theorem met_one0 (l : Launch) (dC : Nat → ClassId) (dI : Nat → Nat → Nat) (o0 n : Nat) (hn : n < 512) : Met l yX0_one wsX0_one ({ frames := 1, cells := 0, slots := 0, locals := 21 }) (va_Pc [.ref o0] (fun U => va_P (dC, dI) vwCl [(o0, .inr (0, [.int (nI n)]))] U.heap ∧ va_K (dC, dI) vwCl [] U)) (vp_Si (fun r => r = nI (ss_ones n))) 0 0 (fun _ => False) := by
  refine Met.ofW (cc := cX0_one) (maxL := 1) (ret := (some .int)) (by decide) rfl ?_
  intro p e s m args below meth c s₁ B hml hv
  obtain ⟨rfl, hP, hK⟩ := hv
  have hx := B.exec
  have hb := B.bytes
  have hr := B.returns
  have hts := atoms_spec (ws := wsX0_one) B.pre
  have hts : ∀ w ∈ lw_all, w.before _ s = true := fun w h => hts w (List.mem_cons_of_mem _ h)
  have hown : s.vm.findClass RX0 = some m.cls := findClass_of_methodNamed B.named
  have hlocks := B.notSynchronized
  have hl := lv_entry ([.ref o0]) (n := 1) (Nat.le_of_ble_eq_true rfl)
  rw [lg_entry_eq]
  generalize (lg_sl ([.ref o0]) ++ List.replicate (1 - (lg_sl ([.ref o0])).length) Slot.unset).toArray = ls at hl ⊢
  have hl : lv_has ls 1 [(0, .ref o0)] := hl
  refine lv_aload_n hx hb dX0_one_0 rfl (lv_at hl 0 rfl) ?_
  refine va_get (D := (dC, dI)) (ci := 0) (v := .int (nI n)) (C := RX0) (T := TX0) (N := 1) hx hb hts in_X0 hown hK hP 0 rfl rfl 0 (by decide) (hts _ q12) (fun _ h9 => h9) rfl dX0_one_1 ?_
  refine lv_if_ne (tgt := 11) hx hb dX0_one_4 (by decide) (fun hc => ?_) (fun hc => ?_)
  · skip
    have h0 : n ≠ 0 := mt (ss_z (by omega)).mpr hc
    have h2 := ss_sq_01 n
    refine lv_aload_n hx hb dX0_one_11 rfl (lv_at hl 0 rfl) ?_
    refine va_get (D := (dC, dI)) (ci := 0) (v := .int (nI n)) (C := RX0) (T := TX0) (N := 1) hx hb hts in_X0 hown hK hP 0 rfl rfl 0 (by decide) (hts _ q12) (fun _ h9 => h9) rfl dX0_one_12 ?_
    refine vp_callSi (W.runS (As := [.int (nI n)]) (rest := []) ⟨hx, hb, hml, hown, hts⟩ (met_isSquare l n hn) (va_cwS 1 hts (lw_S q24 q25 q2 q26) rfl rfl rfl (by decide +kernel) ⟨Nat.le_of_ble_eq_true rfl, Nat.le_of_ble_eq_true rfl⟩) ⟨fun a U g mk q => q, fun U hU hW => ⟨rfl, trivial⟩⟩ rfl rfl hl.1 rfl (lv_room (Nat.le_of_ble_eq_true rfl)) dX0_one_15 ⟨Nat.le_of_ble_eq_true rfl, Nat.le_of_ble_eq_true rfl⟩) (fun rr hq => ?_)
    obtain rfl : rr = nI (ss_sq n) := hq
    refine lv_if_eq (tgt := 25) hx hb dX0_one_18 (by decide) (fun hc2 => ?_) (fun hc2 => ?_)
    · skip
      have hs : ss_sq n = 0 := (ss_z (by omega)).mp hc2
      refine lv_iconst (v := nI 0) hx hb dX0_one_25 (by decide) ?_
      exact W.iret (v := nI 0) hx hb hr (fun t ht hW => ⟨_, rfl, by rw [ss_ones_p h0, hs], ht⟩) (fun q h => by cases h) dX0_one_26
    · skip
      have hs : ss_sq n = 1 := by have := mt (ss_z (by omega)).mpr hc2; omega
      refine lv_iconst (v := nI 2) hx hb dX0_one_21 (by decide) ?_
      refine lv_goto (tgt := 26) hx hb dX0_one_22 (by decide) ?_
      exact W.iret (v := nI 2) hx hb hr (fun t ht hW => ⟨_, rfl, by rw [ss_ones_p h0, hs], ht⟩) (fun q h => by cases h) dX0_one_26
  · skip
    have h0 : n = 0 := (ss_z (by omega)).mp hc
    refine lv_iconst (v := nI 1) hx hb dX0_one_7 (by decide) ?_
    refine lv_goto (tgt := 26) hx hb dX0_one_8 (by decide) ?_
    exact W.iret (v := nI 1) hx hb hr (fun t ht hW => ⟨_, rfl, by rw [h0, ss_ones_0], ht⟩) (fun q h => by cases h) dX0_one_26
abbrev wsX0_two : List Cond := ws_ yX0_two cX0_two 1 (some .int)
set_option maxHeartbeats 4000000 in
set_option maxRecDepth 100000 in
/-- two() -/
theorem met_two0 (l : Launch) (dC : Nat → ClassId) (dI : Nat → Nat → Nat) (o0 n : Nat) (hn : n < 512) : Met l yX0_two wsX0_two ({ frames := 2, cells := 0, slots := 0, locals := 43 }) (va_Pc [.ref o0] (fun U => va_P (dC, dI) vwCl [(o0, .inr (0, [.int (nI n)]))] U.heap ∧ va_K (dC, dI) vwCl [] U)) (vp_Si (fun r => r = nI (ss_tw n))) 0 0 (fun _ => False) := by
  refine Met.ofW (cc := cX0_two) (maxL := 1) (ret := (some .int)) (by decide) rfl ?_
  intro p e s m args below meth c s₁ B hml hv
  obtain ⟨rfl, hP, hK⟩ := hv
  have hx := B.exec
  have hb := B.bytes
  have hr := B.returns
  have hts := atoms_spec (ws := wsX0_two) B.pre
  have hts : ∀ w ∈ lw_all, w.before _ s = true := fun w h => hts w (List.mem_cons_of_mem _ h)
  have hown : s.vm.findClass RX0 = some m.cls := findClass_of_methodNamed B.named
  have hlocks := B.notSynchronized
  have hl := lv_entry ([.ref o0]) (n := 1) (Nat.le_of_ble_eq_true rfl)
  rw [lg_entry_eq]
  generalize (lg_sl ([.ref o0]) ++ List.replicate (1 - (lg_sl ([.ref o0])).length) Slot.unset).toArray = ls at hl ⊢
  have hl : lv_has ls 1 [(0, .ref o0)] := hl
  refine lv_aload_n hx hb dX0_two_0 rfl (lv_at hl 0 rfl) ?_
  refine va_get (D := (dC, dI)) (ci := 0) (v := .int (nI n)) (C := RX0) (T := TX0) (N := 1) hx hb hts in_X0 hown hK hP 0 rfl rfl 0 (by decide) (hts _ q12) (fun _ h9 => h9) rfl dX0_two_1 ?_
  refine vp_callSi (W.runS (As := [.int (nI n)]) (rest := []) ⟨hx, hb, hml, hown, hts⟩ (met_pairs l n hn) (va_cwS 1 hts (lw_S q31 q32 q2 q33) rfl rfl rfl (by decide +kernel) ⟨Nat.le_of_ble_eq_true rfl, Nat.le_of_ble_eq_true rfl⟩) ⟨fun a U g mk q => q, fun U hU hW => ⟨rfl, trivial⟩⟩ rfl rfl hl.1 rfl (lv_room (Nat.le_of_ble_eq_true rfl)) dX0_two_4 ⟨Nat.le_of_ble_eq_true rfl, Nat.le_of_ble_eq_true rfl⟩) (fun rr hq => ?_)
  obtain rfl : rr = nI (ss_tw n) := hq
  exact W.iret (v := nI (ss_tw n)) hx hb hr (fun t ht hW => ⟨_, rfl, rfl, ht⟩) (fun q h => by cases h) dX0_two_7
abbrev wsX0_three : List Cond := ws_ yX0_three cX0_three 3 (some .int)
set_option maxHeartbeats 4000000 in
set_option maxRecDepth 100000 in
/-- three() -/
theorem met_three0 (l : Launch) (dC : Nat → ClassId) (dI : Nat → Nat → Nat) (o0 n : Nat) (hn : n < 512) : Met l yX0_three wsX0_three ({ frames := 2, cells := 0, slots := 0, locals := 43 }) (va_Pc [.ref o0] (fun U => va_P (dC, dI) vwCl [(o0, .inr (0, [.int (nI n)]))] U.heap ∧ va_K (dC, dI) vwCl [] U)) (vp_Si (fun r => r = nI (ss_x3 n))) 0 0 (fun _ => False) := by
  refine Met.ofW (cc := cX0_three) (maxL := 3) (ret := (some .int)) (by decide) rfl ?_
  intro p e s m args below meth c s₁ B hml hv
  obtain ⟨rfl, hP, hK⟩ := hv
  have hx := B.exec
  have hb := B.bytes
  have hr := B.returns
  have hts := atoms_spec (ws := wsX0_three) B.pre
  have hts : ∀ w ∈ lw_all, w.before _ s = true := fun w h => hts w (List.mem_cons_of_mem _ h)
  have hown : s.vm.findClass RX0 = some m.cls := findClass_of_methodNamed B.named
  have hlocks := B.notSynchronized
  have hl := lv_entry ([.ref o0]) (n := 3) (Nat.le_of_ble_eq_true rfl)
  rw [lg_entry_eq]
  generalize (lg_sl ([.ref o0]) ++ List.replicate (3 - (lg_sl ([.ref o0])).length) Slot.unset).toArray = ls at hl ⊢
  have hl : lv_has ls 3 [(0, .ref o0)] := hl
  refine lv_aload_n hx hb dX0_three_0 rfl (lv_at hl 0 rfl) ?_
  refine va_get (D := (dC, dI)) (ci := 0) (v := .int (nI n)) (C := RX0) (T := TX0) (N := 1) hx hb hts in_X0 hown hK hP 0 rfl rfl 0 (by decide) (hts _ q12) (fun _ h9 => h9) rfl dX0_three_1 ?_
  refine vp_callSi (W.runS (As := [.int (nI n)]) (rest := []) ⟨hx, hb, hml, hown, hts⟩ (met_pairs l n hn) (va_cwS 1 hts (lw_S q31 q32 q2 q33) rfl rfl rfl (by decide +kernel) ⟨Nat.le_of_ble_eq_true rfl, Nat.le_of_ble_eq_true rfl⟩) ⟨fun a U g mk q => q, fun U hU hW => ⟨rfl, trivial⟩⟩ rfl rfl hl.1 rfl (lv_room (Nat.le_of_ble_eq_true rfl)) dX0_three_4 ⟨Nat.le_of_ble_eq_true rfl, Nat.le_of_ble_eq_true rfl⟩) (fun rr hq => ?_)
  obtain rfl : rr = nI (ss_tw n) := hq
  refine lv_istore_n (lv' := [(1, .int (nI (ss_tw n))), (0, .ref o0)]) hx hb dX0_three_7 rfl hl (by decide) rfl (fun ls hl => ?_)
  refine lv_iconst (v := nI 1) hx hb dX0_three_8 (by decide) ?_
  refine lv_istore_n (lv' := [(2, .int (nI 1)), (1, .int (nI (ss_tw n))), (0, .ref o0)]) hx hb dX0_three_9 rfl hl (by decide) rfl (fun ls hl => ?_)
  have loop : ∀ (f k : Nat), k ≤ 22 → 23 ≤ k + f → ∀ ls : Array Slot, lv_has ls 3 [(0, .ref o0), (1, .int (nI (ss_tw n + ss_S (ss_t3 n) k))), (2, .int (nI (k + 1)))] → W p l e (headSpec wsX0_three ({ frames := 2, cells := 0, slots := 0, locals := 43 })).room s m ([.ref o0] : List Value).toArray below meth c s.heap [] 0 0 (MQ below (vp_Si (fun r => r = nI (ss_x3 n))) ([.ref o0] : List Value).toArray s 0 0 (fun _ => False)) (F0 m 10 ls []) := by
    intro f
    induction f with
    | zero => intro k h1 h2; exact absurd h2 (by omega)
    | succ f ih =>
      intro k hk hf ls hl
      have hb1 : (k + 1) * (k + 1) ≤ 23 * 23 := Nat.mul_le_mul (by omega) (by omega)
      refine lv_iload_n hx hb dX0_three_10 rfl (lv_at hl 2 rfl) ?_
      refine lv_iload_n hx hb dX0_three_11 rfl (lv_at hl 2 rfl) ?_
      refine lv_imul hx hb dX0_three_12 ?_
      refine ss_top (y := nI ((k + 1) * (k + 1))) (pk_mul ((k + 1)) ((k + 1))) ?_
      refine lv_aload_n hx hb dX0_three_13 rfl (lv_at hl 0 rfl) ?_
      refine va_get (D := (dC, dI)) (ci := 0) (v := .int (nI n)) (C := RX0) (T := TX0) (N := 1) hx hb hts in_X0 hown hK hP 0 rfl rfl 0 (by decide) (hts _ q12) (fun _ h9 => h9) rfl dX0_three_14 ?_
      refine lv_icmp_gt (tgt := 42) hx hb dX0_three_17 (by decide) (fun hc => ?_) (fun hc => ?_)
      · skip
        have hk2 : n < (k + 1) * (k + 1) := (nI_ltI (by omega) (by omega)).mp hc
        have hcut : ss_S (ss_t3 n) 22 = ss_S (ss_t3 n) k := ss_S_cut' hk (fun j h1 _ => ss_t3_out (fun q => by
          have h2 := Nat.mul_le_mul (Nat.add_le_add_right h1 1) (Nat.add_le_add_right h1 1)
          omega))
        refine lv_iload_n hx hb dX0_three_42 rfl (lv_at hl 1 rfl) ?_
        exact W.iret (v := nI (ss_tw n + ss_S (ss_t3 n) k)) hx hb hr (fun t ht hW => ⟨_, rfl, by rw [← hcut]; rfl, ht⟩) (fun q h => by cases h) dX0_three_43
      · skip
        have hk2 : (k + 1) * (k + 1) ≤ n := by have := mt (nI_ltI (by omega) (by omega)).mpr hc; omega
        have hk3 := ss_r23 hk2 hn
        refine lv_iload_n hx hb dX0_three_20 rfl (lv_at hl 1 rfl) ?_
        refine lv_iconst (v := nI 2) hx hb dX0_three_21 (by decide) ?_
        refine lv_aload_n hx hb dX0_three_22 rfl (lv_at hl 0 rfl) ?_
        refine va_get (D := (dC, dI)) (ci := 0) (v := .int (nI n)) (C := RX0) (T := TX0) (N := 1) hx hb hts in_X0 hown hK hP 0 rfl rfl 0 (by decide) (hts _ q12) (fun _ h9 => h9) rfl dX0_three_23 ?_
        refine lv_iload_n hx hb dX0_three_26 rfl (lv_at hl 2 rfl) ?_
        refine lv_iload_n hx hb dX0_three_27 rfl (lv_at hl 2 rfl) ?_
        refine lv_imul hx hb dX0_three_28 ?_
        refine ss_top (y := nI ((k + 1) * (k + 1))) (pk_mul ((k + 1)) ((k + 1))) ?_
        refine lv_isub hx hb dX0_three_29 ?_
        refine ss_top (y := nI (n - (k + 1) * (k + 1))) (pk_sub hk2) ?_
        refine vp_callSi (W.runS (As := [.int (nI (n - (k + 1) * (k + 1)))]) (rest := [.int (nI 2), .int (nI (ss_tw n + ss_S (ss_t3 n) k))]) ⟨hx, hb, hml, hown, hts⟩ (met_pairs l (n - (k + 1) * (k + 1)) (by omega)) (va_cwS 1 hts (lw_S q31 q32 q2 q33) rfl rfl rfl (by decide +kernel) ⟨Nat.le_of_ble_eq_true rfl, Nat.le_of_ble_eq_true rfl⟩) ⟨fun a U g mk q => q, fun U hU hW => ⟨rfl, trivial⟩⟩ rfl rfl hl.1 rfl (lv_room (Nat.le_of_ble_eq_true rfl)) dX0_three_30 ⟨Nat.le_of_ble_eq_true rfl, Nat.le_of_ble_eq_true rfl⟩) (fun rr hq => ?_)
        obtain rfl : rr = nI (ss_tw (n - (k + 1) * (k + 1))) := hq
        refine lv_imul hx hb dX0_three_33 ?_
        refine ss_top (y := nI (2 * (ss_tw (n - (k + 1) * (k + 1))))) (pk_mul (2) ((ss_tw (n - (k + 1) * (k + 1))))) ?_
        refine lv_iadd hx hb dX0_three_34 ?_
        refine ss_top (y := nI (ss_tw n + ss_S (ss_t3 n) (k + 1))) (by rw [nI_add, ss_S_s, ss_t3_in hk2, Nat.add_assoc]) ?_
        refine lv_istore_n (lv' := [(1, .int (nI (ss_tw n + ss_S (ss_t3 n) (k + 1)))), (0, .ref o0), (2, .int (nI (k + 1)))]) hx hb dX0_three_35 rfl hl (by decide) rfl (fun ls hl => ?_)
        refine lv_iinc (v := nI (k + 1 + 1)) (lv' := [(2, .int (nI (k + 1 + 1))), (1, .int (nI (ss_tw n + ss_S (ss_t3 n) (k + 1)))), (0, .ref o0)]) hx hb dX0_three_36 hl (k := 2) rfl (ss_inc (k + 1)) (by decide) rfl (fun ls hl => ?_)
        refine lv_goto (tgt := 10) hx hb dX0_three_39 (by decide) ?_
        exact ih (k + 1) (by omega) (by omega) ls (lv_sub hl [2, 1, 0] rfl)
  exact loop 23 0 (by omega) (by omega) ls (lv_sub hl [2, 1, 0] rfl)
abbrev wsX0_four : List Cond := ws_ yX0_four cX0_four 3 (some .int)
set_option maxHeartbeats 4000000 in
set_option maxRecDepth 100000 in
/-- four() -/
theorem met_four0 (l : Launch) (dC : Nat → ClassId) (dI : Nat → Nat → Nat) (o0 n : Nat) (hn : n < 512) : Met l yX0_four wsX0_four ({ frames := 0, cells := 0, slots := 0, locals := 0 }) (va_Pc [.ref o0] (fun U => va_P (dC, dI) vwCl [(o0, .inr (0, [.int (nI n)]))] U.heap ∧ va_K (dC, dI) vwCl [] U)) (vp_Si (fun r => r = nI (ss_x4 n))) 0 0 (fun _ => False) := by
  refine Met.ofW (cc := cX0_four) (maxL := 3) (ret := (some .int)) (by decide) rfl ?_
  intro p e s m args below meth c s₁ B hml hv
  obtain ⟨rfl, hP, hK⟩ := hv
  have hx := B.exec
  have hb := B.bytes
  have hr := B.returns
  have hts := atoms_spec (ws := wsX0_four) B.pre
  have hts : ∀ w ∈ lw_all, w.before _ s = true := fun w h => hts w (List.mem_cons_of_mem _ h)
  have hown : s.vm.findClass RX0 = some m.cls := findClass_of_methodNamed B.named
  have hlocks := B.notSynchronized
  have hl := lv_entry ([.ref o0]) (n := 3) (Nat.le_of_ble_eq_true rfl)
  rw [lg_entry_eq]
  generalize (lg_sl ([.ref o0]) ++ List.replicate (3 - (lg_sl ([.ref o0])).length) Slot.unset).toArray = ls at hl ⊢
  have hl : lv_has ls 3 [(0, .ref o0)] := hl
  refine lv_aload_n hx hb dX0_four_0 rfl (lv_at hl 0 rfl) ?_
  refine va_get (D := (dC, dI)) (ci := 0) (v := .int (nI n)) (C := RX0) (T := TX0) (N := 1) hx hb hts in_X0 hown hK hP 0 rfl rfl 0 (by decide) (hts _ q12) (fun _ h9 => h9) rfl dX0_four_1 ?_
  refine lv_if_ne (tgt := 9) hx hb dX0_four_4 (by decide) (fun hc => ?_) (fun hc => ?_)
  · skip
    have h0 : n ≠ 0 := mt (ss_z (by omega)).mpr hc
    refine lv_iconst (v := nI 0) hx hb dX0_four_9 (by decide) ?_
    refine lv_istore_n (lv' := [(1, .int (nI 0)), (0, .ref o0)]) hx hb dX0_four_10 rfl hl (by decide) rfl (fun ls hl => ?_)
    refine lv_iconst (v := nI 1) hx hb dX0_four_11 (by decide) ?_
    refine lv_istore_n (lv' := [(2, .int (nI 1)), (1, .int (nI 0)), (0, .ref o0)]) hx hb dX0_four_12 rfl hl (by decide) rfl (fun ls hl => ?_)
    have loop : ∀ (f k : Nat), k ≤ n → n + 1 ≤ k + f → ∀ ls : Array Slot, lv_has ls 3 [(0, .ref o0), (1, .int (nI (ss_S (ss_t4 n) k))), (2, .int (nI (k + 1)))] → W p l e (headSpec wsX0_four ({ frames := 0, cells := 0, slots := 0, locals := 0 })).room s m ([.ref o0] : List Value).toArray below meth c s.heap [] 0 0 (MQ below (vp_Si (fun r => r = nI (ss_x4 n))) ([.ref o0] : List Value).toArray s 0 0 (fun _ => False)) (F0 m 13 ls []) := by
      intro f
      induction f with
      | zero => intro k h1 h2; exact absurd h2 (by omega)
      | succ f ih =>
        intro k hk hf ls hl
        have tail : ∀ (ls : Array Slot), k + 1 ≤ n → lv_has ls 3 [(0, .ref o0), (1, .int (nI (ss_S (ss_t4 n) (k + 1)))), (2, .int (nI (k + 1)))] → W p l e (headSpec wsX0_four ({ frames := 0, cells := 0, slots := 0, locals := 0 })).room s m ([.ref o0] : List Value).toArray below meth c s.heap [] 0 0 (MQ below (vp_Si (fun r => r = nI (ss_x4 n))) ([.ref o0] : List Value).toArray s 0 0 (fun _ => False)) (F0 m 40 ls []) := by
          intro ls hk2 hl
          refine lv_iinc (v := nI (k + 1 + 1)) (lv' := [(2, .int (nI (k + 1 + 1))), (0, .ref o0), (1, .int (nI (ss_S (ss_t4 n) (k + 1))))]) hx hb dX0_four_40 hl (k := 2) rfl (ss_inc (k + 1)) (by decide) rfl (fun ls hl => ?_)
          refine lv_goto (tgt := 13) hx hb dX0_four_43 (by decide) ?_
          exact ih (k + 1) hk2 (by omega) ls (lv_sub hl [1, 2, 0] rfl)
        refine lv_iload_n hx hb dX0_four_13 rfl (lv_at hl 2 rfl) ?_
        refine lv_aload_n hx hb dX0_four_14 rfl (lv_at hl 0 rfl) ?_
        refine va_get (D := (dC, dI)) (ci := 0) (v := .int (nI n)) (C := RX0) (T := TX0) (N := 1) hx hb hts in_X0 hown hK hP 0 rfl rfl 0 (by decide) (hts _ q12) (fun _ h9 => h9) rfl dX0_four_15 ?_
        refine lv_icmp_gt (tgt := 46) hx hb dX0_four_18 (by decide) (fun hc => ?_) (fun hc => ?_)
        · skip
          have hk2 : k = n := by have := (nI_ltI (by omega) (by omega)).mp hc; omega
          refine lv_bipush (v := nI 8) hx hb dX0_four_46 (by decide) ?_
          refine lv_iload_n hx hb dX0_four_48 rfl (lv_at hl 1 rfl) ?_
          refine lv_imul hx hb dX0_four_49 ?_
          refine ss_top (y := nI (8 * (ss_S (ss_t4 n) k))) (pk_mul (8) ((ss_S (ss_t4 n) k))) ?_
          exact W.iret (v := nI (8 * (ss_S (ss_t4 n) k))) hx hb hr (fun t ht hW => ⟨_, rfl, by rw [ss_x4_p h0, hk2], ht⟩) (fun q h => by cases h) dX0_four_50
        · skip
          have hk2 : k + 1 ≤ n := by have := mt (nI_ltI (by omega) (by omega)).mpr hc; omega
          refine lv_aload_n hx hb dX0_four_21 rfl (lv_at hl 0 rfl) ?_
          refine va_get (D := (dC, dI)) (ci := 0) (v := .int (nI n)) (C := RX0) (T := TX0) (N := 1) hx hb hts in_X0 hown hK hP 0 rfl rfl 0 (by decide) (hts _ q12) (fun _ h9 => h9) rfl dX0_four_22 ?_
          refine lv_iload_n hx hb dX0_four_25 rfl (lv_at hl 2 rfl) ?_
          refine lv_irem hx hb dX0_four_26 (nI_ne0 (by omega) (by omega)) ?_
          refine ss_top (y := nI (n % (k + 1))) (pk_rem (by omega) (by omega) (by omega)) ?_
          have hmd : n % (k + 1) < 2 ^ 31 := Nat.lt_of_lt_of_le (Nat.mod_lt _ (by omega)) (by omega)
          refine lv_if_ne (tgt := 40) hx hb dX0_four_27 (by decide) (fun hc1 => ?_) (fun hc1 => ?_)
          · skip
            have hd : n % (k + 1) ≠ 0 := mt (ss_z hmd).mpr hc1
            exact tail ls hk2 (by rw [ss_S_s, ss_t4_no hd]; exact (lv_sub hl [0, 1, 2] rfl))
          · skip
            have hd : n % (k + 1) = 0 := (ss_z hmd).mp hc1
            refine lv_iload_n hx hb dX0_four_30 rfl (lv_at hl 2 rfl) ?_
            refine lv_iconst (v := nI 3) hx hb dX0_four_31 (by decide) ?_
            refine lv_iand hx hb dX0_four_32 ?_
            refine ss_top (y := nI ((k + 1) % 4)) (pk_andN (by omega) 2 (by decide)) ?_
            have h4 : (k + 1) % 4 < 4 := Nat.mod_lt _ (by decide)
            refine lv_if_eq (tgt := 40) hx hb dX0_four_33 (by decide) (fun hc2 => ?_) (fun hc2 => ?_)
            · skip
              have h1 : (k + 1) % 4 = 0 := (ss_z (by omega)).mp hc2
              exact tail ls hk2 (by rw [ss_S_s, ss_t4_0 hd h1]; exact (lv_sub hl [0, 1, 2] rfl))
            · skip
              have h1 : ¬ (k + 1) % 4 = 0 := mt (ss_z (by omega)).mpr hc2
              refine lv_iload_n hx hb dX0_four_36 rfl (lv_at hl 1 rfl) ?_
              refine lv_iload_n hx hb dX0_four_37 rfl (lv_at hl 2 rfl) ?_
              refine lv_iadd hx hb dX0_four_38 ?_
              refine ss_top (y := nI (ss_S (ss_t4 n) (k + 1))) (by rw [nI_add, ss_S_s, ss_t4_1 hd h1]) ?_
              refine lv_istore_n (lv' := [(1, .int (nI (ss_S (ss_t4 n) (k + 1)))), (0, .ref o0), (2, .int (nI (k + 1)))]) hx hb dX0_four_39 rfl hl (by decide) rfl (fun ls hl => ?_)
              exact tail ls hk2 (lv_sub hl [1, 0, 2] rfl)
    exact loop (n + 1) 0 (Nat.zero_le n) (by omega) ls (lv_sub hl [2, 1, 0] rfl)
  · skip
    have h0 : n = 0 := (ss_z (by omega)).mp hc
    refine lv_iconst (v := nI 1) hx hb dX0_four_7 (by decide) ?_
    exact W.iret (v := nI 1) hx hb hr (fun t ht hW => ⟨_, rfl, by rw [h0, ss_x4_0], ht⟩) (fun q h => by cases h) dX0_four_8
abbrev wsX0_triangles : List Cond := ws_ yX0_triangles cX0_triangles 1 (some .int)
set_option maxHeartbeats 4000000 in
set_option maxRecDepth 100000 in
/-- triangles() -/
theorem met_triangles0 (l : Launch) (dC : Nat → ClassId) (dI : Nat → Nat → Nat) (o0 n : Nat) (hn : n < 512) : Met l yX0_triangles wsX0_triangles ({ frames := 1, cells := 0, slots := 0, locals := 23 }) (va_Pc [.ref o0] (fun U => va_P (dC, dI) vwCl [(o0, .inr (0, [.int (nI n)]))] U.heap ∧ va_K (dC, dI) vwCl [] U)) (vp_Si (fun r => r = nI (ss_tri n))) 0 0 (fun _ => False) := by
  refine Met.ofW (cc := cX0_triangles) (maxL := 1) (ret := (some .int)) (by decide) rfl ?_
  intro p e s m args below meth c s₁ B hml hv
  obtain ⟨rfl, hP, hK⟩ := hv
  have hx := B.exec
  have hb := B.bytes
  have hr := B.returns
  have hts := atoms_spec (ws := wsX0_triangles) B.pre
  have hts : ∀ w ∈ lw_all, w.before _ s = true := fun w h => hts w (List.mem_cons_of_mem _ h)
  have hown : s.vm.findClass RX0 = some m.cls := findClass_of_methodNamed B.named
  have hlocks := B.notSynchronized
  have hl := lv_entry ([.ref o0]) (n := 1) (Nat.le_of_ble_eq_true rfl)
  rw [lg_entry_eq]
  generalize (lg_sl ([.ref o0]) ++ List.replicate (1 - (lg_sl ([.ref o0])).length) Slot.unset).toArray = ls at hl ⊢
  have hl : lv_has ls 1 [(0, .ref o0)] := hl
  refine lv_iconst (v := nI 4) hx hb dX0_triangles_0 (by decide) ?_
  refine lv_aload_n hx hb dX0_triangles_1 rfl (lv_at hl 0 rfl) ?_
  refine va_get (D := (dC, dI)) (ci := 0) (v := .int (nI n)) (C := RX0) (T := TX0) (N := 1) hx hb hts in_X0 hown hK hP 0 rfl rfl 0 (by decide) (hts _ q12) (fun _ h9 => h9) rfl dX0_triangles_2 ?_
  refine lv_imul hx hb dX0_triangles_5 ?_
  refine ss_top (y := nI (4 * n)) (pk_mul (4) (n)) ?_
  refine lv_iconst (v := nI 1) hx hb dX0_triangles_6 (by decide) ?_
  refine lv_iadd hx hb dX0_triangles_7 ?_
  refine ss_top (y := nI ((4 * n) + 1)) (nI_add ((4 * n)) (1)) ?_
  refine vp_callSi (W.runS (As := [.int (nI ((4 * n) + 1))]) (rest := []) ⟨hx, hb, hml, hown, hts⟩ (met_characters l (4 * n + 1) (by omega)) (va_cwS 1 hts (lw_S q34 q35 q2 q36) rfl rfl rfl (by decide +kernel) ⟨Nat.le_of_ble_eq_true rfl, Nat.le_of_ble_eq_true rfl⟩) ⟨fun a U g mk q => q, fun U hU hW => ⟨rfl, trivial⟩⟩ rfl rfl hl.1 rfl (lv_room (Nat.le_of_ble_eq_true rfl)) dX0_triangles_8 ⟨Nat.le_of_ble_eq_true rfl, Nat.le_of_ble_eq_true rfl⟩) (fun rr hq => ?_)
  obtain rfl : rr = nI (ss_ch (4 * n + 1)) - nI (4 * n + 1) := hq
  refine ss_top (y := nI (ss_tri n)) (ss_dif (ss_p_tri hn)) ?_
  exact W.iret (v := nI (ss_tri n)) hx hb hr (fun t ht hW => ⟨_, rfl, rfl, ht⟩) (fun q h => by cases h) dX0_triangles_11
abbrev wsX0_fewest : List Cond := ws_ yX0_fewest cX0_fewest 2 (some .int)
set_option maxHeartbeats 4000000 in
set_option maxRecDepth 100000 in
/-- fewest() -/
theorem met_fewest0 (l : Launch) (dC : Nat → ClassId) (dI : Nat → Nat → Nat) (o0 n : Nat) (hn : n < 512) : Met l yX0_fewest wsX0_fewest ({ frames := 1, cells := 0, slots := 0, locals := 23 }) (va_Pc [.ref o0] (fun U => va_P (dC, dI) vwCl [(o0, .inr (0, [.int (nI n)]))] U.heap ∧ va_K (dC, dI) vwCl [] U)) (vp_Si (fun r => r = nI (ss_few n))) 0 0 (fun _ => False) := by
  refine Met.ofW (cc := cX0_fewest) (maxL := 2) (ret := (some .int)) (by decide) rfl ?_
  intro p e s m args below meth c s₁ B hml hv
  obtain ⟨rfl, hP, hK⟩ := hv
  have hx := B.exec
  have hb := B.bytes
  have hr := B.returns
  have hts := atoms_spec (ws := wsX0_fewest) B.pre
  have hts : ∀ w ∈ lw_all, w.before _ s = true := fun w h => hts w (List.mem_cons_of_mem _ h)
  have hown : s.vm.findClass RX0 = some m.cls := findClass_of_methodNamed B.named
  have hlocks := B.notSynchronized
  have hl := lv_entry ([.ref o0]) (n := 2) (Nat.le_of_ble_eq_true rfl)
  rw [lg_entry_eq]
  generalize (lg_sl ([.ref o0]) ++ List.replicate (2 - (lg_sl ([.ref o0])).length) Slot.unset).toArray = ls at hl ⊢
  have hl : lv_has ls 2 [(0, .ref o0)] := hl
  refine lv_aload_n hx hb dX0_fewest_0 rfl (lv_at hl 0 rfl) ?_
  refine va_get (D := (dC, dI)) (ci := 0) (v := .int (nI n)) (C := RX0) (T := TX0) (N := 1) hx hb hts in_X0 hown hK hP 0 rfl rfl 0 (by decide) (hts _ q12) (fun _ h9 => h9) rfl dX0_fewest_1 ?_
  refine lv_if_ne (tgt := 9) hx hb dX0_fewest_4 (by decide) (fun hc => ?_) (fun hc => ?_)
  · skip
    have h0 : n ≠ 0 := mt (ss_z (by omega)).mpr hc
    have h2 := ss_sq_01 n
    refine lv_aload_n hx hb dX0_fewest_9 rfl (lv_at hl 0 rfl) ?_
    refine va_get (D := (dC, dI)) (ci := 0) (v := .int (nI n)) (C := RX0) (T := TX0) (N := 1) hx hb hts in_X0 hown hK hP 0 rfl rfl 0 (by decide) (hts _ q12) (fun _ h9 => h9) rfl dX0_fewest_10 ?_
    refine vp_callSi (W.runS (As := [.int (nI n)]) (rest := []) ⟨hx, hb, hml, hown, hts⟩ (met_isSquare l n hn) (va_cwS 1 hts (lw_S q24 q25 q2 q26) rfl rfl rfl (by decide +kernel) ⟨Nat.le_of_ble_eq_true rfl, Nat.le_of_ble_eq_true rfl⟩) ⟨fun a U g mk q => q, fun U hU hW => ⟨rfl, trivial⟩⟩ rfl rfl hl.1 rfl (lv_room (Nat.le_of_ble_eq_true rfl)) dX0_fewest_13 ⟨Nat.le_of_ble_eq_true rfl, Nat.le_of_ble_eq_true rfl⟩) (fun rr hq => ?_)
    obtain rfl : rr = nI (ss_sq n) := hq
    refine lv_if_eq (tgt := 21) hx hb dX0_fewest_16 (by decide) (fun hc1 => ?_) (fun hc1 => ?_)
    · skip
      have h1 : ss_sq n ≠ 1 := by have := (ss_z (by omega)).mp hc1; omega
      refine lv_aload_n hx hb dX0_fewest_21 rfl (lv_at hl 0 rfl) ?_
      refine va_get (D := (dC, dI)) (ci := 0) (v := .int (nI n)) (C := RX0) (T := TX0) (N := 1) hx hb hts in_X0 hown hK hP 0 rfl rfl 0 (by decide) (hts _ q12) (fun _ h9 => h9) rfl dX0_fewest_22 ?_
      refine vp_callSi (W.runS (As := [.int (nI n)]) (rest := []) ⟨hx, hb, hml, hown, hts⟩ (met_characters l n (by omega)) (va_cwS 1 hts (lw_S q34 q35 q2 q36) rfl rfl rfl (by decide +kernel) ⟨Nat.le_of_ble_eq_true rfl, Nat.le_of_ble_eq_true rfl⟩) ⟨fun a U g mk q => q, fun U hU hW => ⟨rfl, trivial⟩⟩ rfl rfl hl.1 rfl (lv_room (Nat.le_of_ble_eq_true rfl)) dX0_fewest_25 ⟨Nat.le_of_ble_eq_true rfl, Nat.le_of_ble_eq_true rfl⟩) (fun rr hq => ?_)
      obtain rfl : rr = nI (ss_ch n) - nI n := hq
      have hch := ss_p_ch (Nat.pos_of_ne_zero h0) hn
      have htl := ss_tw_le n
      refine ss_top (y := nI (ss_tw n / 4)) (ss_dif (by omega)) ?_
      refine lv_if_le (tgt := 33) hx hb dX0_fewest_28 (by decide) (fun hc2 => ?_) (fun hc2 => ?_)
      · skip
        have h3 : ¬ 1 ≤ ss_tw n := by
          intro q
          exact nI_nle (n := ss_tw n / 4) (by omega) (by omega) hc2
        refine lv_aload_n hx hb dX0_fewest_33 rfl (lv_at hl 0 rfl) ?_
        refine va_get (D := (dC, dI)) (ci := 0) (v := .int (nI n)) (C := RX0) (T := TX0) (N := 1) hx hb hts in_X0 hown hK hP 0 rfl rfl 0 (by decide) (hts _ q12) (fun _ h9 => h9) rfl dX0_fewest_34 ?_
        refine lv_istore_n (lv' := [(1, .int (nI n)), (0, .ref o0)]) hx hb dX0_fewest_37 rfl hl (by decide) rfl (fun ls hl => ?_)
        have loop : ∀ (f k : Nat), 0 < k → k < 4 ^ f → k < 512 → f ≤ 5 → ss_st f k = ss_st 5 n → ∀ ls : Array Slot, lv_has ls 2 [(1, .int (nI k))] → W p l e (headSpec wsX0_fewest ({ frames := 1, cells := 0, slots := 0, locals := 23 })).room s m ([.ref o0] : List Value).toArray below meth c s.heap [] 0 0 (MQ below (vp_Si (fun r => r = nI (ss_few n))) ([.ref o0] : List Value).toArray s 0 0 (fun _ => False)) (F0 m 38 ls []) := by
          intro f
          induction f with
          | zero => intro k h1 h2; exact absurd h2 (by omega)
          | succ f ih =>
            intro k hk hf hk5 hf5 hst ls hl
            rw [Nat.pow_succ] at hf
            refine lv_iload_n hx hb dX0_fewest_38 rfl (lv_at hl 0 rfl) ?_
            refine lv_iconst (v := nI 3) hx hb dX0_fewest_39 (by decide) ?_
            refine lv_iand hx hb dX0_fewest_40 ?_
            refine ss_top (y := nI (k % 4)) (pk_andN (by omega) 2 (by decide)) ?_
            have h4 : k % 4 < 4 := Nat.mod_lt _ (by decide)
            refine lv_if_ne (tgt := 51) hx hb dX0_fewest_41 (by decide) (fun hc3 => ?_) (fun hc3 => ?_)
            · skip
              have h5 : ¬ k % 4 = 0 := mt (ss_z (by omega)).mpr hc3
              rw [ss_st_1 h5] at hst
              refine lv_iload_n hx hb dX0_fewest_51 rfl (lv_at hl 0 rfl) ?_
              refine lv_bipush (v := nI 7) hx hb dX0_fewest_52 (by decide) ?_
              refine lv_iand hx hb dX0_fewest_54 ?_
              refine ss_top (y := nI (k % 8)) (pk_andN (by omega) 3 (by decide)) ?_
              refine lv_bipush (v := nI 7) hx hb dX0_fewest_55 (by decide) ?_
              have h8 : k % 8 < 8 := Nat.mod_lt _ (by decide)
              refine lv_icmp_ne (tgt := 64) hx hb dX0_fewest_57 (by decide) (fun hc4 => ?_) (fun hc4 => ?_)
              · skip
                have h6 : ¬ ss_st 5 n % 8 = 7 := by rw [← hst]; exact mt (nI_eq (by omega) (by omega)).mpr hc4
                refine lv_iconst (v := nI 3) hx hb dX0_fewest_64 (by decide) ?_
                exact W.iret (v := nI 3) hx hb hr (fun t ht hW => ⟨_, rfl, by rw [ss_few_3 h0 h1 h3 h6], ht⟩) (fun q h => by cases h) dX0_fewest_65
              · skip
                have h6 : ss_st 5 n % 8 = 7 := by rw [← hst]; exact (nI_eq (by omega) (by omega)).mp hc4
                refine lv_iconst (v := nI 4) hx hb dX0_fewest_60 (by decide) ?_
                refine lv_goto (tgt := 65) hx hb dX0_fewest_61 (by decide) ?_
                exact W.iret (v := nI 4) hx hb hr (fun t ht hW => ⟨_, rfl, by rw [ss_few_4 h0 h1 h3 h6], ht⟩) (fun q h => by cases h) dX0_fewest_65
            · skip
              have h5 : k % 4 = 0 := (ss_z (by omega)).mp hc3
              rw [ss_st_0 h5] at hst
              refine lv_iload_n hx hb dX0_fewest_44 rfl (lv_at hl 0 rfl) ?_
              refine lv_iconst (v := nI 2) hx hb dX0_fewest_45 (by decide) ?_
              refine lv_ishr hx hb dX0_fewest_46 ?_
              refine ss_top (y := nI (k / 4)) (pk_shrN (by omega) _ 2 (by decide)) ?_
              refine lv_istore_n (lv' := [(1, .int (nI (k / 4)))]) hx hb dX0_fewest_47 rfl hl (by decide) rfl (fun ls hl => ?_)
              refine lv_goto (tgt := 38) hx hb dX0_fewest_48 (by decide) ?_
              exact ih (k / 4) (by omega) (by omega) (by omega) (by omega) hst ls (lv_sub hl [0] rfl)
        exact loop 5 n (Nat.pos_of_ne_zero h0) (by omega) hn (by omega) rfl ls (lv_sub hl [0] rfl)
      · skip
        have h3 : 1 ≤ ss_tw n := by
          rcases Nat.eq_zero_or_pos (ss_tw n) with q | q
          · rw [q] at hc2
            exact absurd (by decide) hc2
          · exact q
        refine lv_iconst (v := nI 2) hx hb dX0_fewest_31 (by decide) ?_
        exact W.iret (v := nI 2) hx hb hr (fun t ht hW => ⟨_, rfl, by rw [ss_few_2 h0 h1 h3], ht⟩) (fun q h => by cases h) dX0_fewest_32
    · skip
      have h1 : ss_sq n = 1 := by have := mt (ss_z (by omega)).mpr hc1; omega
      refine lv_iconst (v := nI 1) hx hb dX0_fewest_19 (by decide) ?_
      exact W.iret (v := nI 1) hx hb hr (fun t ht hW => ⟨_, rfl, by rw [ss_few_1 h0 h1], ht⟩) (fun q h => by cases h) dX0_fewest_20
  · skip
    have h0 : n = 0 := (ss_z (by omega)).mp hc
    refine lv_iconst (v := nI 0) hx hb dX0_fewest_7 (by decide) ?_
    exact W.iret (v := nI 0) hx hb hr (fun t ht hW => ⟨_, rfl, by rw [h0, ss_few_0], ht⟩) (fun q h => by cases h) dX0_fewest_8
end
section
/-! the writing methods, and SquareSumsModel: their contracts -/
set_option maxRecDepth 100000
/-- the table of pairs is made, or nobody has asked yet -/
def ss_ok (md : Int32) (f : Nat → Int32) : Prop := md = nI 0 ∨ (md = nI 1 ∧ ∀ j, j < 512 → f j = nI (ss_tw j))
abbrev wsX0_init : List Cond := ws_ yX0_init cX0_init 1 none
set_option maxHeartbeats 4000000 in
set_option maxRecDepth 100000 in
/-- SquareSums(): n is 1 -/
theorem met_init0 (l : Launch) (dC : Nat → ClassId) (dI : Nat → Nat → Nat) (o0 sz : Nat) (v0 : Int32) : Met l yX0_init wsX0_init ({ frames := 1, cells := 0, slots := 0, locals := 12 }) (va_Pc [.ref o0] (fun U => U.heap.size = sz ∧ va_P (dC, dI) vwCl [(o0, .inr (0, [.int v0]))] U.heap ∧ va_K (dC, dI) vwCl [] U ∧ va_D (fun _ => True) [(o0, .inr (0, [.int v0]))])) (va_Qv (fun _ : Unit => True) (fun (_ : Unit) (t : State) => va_P (dC, dI) vwCl [(o0, .inr (0, [.int (nI 1)]))] t.heap ∧ va_K (dC, dI) vwCl [] t ∧ va_D (va_A [(o0, .inr (0, [.int v0]))] sz) [(o0, .inr (0, [.int (nI 1)]))]) (va_A [(o0, .inr (0, [.int v0]))] sz)) 0 0 (va_A [(o0, .inr (0, [.int v0]))] sz) := by
  refine Met.ofW (cc := cX0_init) (maxL := 1) (ret := none) (by decide) rfl ?_
  intro p e s m args below meth c s₁ B hml hv
  obtain ⟨rfl, hsz, hP, hK, hD0⟩ := hv
  have hx := B.exec
  have hb := B.bytes
  have hr := B.returns
  have hts := atoms_spec (ws := wsX0_init) B.pre
  have hts : ∀ w ∈ lw_all, w.before _ s = true := fun w h => hts w (List.mem_cons_of_mem _ h)
  have hown : s.vm.findClass RX0 = some m.cls := findClass_of_methodNamed B.named
  have hlocks := B.notSynchronized
  subst hsz
  have hD := hD0.self (sz := s.heap.size)
  generalize hAe : va_A [(o0, .inr (0, [.int v0]))] s.heap.size = A at hD ⊢
  have hA : ∀ q : Nat, s.heap.size ≤ q → A q := fun q h => by rw [← hAe]; exact Or.inr h
  have hS : va_S A s.heap s.heap [] := va_S.rf
  have hP : va_P (dC, dI) vwCl [(o0, .inr (0, [.int v0]))] s.heap := hP
  have hl := lv_entry ([.ref o0]) (n := 1) (Nat.le_of_ble_eq_true rfl)
  rw [lg_entry_eq]
  generalize (lg_sl ([.ref o0]) ++ List.replicate (1 - (lg_sl ([.ref o0])).length) Slot.unset).toArray = ls at hl ⊢
  have hl : lv_has ls 1 [(0, .ref o0)] := hl
  refine lv_aload_n hx hb dX0_init_0 rfl (lv_at hl 0 rfl) ?_
  refine W.objInit hx hb hown (hts _ q9) (hts _ q10) (hts _ q11) rfl (by rw [hml]; exact hl.1) rfl dX0_init_1 (Nat.le_of_ble_eq_true rfl) (Nat.le_of_ble_eq_true rfl) ?_
  refine W.eq (g2 := F0 m 4 ls []) rfl ?_
  refine lv_aload_n hx hb dX0_init_4 rfl (lv_at hl 0 rfl) ?_
  refine lv_iconst (v := nI 1) hx hb dX0_init_5 (by decide) ?_
  refine va_put (D := (dC, dI)) (ci := 0) (v := .int (nI 1)) (ty := .int) (C := RX0) (T := TX0) (N := 1) hx hb hts in_X0 tyX0 tyX0_ok nmX0 hown hK hP hD hS 0 rfl rfl 0 (by decide) (hts _ q12) (fun _ h9 => h9) rfl (by decide +kernel) rfl rfl (Nat.le_of_ble_eq_true rfl) dX0_init_6 (fun H locs hP hD hS => ?_)
  have hP : va_P (dC, dI) vwCl [(o0, .inr (0, [.int (nI 1)]))] H := hP
  have hD : va_D A [(o0, .inr (0, [.int (nI 1)]))] := hD
  exact W.vret hx hb hr (fun t ht hW => ⟨⟨(), rfl, trivial, by rw [ht]; exact hP, va_K.moved hW.alike hK, hD⟩, hS.F ht⟩) hS.2.2 dX0_init_9
abbrev wsX0_load : List Cond := ws_ yX0_load cX0_load 2 none
set_option maxHeartbeats 4000000 in
set_option maxRecDepth 100000 in
/-- load(k): n is k without its high bits -/
theorem met_load0 (l : Launch) (dC : Nat → ClassId) (dI : Nat → Nat → Nat) (o0 sz n : Nat) (k : Int32) : Met l yX0_load wsX0_load ({ frames := 0, cells := 0, slots := 0, locals := 0 }) (va_Pc [.ref o0, .int (k)] (fun U => U.heap.size = sz ∧ va_P (dC, dI) vwCl [(o0, .inr (0, [.int (nI n)]))] U.heap ∧ va_K (dC, dI) vwCl [] U ∧ va_D (fun _ => True) [(o0, .inr (0, [.int (nI n)]))])) (va_Qv (fun _ : Unit => True) (fun (_ : Unit) (t : State) => va_P (dC, dI) vwCl [(o0, .inr (0, [.int (nI (k.toBitVec.toNat % 512))]))] t.heap ∧ va_K (dC, dI) vwCl [] t ∧ va_D (va_A [(o0, .inr (0, [.int (nI n)]))] sz) [(o0, .inr (0, [.int (nI (k.toBitVec.toNat % 512))]))]) (va_A [(o0, .inr (0, [.int (nI n)]))] sz)) 0 0 (va_A [(o0, .inr (0, [.int (nI n)]))] sz) := by
  refine Met.ofW (cc := cX0_load) (maxL := 2) (ret := none) (by decide) rfl ?_
  intro p e s m args below meth c s₁ B hml hv
  obtain ⟨rfl, hsz, hP, hK, hD0⟩ := hv
  have hx := B.exec
  have hb := B.bytes
  have hr := B.returns
  have hts := atoms_spec (ws := wsX0_load) B.pre
  have hts : ∀ w ∈ lw_all, w.before _ s = true := fun w h => hts w (List.mem_cons_of_mem _ h)
  have hown : s.vm.findClass RX0 = some m.cls := findClass_of_methodNamed B.named
  have hlocks := B.notSynchronized
  subst hsz
  have hD := hD0.self (sz := s.heap.size)
  generalize hAe : va_A [(o0, .inr (0, [.int (nI n)]))] s.heap.size = A at hD ⊢
  have hA : ∀ q : Nat, s.heap.size ≤ q → A q := fun q h => by rw [← hAe]; exact Or.inr h
  have hS : va_S A s.heap s.heap [] := va_S.rf
  have hP : va_P (dC, dI) vwCl [(o0, .inr (0, [.int (nI n)]))] s.heap := hP
  have hl := lv_entry ([.ref o0, .int (k)]) (n := 2) (Nat.le_of_ble_eq_true rfl)
  rw [lg_entry_eq]
  generalize (lg_sl ([.ref o0, .int (k)]) ++ List.replicate (2 - (lg_sl ([.ref o0, .int (k)])).length) Slot.unset).toArray = ls at hl ⊢
  have hl : lv_has ls 2 [(0, .ref o0), (1, .int (k))] := hl
  refine lv_aload_n hx hb dX0_load_0 rfl (lv_at hl 0 rfl) ?_
  refine lv_iload_n hx hb dX0_load_1 rfl (lv_at hl 1 rfl) ?_
  refine lv_sipush (v := nI 511) hx hb dX0_load_2 (by decide) ?_
  refine lv_iand hx hb dX0_load_5 ?_
  refine ss_top (y := nI (k.toBitVec.toNat % 512)) (pk_and k 9 (by decide)) ?_
  refine va_put (D := (dC, dI)) (ci := 0) (v := .int (nI (k.toBitVec.toNat % 512))) (ty := .int) (C := RX0) (T := TX0) (N := 1) hx hb hts in_X0 tyX0 tyX0_ok nmX0 hown hK hP hD hS 0 rfl rfl 0 (by decide) (hts _ q12) (fun _ h9 => h9) rfl (by decide +kernel) rfl rfl (Nat.le_of_ble_eq_true rfl) dX0_load_6 (fun H locs hP hD hS => ?_)
  have hP : va_P (dC, dI) vwCl [(o0, .inr (0, [.int (nI (k.toBitVec.toNat % 512))]))] H := hP
  have hD : va_D A [(o0, .inr (0, [.int (nI (k.toBitVec.toNat % 512))]))] := hD
  exact W.vret hx hb hr (fun t ht hW => ⟨⟨(), rfl, trivial, by rw [ht]; exact hP, va_K.moved hW.alike hK, hD⟩, hS.F ht⟩) hS.2.2 dX0_load_9
abbrev wsX1_init : List Cond := ws_ yX1_init cX1_init 1 none
set_option maxHeartbeats 4000000 in
set_option maxRecDepth 100000 in
/-- SquareSumsModel(): n is 1, an empty table of 512 -/
theorem met_init1 (l : Launch) (dC : Nat → ClassId) (dI : Nat → Nat → Nat) (o0 sz : Nat) : Met l yX1_init wsX1_init ({ frames := 1, cells := 1, slots := 512, locals := 12 }) (va_Pc [.ref o0] (fun U => U.heap.size = sz ∧ va_P (dC, dI) vwCl [(o0, .inr (1, [.int 0, .null, .int 0]))] U.heap ∧ va_K (dC, dI) vwCl [] U ∧ va_D (fun _ => True) [(o0, .inr (1, [.int 0, .null, .int 0]))])) (va_Qv (fun _ : Nat × ClassId => True) (fun (u : Nat × ClassId) (t : State) => va_P (dC, dI) vwCl [(o0, .inr (1, [.int (nI 1), .ref u.1, .int 0])), (u.1, .inl (u.2, 512, .inl (fun _ => 0)))] t.heap ∧ va_K (dC, dI) vwCl [(u.2, .int)] t ∧ va_D (va_A [(o0, .inr (1, [.int 0, .null, .int 0]))] sz) [(o0, .inr (1, [.int (nI 1), .ref u.1, .int 0])), (u.1, .inl (u.2, 512, .inl (fun _ => 0)))]) (va_A [(o0, .inr (1, [.int 0, .null, .int 0]))] sz)) 1 512 (va_A [(o0, .inr (1, [.int 0, .null, .int 0]))] sz) := by
  refine Met.ofW (cc := cX1_init) (maxL := 1) (ret := none) (by decide) rfl ?_
  intro p e s m args below meth c s₁ B hml hv
  obtain ⟨rfl, hsz, hP, hK, hD0⟩ := hv
  have hx := B.exec
  have hb := B.bytes
  have hr := B.returns
  have hts := atoms_spec (ws := wsX1_init) B.pre
  have hts : ∀ w ∈ lw_all, w.before _ s = true := fun w h => hts w (List.mem_cons_of_mem _ h)
  have hown : s.vm.findClass RX1 = some m.cls := findClass_of_methodNamed B.named
  have hlocks := B.notSynchronized
  subst hsz
  have hD := hD0.self (sz := s.heap.size)
  generalize hAe : va_A [(o0, .inr (1, [.int 0, .null, .int 0]))] s.heap.size = A at hD ⊢
  have hA : ∀ q : Nat, s.heap.size ≤ q → A q := fun q h => by rw [← hAe]; exact Or.inr h
  have hS : va_S A s.heap s.heap [] := va_S.rf
  have hP : va_P (dC, dI) vwCl [(o0, .inr (1, [.int 0, .null, .int 0]))] s.heap := hP
  have hl := lv_entry ([.ref o0]) (n := 1) (Nat.le_of_ble_eq_true rfl)
  rw [lg_entry_eq]
  generalize (lg_sl ([.ref o0]) ++ List.replicate (1 - (lg_sl ([.ref o0])).length) Slot.unset).toArray = ls at hl ⊢
  have hl : lv_has ls 1 [(0, .ref o0)] := hl
  have hin : meth.name = "<init>" := (name_of_methodNamed B.named B.method).1
  refine lv_aload_n hx hb dX1_init_0 rfl (lv_at hl 0 rfl) ?_
  refine W.objInit hx hb hown (hts _ q58) (hts _ q10) (hts _ q11) rfl (by rw [hml]; exact hl.1) rfl dX1_init_1 (Nat.le_of_ble_eq_true rfl) (Nat.le_of_ble_eq_true rfl) ?_
  refine W.eq (g2 := F0 m 4 ls []) rfl ?_
  refine lv_aload_n hx hb dX1_init_4 rfl (lv_at hl 0 rfl) ?_
  refine lv_iconst (v := nI 1) hx hb dX1_init_5 (by decide) ?_
  refine va_put (D := (dC, dI)) (ci := 1) (v := .int (nI 1)) (ty := .int) (C := RX1) (T := TX1) (N := 3) hx hb hts in_X1 tyX1 tyX1_ok nmX1 hown hK hP hD hS 0 rfl rfl 0 (by decide) (hts _ q59) (fun _ h9 => h9) rfl (by decide +kernel) rfl rfl (Nat.le_of_ble_eq_true rfl) dX1_init_6 (fun H locs hP hD hS => ?_)
  have hP : va_P (dC, dI) vwCl [(o0, .inr (1, [.int (nI 1), .null, .int 0]))] H := hP
  have hD : va_D A [(o0, .inr (1, [.int (nI 1), .null, .int 0]))] := hD
  refine lv_aload_n hx hb dX1_init_9 rfl (lv_at hl 0 rfl) ?_
  refine lv_sipush (v := nI 512) hx hb dX1_init_10 (by decide) ?_
  refine va_newa (atype := .int) (ty := .int) (a0 := (512, .inl (fun _ => 0))) (N' := 512) hx hb (hts _ q69) rfl hK hP hD hS hA (fun cA => rfl) (by decide) (by decide) (by decide) (Nat.le_of_ble_eq_true rfl) (Nat.le_of_ble_eq_true rfl) dX1_init_13 (fun q1 d1 H hK hP hD hS => ?_)
  have hK : va_K (dC, dI) vwCl [(d1, .int)] s := hK
  have hP : va_P (dC, dI) vwCl [(o0, .inr (1, [.int (nI 1), .null, .int 0])), (q1, .inl (d1, 512, .inl (fun _ => 0)))] H := hP
  have hD : va_D A [(o0, .inr (1, [.int (nI 1), .null, .int 0])), (q1, .inl (d1, 512, .inl (fun _ => 0)))] := hD
  refine W.widen (k := 1) (n := 512) (by omega) (by omega) ?_
  refine va_putF (D := (dC, dI)) (ci := 1) (v := .ref q1) (ty := .array .int) (C := RX1) (T := TX1) (N := 3) hx hb hts in_X1 tyX1 tyX1_ok nmX1 hown hK hP hD hS 0 rfl rfl 1 (by decide) (hts _ q60) (fun _ h9 => h9) rfl hin rfl (by decide +kernel) rfl rfl (Nat.le_of_ble_eq_true rfl) dX1_init_15 (fun H locs hP hD hS => ?_)
  have hP : va_P (dC, dI) vwCl [(o0, .inr (1, [.int (nI 1), .ref q1, .int 0])), (q1, .inl (d1, 512, .inl (fun _ => 0)))] H := hP
  have hD : va_D A [(o0, .inr (1, [.int (nI 1), .ref q1, .int 0])), (q1, .inl (d1, 512, .inl (fun _ => 0)))] := hD
  exact W.vret hx hb hr (fun t ht hW => ⟨⟨(q1, d1), rfl, trivial, by rw [ht]; exact hP, va_K.moved hW.alike hK, hD⟩, hS.F ht⟩) hS.2.2 dX1_init_18
abbrev wsX1_load : List Cond := ws_ yX1_load cX1_load 2 none
set_option maxHeartbeats 4000000 in
set_option maxRecDepth 100000 in
/-- load(k) of the reference -/
theorem met_load1 (l : Launch) (dC : Nat → ClassId) (dI : Nat → Nat → Nat) (o0 q1 sz n : Nat) (md k : Int32) : Met l yX1_load wsX1_load ({ frames := 0, cells := 0, slots := 0, locals := 0 }) (va_Pc [.ref o0, .int (k)] (fun U => U.heap.size = sz ∧ va_P (dC, dI) vwCl [(o0, .inr (1, [.int (nI n), .ref q1, .int md]))] U.heap ∧ va_K (dC, dI) vwCl [] U ∧ va_D (fun _ => True) [(o0, .inr (1, [.int (nI n), .ref q1, .int md]))])) (va_Qv (fun _ : Unit => True) (fun (_ : Unit) (t : State) => va_P (dC, dI) vwCl [(o0, .inr (1, [.int (nI (k.toBitVec.toNat % 512)), .ref q1, .int md]))] t.heap ∧ va_K (dC, dI) vwCl [] t ∧ va_D (va_A [(o0, .inr (1, [.int (nI n), .ref q1, .int md]))] sz) [(o0, .inr (1, [.int (nI (k.toBitVec.toNat % 512)), .ref q1, .int md]))]) (va_A [(o0, .inr (1, [.int (nI n), .ref q1, .int md]))] sz)) 0 0 (va_A [(o0, .inr (1, [.int (nI n), .ref q1, .int md]))] sz) := by
  refine Met.ofW (cc := cX1_load) (maxL := 2) (ret := none) (by decide) rfl ?_
  intro p e s m args below meth c s₁ B hml hv
  obtain ⟨rfl, hsz, hP, hK, hD0⟩ := hv
  have hx := B.exec
  have hb := B.bytes
  have hr := B.returns
  have hts := atoms_spec (ws := wsX1_load) B.pre
  have hts : ∀ w ∈ lw_all, w.before _ s = true := fun w h => hts w (List.mem_cons_of_mem _ h)
  have hown : s.vm.findClass RX1 = some m.cls := findClass_of_methodNamed B.named
  have hlocks := B.notSynchronized
  subst hsz
  have hD := hD0.self (sz := s.heap.size)
  generalize hAe : va_A [(o0, .inr (1, [.int (nI n), .ref q1, .int md]))] s.heap.size = A at hD ⊢
  have hA : ∀ q : Nat, s.heap.size ≤ q → A q := fun q h => by rw [← hAe]; exact Or.inr h
  have hS : va_S A s.heap s.heap [] := va_S.rf
  have hP : va_P (dC, dI) vwCl [(o0, .inr (1, [.int (nI n), .ref q1, .int md]))] s.heap := hP
  have hl := lv_entry ([.ref o0, .int (k)]) (n := 2) (Nat.le_of_ble_eq_true rfl)
  rw [lg_entry_eq]
  generalize (lg_sl ([.ref o0, .int (k)]) ++ List.replicate (2 - (lg_sl ([.ref o0, .int (k)])).length) Slot.unset).toArray = ls at hl ⊢
  have hl : lv_has ls 2 [(0, .ref o0), (1, .int (k))] := hl
  refine lv_aload_n hx hb dX1_load_0 rfl (lv_at hl 0 rfl) ?_
  refine lv_iload_n hx hb dX1_load_1 rfl (lv_at hl 1 rfl) ?_
  refine lv_sipush (v := nI 511) hx hb dX1_load_2 (by decide) ?_
  refine lv_iand hx hb dX1_load_5 ?_
  refine ss_top (y := nI (k.toBitVec.toNat % 512)) (pk_and k 9 (by decide)) ?_
  refine va_put (D := (dC, dI)) (ci := 1) (v := .int (nI (k.toBitVec.toNat % 512))) (ty := .int) (C := RX1) (T := TX1) (N := 3) hx hb hts in_X1 tyX1 tyX1_ok nmX1 hown hK hP hD hS 0 rfl rfl 0 (by decide) (hts _ q59) (fun _ h9 => h9) rfl (by decide +kernel) rfl rfl (Nat.le_of_ble_eq_true rfl) dX1_load_6 (fun H locs hP hD hS => ?_)
  have hP : va_P (dC, dI) vwCl [(o0, .inr (1, [.int (nI (k.toBitVec.toNat % 512)), .ref q1, .int md]))] H := hP
  have hD : va_D A [(o0, .inr (1, [.int (nI (k.toBitVec.toNat % 512)), .ref q1, .int md]))] := hD
  exact W.vret hx hb hr (fun t ht hW => ⟨⟨(), rfl, trivial, by rw [ht]; exact hP, va_K.moved hW.alike hK, hD⟩, hS.F ht⟩) hS.2.2 dX1_load_9
abbrev wsX1_ones : List Cond := ws_ yX1_ones cX1_ones 2 (some .int)
set_option maxHeartbeats 4000000 in
set_option maxRecDepth 100000 in
/-- ones(v): nought below nought -/
theorem met_ones (l : Launch) (x : Int32) (r0 : Nat) (hc0 : (x < 0 ∧ r0 = 0) ∨ ∃ v, v < 512 ∧ x = nI v ∧ r0 = ss_ones v) : Met l yX1_ones wsX1_ones ({ frames := 0, cells := 0, slots := 0, locals := 0 }) (va_Pc [.int (x)] (fun _ => True)) (vp_Si (fun r => r = nI r0)) 0 0 (fun _ => False) := by
  refine Met.ofW (cc := cX1_ones) (maxL := 2) (ret := (some .int)) (by decide) rfl ?_
  intro p e s m args below meth c s₁ B hml hv
  obtain ⟨rfl, -⟩ := hv
  have hx := B.exec
  have hb := B.bytes
  have hr := B.returns
  have hts := atoms_spec (ws := wsX1_ones) B.pre
  have hts : ∀ w ∈ lw_all, w.before _ s = true := fun w h => hts w (List.mem_cons_of_mem _ h)
  have hown : s.vm.findClass RX1 = some m.cls := findClass_of_methodNamed B.named
  have hlocks := B.notSynchronized
  have hl := lv_entry ([.int (x)]) (n := 2) (Nat.le_of_ble_eq_true rfl)
  rw [lg_entry_eq]
  generalize (lg_sl ([.int (x)]) ++ List.replicate (2 - (lg_sl ([.int (x)])).length) Slot.unset).toArray = ls at hl ⊢
  have hl : lv_has ls 2 [(0, .int (x))] := hl
  refine lv_iload_n hx hb dX1_ones_0 rfl (lv_at hl 0 rfl) ?_
  refine lv_if_ge (tgt := 6) hx hb dX1_ones_1 (by decide) (fun hc => ?_) (fun hc => ?_)
  · skip
    obtain ⟨v, hv, ex, er⟩ : ∃ v, v < 512 ∧ x = nI v ∧ r0 = ss_ones v := by
      rcases hc0 with h | h
      · exact absurd hc (Int32.not_le.mpr h.1)
      · exact h
    subst ex
    subst er
    refine lv_iconst (v := nI 0) hx hb dX1_ones_6 (by decide) ?_
    refine lv_istore_n (lv' := [(1, .int (nI 0)), (0, .int (nI v))]) hx hb dX1_ones_7 rfl hl (by decide) rfl (fun ls hl => ?_)
    have loop : ∀ (f r : Nat), (∀ j, j < r → j * j < v) → r ≤ 23 → 24 ≤ r + f → ∀ ls : Array Slot, lv_has ls 2 [(0, .int (nI v)), (1, .int (nI r))] → W p l e (headSpec wsX1_ones ({ frames := 0, cells := 0, slots := 0, locals := 0 })).room s m ([.int (nI v)] : List Value).toArray below meth c s.heap [] 0 0 (MQ below (vp_Si (fun r => r = nI (ss_ones v))) ([.int (nI v)] : List Value).toArray s 0 0 (fun _ => False)) (F0 m 8 ls []) := by
      intro f
      induction f with
      | zero => intro r h1 h2 h3; exact absurd h3 (by omega)
      | succ f ih =>
        intro r hj hr23 hf ls hl
        have hb1 : r * r ≤ 23 * 23 := Nat.mul_le_mul hr23 hr23
        refine lv_iload_n hx hb dX1_ones_8 rfl (lv_at hl 1 rfl) ?_
        refine lv_iload_n hx hb dX1_ones_9 rfl (lv_at hl 1 rfl) ?_
        refine lv_imul hx hb dX1_ones_10 ?_
        refine ss_top (y := nI (r * r)) (pk_mul (r) (r)) ?_
        refine lv_iload_n hx hb dX1_ones_11 rfl (lv_at hl 0 rfl) ?_
        refine lv_icmp_ge (tgt := 22) hx hb dX1_ones_12 (by decide) (fun hc1 => ?_) (fun hc1 => ?_)
        · skip
          have hge : v ≤ r * r := (nI_leI (by omega) (by omega)).mp hc1
          refine lv_iload_n hx hb dX1_ones_22 rfl (lv_at hl 1 rfl) ?_
          refine lv_iload_n hx hb dX1_ones_23 rfl (lv_at hl 1 rfl) ?_
          refine lv_imul hx hb dX1_ones_24 ?_
          refine ss_top (y := nI (r * r)) (pk_mul (r) (r)) ?_
          refine lv_iload_n hx hb dX1_ones_25 rfl (lv_at hl 0 rfl) ?_
          refine lv_icmp_ne (tgt := 41) hx hb dX1_ones_26 (by decide) (fun hc2 => ?_) (fun hc2 => ?_)
          · skip
            have hne : r * r ≠ v := mt (nI_eq (by omega) (by omega)).mpr hc2
            have hsq : ss_sq v = 0 := ss_p_sq0 hv (fun q hq => by
              rcases Nat.lt_or_ge q r with h1 | h1
              · have h2 := hj q h1
                omega
              · have h2 := Nat.mul_le_mul h1 h1
                omega)
            have hv0 : v ≠ 0 := by
              intro q
              subst q
              rcases Nat.eq_zero_or_pos r with h1 | h1
              · exact hne (by rw [h1])
              · exact absurd (hj 0 h1) (by omega)
            refine lv_iconst (v := nI 0) hx hb dX1_ones_41 (by decide) ?_
            exact W.iret (v := nI 0) hx hb hr (fun t ht hW => ⟨_, rfl, by rw [ss_ones_p hv0, hsq], ht⟩) (fun q h => by cases h) dX1_ones_42
          · skip
            have heq : r * r = v := (nI_eq (by omega) (by omega)).mp hc2
            refine lv_iload_n hx hb dX1_ones_29 rfl (lv_at hl 1 rfl) ?_
            refine lv_if_ne (tgt := 37) hx hb dX1_ones_30 (by decide) (fun hc3 => ?_) (fun hc3 => ?_)
            · skip
              have hr0 : r ≠ 0 := mt (ss_z (by omega)).mpr hc3
              have hv0 : v ≠ 0 := by
                intro q
                rw [q] at heq
                rcases Nat.mul_eq_zero.mp heq with h1 | h1 <;> exact hr0 h1
              have hsq : ss_sq v = 1 := by rw [← heq]; exact ss_p_sqr (by omega)
              refine lv_iconst (v := nI 2) hx hb dX1_ones_37 (by decide) ?_
              refine lv_goto (tgt := 42) hx hb dX1_ones_38 (by decide) ?_
              exact W.iret (v := nI 2) hx hb hr (fun t ht hW => ⟨_, rfl, by rw [ss_ones_p hv0, hsq], ht⟩) (fun q h => by cases h) dX1_ones_42
            · skip
              have hr0 : r = 0 := (ss_z (by omega)).mp hc3
              have hv0 : v = 0 := by rw [← heq, hr0]
              refine lv_iconst (v := nI 1) hx hb dX1_ones_33 (by decide) ?_
              refine lv_goto (tgt := 42) hx hb dX1_ones_34 (by decide) ?_
              exact W.iret (v := nI 1) hx hb hr (fun t ht hW => ⟨_, rfl, by rw [hv0, ss_ones_0], ht⟩) (fun q h => by cases h) dX1_ones_42
        · skip
          have hlt : r * r < v := by have := mt (nI_leI (by omega) (by omega)).mpr hc1; omega
          have hr22 := ss_r23 (Nat.le_of_lt hlt) hv
          refine lv_iload_n hx hb dX1_ones_15 rfl (lv_at hl 1 rfl) ?_
          refine lv_iconst (v := nI 1) hx hb dX1_ones_16 (by decide) ?_
          refine lv_iadd hx hb dX1_ones_17 ?_
          refine ss_top (y := nI (r + 1)) (nI_add (r) (1)) ?_
          refine lv_istore_n (lv' := [(1, .int (nI (r + 1))), (0, .int (nI v))]) hx hb dX1_ones_18 rfl hl (by decide) rfl (fun ls hl => ?_)
          refine lv_goto (tgt := 8) hx hb dX1_ones_19 (by decide) ?_
          exact ih (r + 1) (fun j h => by
            rcases Nat.lt_or_ge j r with q | q
            · exact hj j q
            · have e : j = r := by omega
              rw [e]
              exact hlt) (by omega) (by omega) ls (lv_sub hl [1, 0] rfl)
    exact loop 24 0 (fun j h => absurd h (by omega)) (by omega) (by omega) ls (lv_sub hl [1, 0] rfl)
  · skip
    have er : r0 = 0 := by
      rcases hc0 with h | ⟨v, hv, ex, -⟩
      · exact h.2
      · exact absurd (by rw [ex]; exact nI_pos' (by omega)) hc
    refine lv_iconst (v := nI 0) hx hb dX1_ones_4 (by decide) ?_
    exact W.iret (v := nI 0) hx hb hr (fun t ht hW => ⟨_, rfl, by rw [er], ht⟩) (fun q h => by cases h) dX1_ones_5
abbrev wsX1_one : List Cond := ws_ yX1_one cX1_one 1 (some .int)
set_option maxHeartbeats 4000000 in
set_option maxRecDepth 100000 in
/-- one() of the reference -/
theorem met_one1 (l : Launch) (dC : Nat → ClassId) (dI : Nat → Nat → Nat) (o0 q1 n : Nat) (md : Int32) (hn : n < 512) : Met l yX1_one wsX1_one ({ frames := 1, cells := 0, slots := 0, locals := 21 }) (va_Pc [.ref o0] (fun U => va_P (dC, dI) vwCl [(o0, .inr (1, [.int (nI n), .ref q1, .int md]))] U.heap ∧ va_K (dC, dI) vwCl [] U)) (vp_Si (fun r => r = nI (ss_ones n))) 0 0 (fun _ => False) := by
  refine Met.ofW (cc := cX1_one) (maxL := 1) (ret := (some .int)) (by decide) rfl ?_
  intro p e s m args below meth c s₁ B hml hv
  obtain ⟨rfl, hP, hK⟩ := hv
  have hx := B.exec
  have hb := B.bytes
  have hr := B.returns
  have hts := atoms_spec (ws := wsX1_one) B.pre
  have hts : ∀ w ∈ lw_all, w.before _ s = true := fun w h => hts w (List.mem_cons_of_mem _ h)
  have hown : s.vm.findClass RX1 = some m.cls := findClass_of_methodNamed B.named
  have hlocks := B.notSynchronized
  have hl := lv_entry ([.ref o0]) (n := 1) (Nat.le_of_ble_eq_true rfl)
  rw [lg_entry_eq]
  generalize (lg_sl ([.ref o0]) ++ List.replicate (1 - (lg_sl ([.ref o0])).length) Slot.unset).toArray = ls at hl ⊢
  have hl : lv_has ls 1 [(0, .ref o0)] := hl
  refine lv_aload_n hx hb dX1_one_0 rfl (lv_at hl 0 rfl) ?_
  refine va_get (D := (dC, dI)) (ci := 1) (v := .int (nI n)) (C := RX1) (T := TX1) (N := 3) hx hb hts in_X1 hown hK hP 0 rfl rfl 0 (by decide) (hts _ q59) (fun _ h9 => h9) rfl dX1_one_1 ?_
  refine vp_callSi (W.runS (As := [.int (nI n)]) (rest := []) ⟨hx, hb, hml, hown, hts⟩ (met_ones l (nI n) (ss_ones n) (Or.inr ⟨n, hn, rfl, rfl⟩)) (va_cwS 1 hts (lw_S q78 q79 q3 q80) rfl rfl rfl (by decide +kernel) ⟨Nat.le_of_ble_eq_true rfl, Nat.le_of_ble_eq_true rfl⟩) ⟨fun a U g mk q => q, fun U hU hW => ⟨rfl, trivial⟩⟩ rfl rfl hl.1 rfl (lv_room (Nat.le_of_ble_eq_true rfl)) dX1_one_4 ⟨Nat.le_of_ble_eq_true rfl, Nat.le_of_ble_eq_true rfl⟩) (fun rr hq => ?_)
  obtain rfl : rr = nI (ss_ones n) := hq
  exact W.iret (v := nI (ss_ones n)) hx hb hr (fun t ht hW => ⟨_, rfl, rfl, ht⟩) (fun q h => by cases h) dX1_one_7
abbrev wsX1_triangles : List Cond := ws_ yX1_triangles cX1_triangles 4 (some .int)
set_option maxHeartbeats 4000000 in
set_option maxRecDepth 100000 in
/-- triangles() of the reference -/
theorem met_triangles1 (l : Launch) (dC : Nat → ClassId) (dI : Nat → Nat → Nat) (o0 q1 n : Nat) (md : Int32) (hn : n < 512) : Met l yX1_triangles wsX1_triangles ({ frames := 0, cells := 0, slots := 0, locals := 0 }) (va_Pc [.ref o0] (fun U => va_P (dC, dI) vwCl [(o0, .inr (1, [.int (nI n), .ref q1, .int md]))] U.heap ∧ va_K (dC, dI) vwCl [] U)) (vp_Si (fun r => r = nI (ss_tri n))) 0 0 (fun _ => False) := by
  refine Met.ofW (cc := cX1_triangles) (maxL := 4) (ret := (some .int)) (by decide) rfl ?_
  intro p e s m args below meth c s₁ B hml hv
  obtain ⟨rfl, hP, hK⟩ := hv
  have hx := B.exec
  have hb := B.bytes
  have hr := B.returns
  have hts := atoms_spec (ws := wsX1_triangles) B.pre
  have hts : ∀ w ∈ lw_all, w.before _ s = true := fun w h => hts w (List.mem_cons_of_mem _ h)
  have hown : s.vm.findClass RX1 = some m.cls := findClass_of_methodNamed B.named
  have hlocks := B.notSynchronized
  have hl := lv_entry ([.ref o0]) (n := 4) (Nat.le_of_ble_eq_true rfl)
  rw [lg_entry_eq]
  generalize (lg_sl ([.ref o0]) ++ List.replicate (4 - (lg_sl ([.ref o0])).length) Slot.unset).toArray = ls at hl ⊢
  have hl : lv_has ls 4 [(0, .ref o0)] := hl
  refine lv_iconst (v := nI 0) hx hb dX1_triangles_0 (by decide) ?_
  refine lv_istore_n (lv' := [(1, .int (nI 0)), (0, .ref o0)]) hx hb dX1_triangles_1 rfl hl (by decide) rfl (fun ls hl => ?_)
  refine lv_iconst (v := nI 0) hx hb dX1_triangles_2 (by decide) ?_
  refine lv_istore_n (lv' := [(2, .int (nI 0)), (1, .int (nI 0)), (0, .ref o0)]) hx hb dX1_triangles_3 rfl hl (by decide) rfl (fun ls hl => ?_)
  have outer : ∀ (f a : Nat), a ≤ 32 → 33 ≤ a + f → ∀ ls : Array Slot, lv_has ls 4 [(0, .ref o0), (1, .int (nI (ss_S (ss_row n) a))), (2, .int (nI a))] → W p l e (headSpec wsX1_triangles ({ frames := 0, cells := 0, slots := 0, locals := 0 })).room s m ([.ref o0] : List Value).toArray below meth c s.heap [] 0 0 (MQ below (vp_Si (fun r => r = nI (ss_tri n))) ([.ref o0] : List Value).toArray s 0 0 (fun _ => False)) (F0 m 4 ls []) := by
    intro f
    induction f with
    | zero => intro a h1 h2; exact absurd h2 (by omega)
    | succ f ih =>
      intro a ha hf ls hl
      have hb1 : a * (a + 1) ≤ 32 * 33 := Nat.mul_le_mul ha (by omega)
      have hta := ss_tt_le a (by omega)
      refine lv_iload_n hx hb dX1_triangles_4 rfl (lv_at hl 2 rfl) ?_
      refine lv_iload_n hx hb dX1_triangles_5 rfl (lv_at hl 2 rfl) ?_
      refine lv_iconst (v := nI 1) hx hb dX1_triangles_6 (by decide) ?_
      refine lv_iadd hx hb dX1_triangles_7 ?_
      refine ss_top (y := nI (a + 1)) (nI_add (a) (1)) ?_
      refine lv_imul hx hb dX1_triangles_8 ?_
      refine ss_top (y := nI (a * (a + 1))) (pk_mul (a) ((a + 1))) ?_
      refine lv_iconst (v := nI 2) hx hb dX1_triangles_9 (by decide) ?_
      refine lv_idiv hx hb dX1_triangles_10 (by decide) ?_
      refine ss_top (y := nI (ss_tt a)) (pk_div (a := a * (a + 1)) (d := 2) (by omega) (by decide) (by decide)) ?_
      refine lv_aload_n hx hb dX1_triangles_11 rfl (lv_at hl 0 rfl) ?_
      refine va_get (D := (dC, dI)) (ci := 1) (v := .int (nI n)) (C := RX1) (T := TX1) (N := 3) hx hb hts in_X1 hown hK hP 0 rfl rfl 0 (by decide) (hts _ q59) (fun _ h9 => h9) rfl dX1_triangles_12 ?_
      refine lv_icmp_gt (tgt := 80) hx hb dX1_triangles_15 (by decide) (fun hc1 => ?_) (fun hc1 => ?_)
      · skip
        have hgt : n < ss_tt a := (nI_ltI (by omega) (by omega)).mp hc1
        have hcut : ss_S (ss_row n) 32 = ss_S (ss_row n) a := ss_S_cut' ha (fun j h1 _ => ss_row_out (fun q => by
          have h2 := ss_tt_mono h1
          omega))
        refine lv_iload_n hx hb dX1_triangles_80 rfl (lv_at hl 1 rfl) ?_
        exact W.iret (v := nI (ss_S (ss_row n) a)) hx hb hr (fun t ht hW => ⟨_, rfl, by rw [← hcut]; rfl, ht⟩) (fun q h => by cases h) dX1_triangles_81
      · skip
        have hle : ss_tt a ≤ n := by have := mt (nI_ltI (by omega) (by omega)).mpr hc1; omega
        have ha32 := ss_tt_32 hle hn
        refine lv_iconst (v := nI 0) hx hb dX1_triangles_18 (by decide) ?_
        refine lv_istore_n (lv' := [(3, .int (nI 0)), (0, .ref o0), (1, .int (nI (ss_S (ss_row n) a))), (2, .int (nI a))]) hx hb dX1_triangles_19 rfl hl (by decide) rfl (fun ls hl => ?_)
        have inner : ∀ (f2 b : Nat), b ≤ 32 → 33 ≤ b + f2 → ∀ ls : Array Slot, lv_has ls 4 [(0, .ref o0), (1, .int (nI (ss_S (ss_row n) a + ss_S (ss_ce n a) b))), (2, .int (nI a)), (3, .int (nI b))] → W p l e (headSpec wsX1_triangles ({ frames := 0, cells := 0, slots := 0, locals := 0 })).room s m ([.ref o0] : List Value).toArray below meth c s.heap [] 0 0 (MQ below (vp_Si (fun r => r = nI (ss_tri n))) ([.ref o0] : List Value).toArray s 0 0 (fun _ => False)) (F0 m 20 ls []) := by
          intro f2
          induction f2 with
          | zero => intro b h1 h2; exact absurd h2 (by omega)
          | succ f2 ih2 =>
            intro b hb32 hf2 ls hl
            have hb2 : b * (b + 1) ≤ 32 * 33 := Nat.mul_le_mul hb32 (by omega)
            have htb := ss_tt_le b (by omega)
            have tail : ∀ (ls : Array Slot), b + 1 ≤ 32 → lv_has ls 4 [(0, .ref o0), (1, .int (nI (ss_S (ss_row n) a + ss_S (ss_ce n a) (b + 1)))), (2, .int (nI a)), (3, .int (nI b))] → W p l e (headSpec wsX1_triangles ({ frames := 0, cells := 0, slots := 0, locals := 0 })).room s m ([.ref o0] : List Value).toArray below meth c s.heap [] 0 0 (MQ below (vp_Si (fun r => r = nI (ss_tri n))) ([.ref o0] : List Value).toArray s 0 0 (fun _ => False)) (F0 m 68 ls []) := by
              intro ls hb3 hl
              refine lv_iinc (v := nI (b + 1)) (lv' := [(3, .int (nI (b + 1))), (0, .ref o0), (1, .int (nI (ss_S (ss_row n) a + ss_S (ss_ce n a) (b + 1)))), (2, .int (nI a))]) hx hb dX1_triangles_68 hl (k := 3) rfl (ss_inc b) (by decide) rfl (fun ls hl => ?_)
              refine lv_goto (tgt := 20) hx hb dX1_triangles_71 (by decide) ?_
              exact ih2 (b + 1) hb3 (by omega) ls (lv_sub hl [1, 2, 3, 0] rfl)
            refine lv_iload_n hx hb dX1_triangles_20 rfl (lv_at hl 2 rfl) ?_
            refine lv_iload_n hx hb dX1_triangles_21 rfl (lv_at hl 2 rfl) ?_
            refine lv_iconst (v := nI 1) hx hb dX1_triangles_22 (by decide) ?_
            refine lv_iadd hx hb dX1_triangles_23 ?_
            refine ss_top (y := nI (a + 1)) (nI_add (a) (1)) ?_
            refine lv_imul hx hb dX1_triangles_24 ?_
            refine ss_top (y := nI (a * (a + 1))) (pk_mul (a) ((a + 1))) ?_
            refine lv_iconst (v := nI 2) hx hb dX1_triangles_25 (by decide) ?_
            refine lv_idiv hx hb dX1_triangles_26 (by decide) ?_
            refine ss_top (y := nI (ss_tt a)) (pk_div (a := a * (a + 1)) (d := 2) (by omega) (by decide) (by decide)) ?_
            refine lv_iload_n hx hb dX1_triangles_27 rfl (lv_at hl 3 rfl) ?_
            refine lv_iload_n hx hb dX1_triangles_28 rfl (lv_at hl 3 rfl) ?_
            refine lv_iconst (v := nI 1) hx hb dX1_triangles_29 (by decide) ?_
            refine lv_iadd hx hb dX1_triangles_30 ?_
            refine ss_top (y := nI (b + 1)) (nI_add (b) (1)) ?_
            refine lv_imul hx hb dX1_triangles_31 ?_
            refine ss_top (y := nI (b * (b + 1))) (pk_mul (b) ((b + 1))) ?_
            refine lv_iconst (v := nI 2) hx hb dX1_triangles_32 (by decide) ?_
            refine lv_idiv hx hb dX1_triangles_33 (by decide) ?_
            refine ss_top (y := nI (ss_tt b)) (pk_div (a := b * (b + 1)) (d := 2) (by omega) (by decide) (by decide)) ?_
            refine lv_iadd hx hb dX1_triangles_34 ?_
            refine ss_top (y := nI ((ss_tt a) + (ss_tt b))) (nI_add ((ss_tt a)) ((ss_tt b))) ?_
            refine lv_aload_n hx hb dX1_triangles_35 rfl (lv_at hl 0 rfl) ?_
            refine va_get (D := (dC, dI)) (ci := 1) (v := .int (nI n)) (C := RX1) (T := TX1) (N := 3) hx hb hts in_X1 hown hK hP 0 rfl rfl 0 (by decide) (hts _ q59) (fun _ h9 => h9) rfl dX1_triangles_36 ?_
            refine lv_icmp_gt (tgt := 74) hx hb dX1_triangles_39 (by decide) (fun hc2 => ?_) (fun hc2 => ?_)
            · skip
              have hgt : n < ss_tt a + ss_tt b := (nI_ltI (by omega) (by omega)).mp hc2
              have hcut : ss_S (ss_ce n a) 32 = ss_S (ss_ce n a) b := ss_S_cut' hb32 (fun j h1 _ => ss_ce_0 (fun q => by
                have h2 := ss_tt_mono h1
                omega))
              refine lv_iinc (v := nI (a + 1)) (lv' := [(2, .int (nI (a + 1))), (0, .ref o0), (1, .int (nI (ss_S (ss_row n) a + ss_S (ss_ce n a) b))), (3, .int (nI b))]) hx hb dX1_triangles_74 hl (k := 2) rfl (ss_inc a) (by decide) rfl (fun ls hl => ?_)
              refine lv_goto (tgt := 4) hx hb dX1_triangles_77 (by decide) ?_
              exact ih (a + 1) (by omega) (by omega) ls (by rw [ss_S_s, ← ss_row_eq hn, hcut]; exact (lv_sub hl [1, 2, 0] rfl))
            · skip
              have hle2 : ss_tt a + ss_tt b ≤ n := by have := mt (nI_ltI (by omega) (by omega)).mpr hc2; omega
              have hb31 := ss_tt_32 (a := b) (n := n) (by omega) hn
              refine lv_iload_n hx hb dX1_triangles_42 rfl (lv_at hl 2 rfl) ?_
              refine lv_iload_n hx hb dX1_triangles_43 rfl (lv_at hl 2 rfl) ?_
              refine lv_iconst (v := nI 1) hx hb dX1_triangles_44 (by decide) ?_
              refine lv_iadd hx hb dX1_triangles_45 ?_
              refine ss_top (y := nI (a + 1)) (nI_add (a) (1)) ?_
              refine lv_imul hx hb dX1_triangles_46 ?_
              refine ss_top (y := nI (a * (a + 1))) (pk_mul (a) ((a + 1))) ?_
              refine lv_iconst (v := nI 2) hx hb dX1_triangles_47 (by decide) ?_
              refine lv_idiv hx hb dX1_triangles_48 (by decide) ?_
              refine ss_top (y := nI (ss_tt a)) (pk_div (a := a * (a + 1)) (d := 2) (by omega) (by decide) (by decide)) ?_
              refine lv_iload_n hx hb dX1_triangles_49 rfl (lv_at hl 3 rfl) ?_
              refine lv_iload_n hx hb dX1_triangles_50 rfl (lv_at hl 3 rfl) ?_
              refine lv_iconst (v := nI 1) hx hb dX1_triangles_51 (by decide) ?_
              refine lv_iadd hx hb dX1_triangles_52 ?_
              refine ss_top (y := nI (b + 1)) (nI_add (b) (1)) ?_
              refine lv_imul hx hb dX1_triangles_53 ?_
              refine ss_top (y := nI (b * (b + 1))) (pk_mul (b) ((b + 1))) ?_
              refine lv_iconst (v := nI 2) hx hb dX1_triangles_54 (by decide) ?_
              refine lv_idiv hx hb dX1_triangles_55 (by decide) ?_
              refine ss_top (y := nI (ss_tt b)) (pk_div (a := b * (b + 1)) (d := 2) (by omega) (by decide) (by decide)) ?_
              refine lv_iadd hx hb dX1_triangles_56 ?_
              refine ss_top (y := nI ((ss_tt a) + (ss_tt b))) (nI_add ((ss_tt a)) ((ss_tt b))) ?_
              refine lv_aload_n hx hb dX1_triangles_57 rfl (lv_at hl 0 rfl) ?_
              refine va_get (D := (dC, dI)) (ci := 1) (v := .int (nI n)) (C := RX1) (T := TX1) (N := 3) hx hb hts in_X1 hown hK hP 0 rfl rfl 0 (by decide) (hts _ q59) (fun _ h9 => h9) rfl dX1_triangles_58 ?_
              refine lv_icmp_ne (tgt := 68) hx hb dX1_triangles_61 (by decide) (fun hc3 => ?_) (fun hc3 => ?_)
              · skip
                have hne : ¬ ss_tt a + ss_tt b = n := mt (nI_eq (by omega) (by omega)).mpr hc3
                exact tail ls (by omega) (by rw [ss_S_s, ss_ce_0 hne]; exact (lv_sub hl [0, 1, 2, 3] rfl))
              · skip
                have heq : ss_tt a + ss_tt b = n := (nI_eq (by omega) (by omega)).mp hc3
                refine lv_iload_n hx hb dX1_triangles_64 rfl (lv_at hl 1 rfl) ?_
                refine lv_iconst (v := nI 1) hx hb dX1_triangles_65 (by decide) ?_
                refine lv_iadd hx hb dX1_triangles_66 ?_
                refine ss_top (y := nI (ss_S (ss_row n) a + ss_S (ss_ce n a) (b + 1))) (by rw [nI_add, ss_S_s, ss_ce_1 heq, Nat.add_assoc]) ?_
                refine lv_istore_n (lv' := [(1, .int (nI (ss_S (ss_row n) a + ss_S (ss_ce n a) (b + 1)))), (0, .ref o0), (2, .int (nI a)), (3, .int (nI b))]) hx hb dX1_triangles_67 rfl hl (by decide) rfl (fun ls hl => ?_)
                exact tail ls (by omega) (lv_sub hl [1, 0, 2, 3] rfl)
        exact inner 33 0 (by omega) (by omega) ls (lv_sub hl [1, 2, 3, 0] rfl)
  exact outer 33 0 (by omega) (by omega) ls (lv_sub hl [2, 1, 0] rfl)
abbrev wsX1_make : List Cond := ws_ yX1_make cX1_make 4 none
set_option maxHeartbeats 4000000 in
set_option maxRecDepth 100000 in
/-- make(): the table is there -/
theorem met_make (l : Launch) (dC : Nat → ClassId) (dI : Nat → Nat → Nat) (o0 q1 n : Nat) (d1 : ClassId) (sz : Nat) (md : Int32) (f : Nat → Int32) (hn : n < 512) (hok : ss_ok md f) : Met l yX1_make wsX1_make ({ frames := 1, cells := 0, slots := 0, locals := 21 }) (va_Pc [.ref o0] (fun U => U.heap.size = sz ∧ va_P (dC, dI) vwCl [(o0, .inr (1, [.int (nI n), .ref q1, .int md])), (q1, .inl (d1, 512, .inl f))] U.heap ∧ va_K (dC, dI) vwCl [(d1, .int)] U ∧ va_D (fun _ => True) [(o0, .inr (1, [.int (nI n), .ref q1, .int md])), (q1, .inl (d1, 512, .inl f))])) (va_Qv (fun u : Nat → Int32 => ∀ j, j < 512 → u j = nI (ss_tw j)) (fun (u : Nat → Int32) (t : State) => va_P (dC, dI) vwCl [(o0, .inr (1, [.int (nI n), .ref q1, .int (nI 1)])), (q1, .inl (d1, 512, .inl u))] t.heap ∧ va_K (dC, dI) vwCl [(d1, .int)] t ∧ va_D (va_A [(o0, .inr (1, [.int (nI n), .ref q1, .int md])), (q1, .inl (d1, 512, .inl f))] sz) [(o0, .inr (1, [.int (nI n), .ref q1, .int (nI 1)])), (q1, .inl (d1, 512, .inl u))]) (va_A [(o0, .inr (1, [.int (nI n), .ref q1, .int md])), (q1, .inl (d1, 512, .inl f))] sz)) 0 0 (va_A [(o0, .inr (1, [.int (nI n), .ref q1, .int md])), (q1, .inl (d1, 512, .inl f))] sz) := by
  refine Met.ofW (cc := cX1_make) (maxL := 4) (ret := none) (by decide) rfl ?_
  intro p e s m args below meth c s₁ B hml hv
  obtain ⟨rfl, hsz, hP, hK, hD0⟩ := hv
  have hx := B.exec
  have hb := B.bytes
  have hr := B.returns
  have hts := atoms_spec (ws := wsX1_make) B.pre
  have hts : ∀ w ∈ lw_all, w.before _ s = true := fun w h => hts w (List.mem_cons_of_mem _ h)
  have hown : s.vm.findClass RX1 = some m.cls := findClass_of_methodNamed B.named
  have hlocks := B.notSynchronized
  subst hsz
  have hD := hD0.self (sz := s.heap.size)
  generalize hAe : va_A [(o0, .inr (1, [.int (nI n), .ref q1, .int md])), (q1, .inl (d1, 512, .inl f))] s.heap.size = A at hD ⊢
  have hA : ∀ q : Nat, s.heap.size ≤ q → A q := fun q h => by rw [← hAe]; exact Or.inr h
  have hS : va_S A s.heap s.heap [] := va_S.rf
  have hP : va_P (dC, dI) vwCl [(o0, .inr (1, [.int (nI n), .ref q1, .int md])), (q1, .inl (d1, 512, .inl f))] s.heap := hP
  have hl := lv_entry ([.ref o0]) (n := 4) (Nat.le_of_ble_eq_true rfl)
  rw [lg_entry_eq]
  generalize (lg_sl ([.ref o0]) ++ List.replicate (4 - (lg_sl ([.ref o0])).length) Slot.unset).toArray = ls at hl ⊢
  have hl : lv_has ls 4 [(0, .ref o0)] := hl
  refine lv_aload_n hx hb dX1_make_0 rfl (lv_at hl 0 rfl) ?_
  refine va_get (D := (dC, dI)) (ci := 1) (v := .int (md)) (C := RX1) (T := TX1) (N := 3) hx hb hts in_X1 hown hK hP 0 rfl rfl 2 (by decide) (hts _ q61) (fun _ h9 => h9) rfl dX1_make_1 ?_
  refine lv_if_eq (tgt := 8) hx hb dX1_make_4 (by decide) (fun hc => ?_) (fun hc => ?_)
  · skip
    refine lv_aload_n hx hb dX1_make_8 rfl (lv_at hl 0 rfl) ?_
    refine lv_iconst (v := nI 1) hx hb dX1_make_9 (by decide) ?_
    refine va_put (D := (dC, dI)) (ci := 1) (v := .int (nI 1)) (ty := .boolean) (C := RX1) (T := TX1) (N := 3) hx hb hts in_X1 tyX1 tyX1_ok nmX1 hown hK hP hD hS 0 rfl rfl 2 (by decide) (hts _ q61) (fun _ h9 => h9) rfl (by decide +kernel) rfl rfl (Nat.le_of_ble_eq_true rfl) dX1_make_10 (fun H locs hP hD hS => ?_)
    have hP : va_P (dC, dI) vwCl [(o0, .inr (1, [.int (nI n), .ref q1, .int (nI 1)])), (q1, .inl (d1, 512, .inl f))] H := hP
    have hD : va_D A [(o0, .inr (1, [.int (nI n), .ref q1, .int (nI 1)])), (q1, .inl (d1, 512, .inl f))] := hD
    refine lv_iconst (v := nI 0) hx hb dX1_make_13 (by decide) ?_
    refine lv_istore_n (lv' := [(1, .int (nI 0)), (0, .ref o0)]) hx hb dX1_make_14 rfl hl (by decide) rfl (fun ls hl => ?_)
    have outer : ∀ (gg v : Nat), v ≤ 512 → 513 ≤ v + gg → ∀ (f : Nat → Int32) (H : Heap) (locs : List Loc), (∀ j, j < v → f j = nI (ss_tw j)) → va_P (dC, dI) vwCl [(o0, .inr (1, [.int (nI n), .ref q1, .int (nI 1)])), (q1, .inl (d1, 512, .inl f))] H → va_D A [(o0, .inr (1, [.int (nI n), .ref q1, .int (nI 1)])), (q1, .inl (d1, 512, .inl f))] → va_S A s.heap H locs → ∀ ls : Array Slot, lv_has ls 4 [(0, .ref o0), (1, .int (nI v))] → W p l e (headSpec wsX1_make ({ frames := 1, cells := 0, slots := 0, locals := 21 })).room s m ([.ref o0] : List Value).toArray below meth c H locs 0 0 (MQ below (va_Qv (fun u : Nat → Int32 => ∀ j, j < 512 → u j = nI (ss_tw j)) (fun (u : Nat → Int32) (t : State) => va_P (dC, dI) vwCl [(o0, .inr (1, [.int (nI n), .ref q1, .int (nI 1)])), (q1, .inl (d1, 512, .inl u))] t.heap ∧ va_K (dC, dI) vwCl [(d1, .int)] t ∧ va_D A [(o0, .inr (1, [.int (nI n), .ref q1, .int (nI 1)])), (q1, .inl (d1, 512, .inl u))]) A) ([.ref o0] : List Value).toArray s 0 0 A) (F0 m 15 ls []) := by
      intro gg
      induction gg with
      | zero => intro v h1 h2; exact absurd h2 (by omega)
      | succ gg ih =>
        intro v hv hg f H locs hf hP hD hS ls hl
        refine lv_iload_n hx hb dX1_make_15 rfl (lv_at hl 1 rfl) ?_
        refine lv_sipush (v := nI 512) hx hb dX1_make_16 (by decide) ?_
        refine lv_icmp_ge (tgt := 63) hx hb dX1_make_19 (by decide) (fun hc1 => ?_) (fun hc1 => ?_)
        · skip
          have hv5 : v = 512 := by have := (nI_leI (by omega) (by omega)).mp hc1; omega
          exact W.vret hx hb hr (fun t ht hW => ⟨⟨f, rfl, (fun j hj => hf j (by omega)), by rw [ht]; exact hP, va_K.moved hW.alike hK, hD⟩, hS.F ht⟩) hS.2.2 dX1_make_63
        · skip
          have hv5 : v < 512 := by have := mt (nI_leI (by omega) (by omega)).mpr hc1; omega
          refine lv_iconst (v := nI 0) hx hb dX1_make_22 (by decide) ?_
          refine lv_istore_n (lv' := [(2, .int (nI 0)), (0, .ref o0), (1, .int (nI v))]) hx hb dX1_make_23 rfl hl (by decide) rfl (fun ls hl => ?_)
          refine lv_bipush (v := nI 0 - nI 22) hx hb dX1_make_24 (by decide) ?_
          refine lv_istore_n (lv' := [(3, .int (nI 0 - nI 22)), (2, .int (nI 0)), (0, .ref o0), (1, .int (nI v))]) hx hb dX1_make_26 rfl hl (by decide) rfl (fun ls hl => ?_)
          have inner : ∀ (g2 i : Nat), i ≤ 45 → 46 ≤ i + g2 → ∀ ls : Array Slot, lv_has ls 4 [(0, .ref o0), (1, .int (nI v)), (2, .int (nI (ss_S (ss_on v) i))), (3, .int (nI i - nI 22))] → W p l e (headSpec wsX1_make ({ frames := 1, cells := 0, slots := 0, locals := 21 })).room s m ([.ref o0] : List Value).toArray below meth c H locs 0 0 (MQ below (va_Qv (fun u : Nat → Int32 => ∀ j, j < 512 → u j = nI (ss_tw j)) (fun (u : Nat → Int32) (t : State) => va_P (dC, dI) vwCl [(o0, .inr (1, [.int (nI n), .ref q1, .int (nI 1)])), (q1, .inl (d1, 512, .inl u))] t.heap ∧ va_K (dC, dI) vwCl [(d1, .int)] t ∧ va_D A [(o0, .inr (1, [.int (nI n), .ref q1, .int (nI 1)])), (q1, .inl (d1, 512, .inl u))]) A) ([.ref o0] : List Value).toArray s 0 0 A) (F0 m 27 ls []) := by
            intro g2
            induction g2 with
            | zero => intro i h1 h2; exact absurd h2 (by omega)
            | succ g2 ih2 =>
              intro i hi hg2 ls hl
              have ha2 := ss_b22 i (by omega)
              refine lv_iload_n hx hb dX1_make_27 rfl (lv_at hl 3 rfl) ?_
              refine lv_bipush (v := nI 22) hx hb dX1_make_28 (by decide) ?_
              refine lv_icmp_gt (tgt := 50) hx hb dX1_make_30 (by decide) (fun hc2 => ?_) (fun hc2 => ?_)
              · skip
                have hi5 : i = 45 := by have := (ss_g22 i (by omega)).mp hc2; omega
                refine lv_aload_n hx hb dX1_make_50 rfl (lv_at hl 0 rfl) ?_
                refine va_get (D := (dC, dI)) (ci := 1) (v := .ref q1) (C := RX1) (T := TX1) (N := 3) hx hb hts in_X1 hown hK hP 0 rfl rfl 1 (by decide) (hts _ q60) (fun _ h9 => h9) rfl dX1_make_51 ?_
                refine lv_iload_n hx hb dX1_make_54 rfl (lv_at hl 1 rfl) ?_
                refine lv_iload_n hx hb dX1_make_55 rfl (lv_at hl 2 rfl) ?_
                refine va_iast hx hb hK hP hD hS 1 0 rfl rfl (vp_in_nI hv5 (by decide)) dX1_make_56 (fun H locs hP hD hS => ?_)
                have hP : va_P (dC, dI) vwCl [(o0, .inr (1, [.int (nI n), .ref q1, .int (nI 1)])), (q1, .inl (d1, 512, .inl (upd f (nI v).toNatClampNeg (nI (ss_S (ss_on v) i)))))] H := hP
                have hD : va_D A [(o0, .inr (1, [.int (nI n), .ref q1, .int (nI 1)])), (q1, .inl (d1, 512, .inl (upd f (nI v).toNatClampNeg (nI (ss_S (ss_on v) i)))))] := hD
                rw [nI_clamp (by omega)] at hP hD
                refine lv_iinc (v := nI (v + 1)) (lv' := [(1, .int (nI (v + 1))), (0, .ref o0), (2, .int (nI (ss_S (ss_on v) i))), (3, .int (nI i - nI 22))]) hx hb dX1_make_57 hl (k := 1) rfl (ss_inc v) (by decide) rfl (fun ls hl => ?_)
                refine lv_goto (tgt := 15) hx hb dX1_make_60 (by decide) ?_
                exact ih (v + 1) (by omega) (by omega) (upd f v (nI (ss_S (ss_on v) i))) H locs (fun j hj => by
                  by_cases e : j = v
                  · rw [e, pk_us, hi5, ss_p_tw hv5]
                  · rw [pk_un e]
                    exact hf j (by omega)) hP hD hS ls (lv_sub hl [1, 0] rfl)
              · skip
                have hi5 : i < 45 := by have := mt (ss_g22 i (by omega)).mpr hc2; omega
                refine lv_iload_n hx hb dX1_make_33 rfl (lv_at hl 2 rfl) ?_
                refine lv_iload_n hx hb dX1_make_34 rfl (lv_at hl 1 rfl) ?_
                refine lv_iload_n hx hb dX1_make_35 rfl (lv_at hl 3 rfl) ?_
                refine lv_iload_n hx hb dX1_make_36 rfl (lv_at hl 3 rfl) ?_
                refine lv_imul hx hb dX1_make_37 ?_
                refine ss_top (y := nI (ss_a2 i)) (ss_q22 i (by omega)) ?_
                refine lv_isub hx hb dX1_make_38 ?_
                refine vp_callSi (W.runS (As := [.int (nI v - nI (ss_a2 i))]) (rest := [.int (nI (ss_S (ss_on v) i))]) ⟨hx, hb, hml, hown, hts⟩ (met_ones l (nI v - nI (ss_a2 i)) (ss_on v i) (by
                  by_cases h : ss_a2 i ≤ v
                  · exact Or.inr ⟨v - ss_a2 i, by omega, pk_sub h, ss_on_in h⟩
                  · exact Or.inl ⟨pk_sneg (by omega) (by omega), ss_on_out h⟩)) (va_cwS 1 hts (lw_S q78 q79 q3 q80) rfl rfl rfl (by decide +kernel) ⟨Nat.le_of_ble_eq_true rfl, Nat.le_of_ble_eq_true rfl⟩) ⟨fun a U g mk q => q, fun U hU hW => ⟨rfl, trivial⟩⟩ rfl rfl hl.1 rfl (lv_room (Nat.le_of_ble_eq_true rfl)) dX1_make_39 ⟨Nat.le_of_ble_eq_true rfl, Nat.le_of_ble_eq_true rfl⟩) (fun rr hq => ?_)
                obtain rfl : rr = nI (ss_on v i) := hq
                refine lv_iadd hx hb dX1_make_42 ?_
                refine ss_top (y := nI (ss_S (ss_on v) (i + 1))) (by rw [nI_add, ss_S_s]) ?_
                refine lv_istore_n (lv' := [(2, .int (nI (ss_S (ss_on v) (i + 1)))), (0, .ref o0), (1, .int (nI v)), (3, .int (nI i - nI 22))]) hx hb dX1_make_43 rfl hl (by decide) rfl (fun ls hl => ?_)
                refine lv_iinc (v := nI (i + 1) - nI 22) (lv' := [(3, .int (nI (i + 1) - nI 22)), (2, .int (nI (ss_S (ss_on v) (i + 1)))), (0, .ref o0), (1, .int (nI v))]) hx hb dX1_make_44 hl (k := 3) rfl (ss_i22 i) (by decide) rfl (fun ls hl => ?_)
                refine lv_goto (tgt := 27) hx hb dX1_make_47 (by decide) ?_
                exact ih2 (i + 1) (by omega) (by omega) ls (lv_sub hl [2, 3, 1, 0] rfl)
          exact inner 46 0 (by omega) (by omega) ls (lv_sub hl [2, 3, 1, 0] rfl)
    exact outer 513 0 (by omega) (by omega) f H locs (fun j hj => absurd hj (by omega)) hP hD hS ls (lv_sub hl [1, 0] rfl)
  · skip
    obtain ⟨rfl, hf⟩ : md = nI 1 ∧ ∀ j, j < 512 → f j = nI (ss_tw j) := by
      rcases hok with h | h
      · exact absurd (h.trans nI_0) hc
      · exact h
    exact W.vret hx hb hr (fun t ht hW => ⟨⟨f, rfl, hf, by rw [ht]; exact hP, va_K.moved hW.alike hK, hD⟩, hS.F ht⟩) hS.2.2 dX1_make_7
abbrev wsX1_two : List Cond := ws_ yX1_two cX1_two 1 (some .int)
set_option maxHeartbeats 4000000 in
set_option maxRecDepth 100000 in
/-- two() of the reference -/
theorem met_two1 (l : Launch) (dC : Nat → ClassId) (dI : Nat → Nat → Nat) (o0 q1 n : Nat) (d1 : ClassId) (sz : Nat) (md : Int32) (f : Nat → Int32) (hn : n < 512) (hok : ss_ok md f) : Met l yX1_two wsX1_two ({ frames := 2, cells := 0, slots := 0, locals := 44 }) (va_Pc [.ref o0] (fun U => U.heap.size = sz ∧ va_P (dC, dI) vwCl [(o0, .inr (1, [.int (nI n), .ref q1, .int md])), (q1, .inl (d1, 512, .inl f))] U.heap ∧ va_K (dC, dI) vwCl [(d1, .int)] U ∧ va_D (fun _ => True) [(o0, .inr (1, [.int (nI n), .ref q1, .int md])), (q1, .inl (d1, 512, .inl f))])) (va_Qi (fun (r : Int32) (u : Nat → Int32) => r = nI (ss_tw n) ∧ ∀ j, j < 512 → u j = nI (ss_tw j)) (fun (u : Nat → Int32) (t : State) => va_P (dC, dI) vwCl [(o0, .inr (1, [.int (nI n), .ref q1, .int (nI 1)])), (q1, .inl (d1, 512, .inl u))] t.heap ∧ va_K (dC, dI) vwCl [(d1, .int)] t ∧ va_D (va_A [(o0, .inr (1, [.int (nI n), .ref q1, .int md])), (q1, .inl (d1, 512, .inl f))] sz) [(o0, .inr (1, [.int (nI n), .ref q1, .int (nI 1)])), (q1, .inl (d1, 512, .inl u))]) (va_A [(o0, .inr (1, [.int (nI n), .ref q1, .int md])), (q1, .inl (d1, 512, .inl f))] sz)) 0 0 (va_A [(o0, .inr (1, [.int (nI n), .ref q1, .int md])), (q1, .inl (d1, 512, .inl f))] sz) := by
  refine Met.ofW (cc := cX1_two) (maxL := 1) (ret := (some .int)) (by decide) rfl ?_
  intro p e s m args below meth c s₁ B hml hv
  obtain ⟨rfl, hsz, hP, hK, hD0⟩ := hv
  have hx := B.exec
  have hb := B.bytes
  have hr := B.returns
  have hts := atoms_spec (ws := wsX1_two) B.pre
  have hts : ∀ w ∈ lw_all, w.before _ s = true := fun w h => hts w (List.mem_cons_of_mem _ h)
  have hown : s.vm.findClass RX1 = some m.cls := findClass_of_methodNamed B.named
  have hlocks := B.notSynchronized
  subst hsz
  have hD := hD0.self (sz := s.heap.size)
  generalize hAe : va_A [(o0, .inr (1, [.int (nI n), .ref q1, .int md])), (q1, .inl (d1, 512, .inl f))] s.heap.size = A at hD ⊢
  have hA : ∀ q : Nat, s.heap.size ≤ q → A q := fun q h => by rw [← hAe]; exact Or.inr h
  have hS : va_S A s.heap s.heap [] := va_S.rf
  have hP : va_P (dC, dI) vwCl [(o0, .inr (1, [.int (nI n), .ref q1, .int md])), (q1, .inl (d1, 512, .inl f))] s.heap := hP
  have hl := lv_entry ([.ref o0]) (n := 1) (Nat.le_of_ble_eq_true rfl)
  rw [lg_entry_eq]
  generalize (lg_sl ([.ref o0]) ++ List.replicate (1 - (lg_sl ([.ref o0])).length) Slot.unset).toArray = ls at hl ⊢
  have hl : lv_has ls 1 [(0, .ref o0)] := hl
  refine lv_aload_n hx hb dX1_two_0 rfl (lv_at hl 0 rfl) ?_
  have hFc := va_free (wc := [(o0, .inr (1, [.int (nI n), .ref q1, .int md])), (q1, .inl (d1, 512, .inl f))]) hD hS hA [0, 1] rfl
  refine va_callv (va_runV (As := []) (rest := []) ⟨hx, hb, hml, hown, hts⟩ (met_make l dC dI o0 q1 n d1 s.heap.size md f hn hok) (cwV 0 hts (lw_V q85 q87 qs0 q3 q88) rfl rfl rfl (by decide +kernel) ⟨Nat.le_of_ble_eq_true rfl, Nat.le_of_ble_eq_true rfl⟩) ⟨fun a U g mk q => by obtain ⟨z0, z1, qP, qK, qD⟩ := q; exact ⟨z0, z1, qP, va_K.moved (u := U) (U := U.calling g mk a) (Vm.Alike.refl U.vm) qK, qD⟩, va_recv hK hP (ci := 1) (q0 := 0) rfl rfl, fun U hU hW => ⟨rfl, by rw [hU], by rw [hU]; exact hP, va_K.moved hW.alike hK, hD.weaken (fun _ _ _ _ => trivial)⟩⟩ rfl rfl hl.1 rfl (lv_room (Nat.le_of_ble_eq_true rfl)) dX1_two_1 ⟨Nat.le_of_ble_eq_true rfl, Nat.le_of_ble_eq_true rfl⟩) hS (fun q _ h => hFc q h) hFc (fun u t H1 locs ht hvm hwu hB hz1 hk1 hS => ?_)
  obtain ⟨hP1, hK1, hD1⟩ := hB
  rw [ht] at hP1
  have hK1 := va_K.moved hvm.symm hK1
  obtain ⟨hP, hD⟩ := va_join (wr := []) (w1 := [(o0, .inr (1, [.int (nI n), .ref q1, .int (nI 1)])), (q1, .inl (d1, 512, .inl u))]) hP hD [0, 1] [] rfl rfl (by decide) (by decide) hk1 hFc hP1 hD1
  generalize H1 = H at hP hS ⊢
  have hP : va_P (dC, dI) vwCl [(o0, .inr (1, [.int (nI n), .ref q1, .int (nI 1)])), (q1, .inl (d1, 512, .inl u))] H := hP
  have hD : va_D A [(o0, .inr (1, [.int (nI n), .ref q1, .int (nI 1)])), (q1, .inl (d1, 512, .inl u))] := hD
  refine lv_aload_n hx hb dX1_two_4 rfl (lv_at hl 0 rfl) ?_
  refine va_get (D := (dC, dI)) (ci := 1) (v := .ref q1) (C := RX1) (T := TX1) (N := 3) hx hb hts in_X1 hown hK hP 0 rfl rfl 1 (by decide) (hts _ q60) (fun _ h9 => h9) rfl dX1_two_5 ?_
  refine lv_aload_n hx hb dX1_two_8 rfl (lv_at hl 0 rfl) ?_
  refine va_get (D := (dC, dI)) (ci := 1) (v := .int (nI n)) (C := RX1) (T := TX1) (N := 3) hx hb hts in_X1 hown hK hP 0 rfl rfl 0 (by decide) (hts _ q59) (fun _ h9 => h9) rfl dX1_two_9 ?_
  refine va_iald hx hb hK hP 1 0 rfl rfl (vp_in_nI (n := n) hn (by decide)) dX1_two_12 ?_
  refine ss_top (y := nI (ss_tw (n))) (by rw [nI_clamp (by omega)]; exact hwu (n) hn) ?_
  exact W.iret (v := nI (ss_tw (n))) hx hb hr (fun t ht hW => ⟨⟨_, u, rfl, ⟨rfl, hwu⟩, by rw [ht]; exact hP, va_K.moved hW.alike hK, hD⟩, hS.F ht⟩) hS.2.2 dX1_two_13
abbrev wsX1_three : List Cond := ws_ yX1_three cX1_three 3 (some .int)
set_option maxHeartbeats 4000000 in
set_option maxRecDepth 100000 in
/-- three() of the reference -/
theorem met_three1 (l : Launch) (dC : Nat → ClassId) (dI : Nat → Nat → Nat) (o0 q1 n : Nat) (d1 : ClassId) (sz : Nat) (md : Int32) (f : Nat → Int32) (hn : n < 512) (hok : ss_ok md f) : Met l yX1_three wsX1_three ({ frames := 2, cells := 0, slots := 0, locals := 44 }) (va_Pc [.ref o0] (fun U => U.heap.size = sz ∧ va_P (dC, dI) vwCl [(o0, .inr (1, [.int (nI n), .ref q1, .int md])), (q1, .inl (d1, 512, .inl f))] U.heap ∧ va_K (dC, dI) vwCl [(d1, .int)] U ∧ va_D (fun _ => True) [(o0, .inr (1, [.int (nI n), .ref q1, .int md])), (q1, .inl (d1, 512, .inl f))])) (va_Qi (fun (r : Int32) (u : Nat → Int32) => r = nI (ss_S (ss_m3 n) 45) ∧ ∀ j, j < 512 → u j = nI (ss_tw j)) (fun (u : Nat → Int32) (t : State) => va_P (dC, dI) vwCl [(o0, .inr (1, [.int (nI n), .ref q1, .int (nI 1)])), (q1, .inl (d1, 512, .inl u))] t.heap ∧ va_K (dC, dI) vwCl [(d1, .int)] t ∧ va_D (va_A [(o0, .inr (1, [.int (nI n), .ref q1, .int md])), (q1, .inl (d1, 512, .inl f))] sz) [(o0, .inr (1, [.int (nI n), .ref q1, .int (nI 1)])), (q1, .inl (d1, 512, .inl u))]) (va_A [(o0, .inr (1, [.int (nI n), .ref q1, .int md])), (q1, .inl (d1, 512, .inl f))] sz)) 0 0 (va_A [(o0, .inr (1, [.int (nI n), .ref q1, .int md])), (q1, .inl (d1, 512, .inl f))] sz) := by
  refine Met.ofW (cc := cX1_three) (maxL := 3) (ret := (some .int)) (by decide) rfl ?_
  intro p e s m args below meth c s₁ B hml hv
  obtain ⟨rfl, hsz, hP, hK, hD0⟩ := hv
  have hx := B.exec
  have hb := B.bytes
  have hr := B.returns
  have hts := atoms_spec (ws := wsX1_three) B.pre
  have hts : ∀ w ∈ lw_all, w.before _ s = true := fun w h => hts w (List.mem_cons_of_mem _ h)
  have hown : s.vm.findClass RX1 = some m.cls := findClass_of_methodNamed B.named
  have hlocks := B.notSynchronized
  subst hsz
  have hD := hD0.self (sz := s.heap.size)
  generalize hAe : va_A [(o0, .inr (1, [.int (nI n), .ref q1, .int md])), (q1, .inl (d1, 512, .inl f))] s.heap.size = A at hD ⊢
  have hA : ∀ q : Nat, s.heap.size ≤ q → A q := fun q h => by rw [← hAe]; exact Or.inr h
  have hS : va_S A s.heap s.heap [] := va_S.rf
  have hP : va_P (dC, dI) vwCl [(o0, .inr (1, [.int (nI n), .ref q1, .int md])), (q1, .inl (d1, 512, .inl f))] s.heap := hP
  have hl := lv_entry ([.ref o0]) (n := 3) (Nat.le_of_ble_eq_true rfl)
  rw [lg_entry_eq]
  generalize (lg_sl ([.ref o0]) ++ List.replicate (3 - (lg_sl ([.ref o0])).length) Slot.unset).toArray = ls at hl ⊢
  have hl : lv_has ls 3 [(0, .ref o0)] := hl
  refine lv_aload_n hx hb dX1_three_0 rfl (lv_at hl 0 rfl) ?_
  have hFc := va_free (wc := [(o0, .inr (1, [.int (nI n), .ref q1, .int md])), (q1, .inl (d1, 512, .inl f))]) hD hS hA [0, 1] rfl
  refine va_callv (va_runV (As := []) (rest := []) ⟨hx, hb, hml, hown, hts⟩ (met_make l dC dI o0 q1 n d1 s.heap.size md f hn hok) (cwV 0 hts (lw_V q85 q87 qs0 q3 q88) rfl rfl rfl (by decide +kernel) ⟨Nat.le_of_ble_eq_true rfl, Nat.le_of_ble_eq_true rfl⟩) ⟨fun a U g mk q => by obtain ⟨z0, z1, qP, qK, qD⟩ := q; exact ⟨z0, z1, qP, va_K.moved (u := U) (U := U.calling g mk a) (Vm.Alike.refl U.vm) qK, qD⟩, va_recv hK hP (ci := 1) (q0 := 0) rfl rfl, fun U hU hW => ⟨rfl, by rw [hU], by rw [hU]; exact hP, va_K.moved hW.alike hK, hD.weaken (fun _ _ _ _ => trivial)⟩⟩ rfl rfl hl.1 rfl (lv_room (Nat.le_of_ble_eq_true rfl)) dX1_three_1 ⟨Nat.le_of_ble_eq_true rfl, Nat.le_of_ble_eq_true rfl⟩) hS (fun q _ h => hFc q h) hFc (fun u t H1 locs ht hvm hwu hB hz1 hk1 hS => ?_)
  obtain ⟨hP1, hK1, hD1⟩ := hB
  rw [ht] at hP1
  have hK1 := va_K.moved hvm.symm hK1
  obtain ⟨hP, hD⟩ := va_join (wr := []) (w1 := [(o0, .inr (1, [.int (nI n), .ref q1, .int (nI 1)])), (q1, .inl (d1, 512, .inl u))]) hP hD [0, 1] [] rfl rfl (by decide) (by decide) hk1 hFc hP1 hD1
  generalize H1 = H at hP hS ⊢
  have hP : va_P (dC, dI) vwCl [(o0, .inr (1, [.int (nI n), .ref q1, .int (nI 1)])), (q1, .inl (d1, 512, .inl u))] H := hP
  have hD : va_D A [(o0, .inr (1, [.int (nI n), .ref q1, .int (nI 1)])), (q1, .inl (d1, 512, .inl u))] := hD
  refine lv_iconst (v := nI 0) hx hb dX1_three_4 (by decide) ?_
  refine lv_istore_n (lv' := [(1, .int (nI 0)), (0, .ref o0)]) hx hb dX1_three_5 rfl hl (by decide) rfl (fun ls hl => ?_)
  refine lv_bipush (v := nI 0 - nI 22) hx hb dX1_three_6 (by decide) ?_
  refine lv_istore_n (lv' := [(2, .int (nI 0 - nI 22)), (1, .int (nI 0)), (0, .ref o0)]) hx hb dX1_three_8 rfl hl (by decide) rfl (fun ls hl => ?_)
  have loop : ∀ (gg i : Nat), i ≤ 45 → 46 ≤ i + gg → ∀ ls : Array Slot, lv_has ls 3 [(0, .ref o0), (1, .int (nI (ss_S (ss_m3 n) i))), (2, .int (nI i - nI 22))] → W p l e (headSpec wsX1_three ({ frames := 2, cells := 0, slots := 0, locals := 44 })).room s m ([.ref o0] : List Value).toArray below meth c H locs 0 0 (MQ below (va_Qi (fun (r : Int32) (u : Nat → Int32) => r = nI (ss_S (ss_m3 n) 45) ∧ ∀ j, j < 512 → u j = nI (ss_tw j)) (fun (u : Nat → Int32) (t : State) => va_P (dC, dI) vwCl [(o0, .inr (1, [.int (nI n), .ref q1, .int (nI 1)])), (q1, .inl (d1, 512, .inl u))] t.heap ∧ va_K (dC, dI) vwCl [(d1, .int)] t ∧ va_D A [(o0, .inr (1, [.int (nI n), .ref q1, .int (nI 1)])), (q1, .inl (d1, 512, .inl u))]) A) ([.ref o0] : List Value).toArray s 0 0 A) (F0 m 9 ls []) := by
    intro gg
    induction gg with
    | zero => intro i h1 h2; exact absurd h2 (by omega)
    | succ gg ih =>
      intro i hi hg ls hl
      have ha2 := ss_b22 i (by omega)
      have tail : ∀ (ls : Array Slot), i < 45 → lv_has ls 3 [(0, .ref o0), (1, .int (nI (ss_S (ss_m3 n) (i + 1)))), (2, .int (nI i - nI 22))] → W p l e (headSpec wsX1_three ({ frames := 2, cells := 0, slots := 0, locals := 44 })).room s m ([.ref o0] : List Value).toArray below meth c H locs 0 0 (MQ below (va_Qi (fun (r : Int32) (u : Nat → Int32) => r = nI (ss_S (ss_m3 n) 45) ∧ ∀ j, j < 512 → u j = nI (ss_tw j)) (fun (u : Nat → Int32) (t : State) => va_P (dC, dI) vwCl [(o0, .inr (1, [.int (nI n), .ref q1, .int (nI 1)])), (q1, .inl (d1, 512, .inl u))] t.heap ∧ va_K (dC, dI) vwCl [(d1, .int)] t ∧ va_D A [(o0, .inr (1, [.int (nI n), .ref q1, .int (nI 1)])), (q1, .inl (d1, 512, .inl u))]) A) ([.ref o0] : List Value).toArray s 0 0 A) (F0 m 41 ls []) := by
        intro ls hi5 hl
        refine lv_iinc (v := nI (i + 1) - nI 22) (lv' := [(2, .int (nI (i + 1) - nI 22)), (0, .ref o0), (1, .int (nI (ss_S (ss_m3 n) (i + 1))))]) hx hb dX1_three_41 hl (k := 2) rfl (ss_i22 i) (by decide) rfl (fun ls hl => ?_)
        refine lv_goto (tgt := 9) hx hb dX1_three_44 (by decide) ?_
        exact ih (i + 1) (by omega) (by omega) ls (lv_sub hl [1, 2, 0] rfl)
      refine lv_iload_n hx hb dX1_three_9 rfl (lv_at hl 2 rfl) ?_
      refine lv_bipush (v := nI 22) hx hb dX1_three_10 (by decide) ?_
      refine lv_icmp_gt (tgt := 47) hx hb dX1_three_12 (by decide) (fun hc1 => ?_) (fun hc1 => ?_)
      · skip
        have hi5 : i = 45 := by have := (ss_g22 i (by omega)).mp hc1; omega
        refine lv_iload_n hx hb dX1_three_47 rfl (lv_at hl 1 rfl) ?_
        exact W.iret (v := nI (ss_S (ss_m3 n) i)) hx hb hr (fun t ht hW => ⟨⟨_, u, rfl, ⟨by rw [hi5], hwu⟩, by rw [ht]; exact hP, va_K.moved hW.alike hK, hD⟩, hS.F ht⟩) hS.2.2 dX1_three_48
      · skip
        have hi5 : i < 45 := by have := mt (ss_g22 i (by omega)).mpr hc1; omega
        refine lv_iload_n hx hb dX1_three_15 rfl (lv_at hl 2 rfl) ?_
        refine lv_iload_n hx hb dX1_three_16 rfl (lv_at hl 2 rfl) ?_
        refine lv_imul hx hb dX1_three_17 ?_
        refine ss_top (y := nI (ss_a2 i)) (ss_q22 i (by omega)) ?_
        refine lv_aload_n hx hb dX1_three_18 rfl (lv_at hl 0 rfl) ?_
        refine va_get (D := (dC, dI)) (ci := 1) (v := .int (nI n)) (C := RX1) (T := TX1) (N := 3) hx hb hts in_X1 hown hK hP 0 rfl rfl 0 (by decide) (hts _ q59) (fun _ h9 => h9) rfl dX1_three_19 ?_
        refine lv_icmp_gt (tgt := 41) hx hb dX1_three_22 (by decide) (fun hc2 => ?_) (fun hc2 => ?_)
        · skip
          have hgt : ¬ ss_a2 i ≤ n := by have := (nI_ltI (by omega) (by omega)).mp hc2; omega
          exact tail ls hi5 (by rw [ss_S_s, ss_m3_out hgt]; exact (lv_sub hl [0, 1, 2] rfl))
        · skip
          have hle : ss_a2 i ≤ n := by have := mt (nI_ltI (by omega) (by omega)).mpr hc2; omega
          refine lv_iload_n hx hb dX1_three_25 rfl (lv_at hl 1 rfl) ?_
          refine lv_aload_n hx hb dX1_three_26 rfl (lv_at hl 0 rfl) ?_
          refine va_get (D := (dC, dI)) (ci := 1) (v := .ref q1) (C := RX1) (T := TX1) (N := 3) hx hb hts in_X1 hown hK hP 0 rfl rfl 1 (by decide) (hts _ q60) (fun _ h9 => h9) rfl dX1_three_27 ?_
          refine lv_aload_n hx hb dX1_three_30 rfl (lv_at hl 0 rfl) ?_
          refine va_get (D := (dC, dI)) (ci := 1) (v := .int (nI n)) (C := RX1) (T := TX1) (N := 3) hx hb hts in_X1 hown hK hP 0 rfl rfl 0 (by decide) (hts _ q59) (fun _ h9 => h9) rfl dX1_three_31 ?_
          refine lv_iload_n hx hb dX1_three_34 rfl (lv_at hl 2 rfl) ?_
          refine lv_iload_n hx hb dX1_three_35 rfl (lv_at hl 2 rfl) ?_
          refine lv_imul hx hb dX1_three_36 ?_
          refine ss_top (y := nI (ss_a2 i)) (ss_q22 i (by omega)) ?_
          refine lv_isub hx hb dX1_three_37 ?_
          refine ss_top (y := nI (n - ss_a2 i)) (pk_sub hle) ?_
          refine va_iald hx hb hK hP 1 0 rfl rfl (vp_in_nI (n := n - ss_a2 i) (by omega) (by decide)) dX1_three_38 ?_
          refine ss_top (y := nI (ss_tw (n - ss_a2 i))) (by rw [nI_clamp (by omega)]; exact hwu (n - ss_a2 i) (by omega)) ?_
          refine lv_iadd hx hb dX1_three_39 ?_
          refine ss_top (y := nI (ss_S (ss_m3 n) (i + 1))) (by rw [nI_add, ss_S_s, ss_m3_in hle]) ?_
          refine lv_istore_n (lv' := [(1, .int (nI (ss_S (ss_m3 n) (i + 1)))), (0, .ref o0), (2, .int (nI i - nI 22))]) hx hb dX1_three_40 rfl hl (by decide) rfl (fun ls hl => ?_)
          exact tail ls hi5 (lv_sub hl [1, 0, 2] rfl)
  exact loop 46 0 (by omega) (by omega) ls (lv_sub hl [2, 1, 0] rfl)
abbrev wsX1_four : List Cond := ws_ yX1_four cX1_four 3 (some .int)
set_option maxHeartbeats 4000000 in
set_option maxRecDepth 100000 in
/-- four() of the reference -/
theorem met_four1 (l : Launch) (dC : Nat → ClassId) (dI : Nat → Nat → Nat) (o0 q1 n : Nat) (d1 : ClassId) (sz : Nat) (md : Int32) (f : Nat → Int32) (hn : n < 512) (hok : ss_ok md f) : Met l yX1_four wsX1_four ({ frames := 2, cells := 0, slots := 0, locals := 44 }) (va_Pc [.ref o0] (fun U => U.heap.size = sz ∧ va_P (dC, dI) vwCl [(o0, .inr (1, [.int (nI n), .ref q1, .int md])), (q1, .inl (d1, 512, .inl f))] U.heap ∧ va_K (dC, dI) vwCl [(d1, .int)] U ∧ va_D (fun _ => True) [(o0, .inr (1, [.int (nI n), .ref q1, .int md])), (q1, .inl (d1, 512, .inl f))])) (va_Qi (fun (r : Int32) (u : Nat → Int32) => r = nI (ss_S (ss_m4 n) (n + 1)) ∧ ∀ j, j < 512 → u j = nI (ss_tw j)) (fun (u : Nat → Int32) (t : State) => va_P (dC, dI) vwCl [(o0, .inr (1, [.int (nI n), .ref q1, .int (nI 1)])), (q1, .inl (d1, 512, .inl u))] t.heap ∧ va_K (dC, dI) vwCl [(d1, .int)] t ∧ va_D (va_A [(o0, .inr (1, [.int (nI n), .ref q1, .int md])), (q1, .inl (d1, 512, .inl f))] sz) [(o0, .inr (1, [.int (nI n), .ref q1, .int (nI 1)])), (q1, .inl (d1, 512, .inl u))]) (va_A [(o0, .inr (1, [.int (nI n), .ref q1, .int md])), (q1, .inl (d1, 512, .inl f))] sz)) 0 0 (va_A [(o0, .inr (1, [.int (nI n), .ref q1, .int md])), (q1, .inl (d1, 512, .inl f))] sz) := by
  refine Met.ofW (cc := cX1_four) (maxL := 3) (ret := (some .int)) (by decide) rfl ?_
  intro p e s m args below meth c s₁ B hml hv
  obtain ⟨rfl, hsz, hP, hK, hD0⟩ := hv
  have hx := B.exec
  have hb := B.bytes
  have hr := B.returns
  have hts := atoms_spec (ws := wsX1_four) B.pre
  have hts : ∀ w ∈ lw_all, w.before _ s = true := fun w h => hts w (List.mem_cons_of_mem _ h)
  have hown : s.vm.findClass RX1 = some m.cls := findClass_of_methodNamed B.named
  have hlocks := B.notSynchronized
  subst hsz
  have hD := hD0.self (sz := s.heap.size)
  generalize hAe : va_A [(o0, .inr (1, [.int (nI n), .ref q1, .int md])), (q1, .inl (d1, 512, .inl f))] s.heap.size = A at hD ⊢
  have hA : ∀ q : Nat, s.heap.size ≤ q → A q := fun q h => by rw [← hAe]; exact Or.inr h
  have hS : va_S A s.heap s.heap [] := va_S.rf
  have hP : va_P (dC, dI) vwCl [(o0, .inr (1, [.int (nI n), .ref q1, .int md])), (q1, .inl (d1, 512, .inl f))] s.heap := hP
  have hl := lv_entry ([.ref o0]) (n := 3) (Nat.le_of_ble_eq_true rfl)
  rw [lg_entry_eq]
  generalize (lg_sl ([.ref o0]) ++ List.replicate (3 - (lg_sl ([.ref o0])).length) Slot.unset).toArray = ls at hl ⊢
  have hl : lv_has ls 3 [(0, .ref o0)] := hl
  refine lv_aload_n hx hb dX1_four_0 rfl (lv_at hl 0 rfl) ?_
  have hFc := va_free (wc := [(o0, .inr (1, [.int (nI n), .ref q1, .int md])), (q1, .inl (d1, 512, .inl f))]) hD hS hA [0, 1] rfl
  refine va_callv (va_runV (As := []) (rest := []) ⟨hx, hb, hml, hown, hts⟩ (met_make l dC dI o0 q1 n d1 s.heap.size md f hn hok) (cwV 0 hts (lw_V q85 q87 qs0 q3 q88) rfl rfl rfl (by decide +kernel) ⟨Nat.le_of_ble_eq_true rfl, Nat.le_of_ble_eq_true rfl⟩) ⟨fun a U g mk q => by obtain ⟨z0, z1, qP, qK, qD⟩ := q; exact ⟨z0, z1, qP, va_K.moved (u := U) (U := U.calling g mk a) (Vm.Alike.refl U.vm) qK, qD⟩, va_recv hK hP (ci := 1) (q0 := 0) rfl rfl, fun U hU hW => ⟨rfl, by rw [hU], by rw [hU]; exact hP, va_K.moved hW.alike hK, hD.weaken (fun _ _ _ _ => trivial)⟩⟩ rfl rfl hl.1 rfl (lv_room (Nat.le_of_ble_eq_true rfl)) dX1_four_1 ⟨Nat.le_of_ble_eq_true rfl, Nat.le_of_ble_eq_true rfl⟩) hS (fun q _ h => hFc q h) hFc (fun u t H1 locs ht hvm hwu hB hz1 hk1 hS => ?_)
  obtain ⟨hP1, hK1, hD1⟩ := hB
  rw [ht] at hP1
  have hK1 := va_K.moved hvm.symm hK1
  obtain ⟨hP, hD⟩ := va_join (wr := []) (w1 := [(o0, .inr (1, [.int (nI n), .ref q1, .int (nI 1)])), (q1, .inl (d1, 512, .inl u))]) hP hD [0, 1] [] rfl rfl (by decide) (by decide) hk1 hFc hP1 hD1
  generalize H1 = H at hP hS ⊢
  have hP : va_P (dC, dI) vwCl [(o0, .inr (1, [.int (nI n), .ref q1, .int (nI 1)])), (q1, .inl (d1, 512, .inl u))] H := hP
  have hD : va_D A [(o0, .inr (1, [.int (nI n), .ref q1, .int (nI 1)])), (q1, .inl (d1, 512, .inl u))] := hD
  refine lv_iconst (v := nI 0) hx hb dX1_four_4 (by decide) ?_
  refine lv_istore_n (lv' := [(1, .int (nI 0)), (0, .ref o0)]) hx hb dX1_four_5 rfl hl (by decide) rfl (fun ls hl => ?_)
  refine lv_iconst (v := nI 0) hx hb dX1_four_6 (by decide) ?_
  refine lv_istore_n (lv' := [(2, .int (nI 0)), (1, .int (nI 0)), (0, .ref o0)]) hx hb dX1_four_7 rfl hl (by decide) rfl (fun ls hl => ?_)
  have loop : ∀ (gg v : Nat), v ≤ n + 1 → n + 2 ≤ v + gg → ∀ ls : Array Slot, lv_has ls 3 [(0, .ref o0), (1, .int (nI (ss_S (ss_m4 n) v))), (2, .int (nI v))] → W p l e (headSpec wsX1_four ({ frames := 2, cells := 0, slots := 0, locals := 44 })).room s m ([.ref o0] : List Value).toArray below meth c H locs 0 0 (MQ below (va_Qi (fun (r : Int32) (u : Nat → Int32) => r = nI (ss_S (ss_m4 n) (n + 1)) ∧ ∀ j, j < 512 → u j = nI (ss_tw j)) (fun (u : Nat → Int32) (t : State) => va_P (dC, dI) vwCl [(o0, .inr (1, [.int (nI n), .ref q1, .int (nI 1)])), (q1, .inl (d1, 512, .inl u))] t.heap ∧ va_K (dC, dI) vwCl [(d1, .int)] t ∧ va_D A [(o0, .inr (1, [.int (nI n), .ref q1, .int (nI 1)])), (q1, .inl (d1, 512, .inl u))]) A) ([.ref o0] : List Value).toArray s 0 0 A) (F0 m 8 ls []) := by
    intro gg
    induction gg with
    | zero => intro v h1 h2; exact absurd h2 (by omega)
    | succ gg ih =>
      intro v hv hg ls hl
      refine lv_iload_n hx hb dX1_four_8 rfl (lv_at hl 2 rfl) ?_
      refine lv_aload_n hx hb dX1_four_9 rfl (lv_at hl 0 rfl) ?_
      refine va_get (D := (dC, dI)) (ci := 1) (v := .int (nI n)) (C := RX1) (T := TX1) (N := 3) hx hb hts in_X1 hown hK hP 0 rfl rfl 0 (by decide) (hts _ q59) (fun _ h9 => h9) rfl dX1_four_10 ?_
      refine lv_icmp_gt (tgt := 43) hx hb dX1_four_13 (by decide) (fun hc1 => ?_) (fun hc1 => ?_)
      · skip
        have hv5 : v = n + 1 := by have := (nI_ltI (by omega) (by omega)).mp hc1; omega
        refine lv_iload_n hx hb dX1_four_43 rfl (lv_at hl 1 rfl) ?_
        exact W.iret (v := nI (ss_S (ss_m4 n) v)) hx hb hr (fun t ht hW => ⟨⟨_, u, rfl, ⟨by rw [hv5], hwu⟩, by rw [ht]; exact hP, va_K.moved hW.alike hK, hD⟩, hS.F ht⟩) hS.2.2 dX1_four_44
      · skip
        have hv5 : v ≤ n := by have := mt (nI_ltI (by omega) (by omega)).mpr hc1; omega
        refine lv_iload_n hx hb dX1_four_16 rfl (lv_at hl 1 rfl) ?_
        refine lv_aload_n hx hb dX1_four_17 rfl (lv_at hl 0 rfl) ?_
        refine va_get (D := (dC, dI)) (ci := 1) (v := .ref q1) (C := RX1) (T := TX1) (N := 3) hx hb hts in_X1 hown hK hP 0 rfl rfl 1 (by decide) (hts _ q60) (fun _ h9 => h9) rfl dX1_four_18 ?_
        refine lv_iload_n hx hb dX1_four_21 rfl (lv_at hl 2 rfl) ?_
        refine va_iald hx hb hK hP 1 0 rfl rfl (vp_in_nI (n := v) (by omega) (by decide)) dX1_four_22 ?_
        refine ss_top (y := nI (ss_tw (v))) (by rw [nI_clamp (by omega)]; exact hwu (v) (by omega)) ?_
        refine lv_aload_n hx hb dX1_four_23 rfl (lv_at hl 0 rfl) ?_
        refine va_get (D := (dC, dI)) (ci := 1) (v := .ref q1) (C := RX1) (T := TX1) (N := 3) hx hb hts in_X1 hown hK hP 0 rfl rfl 1 (by decide) (hts _ q60) (fun _ h9 => h9) rfl dX1_four_24 ?_
        refine lv_aload_n hx hb dX1_four_27 rfl (lv_at hl 0 rfl) ?_
        refine va_get (D := (dC, dI)) (ci := 1) (v := .int (nI n)) (C := RX1) (T := TX1) (N := 3) hx hb hts in_X1 hown hK hP 0 rfl rfl 0 (by decide) (hts _ q59) (fun _ h9 => h9) rfl dX1_four_28 ?_
        refine lv_iload_n hx hb dX1_four_31 rfl (lv_at hl 2 rfl) ?_
        refine lv_isub hx hb dX1_four_32 ?_
        refine ss_top (y := nI (n - v)) (pk_sub hv5) ?_
        refine va_iald hx hb hK hP 1 0 rfl rfl (vp_in_nI (n := n - v) (by omega) (by decide)) dX1_four_33 ?_
        refine ss_top (y := nI (ss_tw (n - v))) (by rw [nI_clamp (by omega)]; exact hwu (n - v) (by omega)) ?_
        refine lv_imul hx hb dX1_four_34 ?_
        refine ss_top (y := nI ((ss_tw (v)) * (ss_tw (n - v)))) (pk_mul ((ss_tw (v))) ((ss_tw (n - v)))) ?_
        refine lv_iadd hx hb dX1_four_35 ?_
        refine ss_top (y := nI (ss_S (ss_m4 n) (v + 1))) (by rw [nI_add, ss_S_s]; rfl) ?_
        refine lv_istore_n (lv' := [(1, .int (nI (ss_S (ss_m4 n) (v + 1)))), (0, .ref o0), (2, .int (nI v))]) hx hb dX1_four_36 rfl hl (by decide) rfl (fun ls hl => ?_)
        refine lv_iinc (v := nI (v + 1)) (lv' := [(2, .int (nI (v + 1))), (1, .int (nI (ss_S (ss_m4 n) (v + 1)))), (0, .ref o0)]) hx hb dX1_four_37 hl (k := 2) rfl (ss_inc v) (by decide) rfl (fun ls hl => ?_)
        refine lv_goto (tgt := 8) hx hb dX1_four_40 (by decide) ?_
        exact ih (v + 1) (by omega) (by omega) ls (lv_sub hl [2, 1, 0] rfl)
  exact loop (n + 2) 0 (by omega) (by omega) ls (lv_sub hl [2, 1, 0] rfl)
abbrev wsX1_fewest : List Cond := ws_ yX1_fewest cX1_fewest 1 (some .int)
set_option maxHeartbeats 4000000 in
set_option maxRecDepth 100000 in
/-- fewest() of the reference -/
theorem met_fewest1 (l : Launch) (dC : Nat → ClassId) (dI : Nat → Nat → Nat) (o0 q1 n : Nat) (d1 : ClassId) (sz : Nat) (md : Int32) (f : Nat → Int32) (hn : n < 512) (hok : ss_ok md f) : Met l yX1_fewest wsX1_fewest ({ frames := 3, cells := 0, slots := 0, locals := 66 }) (va_Pc [.ref o0] (fun U => U.heap.size = sz ∧ va_P (dC, dI) vwCl [(o0, .inr (1, [.int (nI n), .ref q1, .int md])), (q1, .inl (d1, 512, .inl f))] U.heap ∧ va_K (dC, dI) vwCl [(d1, .int)] U ∧ va_D (fun _ => True) [(o0, .inr (1, [.int (nI n), .ref q1, .int md])), (q1, .inl (d1, 512, .inl f))])) (va_Qi (fun (r : Int32) (u : Nat → Int32) => r = nI (ss_mfew n) ∧ ∀ j, j < 512 → u j = nI (ss_tw j)) (fun (u : Nat → Int32) (t : State) => va_P (dC, dI) vwCl [(o0, .inr (1, [.int (nI n), .ref q1, .int (nI 1)])), (q1, .inl (d1, 512, .inl u))] t.heap ∧ va_K (dC, dI) vwCl [(d1, .int)] t ∧ va_D (va_A [(o0, .inr (1, [.int (nI n), .ref q1, .int md])), (q1, .inl (d1, 512, .inl f))] sz) [(o0, .inr (1, [.int (nI n), .ref q1, .int (nI 1)])), (q1, .inl (d1, 512, .inl u))]) (va_A [(o0, .inr (1, [.int (nI n), .ref q1, .int md])), (q1, .inl (d1, 512, .inl f))] sz)) 0 0 (va_A [(o0, .inr (1, [.int (nI n), .ref q1, .int md])), (q1, .inl (d1, 512, .inl f))] sz) := by
  refine Met.ofW (cc := cX1_fewest) (maxL := 1) (ret := (some .int)) (by decide) rfl ?_
  intro p e s m args below meth c s₁ B hml hv
  obtain ⟨rfl, hsz, hP, hK, hD0⟩ := hv
  have hx := B.exec
  have hb := B.bytes
  have hr := B.returns
  have hts := atoms_spec (ws := wsX1_fewest) B.pre
  have hts : ∀ w ∈ lw_all, w.before _ s = true := fun w h => hts w (List.mem_cons_of_mem _ h)
  have hown : s.vm.findClass RX1 = some m.cls := findClass_of_methodNamed B.named
  have hlocks := B.notSynchronized
  subst hsz
  have hD := hD0.self (sz := s.heap.size)
  generalize hAe : va_A [(o0, .inr (1, [.int (nI n), .ref q1, .int md])), (q1, .inl (d1, 512, .inl f))] s.heap.size = A at hD ⊢
  have hA : ∀ q : Nat, s.heap.size ≤ q → A q := fun q h => by rw [← hAe]; exact Or.inr h
  have hS : va_S A s.heap s.heap [] := va_S.rf
  have hP : va_P (dC, dI) vwCl [(o0, .inr (1, [.int (nI n), .ref q1, .int md])), (q1, .inl (d1, 512, .inl f))] s.heap := hP
  have hl := lv_entry ([.ref o0]) (n := 1) (Nat.le_of_ble_eq_true rfl)
  rw [lg_entry_eq]
  generalize (lg_sl ([.ref o0]) ++ List.replicate (1 - (lg_sl ([.ref o0])).length) Slot.unset).toArray = ls at hl ⊢
  have hl : lv_has ls 1 [(0, .ref o0)] := hl
  refine lv_aload_n hx hb dX1_fewest_0 rfl (lv_at hl 0 rfl) ?_
  have hFc := va_free (wc := [(o0, .inr (1, [.int (nI n), .ref q1, .int md])), (q1, .inl (d1, 512, .inl f))]) hD hS hA [0, 1] rfl
  refine va_callv (va_runV (As := []) (rest := []) ⟨hx, hb, hml, hown, hts⟩ (met_make l dC dI o0 q1 n d1 s.heap.size md f hn hok) (cwV 0 hts (lw_V q85 q87 qs0 q3 q88) rfl rfl rfl (by decide +kernel) ⟨Nat.le_of_ble_eq_true rfl, Nat.le_of_ble_eq_true rfl⟩) ⟨fun a U g mk q => by obtain ⟨z0, z1, qP, qK, qD⟩ := q; exact ⟨z0, z1, qP, va_K.moved (u := U) (U := U.calling g mk a) (Vm.Alike.refl U.vm) qK, qD⟩, va_recv hK hP (ci := 1) (q0 := 0) rfl rfl, fun U hU hW => ⟨rfl, by rw [hU], by rw [hU]; exact hP, va_K.moved hW.alike hK, hD.weaken (fun _ _ _ _ => trivial)⟩⟩ rfl rfl hl.1 rfl (lv_room (Nat.le_of_ble_eq_true rfl)) dX1_fewest_1 ⟨Nat.le_of_ble_eq_true rfl, Nat.le_of_ble_eq_true rfl⟩) hS (fun q _ h => hFc q h) hFc (fun u t H1 locs ht hvm hwu hB hz1 hk1 hS => ?_)
  obtain ⟨hP1, hK1, hD1⟩ := hB
  rw [ht] at hP1
  have hK1 := va_K.moved hvm.symm hK1
  obtain ⟨hP, hD⟩ := va_join (wr := []) (w1 := [(o0, .inr (1, [.int (nI n), .ref q1, .int (nI 1)])), (q1, .inl (d1, 512, .inl u))]) hP hD [0, 1] [] rfl rfl (by decide) (by decide) hk1 hFc hP1 hD1
  generalize H1 = H at hP hS ⊢
  have hP : va_P (dC, dI) vwCl [(o0, .inr (1, [.int (nI n), .ref q1, .int (nI 1)])), (q1, .inl (d1, 512, .inl u))] H := hP
  have hD : va_D A [(o0, .inr (1, [.int (nI n), .ref q1, .int (nI 1)])), (q1, .inl (d1, 512, .inl u))] := hD
  refine lv_aload_n hx hb dX1_fewest_4 rfl (lv_at hl 0 rfl) ?_
  refine va_get (D := (dC, dI)) (ci := 1) (v := .int (nI n)) (C := RX1) (T := TX1) (N := 3) hx hb hts in_X1 hown hK hP 0 rfl rfl 0 (by decide) (hts _ q59) (fun _ h9 => h9) rfl dX1_fewest_5 ?_
  refine lv_if_ne (tgt := 13) hx hb dX1_fewest_8 (by decide) (fun hc1 => ?_) (fun hc1 => ?_)
  · skip
    have hn0 : n ≠ 0 := mt (ss_z (by omega)).mpr hc1
    have hsq := ss_sq_01 n
    have hon := ss_ones_p hn0
    have htw := ss_tw_le n
    refine lv_aload_n hx hb dX1_fewest_13 rfl (lv_at hl 0 rfl) ?_
    refine va_get (D := (dC, dI)) (ci := 1) (v := .int (nI n)) (C := RX1) (T := TX1) (N := 3) hx hb hts in_X1 hown hK hP 0 rfl rfl 0 (by decide) (hts _ q59) (fun _ h9 => h9) rfl dX1_fewest_14 ?_
    refine vp_callSi (W.runS (As := [.int (nI n)]) (rest := []) ⟨hx, hb, hml, hown, hts⟩ (met_ones l (nI n) (ss_ones n) (Or.inr ⟨n, hn, rfl, rfl⟩)) (va_cwS 1 hts (lw_S q78 q79 q3 q80) rfl rfl rfl (by decide +kernel) ⟨Nat.le_of_ble_eq_true rfl, Nat.le_of_ble_eq_true rfl⟩) ⟨fun a U g mk q => q, fun U hU hW => ⟨rfl, trivial⟩⟩ rfl rfl hl.1 rfl (lv_room (Nat.le_of_ble_eq_true rfl)) dX1_fewest_17 ⟨Nat.le_of_ble_eq_true rfl, Nat.le_of_ble_eq_true rfl⟩) (fun rr hq => ?_)
    obtain rfl : rr = nI (ss_ones n) := hq
    refine lv_if_le (tgt := 27) hx hb dX1_fewest_20 (by decide) (fun hc2 => ?_) (fun hc2 => ?_)
    · skip
      have h1 : ¬ 1 ≤ ss_ones n := fun q => nI_nle (n := ss_ones n) q (by omega) hc2
      refine lv_aload_n hx hb dX1_fewest_27 rfl (lv_at hl 0 rfl) ?_
      refine va_get (D := (dC, dI)) (ci := 1) (v := .ref q1) (C := RX1) (T := TX1) (N := 3) hx hb hts in_X1 hown hK hP 0 rfl rfl 1 (by decide) (hts _ q60) (fun _ h9 => h9) rfl dX1_fewest_28 ?_
      refine lv_aload_n hx hb dX1_fewest_31 rfl (lv_at hl 0 rfl) ?_
      refine va_get (D := (dC, dI)) (ci := 1) (v := .int (nI n)) (C := RX1) (T := TX1) (N := 3) hx hb hts in_X1 hown hK hP 0 rfl rfl 0 (by decide) (hts _ q59) (fun _ h9 => h9) rfl dX1_fewest_32 ?_
      refine va_iald hx hb hK hP 1 0 rfl rfl (vp_in_nI (n := n) hn (by decide)) dX1_fewest_35 ?_
      refine ss_top (y := nI (ss_tw (n))) (by rw [nI_clamp (by omega)]; exact hwu (n) hn) ?_
      refine lv_if_le (tgt := 43) hx hb dX1_fewest_36 (by decide) (fun hc3 => ?_) (fun hc3 => ?_)
      · skip
        have h2 : ¬ 1 ≤ ss_tw n := fun q => nI_nle (n := ss_tw n) q (by omega) hc3
        refine lv_aload_n hx hb dX1_fewest_43 rfl (lv_at hl 0 rfl) ?_
        have hFc := va_free (wc := [(o0, .inr (1, [.int (nI n), .ref q1, .int (nI 1)])), (q1, .inl (d1, 512, .inl u))]) hD hS hA [0, 1] rfl
        refine va_calli (va_runV (As := []) (rest := []) ⟨hx, hb, hml, hown, hts⟩ (met_three1 l dC dI o0 q1 n d1 H.size (nI 1) u hn (Or.inr ⟨rfl, hwu⟩)) (cwV 0 hts (lw_V q105 q90 q91 q3 q92) rfl rfl rfl (by decide +kernel) ⟨Nat.le_of_ble_eq_true rfl, Nat.le_of_ble_eq_true rfl⟩) ⟨fun a U g mk q => by obtain ⟨z0, z1, qP, qK, qD⟩ := q; exact ⟨z0, z1, qP, va_K.moved (u := U) (U := U.calling g mk a) (Vm.Alike.refl U.vm) qK, qD⟩, va_recv hK hP (ci := 1) (q0 := 0) rfl rfl, fun U hU hW => ⟨rfl, by rw [hU], by rw [hU]; exact hP, va_K.moved hW.alike hK, hD.weaken (fun _ _ _ _ => trivial)⟩⟩ rfl rfl hl.1 rfl (lv_room (Nat.le_of_ble_eq_true rfl)) dX1_fewest_44 ⟨Nat.le_of_ble_eq_true rfl, Nat.le_of_ble_eq_true rfl⟩) hS (fun q _ h => hFc q h) hFc (fun rr u2 t H1 locs ht hvm hwu2 hB hz1 hk1 hS => ?_)
        obtain ⟨hP1, hK1, hD1⟩ := hB
        rw [ht] at hP1
        have hK1 := va_K.moved hvm.symm hK1
        obtain ⟨hP, hD⟩ := va_join (wr := []) (w1 := [(o0, .inr (1, [.int (nI n), .ref q1, .int (nI 1)])), (q1, .inl (d1, 512, .inl u2))]) hP hD [0, 1] [] rfl rfl (by decide) (by decide) hk1 hFc hP1 hD1
        generalize H1 = H at hP hS ⊢
        have hP : va_P (dC, dI) vwCl [(o0, .inr (1, [.int (nI n), .ref q1, .int (nI 1)])), (q1, .inl (d1, 512, .inl u2))] H := hP
        have hD : va_D A [(o0, .inr (1, [.int (nI n), .ref q1, .int (nI 1)])), (q1, .inl (d1, 512, .inl u2))] := hD
        obtain ⟨hrr, hwu2⟩ := hwu2
        subst hrr
        have hm3 := ss_m3_b n
        refine lv_if_le (tgt := 54) hx hb dX1_fewest_47 (by decide) (fun hc4 => ?_) (fun hc4 => ?_)
        · skip
          have h3 : ¬ 1 ≤ ss_S (ss_m3 n) 45 := fun q => nI_nle (n := ss_S (ss_m3 n) 45) q hm3 hc4
          refine lv_iconst (v := nI 4) hx hb dX1_fewest_54 (by decide) ?_
          exact W.iret (v := nI 4) hx hb hr (fun t ht hW => ⟨⟨_, u2, rfl, ⟨by rw [ss_mfew_4 hn0 h1 h2 h3], hwu2⟩, by rw [ht]; exact hP, va_K.moved hW.alike hK, hD⟩, hS.F ht⟩) hS.2.2 dX1_fewest_55
        · skip
          have h3 : 1 ≤ ss_S (ss_m3 n) 45 := by
            rcases Nat.eq_zero_or_pos (ss_S (ss_m3 n) 45) with q | q
            · rw [q] at hc4
              exact absurd (by decide) hc4
            · exact q
          refine lv_iconst (v := nI 3) hx hb dX1_fewest_50 (by decide) ?_
          refine lv_goto (tgt := 55) hx hb dX1_fewest_51 (by decide) ?_
          exact W.iret (v := nI 3) hx hb hr (fun t ht hW => ⟨⟨_, u2, rfl, ⟨by rw [ss_mfew_3 hn0 h1 h2 h3], hwu2⟩, by rw [ht]; exact hP, va_K.moved hW.alike hK, hD⟩, hS.F ht⟩) hS.2.2 dX1_fewest_55
      · skip
        have h2 : 1 ≤ ss_tw n := by
          rcases Nat.eq_zero_or_pos (ss_tw n) with q | q
          · rw [q] at hc3
            exact absurd (by decide) hc3
          · exact q
        refine lv_iconst (v := nI 2) hx hb dX1_fewest_39 (by decide) ?_
        refine lv_goto (tgt := 55) hx hb dX1_fewest_40 (by decide) ?_
        exact W.iret (v := nI 2) hx hb hr (fun t ht hW => ⟨⟨_, u, rfl, ⟨by rw [ss_mfew_2 hn0 h1 h2], hwu⟩, by rw [ht]; exact hP, va_K.moved hW.alike hK, hD⟩, hS.F ht⟩) hS.2.2 dX1_fewest_55
    · skip
      have h1 : 1 ≤ ss_ones n := by
        rcases Nat.eq_zero_or_pos (ss_ones n) with q | q
        · rw [q] at hc2
          exact absurd (by decide) hc2
        · exact q
      refine lv_iconst (v := nI 1) hx hb dX1_fewest_23 (by decide) ?_
      refine lv_goto (tgt := 55) hx hb dX1_fewest_24 (by decide) ?_
      exact W.iret (v := nI 1) hx hb hr (fun t ht hW => ⟨⟨_, u, rfl, ⟨by rw [ss_mfew_1 hn0 h1], hwu⟩, by rw [ht]; exact hP, va_K.moved hW.alike hK, hD⟩, hS.F ht⟩) hS.2.2 dX1_fewest_55
  · skip
    have hn0 : n = 0 := (ss_z (by omega)).mp hc1
    refine lv_iconst (v := nI 0) hx hb dX1_fewest_11 (by decide) ?_
    exact W.iret (v := nI 0) hx hb hr (fun t ht hW => ⟨⟨_, u, rfl, ⟨by rw [hn0, ss_mfew_0], hwu⟩, by rw [ht]; exact hP, va_K.moved hW.alike hK, hD⟩, hS.F ht⟩) hS.2.2 dX1_fewest_12
end
section
set_option maxRecDepth 100000
/-! THE CLAIM OUT OF ONE WALK OF THE LAW'S BODY. Your part is whole_start (and what it stands on); all else here is the same for every law, but numbers. -/
def R_law : String := "SquareSumsLaw"
def lw_P (b : Addr) (xs : List Int32) (args : Array Value) (s : State) : Prop := args = #[.ref b] ∧ s.IntsAt b xs ∧ xs.length ≤ 128 ∧ (Jvm.Cond.and given_1 narrow_1).before args s = true
def lw_Q (_ : Array Value) (s : State) (o : Outcome) (t : State) : Prop := o = .returned (some (.int 1)) ∧ Framed s o t [] 600000 7290000
def lw_Z (below : List Frame) (a : Array Value) (s : State) : State → Prop := fun t => ∃ o, t.status = .running ∧ Ended t below o ∧ lw_Q a s o t
/-- the law's own end, with 1 on the stack, nothing written that was there before, its room as the claim has it -/
theorem lw_ret {p : Program} {l : Launch} {e : Env} {s : State} {m : MethodId} {below : List Frame} {meth : Method} {c : Code} {b : Nat} (hx : p.tables.exec = Jvm.exec) (hb : c.code = code) (hr : meth.sig.returnType = ret) (hlocks : meth.locks = false) {pc : Nat} {H : Heap} {ls : Array Slot} (hdg : decode code pc = .ok (.ireturn, 1)) : W p l e room_1 s m #[Value.ref b] below meth c H [] 600000 7290000 (lw_Z below #[Value.ref b] s) (F0 m pc ls [.int 1]) := by
  intro T hT X
  obtain ⟨fs, hret, hrun, hended, hW, hframe⟩ := X.leave (v := some (.int 1)) (hlocks := hlocks) (fun h => by rw [hr] at h; cases h)
  have hmeth' : T.vm.method? m = some meth := X.method'
  refine ⟨T.setFrames fs, ?_, .returned (some (.int 1)), hrun, hended, rfl, ⟨_, rfl⟩, hW, hframe⟩
  jvm_step X.here [X.here.top, hx, hb, hdg, hmeth', hr, ret, narrow_b1]
  (try refine ⟨rfl, ?_⟩); (try refine ⟨rfl, ?_⟩)
  first | (intro acts; rw [hret _ acts rfl rfl rfl]) | rw [hret _ _ rfl rfl rfl]
  exact Steps.refl _
/-- what holds at the law's entry: the machine, the code, the tables' words (any of lw_tbl by 'hts w (by decide +kernel)'), the script of L ints xs at the cell b, what the Statement gives of the start (any of its parts by flat_of_before) -/
def lw_At (p : Program) (s : State) (m : MethodId) (meth : Method) (c : Code) (b L : Nat) (xs : Nat → Int32) : Prop :=
  p.tables.exec = Jvm.exec ∧ c.code = code ∧ meth.sig.returnType = ret ∧ c.maxLocals = 4 ∧ s.vm.findClass R_law = some m.cls ∧ (∀ w ∈ lw_tbl, w.before #[Value.ref b] s = true) ∧ va_X b L xs s s.heap ∧ b < s.heap.size ∧ meth.locks = false ∧ (Jvm.Cond.and given_1 narrow_1).before #[Value.ref b] s = true
theorem ss_lt2 {L i : Nat} (hL : L ≤ 128) (hi : i ≤ 128) : nI L - nI 2 < nI i ↔ L < i + 2 := by
  rw [Int32.lt_iff_toInt_lt, pk_sub_toInt (by omega) (by omega), nI_toInt (by omega)]
  omega
theorem ss_inc2 (a : Nat) : nI a + Int32.ofInt 2 = nI (a + 2) := nI_add a 2
set_option maxHeartbeats 4000000 in
set_option maxRecDepth 100000 in
/-- THE LAW'S LOOP at its head: i ints read, both hold the same n -/
theorem law_loop {p : Program} {l : Launch} {e : Env} {s : State} {m : MethodId} {below : List Frame} {meth : Method} {c : Code} {dC : Nat → ClassId} {dI : Nat → Nat → Nat} {b L : Nat} {xs : Nat → Int32} (hL : L ≤ 128) (C0 : lw_At p s m meth c b L xs) (qx qm q1 : Nat) (d1 : ClassId) (hK : va_K (dC, dI) vwCl [(d1, .int)] s) :
    ∀ (gg i : Nat), i ≤ L → L + 1 ≤ i + gg → ∀ (n : Nat) (md : Int32) (f : Nat → Int32) (H : Heap) (locs : List Loc), n < 512 → ss_ok md f → va_P (dC, dI) vwCl [(qx, .inr (0, [.int (nI (n))])), (qm, .inr (1, [.int (nI (n)), .ref q1, .int md])), (q1, .inl (d1, 512, .inl f))] H → va_D (fun q : Nat => s.heap.size ≤ q) [(qx, .inr (0, [.int (nI (n))])), (qm, .inr (1, [.int (nI (n)), .ref q1, .int md])), (q1, .inl (d1, 512, .inl f))] → va_S (fun q : Nat => s.heap.size ≤ q) s.heap H locs → ∀ (ls : Array Slot), lv_has ls 4 [(0, .ref b), (1, .ref qx), (2, .ref qm), (3, .int (nI i))] → W p l e room_1 s m #[Value.ref b] below meth c H locs 3 516 (lw_Z below #[Value.ref b] s) (F0 m 18 ls []) := by
  obtain ⟨hx, hb, hr, hml, hown, hts0, hX, hbl, hlocks, hgv⟩ := C0
  have hts : ∀ w ∈ lw_all, w.before #[Value.ref b] s = true := fun w h => hts0 w (lw_all_tbl h)
  have hA : ∀ q : Nat, s.heap.size ≤ q → (fun q : Nat => s.heap.size ≤ q) q := fun _ h => h
  have hbA : ¬ (fun q : Nat => s.heap.size ≤ q) b := Nat.not_le.mpr hbl
  have hK0 := hK.sub (tys' := []) [] rfl
  intro gg
  induction gg with
  | zero => intro i h1 h2; exact absurd h2 (by omega)
  | succ gg ih =>
    intro i hi hg n md f H locs hn hok hP hD hS ls hl
    have tail : ∀ (n : Nat) (md : Int32) (f : Nat → Int32) (H : Heap) (locs : List Loc), i + 2 ≤ L → n < 512 → ss_ok md f → va_P (dC, dI) vwCl [(qx, .inr (0, [.int (nI (n))])), (qm, .inr (1, [.int (nI (n)), .ref q1, .int md])), (q1, .inl (d1, 512, .inl f))] H → va_D (fun q : Nat => s.heap.size ≤ q) [(qx, .inr (0, [.int (nI (n))])), (qm, .inr (1, [.int (nI (n)), .ref q1, .int md])), (q1, .inl (d1, 512, .inl f))] → va_S (fun q : Nat => s.heap.size ≤ q) s.heap H locs → ∀ (ls : Array Slot), lv_has ls 4 [(0, .ref b), (1, .ref qx), (2, .ref qm), (3, .int (nI i))] → W p l e room_1 s m #[Value.ref b] below meth c H locs 3 516 (lw_Z below #[Value.ref b] s) (F0 m 175 ls []) := by
      intro n md f H locs hi2 hn hok hP hD hS ls hl
      refine lv_iinc (v := nI (i + 2)) (lv' := [(3, .int (nI (i + 2))), (0, .ref b), (1, .ref qx), (2, .ref qm)]) hx hb dL_law_175 hl (k := 3) rfl (ss_inc2 i) (by decide) rfl (fun ls hl => ?_)
      refine lv_goto (tgt := 18) hx hb dL_law_178 (by decide) ?_
      exact ih (i + 2) hi2 (by omega) n md f H locs hn hok hP hD hS ls (lv_sub hl [1, 2, 3, 0] rfl)
    refine lv_iload_n hx hb dL_law_18 rfl (lv_at hl 3 rfl) ?_
    refine lv_aload_n hx hb dL_law_19 rfl (lv_at hl 0 rfl) ?_
    refine va_slen hx hb hX hbl hbA hS dL_law_20 ?_
    refine ss_top (y := nI L) (rfl) ?_
    refine lv_iconst (v := nI 2) hx hb dL_law_21 (by decide) ?_
    refine lv_isub hx hb dL_law_22 ?_
    refine lv_icmp_gt (tgt := 181) hx hb dL_law_23 (by decide) (fun hc => ?_) (fun hc => ?_)
    · skip
      refine lv_iconst (v := 1) hx hb dL_law_181 (by decide) ?_
      refine va_forget (fun q hq => hS.2.2 q hq) ?_
      refine W.widen (k := 600000) (n := 7290000) (Nat.le_of_ble_eq_true rfl) (Nat.le_of_ble_eq_true rfl) ?_
      exact lw_ret hx hb hr hlocks dL_law_182
    · skip
      have hi2 : i + 2 ≤ L := by have := mt (ss_lt2 hL (by omega)).mpr hc; omega
      refine lv_aload_n hx hb dL_law_26 rfl (lv_at hl 0 rfl) ?_
      refine lv_iload_n hx hb dL_law_27 rfl (lv_at hl 3 rfl) ?_
      refine va_sld hx hb hX hbl hbA hS (vp_in_nI (n := i) (by omega) (by omega)) dL_law_28 ?_
      refine ss_top (y := xs (i)) (by rw [nI_clamp (by omega)]) ?_
      refine lv_bipush (v := nI 7) hx hb dL_law_29 (by decide) ?_
      obtain ⟨j, hj, ej⟩ := pk_andE (xs (i)) (m := nI 7) 3 (by decide)
      refine lv_iand hx hb dL_law_31 ?_
      refine ss_top (y := nI j) (ej) ?_
      have hj8 : j = 0 ∨ j = 1 ∨ j = 2 ∨ j = 3 ∨ j = 4 ∨ j = 5 ∨ j = 6 ∨ j = 7 := by omega
      clear ej
      rcases hj8 with rfl | rfl | rfl | rfl | rfl | rfl | rfl | rfl
      · skip
        refine lv_tableIn (tgt := 76) (off := 44) hx hb dL_law_32 (by decide) (by decide) (by decide) (by decide) ?_
        refine lv_aload_n hx hb dL_law_76 rfl (lv_at hl 1 rfl) ?_
        refine lv_aload_n hx hb dL_law_77 rfl (lv_at hl 0 rfl) ?_
        refine lv_iload_n hx hb dL_law_78 rfl (lv_at hl 3 rfl) ?_
        refine lv_iconst (v := nI 1) hx hb dL_law_79 (by decide) ?_
        refine lv_iadd hx hb dL_law_80 ?_
        refine ss_top (y := nI (i + 1)) (nI_add (i) (1)) ?_
        refine va_sld hx hb hX hbl hbA hS (vp_in_nI (n := i + 1) (by omega) (by omega)) dL_law_81 ?_
        refine ss_top (y := xs (i + 1)) (by rw [nI_clamp (by omega)]) ?_
        have hPc := hP.sub (ws' := [(qx, .inr (0, [.int (nI (n))]))]) [0] rfl
        have hDc := hD.sub (ws' := [(qx, .inr (0, [.int (nI (n))]))]) [0] (by decide) rfl
        have hKc := hK.sub (tys' := []) [] rfl
        have hFc := va_free (wc := [(qx, .inr (0, [.int (nI (n))]))]) hD hS hA [0] rfl
        refine va_callv (va_runV (As := [.int (xs (i + 1))]) (rest := []) ⟨hx, hb, hml, hown, hts⟩ (met_load0 l dC dI qx H.size n (xs (i + 1))) (cwV 1 hts (lw_V q16 q17 q18 q2 q19) rfl rfl rfl (by decide +kernel) ⟨Nat.le_of_ble_eq_true rfl, Nat.le_of_ble_eq_true rfl⟩) ⟨fun a U g mk q => by obtain ⟨z0, z1, qP, qK, qD⟩ := q; exact ⟨z0, z1, qP, va_K.moved (u := U) (U := U.calling g mk a) (Vm.Alike.refl U.vm) qK, qD⟩, va_recv hKc hPc (ci := 0) (q0 := 0) rfl rfl, fun U hU hW => ⟨rfl, by rw [hU], by rw [hU]; exact hPc, va_K.moved hW.alike hKc, hDc.weaken (fun _ _ _ _ => trivial)⟩⟩ rfl rfl hl.1 rfl (lv_room (Nat.le_of_ble_eq_true rfl)) dL_law_82 ⟨Nat.le_of_ble_eq_true rfl, Nat.le_of_ble_eq_true rfl⟩) hS (fun q _ h => hFc q h) hFc (fun _u t H1 locs ht hvm hw hB hz1 hk1 hS => ?_)
        obtain ⟨hP1, hK1, hD1⟩ := hB
        rw [ht] at hP1
        obtain ⟨hP, hD⟩ := va_join (wr := [(qm, .inr (1, [.int (nI (n)), .ref q1, .int md])), (q1, .inl (d1, 512, .inl f))]) (w1 := [(qx, .inr (0, [.int (nI ((xs (i + 1)).toBitVec.toNat % 512))]))]) hP hD [0] [1, 2] rfl rfl (by decide) (by decide) hk1 hFc hP1 hD1
        generalize H1 = H at hP hS ⊢
        have hP : va_P (dC, dI) vwCl [(qx, .inr (0, [.int (nI ((xs (i + 1)).toBitVec.toNat % 512))])), (qm, .inr (1, [.int (nI (n)), .ref q1, .int md])), (q1, .inl (d1, 512, .inl f))] H := hP.sub [2, 0, 1] rfl
        have hD : va_D (fun q : Nat => s.heap.size ≤ q) [(qx, .inr (0, [.int (nI ((xs (i + 1)).toBitVec.toNat % 512))])), (qm, .inr (1, [.int (nI (n)), .ref q1, .int md])), (q1, .inl (d1, 512, .inl f))] := hD.sub [2, 0, 1] (by decide) rfl
        refine lv_aload_n hx hb dL_law_85 rfl (lv_at hl 2 rfl) ?_
        refine lv_aload_n hx hb dL_law_86 rfl (lv_at hl 0 rfl) ?_
        refine lv_iload_n hx hb dL_law_87 rfl (lv_at hl 3 rfl) ?_
        refine lv_iconst (v := nI 1) hx hb dL_law_88 (by decide) ?_
        refine lv_iadd hx hb dL_law_89 ?_
        refine ss_top (y := nI (i + 1)) (nI_add (i) (1)) ?_
        refine va_sld hx hb hX hbl hbA hS (vp_in_nI (n := i + 1) (by omega) (by omega)) dL_law_90 ?_
        refine ss_top (y := xs (i + 1)) (by rw [nI_clamp (by omega)]) ?_
        have hPc := hP.sub (ws' := [(qm, .inr (1, [.int (nI (n)), .ref q1, .int md]))]) [1] rfl
        have hDc := hD.sub (ws' := [(qm, .inr (1, [.int (nI (n)), .ref q1, .int md]))]) [1] (by decide) rfl
        have hKc := hK.sub (tys' := []) [] rfl
        have hFc := va_free (wc := [(qm, .inr (1, [.int (nI (n)), .ref q1, .int md]))]) hD hS hA [1] rfl
        refine va_callv (va_runV (As := [.int (xs (i + 1))]) (rest := []) ⟨hx, hb, hml, hown, hts⟩ (met_load1 l dC dI qm q1 H.size n md (xs (i + 1))) (cwV 1 hts (lw_V q70 q71 q72 q3 q73) rfl rfl rfl (by decide +kernel) ⟨Nat.le_of_ble_eq_true rfl, Nat.le_of_ble_eq_true rfl⟩) ⟨fun a U g mk q => by obtain ⟨z0, z1, qP, qK, qD⟩ := q; exact ⟨z0, z1, qP, va_K.moved (u := U) (U := U.calling g mk a) (Vm.Alike.refl U.vm) qK, qD⟩, va_recv hKc hPc (ci := 1) (q0 := 0) rfl rfl, fun U hU hW => ⟨rfl, by rw [hU], by rw [hU]; exact hPc, va_K.moved hW.alike hKc, hDc.weaken (fun _ _ _ _ => trivial)⟩⟩ rfl rfl hl.1 rfl (lv_room (Nat.le_of_ble_eq_true rfl)) dL_law_91 ⟨Nat.le_of_ble_eq_true rfl, Nat.le_of_ble_eq_true rfl⟩) hS (fun q _ h => hFc q h) hFc (fun _u t H1 locs ht hvm hw hB hz1 hk1 hS => ?_)
        obtain ⟨hP1, hK1, hD1⟩ := hB
        rw [ht] at hP1
        obtain ⟨hP, hD⟩ := va_join (wr := [(qx, .inr (0, [.int (nI ((xs (i + 1)).toBitVec.toNat % 512))]))] ++ [(q1, .inl (d1, 512, .inl f))]) (w1 := [(qm, .inr (1, [.int (nI ((xs (i + 1)).toBitVec.toNat % 512)), .ref q1, .int md]))]) hP hD [1] [0, 2] rfl rfl (by decide) (by decide) hk1 hFc hP1 hD1
        generalize H1 = H at hP hS ⊢
        have hP : va_P (dC, dI) vwCl [(qx, .inr (0, [.int (nI ((xs (i + 1)).toBitVec.toNat % 512))])), (qm, .inr (1, [.int (nI ((xs (i + 1)).toBitVec.toNat % 512)), .ref q1, .int md])), (q1, .inl (d1, 512, .inl f))] H := hP.sub [0, 2, 1] rfl
        have hD : va_D (fun q : Nat => s.heap.size ≤ q) [(qx, .inr (0, [.int (nI ((xs (i + 1)).toBitVec.toNat % 512))])), (qm, .inr (1, [.int (nI ((xs (i + 1)).toBitVec.toNat % 512)), .ref q1, .int md])), (q1, .inl (d1, 512, .inl f))] := hD.sub [0, 2, 1] (by decide) rfl
        refine lv_goto (tgt := 175) hx hb dL_law_94 (by decide) ?_
        exact tail ((xs (i + 1)).toBitVec.toNat % 512) md f H locs hi2 (Nat.mod_lt _ (by decide)) hok hP hD hS ls (lv_sub hl [0, 1, 2, 3] rfl)
      · skip
        refine lv_tableIn (tgt := 97) (off := 65) hx hb dL_law_32 (by decide) (by decide) (by decide) (by decide) ?_
        refine lv_aload_n hx hb dL_law_97 rfl (lv_at hl 1 rfl) ?_
        have hPc := hP.sub (ws' := [(qx, .inr (0, [.int (nI (n))]))]) [0] rfl
        refine vp_callSi (W.runV (As := []) (rest := []) ⟨hx, hb, hml, hown, hts⟩ (met_one0 l dC dI qx n hn) (cwV 0 hts (lw_V q20 q21 q22 q2 q23) rfl rfl rfl (by decide +kernel) ⟨Nat.le_of_ble_eq_true rfl, Nat.le_of_ble_eq_true rfl⟩) ⟨fun a U g mk q => ⟨q.1, q.2.1, va_K.moved (u := U) (U := U.calling g mk a) (Vm.Alike.refl U.vm) q.2.2⟩, va_recv hK0 hPc (ci := 0) (q0 := 0) rfl rfl, fun U hU hW => ⟨rfl, by rw [hU]; exact hPc, va_K.moved hW.alike hK0⟩⟩ rfl rfl hl.1 rfl (lv_room (Nat.le_of_ble_eq_true rfl)) dL_law_98 ⟨Nat.le_of_ble_eq_true rfl, Nat.le_of_ble_eq_true rfl⟩) (fun rr hq => ?_)
        obtain rfl : rr = nI (ss_ones n) := hq
        refine lv_aload_n hx hb dL_law_101 rfl (lv_at hl 2 rfl) ?_
        have hPc := hP.sub (ws' := [(qm, .inr (1, [.int (nI (n)), .ref q1, .int md]))]) [1] rfl
        refine vp_callSi (W.runV (As := []) (rest := [.int (nI (ss_ones n))]) ⟨hx, hb, hml, hown, hts⟩ (met_one1 l dC dI qm q1 n md hn) (cwV 0 hts (lw_V q74 q75 q76 q3 q77) rfl rfl rfl (by decide +kernel) ⟨Nat.le_of_ble_eq_true rfl, Nat.le_of_ble_eq_true rfl⟩) ⟨fun a U g mk q => ⟨q.1, q.2.1, va_K.moved (u := U) (U := U.calling g mk a) (Vm.Alike.refl U.vm) q.2.2⟩, va_recv hK0 hPc (ci := 1) (q0 := 0) rfl rfl, fun U hU hW => ⟨rfl, by rw [hU]; exact hPc, va_K.moved hW.alike hK0⟩⟩ rfl rfl hl.1 rfl (lv_room (Nat.le_of_ble_eq_true rfl)) dL_law_102 ⟨Nat.le_of_ble_eq_true rfl, Nat.le_of_ble_eq_true rfl⟩) (fun rr hq => ?_)
        obtain rfl : rr = nI (ss_ones n) := hq
        refine lv_icmp_eq (tgt := 175) hx hb dL_law_105 (by decide) (fun hc1 => ?_) (fun hc1 => ?_)
        · skip
          exact tail n md f H locs hi2 hn hok hP hD hS ls (lv_sub hl [0, 1, 2, 3] rfl)
        · skip
          exact absurd (rfl) hc1
      · skip
        refine lv_tableIn (tgt := 110) (off := 78) hx hb dL_law_32 (by decide) (by decide) (by decide) (by decide) ?_
        refine lv_aload_n hx hb dL_law_110 rfl (lv_at hl 1 rfl) ?_
        have hPc := hP.sub (ws' := [(qx, .inr (0, [.int (nI (n))]))]) [0] rfl
        refine vp_callSi (W.runV (As := []) (rest := []) ⟨hx, hb, hml, hown, hts⟩ (met_two0 l dC dI qx n hn) (cwV 0 hts (lw_V q27 q28 q29 q2 q30) rfl rfl rfl (by decide +kernel) ⟨Nat.le_of_ble_eq_true rfl, Nat.le_of_ble_eq_true rfl⟩) ⟨fun a U g mk q => ⟨q.1, q.2.1, va_K.moved (u := U) (U := U.calling g mk a) (Vm.Alike.refl U.vm) q.2.2⟩, va_recv hK0 hPc (ci := 0) (q0 := 0) rfl rfl, fun U hU hW => ⟨rfl, by rw [hU]; exact hPc, va_K.moved hW.alike hK0⟩⟩ rfl rfl hl.1 rfl (lv_room (Nat.le_of_ble_eq_true rfl)) dL_law_111 ⟨Nat.le_of_ble_eq_true rfl, Nat.le_of_ble_eq_true rfl⟩) (fun rr hq => ?_)
        obtain rfl : rr = nI (ss_tw n) := hq
        refine lv_aload_n hx hb dL_law_114 rfl (lv_at hl 2 rfl) ?_
        have hPc := hP.sub (ws' := [(qm, .inr (1, [.int (nI (n)), .ref q1, .int md])), (q1, .inl (d1, 512, .inl f))]) [1, 2] rfl
        have hDc := hD.sub (ws' := [(qm, .inr (1, [.int (nI (n)), .ref q1, .int md])), (q1, .inl (d1, 512, .inl f))]) [1, 2] (by decide) rfl
        have hKc := hK.sub (tys' := [(d1, .int)]) [0] rfl
        have hFc := va_free (wc := [(qm, .inr (1, [.int (nI (n)), .ref q1, .int md])), (q1, .inl (d1, 512, .inl f))]) hD hS hA [1, 2] rfl
        refine va_calli (va_runV (As := []) (rest := [.int (nI (ss_tw n))]) ⟨hx, hb, hml, hown, hts⟩ (met_two1 l dC dI qm q1 n d1 H.size md f hn hok) (cwV 0 hts (lw_V q81 q82 q83 q3 q84) rfl rfl rfl (by decide +kernel) ⟨Nat.le_of_ble_eq_true rfl, Nat.le_of_ble_eq_true rfl⟩) ⟨fun a U g mk q => by obtain ⟨z0, z1, qP, qK, qD⟩ := q; exact ⟨z0, z1, qP, va_K.moved (u := U) (U := U.calling g mk a) (Vm.Alike.refl U.vm) qK, qD⟩, va_recv hKc hPc (ci := 1) (q0 := 0) rfl rfl, fun U hU hW => ⟨rfl, by rw [hU], by rw [hU]; exact hPc, va_K.moved hW.alike hKc, hDc.weaken (fun _ _ _ _ => trivial)⟩⟩ rfl rfl hl.1 rfl (lv_room (Nat.le_of_ble_eq_true rfl)) dL_law_115 ⟨Nat.le_of_ble_eq_true rfl, Nat.le_of_ble_eq_true rfl⟩) hS (fun q _ h => hFc q h) hFc (fun rr u t H1 locs ht hvm hw hB hz1 hk1 hS => ?_)
        obtain ⟨hP1, hK1, hD1⟩ := hB
        rw [ht] at hP1
        obtain ⟨hP, hD⟩ := va_join (wr := [(qx, .inr (0, [.int (nI (n))]))]) (w1 := [(qm, .inr (1, [.int (nI (n)), .ref q1, .int (nI 1)])), (q1, .inl (d1, 512, .inl u))]) hP hD [1, 2] [0] rfl rfl (by decide) (by decide) hk1 hFc hP1 hD1
        generalize H1 = H at hP hS ⊢
        have hP : va_P (dC, dI) vwCl [(qx, .inr (0, [.int (nI (n))])), (qm, .inr (1, [.int (nI (n)), .ref q1, .int (nI 1)])), (q1, .inl (d1, 512, .inl u))] H := hP.sub [0, 1, 2] rfl
        have hD : va_D (fun q : Nat => s.heap.size ≤ q) [(qx, .inr (0, [.int (nI (n))])), (qm, .inr (1, [.int (nI (n)), .ref q1, .int (nI 1)])), (q1, .inl (d1, 512, .inl u))] := hD.sub [0, 1, 2] (by decide) rfl
        obtain ⟨hrr, hw⟩ := hw
        subst hrr
        refine lv_icmp_eq (tgt := 175) hx hb dL_law_118 (by decide) (fun hc1 => ?_) (fun hc1 => ?_)
        · skip
          exact tail n (nI 1) u H locs hi2 hn (Or.inr ⟨rfl, hw⟩) hP hD hS ls (lv_sub hl [0, 1, 2, 3] rfl)
        · skip
          exact absurd (rfl) hc1
      · skip
        refine lv_tableIn (tgt := 123) (off := 91) hx hb dL_law_32 (by decide) (by decide) (by decide) (by decide) ?_
        refine lv_aload_n hx hb dL_law_123 rfl (lv_at hl 1 rfl) ?_
        have hPc := hP.sub (ws' := [(qx, .inr (0, [.int (nI (n))]))]) [0] rfl
        refine vp_callSi (W.runV (As := []) (rest := []) ⟨hx, hb, hml, hown, hts⟩ (met_three0 l dC dI qx n hn) (cwV 0 hts (lw_V q37 q38 q39 q2 q40) rfl rfl rfl (by decide +kernel) ⟨Nat.le_of_ble_eq_true rfl, Nat.le_of_ble_eq_true rfl⟩) ⟨fun a U g mk q => ⟨q.1, q.2.1, va_K.moved (u := U) (U := U.calling g mk a) (Vm.Alike.refl U.vm) q.2.2⟩, va_recv hK0 hPc (ci := 0) (q0 := 0) rfl rfl, fun U hU hW => ⟨rfl, by rw [hU]; exact hPc, va_K.moved hW.alike hK0⟩⟩ rfl rfl hl.1 rfl (lv_room (Nat.le_of_ble_eq_true rfl)) dL_law_124 ⟨Nat.le_of_ble_eq_true rfl, Nat.le_of_ble_eq_true rfl⟩) (fun rr hq => ?_)
        obtain rfl : rr = nI (ss_x3 n) := hq
        refine lv_aload_n hx hb dL_law_127 rfl (lv_at hl 2 rfl) ?_
        have hPc := hP.sub (ws' := [(qm, .inr (1, [.int (nI (n)), .ref q1, .int md])), (q1, .inl (d1, 512, .inl f))]) [1, 2] rfl
        have hDc := hD.sub (ws' := [(qm, .inr (1, [.int (nI (n)), .ref q1, .int md])), (q1, .inl (d1, 512, .inl f))]) [1, 2] (by decide) rfl
        have hKc := hK.sub (tys' := [(d1, .int)]) [0] rfl
        have hFc := va_free (wc := [(qm, .inr (1, [.int (nI (n)), .ref q1, .int md])), (q1, .inl (d1, 512, .inl f))]) hD hS hA [1, 2] rfl
        refine va_calli (va_runV (As := []) (rest := [.int (nI (ss_x3 n))]) ⟨hx, hb, hml, hown, hts⟩ (met_three1 l dC dI qm q1 n d1 H.size md f hn hok) (cwV 0 hts (lw_V q89 q90 q91 q3 q92) rfl rfl rfl (by decide +kernel) ⟨Nat.le_of_ble_eq_true rfl, Nat.le_of_ble_eq_true rfl⟩) ⟨fun a U g mk q => by obtain ⟨z0, z1, qP, qK, qD⟩ := q; exact ⟨z0, z1, qP, va_K.moved (u := U) (U := U.calling g mk a) (Vm.Alike.refl U.vm) qK, qD⟩, va_recv hKc hPc (ci := 1) (q0 := 0) rfl rfl, fun U hU hW => ⟨rfl, by rw [hU], by rw [hU]; exact hPc, va_K.moved hW.alike hKc, hDc.weaken (fun _ _ _ _ => trivial)⟩⟩ rfl rfl hl.1 rfl (lv_room (Nat.le_of_ble_eq_true rfl)) dL_law_128 ⟨Nat.le_of_ble_eq_true rfl, Nat.le_of_ble_eq_true rfl⟩) hS (fun q _ h => hFc q h) hFc (fun rr u t H1 locs ht hvm hw hB hz1 hk1 hS => ?_)
        obtain ⟨hP1, hK1, hD1⟩ := hB
        rw [ht] at hP1
        obtain ⟨hP, hD⟩ := va_join (wr := [(qx, .inr (0, [.int (nI (n))]))]) (w1 := [(qm, .inr (1, [.int (nI (n)), .ref q1, .int (nI 1)])), (q1, .inl (d1, 512, .inl u))]) hP hD [1, 2] [0] rfl rfl (by decide) (by decide) hk1 hFc hP1 hD1
        generalize H1 = H at hP hS ⊢
        have hP : va_P (dC, dI) vwCl [(qx, .inr (0, [.int (nI (n))])), (qm, .inr (1, [.int (nI (n)), .ref q1, .int (nI 1)])), (q1, .inl (d1, 512, .inl u))] H := hP.sub [0, 1, 2] rfl
        have hD : va_D (fun q : Nat => s.heap.size ≤ q) [(qx, .inr (0, [.int (nI (n))])), (qm, .inr (1, [.int (nI (n)), .ref q1, .int (nI 1)])), (q1, .inl (d1, 512, .inl u))] := hD.sub [0, 1, 2] (by decide) rfl
        obtain ⟨hrr, hw⟩ := hw
        subst hrr
        refine lv_icmp_eq (tgt := 175) hx hb dL_law_131 (by decide) (fun hc1 => ?_) (fun hc1 => ?_)
        · skip
          exact tail n (nI 1) u H locs hi2 hn (Or.inr ⟨rfl, hw⟩) hP hD hS ls (lv_sub hl [0, 1, 2, 3] rfl)
        · skip
          exact absurd (by rw [ss_p_3 hn]) hc1
      · skip
        refine lv_tableIn (tgt := 136) (off := 104) hx hb dL_law_32 (by decide) (by decide) (by decide) (by decide) ?_
        refine lv_aload_n hx hb dL_law_136 rfl (lv_at hl 1 rfl) ?_
        have hPc := hP.sub (ws' := [(qx, .inr (0, [.int (nI (n))]))]) [0] rfl
        refine vp_callSi (W.runV (As := []) (rest := []) ⟨hx, hb, hml, hown, hts⟩ (met_four0 l dC dI qx n hn) (cwV 0 hts (lw_V q41 q42 q43 q2 q44) rfl rfl rfl (by decide +kernel) ⟨Nat.le_of_ble_eq_true rfl, Nat.le_of_ble_eq_true rfl⟩) ⟨fun a U g mk q => ⟨q.1, q.2.1, va_K.moved (u := U) (U := U.calling g mk a) (Vm.Alike.refl U.vm) q.2.2⟩, va_recv hK0 hPc (ci := 0) (q0 := 0) rfl rfl, fun U hU hW => ⟨rfl, by rw [hU]; exact hPc, va_K.moved hW.alike hK0⟩⟩ rfl rfl hl.1 rfl (lv_room (Nat.le_of_ble_eq_true rfl)) dL_law_137 ⟨Nat.le_of_ble_eq_true rfl, Nat.le_of_ble_eq_true rfl⟩) (fun rr hq => ?_)
        obtain rfl : rr = nI (ss_x4 n) := hq
        refine lv_aload_n hx hb dL_law_140 rfl (lv_at hl 2 rfl) ?_
        have hPc := hP.sub (ws' := [(qm, .inr (1, [.int (nI (n)), .ref q1, .int md])), (q1, .inl (d1, 512, .inl f))]) [1, 2] rfl
        have hDc := hD.sub (ws' := [(qm, .inr (1, [.int (nI (n)), .ref q1, .int md])), (q1, .inl (d1, 512, .inl f))]) [1, 2] (by decide) rfl
        have hKc := hK.sub (tys' := [(d1, .int)]) [0] rfl
        have hFc := va_free (wc := [(qm, .inr (1, [.int (nI (n)), .ref q1, .int md])), (q1, .inl (d1, 512, .inl f))]) hD hS hA [1, 2] rfl
        refine va_calli (va_runV (As := []) (rest := [.int (nI (ss_x4 n))]) ⟨hx, hb, hml, hown, hts⟩ (met_four1 l dC dI qm q1 n d1 H.size md f hn hok) (cwV 0 hts (lw_V q93 q94 q95 q3 q96) rfl rfl rfl (by decide +kernel) ⟨Nat.le_of_ble_eq_true rfl, Nat.le_of_ble_eq_true rfl⟩) ⟨fun a U g mk q => by obtain ⟨z0, z1, qP, qK, qD⟩ := q; exact ⟨z0, z1, qP, va_K.moved (u := U) (U := U.calling g mk a) (Vm.Alike.refl U.vm) qK, qD⟩, va_recv hKc hPc (ci := 1) (q0 := 0) rfl rfl, fun U hU hW => ⟨rfl, by rw [hU], by rw [hU]; exact hPc, va_K.moved hW.alike hKc, hDc.weaken (fun _ _ _ _ => trivial)⟩⟩ rfl rfl hl.1 rfl (lv_room (Nat.le_of_ble_eq_true rfl)) dL_law_141 ⟨Nat.le_of_ble_eq_true rfl, Nat.le_of_ble_eq_true rfl⟩) hS (fun q _ h => hFc q h) hFc (fun rr u t H1 locs ht hvm hw hB hz1 hk1 hS => ?_)
        obtain ⟨hP1, hK1, hD1⟩ := hB
        rw [ht] at hP1
        obtain ⟨hP, hD⟩ := va_join (wr := [(qx, .inr (0, [.int (nI (n))]))]) (w1 := [(qm, .inr (1, [.int (nI (n)), .ref q1, .int (nI 1)])), (q1, .inl (d1, 512, .inl u))]) hP hD [1, 2] [0] rfl rfl (by decide) (by decide) hk1 hFc hP1 hD1
        generalize H1 = H at hP hS ⊢
        have hP : va_P (dC, dI) vwCl [(qx, .inr (0, [.int (nI (n))])), (qm, .inr (1, [.int (nI (n)), .ref q1, .int (nI 1)])), (q1, .inl (d1, 512, .inl u))] H := hP.sub [0, 1, 2] rfl
        have hD : va_D (fun q : Nat => s.heap.size ≤ q) [(qx, .inr (0, [.int (nI (n))])), (qm, .inr (1, [.int (nI (n)), .ref q1, .int (nI 1)])), (q1, .inl (d1, 512, .inl u))] := hD.sub [0, 1, 2] (by decide) rfl
        obtain ⟨hrr, hw⟩ := hw
        subst hrr
        refine lv_icmp_eq (tgt := 175) hx hb dL_law_144 (by decide) (fun hc1 => ?_) (fun hc1 => ?_)
        · skip
          exact tail n (nI 1) u H locs hi2 hn (Or.inr ⟨rfl, hw⟩) hP hD hS ls (lv_sub hl [0, 1, 2, 3] rfl)
        · skip
          exact absurd (by rw [ss_p_4 hn]) hc1
      · skip
        refine lv_tableIn (tgt := 149) (off := 117) hx hb dL_law_32 (by decide) (by decide) (by decide) (by decide) ?_
        refine lv_aload_n hx hb dL_law_149 rfl (lv_at hl 1 rfl) ?_
        have hPc := hP.sub (ws' := [(qx, .inr (0, [.int (nI (n))]))]) [0] rfl
        refine vp_callSi (W.runV (As := []) (rest := []) ⟨hx, hb, hml, hown, hts⟩ (met_triangles0 l dC dI qx n hn) (cwV 0 hts (lw_V q45 q46 q47 q2 q48) rfl rfl rfl (by decide +kernel) ⟨Nat.le_of_ble_eq_true rfl, Nat.le_of_ble_eq_true rfl⟩) ⟨fun a U g mk q => ⟨q.1, q.2.1, va_K.moved (u := U) (U := U.calling g mk a) (Vm.Alike.refl U.vm) q.2.2⟩, va_recv hK0 hPc (ci := 0) (q0 := 0) rfl rfl, fun U hU hW => ⟨rfl, by rw [hU]; exact hPc, va_K.moved hW.alike hK0⟩⟩ rfl rfl hl.1 rfl (lv_room (Nat.le_of_ble_eq_true rfl)) dL_law_150 ⟨Nat.le_of_ble_eq_true rfl, Nat.le_of_ble_eq_true rfl⟩) (fun rr hq => ?_)
        obtain rfl : rr = nI (ss_tri n) := hq
        refine lv_aload_n hx hb dL_law_153 rfl (lv_at hl 2 rfl) ?_
        have hPc := hP.sub (ws' := [(qm, .inr (1, [.int (nI (n)), .ref q1, .int md]))]) [1] rfl
        refine vp_callSi (W.runV (As := []) (rest := [.int (nI (ss_tri n))]) ⟨hx, hb, hml, hown, hts⟩ (met_triangles1 l dC dI qm q1 n md hn) (cwV 0 hts (lw_V q97 q98 q99 q3 q100) rfl rfl rfl (by decide +kernel) ⟨Nat.le_of_ble_eq_true rfl, Nat.le_of_ble_eq_true rfl⟩) ⟨fun a U g mk q => ⟨q.1, q.2.1, va_K.moved (u := U) (U := U.calling g mk a) (Vm.Alike.refl U.vm) q.2.2⟩, va_recv hK0 hPc (ci := 1) (q0 := 0) rfl rfl, fun U hU hW => ⟨rfl, by rw [hU]; exact hPc, va_K.moved hW.alike hK0⟩⟩ rfl rfl hl.1 rfl (lv_room (Nat.le_of_ble_eq_true rfl)) dL_law_154 ⟨Nat.le_of_ble_eq_true rfl, Nat.le_of_ble_eq_true rfl⟩) (fun rr hq => ?_)
        obtain rfl : rr = nI (ss_tri n) := hq
        refine lv_icmp_eq (tgt := 175) hx hb dL_law_157 (by decide) (fun hc1 => ?_) (fun hc1 => ?_)
        · skip
          exact tail n md f H locs hi2 hn hok hP hD hS ls (lv_sub hl [0, 1, 2, 3] rfl)
        · skip
          exact absurd (rfl) hc1
      · skip
        refine lv_tableIn (tgt := 162) (off := 130) hx hb dL_law_32 (by decide) (by decide) (by decide) (by decide) ?_
        refine lv_aload_n hx hb dL_law_162 rfl (lv_at hl 1 rfl) ?_
        have hPc := hP.sub (ws' := [(qx, .inr (0, [.int (nI (n))]))]) [0] rfl
        refine vp_callSi (W.runV (As := []) (rest := []) ⟨hx, hb, hml, hown, hts⟩ (met_fewest0 l dC dI qx n hn) (cwV 0 hts (lw_V q49 q50 q51 q2 q52) rfl rfl rfl (by decide +kernel) ⟨Nat.le_of_ble_eq_true rfl, Nat.le_of_ble_eq_true rfl⟩) ⟨fun a U g mk q => ⟨q.1, q.2.1, va_K.moved (u := U) (U := U.calling g mk a) (Vm.Alike.refl U.vm) q.2.2⟩, va_recv hK0 hPc (ci := 0) (q0 := 0) rfl rfl, fun U hU hW => ⟨rfl, by rw [hU]; exact hPc, va_K.moved hW.alike hK0⟩⟩ rfl rfl hl.1 rfl (lv_room (Nat.le_of_ble_eq_true rfl)) dL_law_163 ⟨Nat.le_of_ble_eq_true rfl, Nat.le_of_ble_eq_true rfl⟩) (fun rr hq => ?_)
        obtain rfl : rr = nI (ss_few n) := hq
        refine lv_aload_n hx hb dL_law_166 rfl (lv_at hl 2 rfl) ?_
        have hPc := hP.sub (ws' := [(qm, .inr (1, [.int (nI (n)), .ref q1, .int md])), (q1, .inl (d1, 512, .inl f))]) [1, 2] rfl
        have hDc := hD.sub (ws' := [(qm, .inr (1, [.int (nI (n)), .ref q1, .int md])), (q1, .inl (d1, 512, .inl f))]) [1, 2] (by decide) rfl
        have hKc := hK.sub (tys' := [(d1, .int)]) [0] rfl
        have hFc := va_free (wc := [(qm, .inr (1, [.int (nI (n)), .ref q1, .int md])), (q1, .inl (d1, 512, .inl f))]) hD hS hA [1, 2] rfl
        refine va_calli (va_runV (As := []) (rest := [.int (nI (ss_few n))]) ⟨hx, hb, hml, hown, hts⟩ (met_fewest1 l dC dI qm q1 n d1 H.size md f hn hok) (cwV 0 hts (lw_V q101 q102 q103 q3 q104) rfl rfl rfl (by decide +kernel) ⟨Nat.le_of_ble_eq_true rfl, Nat.le_of_ble_eq_true rfl⟩) ⟨fun a U g mk q => by obtain ⟨z0, z1, qP, qK, qD⟩ := q; exact ⟨z0, z1, qP, va_K.moved (u := U) (U := U.calling g mk a) (Vm.Alike.refl U.vm) qK, qD⟩, va_recv hKc hPc (ci := 1) (q0 := 0) rfl rfl, fun U hU hW => ⟨rfl, by rw [hU], by rw [hU]; exact hPc, va_K.moved hW.alike hKc, hDc.weaken (fun _ _ _ _ => trivial)⟩⟩ rfl rfl hl.1 rfl (lv_room (Nat.le_of_ble_eq_true rfl)) dL_law_167 ⟨Nat.le_of_ble_eq_true rfl, Nat.le_of_ble_eq_true rfl⟩) hS (fun q _ h => hFc q h) hFc (fun rr u t H1 locs ht hvm hw hB hz1 hk1 hS => ?_)
        obtain ⟨hP1, hK1, hD1⟩ := hB
        rw [ht] at hP1
        obtain ⟨hP, hD⟩ := va_join (wr := [(qx, .inr (0, [.int (nI (n))]))]) (w1 := [(qm, .inr (1, [.int (nI (n)), .ref q1, .int (nI 1)])), (q1, .inl (d1, 512, .inl u))]) hP hD [1, 2] [0] rfl rfl (by decide) (by decide) hk1 hFc hP1 hD1
        generalize H1 = H at hP hS ⊢
        have hP : va_P (dC, dI) vwCl [(qx, .inr (0, [.int (nI (n))])), (qm, .inr (1, [.int (nI (n)), .ref q1, .int (nI 1)])), (q1, .inl (d1, 512, .inl u))] H := hP.sub [0, 1, 2] rfl
        have hD : va_D (fun q : Nat => s.heap.size ≤ q) [(qx, .inr (0, [.int (nI (n))])), (qm, .inr (1, [.int (nI (n)), .ref q1, .int (nI 1)])), (q1, .inl (d1, 512, .inl u))] := hD.sub [0, 1, 2] (by decide) rfl
        obtain ⟨hrr, hw⟩ := hw
        subst hrr
        refine lv_icmp_eq (tgt := 175) hx hb dL_law_170 (by decide) (fun hc1 => ?_) (fun hc1 => ?_)
        · skip
          exact tail n (nI 1) u H locs hi2 hn (Or.inr ⟨rfl, hw⟩) hP hD hS ls (lv_sub hl [0, 1, 2, 3] rfl)
        · skip
          exact absurd (by rw [ss_p_few hn]) hc1
      · skip
        refine lv_tableOut (tgt := 175) hx hb dL_law_32 (by decide) (by decide) ?_
        exact tail n md f H locs hi2 hn hok hP hD hS ls (lv_sub hl [0, 1, 2, 3] rfl)
set_option maxHeartbeats 4000000 in
set_option maxRecDepth 100000 in
/-- THE LAW, from its entry -/
theorem whole_start {p : Program} {e : Env} {s : State} {m : MethodId} {below : List Frame} {meth : Method} {c : Code} (l : Launch) {b L : Nat} {xs : Nat → Int32} (hL : L ≤ 128) (C0 : lw_At p s m meth c b L xs) : W p l e room_1 s m #[Value.ref b] below meth c s.heap [] 0 0 (lw_Z below #[Value.ref b] s) (entryFrame m ([Value.ref b] : List Value).toArray 4) := by
  obtain ⟨hx, hb, hr, hml, hown, hts0, hX, hbl, hlocks, hgv⟩ := id C0
  have hts : ∀ w ∈ lw_all, w.before #[Value.ref b] s = true := fun w h => hts0 w (lw_all_tbl h)
  have hA : ∀ q : Nat, s.heap.size ≤ q → (fun q : Nat => s.heap.size ≤ q) q := fun _ h => h
  obtain ⟨c0, iS0, hKn0⟩ := u_known (C := RX0) (T := TX0) (N := 1) (n := 1) hts in_X0 (hts _ q5)
  obtain ⟨c1, iS1, hKn1⟩ := u_known (C := RX1) (T := TX1) (N := 3) (n := 3) hts in_X1 (hts _ q54)
  obtain ⟨dC, dI, hKc⟩ : ∃ (dC : Nat → ClassId) (dI : Nat → Nat → Nat), ∀ (k : Nat) (q : vw_C), vwCl[k]? = some q → u_Kn s q.1 q.2.1 q.2.2 (dC k) (dI k) := by
    refine ⟨fun k => if k = 0 then c0 else c1, fun k => if k = 0 then iS0 else iS1, ?_⟩
    intro k q hq
    match k, hq with
    | 0, hq => cases hq; exact hKn0
    | 1, hq => cases hq; exact hKn1
    | k + 2, hq => simp [vwCl] at hq
  have hS : va_S (fun q : Nat => s.heap.size ≤ q) s.heap s.heap [] := va_S.rf
  have hK : va_K (dC, dI) vwCl [] s := ⟨hKc, fun k q h => by simp at h⟩
  have hP : va_P (dC, dI) vwCl [] s.heap := fun k q h => by simp at h
  have hD : va_D (fun q : Nat => s.heap.size ≤ q) [] := ⟨fun i j p q h => by simp at h, fun k q h => by simp at h⟩
  have hl := lv_entry ([.ref b]) (n := 4) (Nat.le_of_ble_eq_true rfl)
  rw [lg_entry_eq]
  generalize (lg_sl ([.ref b]) ++ List.replicate (4 - (lg_sl ([.ref b])).length) Slot.unset).toArray = ls at hl ⊢
  have hl : lv_has ls 4 [(0, .ref b)] := hl
  refine va_new (ci := 0) (fs := [.int 0]) (C := RX0) (T := TX0) (N := 1) hx hb hts in_X0 tyX0 tyX0_ok hown (hts _ q4) (hts _ q5) (hts _ q2) hK hP hD hS hA rfl (fun j hj => by rcases (show j = 0 by omega) with rfl <;> rfl) (Nat.le_of_ble_eq_true rfl) (Nat.le_of_ble_eq_true rfl) dL_law_0 (fun qx H hP hD hS => ?_)
  have hP : va_P (dC, dI) vwCl [(qx, .inr (0, [.int 0]))] H := hP
  have hD : va_D (fun q : Nat => s.heap.size ≤ q) [(qx, .inr (0, [.int 0]))] := hD
  refine W.widen (k := 1) (n := 1) (by omega) (by omega) ?_
  refine lv_dup hx hb dL_law_3 rfl ?_
  have hPc := hP.sub (ws' := [(qx, .inr (0, [.int 0]))]) [0] rfl
  have hDc := hD.sub (ws' := [(qx, .inr (0, [.int 0]))]) [0] (by decide) rfl
  have hFc := va_free (wc := [(qx, .inr (0, [.int 0]))]) hD hS hA [0] rfl
  refine va_callv (va_runI (As := []) (rest := [.ref qx]) ⟨hx, hb, hml, hown, hts⟩ (met_init0 l dC dI qx H.size 0) (cwI 0 hts (lw_meth q8) rfl rfl rfl (hts _ q2) (hts _ q6) (hts _ q7) rfl (by decide +kernel) ⟨Nat.le_of_ble_eq_true rfl, Nat.le_of_ble_eq_true rfl⟩) ⟨fun a U g mk q => by obtain ⟨z0, z1, qP, qK, qD⟩ := q; exact ⟨z0, z1, qP, va_K.moved (u := U) (U := U.calling g mk a) (Vm.Alike.refl U.vm) qK, qD⟩, fun U hU hW => ⟨rfl, by rw [hU], by rw [hU]; exact hPc, va_K.moved hW.alike hK, hDc.weaken (fun _ _ _ _ => trivial)⟩⟩ rfl rfl hl.1 rfl (lv_room (Nat.le_of_ble_eq_true rfl)) dL_law_4 ⟨Nat.le_of_ble_eq_true rfl, Nat.le_of_ble_eq_true rfl⟩) hS (fun q _ h => hFc q h) hFc (fun _u t H1 locs ht hvm hw hB hz1 hk1 hS => ?_)
  obtain ⟨hP1, hK1, hD1⟩ := hB
  rw [ht] at hP1
  have hK1 := va_K.moved hvm.symm hK1
  obtain ⟨hP, hD⟩ := va_join (wr := []) (w1 := [(qx, .inr (0, [.int (nI 1)]))]) hP hD [0] [] rfl rfl (by decide) (by decide) hk1 hFc hP1 hD1
  generalize H1 = H at hP hS ⊢
  have hP : va_P (dC, dI) vwCl [(qx, .inr (0, [.int (nI 1)]))] H := hP
  have hD : va_D (fun q : Nat => s.heap.size ≤ q) [(qx, .inr (0, [.int (nI 1)]))] := hD
  refine lv_astore_n (lv' := [(1, .ref qx), (0, .ref b)]) hx hb dL_law_7 rfl hl (by decide) rfl (fun ls hl => ?_)
  refine va_new (ci := 1) (fs := [.int 0, .null, .int 0]) (C := RX1) (T := TX1) (N := 3) hx hb hts in_X1 tyX1 tyX1_ok hown (hts _ q53) (hts _ q54) (hts _ q3) hK hP hD hS hA rfl (fun j hj => by rcases (show j = 0 ∨ j = 1 ∨ j = 2 by omega) with rfl | rfl | rfl <;> rfl) (Nat.le_of_ble_eq_true rfl) (Nat.le_of_ble_eq_true rfl) dL_law_8 (fun qm H hP hD hS => ?_)
  have hP : va_P (dC, dI) vwCl [(qx, .inr (0, [.int (nI 1)])), (qm, .inr (1, [.int 0, .null, .int 0]))] H := hP
  have hD : va_D (fun q : Nat => s.heap.size ≤ q) [(qx, .inr (0, [.int (nI 1)])), (qm, .inr (1, [.int 0, .null, .int 0]))] := hD
  refine W.widen (k := 2) (n := 4) (by omega) (by omega) ?_
  refine lv_dup hx hb dL_law_11 rfl ?_
  have hPc := hP.sub (ws' := [(qm, .inr (1, [.int 0, .null, .int 0]))]) [1] rfl
  have hDc := hD.sub (ws' := [(qm, .inr (1, [.int 0, .null, .int 0]))]) [1] (by decide) rfl
  have hFc := va_free (wc := [(qm, .inr (1, [.int 0, .null, .int 0]))]) hD hS hA [1] rfl
  refine va_callv (va_runI (As := []) (rest := [.ref qm]) ⟨hx, hb, hml, hown, hts⟩ (met_init1 l dC dI qm H.size) (cwI 0 hts (lw_meth q57) rfl rfl rfl (hts _ q3) (hts _ q55) (hts _ q56) rfl (by decide +kernel) ⟨Nat.le_of_ble_eq_true rfl, Nat.le_of_ble_eq_true rfl⟩) ⟨fun a U g mk q => by obtain ⟨z0, z1, qP, qK, qD⟩ := q; exact ⟨z0, z1, qP, va_K.moved (u := U) (U := U.calling g mk a) (Vm.Alike.refl U.vm) qK, qD⟩, fun U hU hW => ⟨rfl, by rw [hU], by rw [hU]; exact hPc, va_K.moved hW.alike hK, hDc.weaken (fun _ _ _ _ => trivial)⟩⟩ rfl rfl hl.1 rfl (lv_room (Nat.le_of_ble_eq_true rfl)) dL_law_12 ⟨Nat.le_of_ble_eq_true rfl, Nat.le_of_ble_eq_true rfl⟩) hS (fun q _ h => hFc q h) hFc (fun u t H1 locs ht hvm hw hB hz1 hk1 hS => ?_)
  obtain ⟨hP1, hK1, hD1⟩ := hB
  rw [ht] at hP1
  have hK1 := va_K.moved hvm.symm hK1
  obtain ⟨hP, hD⟩ := va_join (wr := [(qx, .inr (0, [.int (nI 1)]))]) (w1 := [(qm, .inr (1, [.int (nI 1), .ref u.1, .int 0])), (u.1, .inl (u.2, 512, .inl (fun _ => 0)))]) hP hD [1] [0] rfl rfl (by decide) (by decide) hk1 hFc hP1 hD1
  generalize H1 = H at hP hS ⊢
  have hP : va_P (dC, dI) vwCl [(qx, .inr (0, [.int (nI 1)])), (qm, .inr (1, [.int (nI 1), .ref u.1, .int 0])), (u.1, .inl (u.2, 512, .inl (fun _ => 0)))] H := hP
  have hD : va_D (fun q : Nat => s.heap.size ≤ q) [(qx, .inr (0, [.int (nI 1)])), (qm, .inr (1, [.int (nI 1), .ref u.1, .int 0])), (u.1, .inl (u.2, 512, .inl (fun _ => 0)))] := hD
  refine W.widen (k := 3) (n := 516) (by omega) (by omega) ?_
  refine lv_astore_n (lv' := [(2, .ref qm), (1, .ref qx), (0, .ref b)]) hx hb dL_law_15 rfl hl (by decide) rfl (fun ls hl => ?_)
  refine lv_iconst (v := nI 0) hx hb dL_law_16 (by decide) ?_
  refine lv_istore_n (lv' := [(3, .int (nI 0)), (2, .ref qm), (1, .ref qx), (0, .ref b)]) hx hb dL_law_17 rfl hl (by decide) rfl (fun ls hl => ?_)
  exact law_loop hL C0 qx qm u.1 u.2 hK1 (L + 1) 0 (Nat.zero_le L) (by omega) 1 0 (fun _ => 0) H locs (by decide) (Or.inl nI_0.symm) hP hD hS ls (lv_sub hl [3, 2, 1, 0] rfl)
end
section
set_option maxRecDepth 100000
set_option maxHeartbeats 4000000 in
theorem lw_walk (l : Launch) (b : Addr) (xs : List Int32) : MetFree l x (headSpec (Jvm.Cond.code x code maxLocals ret :: tables_1) room_1) (lw_P b xs) (fun _ _ _ _ _ => True) lw_Q := by
  refine MetFree.of_bodyS (code := code) (maxLocals := maxLocals) (ret := ret) (by decide) ?_ ?_
  · intro args s m h hn
    obtain ⟨meth, c, h1, h2, h3, h4, h5, h6, -, -⟩ := Cond.code_spec hn (atoms_spec (ws := Jvm.Cond.code x code maxLocals ret :: tables_1) h _ List.mem_cons_self)
    exact ⟨meth, c, h1, h2, h3, h4, h5, h6⟩
  · intro p e s m args below meth c s₁ B hml0 hP _
    obtain ⟨rfl, hx, hbd, hgv⟩ := hP
    obtain ⟨scr, harrAt, hlist, hof, hsmall⟩ := hx
    obtain ⟨hcb, hkn, -, -⟩ := State.arrayAt?_spec harrAt
    have hown : s.vm.findClass R_law = some m.cls := findClass_of_methodNamed B.named
    have hts0 : ∀ c ∈ (Jvm.Cond.code x code maxLocals ret :: tables_1), c.before #[Value.ref b] s = true := atoms_spec (ws := Jvm.Cond.code x code maxLocals ret :: tables_1) B.pre
    have hts : ∀ w ∈ lw_tbl, w.before #[Value.ref b] s = true := k2_hts_sels lw_privs (fun w hw => hts0 w (List.mem_cons_of_mem _ hw)) lw_privs_ok
    have hml : c.maxLocals = 4 := B.maxLocals_eq (hts0 _ List.mem_cons_self)
    have X₀ : Stand p l e room_1 s m #[Value.ref b] below meth c s₁ [] 0 0 := Stand.of_body B
    have hh0 : s₁.heap = s.heap := by rw [B.state]; rfl
    have hsz : scr.slots.size = xs.length := by rw [← Array.length_toList, hlist, List.length_map]
    have hval : ∀ j : Nat, j < xs.length → scr.slots[j]? = some (.int (xs.getD j 0)) := fun j hj => by
      rw [← Array.getElem?_toList, hlist]
      simp [hj]
    have hbl : b < s.heap.size := (Array.getElem?_eq_some_iff.mp hcb).1
    have hX : va_X b xs.length (fun j => xs.getD j 0) s s.heap := ⟨scr, hcb, hof, hkn, hsz, hval⟩
    have K : W p l e room_1 s m #[Value.ref b] below meth c s₁.heap [] 0 0 (lw_Z below #[Value.ref b] s) (entryFrame m ([Value.ref b] : List Value).toArray 4) := by
      rw [hh0]
      exact whole_start l hbd ⟨B.exec, B.bytes, B.returns, hml, hown, hts, hX, hbl, B.notSynchronized, hgv⟩
    obtain ⟨t, a1, o, b1, b2, b3⟩ := K s₁ rfl X₀
    exact ⟨t, o, a1, b1, b2, b3⟩
theorem lw_pre_spec {args : Array Value} {s : State} (h : (Jvm.Cond.and given_1 narrow_1).before args s = true) (hr : rest_1_c.before args s = true) : ∃ (b : Addr) (xs : List Int32), lw_P b xs args s := by
  have hs := flat_of_before _ h
  have hq := flat_of_before _ hr
  have hc : (Cond.count 1).before args s = true := hs _ (by decide +kernel)
  have harr : (Cond.arrayOf (.arg 0) .int).before args s = true := hs _ (by decide +kernel)
  have hle : (Cond.le (.length (.arg 0)) (.int 128)).before args s = true := hs _ (by decide +kernel)
  have hlen : (Cond.isInt (.length (.arg 0))).before args s = true := hq _ (by decide +kernel)
  have hall : (Cond.all (.arg 0) (.isInt (.elem (.arg 0) (.index 0)))).before args s = true := hq _ (by decide +kernel)
  obtain ⟨b, xs, hb, hx⟩ := State.ints_of_pre rfl harr hlen hall
  have hsm : xs.length < 2 ^ 31 := hx.choose_spec.2.2.2
  have hev : (Term.length (.arg 0)).eval args s none [] s = some (.int xs.length.toInt32) := hx.length_eval hb
  have hv := Cond.le_ints hev (show (Term.int 128).eval args s none [] s = some (.int 128) from rfl)
  have hd : xs.length.toInt32 ≤ 128 := by
    simpa [Cond.before, Cond.holds, hv] using hle
  have hN : xs.length ≤ 128 := (Int32.ofNat_le_ofNat hsm (by decide)).mp (show Int32.ofNat xs.length ≤ Int32.ofNat 128 from hd)
  exact ⟨b, xs, Cond.one_arg hc (show args[0]? = some (.ref b) from hb), hx, hN, h⟩
theorem lw_comes (l : Launch) : Comes l x (Jvm.Cond.code x code maxLocals ret :: tables_1) room_1 (fun tb e args s => Calls_1 tb e args s ∧ rest_1 tb e args s ∧ Pre_1 tb e args s)
    (fun _ _ args s o t => lw_Q args s o t) := by
  intro p e ha hc hk s m args below hf hfit hheap happ hpre
  obtain ⟨b, xs, hP⟩ := lw_pre_spec hpre.2.2 hpre.2.1
  obtain ⟨k, o, h1, h2, h3, hQ⟩ := lw_walk l b xs p e ha hc hk s m args below hf ((Spec.applies_iff_loose hf).mp happ).1 hP trivial
  exact ⟨k, o, h1, h2, h3, hQ⟩
theorem lw_frame {s t : State} {o : Outcome} {args : Array Value} (h : Framed s o t [] 600000 7290000) :
    Framed s o t (fieldLocs frame_1_writes args s ++ arrayLocs frame_1_arrays args s ++ staticLocs frame_1_statics s) 600000 7290000 := h
theorem lw_limb (L : Cond) (hL : ∀ (args : Array Value) (s t : State), L.after args s (.returned (some (.int 1))) t = true) :
    ArmFor flags0 classFile x code maxLocals ret World_1 tables_1 room_1 Calls_1 rest_1 Pre_1
      (fun tb e a s o t => postC L tb e a s o t ∧ Framed s o t (fieldLocs frame_1_writes a s ++ arrayLocs frame_1_arrays a s ++ staticLocs frame_1_statics s) 600000 7290000) := by
  intro l _ _ _ p e ha hc hk s m args below hf hfit hheap happ hpre
  obtain ⟨k, o, h1, h2, h3, rfl, hF⟩ := lw_comes l p e ha hc hk s m args below hf hfit hheap happ hpre
  exact ⟨k, _, h1, h2, h3, hL args s _, lw_frame hF⟩
theorem i_vc : Claimed_1_1 ∧ Claimed_1_2 := ⟨lw_limb limb_1_1 (fun args s t => by simp [limb_1_1, Cond.after, Cond.holds, Cond.value]), lw_limb limb_1_2 (fun args s t => Cond.after_iff.mpr (by
  first | (rw [show limb_1_2 = Cond.eq .result (.int 1) from rfl, Cond.eq_ints (x := 1) (y := 1) rfl rfl]; simp; done) | (simp [limb_1_2, Cond.value, Term.eval]; done)))⟩
end
