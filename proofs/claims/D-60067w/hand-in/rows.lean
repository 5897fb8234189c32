section
-- ===== PART A: goes FIRST, ahead of the names: the tables' words, and 'selects' of the private methods out of them =====
/-- a private method of a class that the tables say can be made, by its rows of tables_1 -/
def lw_okq (q : MethodName × Nat) : Prop := (q.1.cls ≠ "java/lang/invoke/MethodHandle" ∧ q.1.cls ≠ "java/lang/invoke/VarHandle") ∧ Cond.instantiable q.1.cls q.2 ∈ tables_1 ∧ Cond.privateMethod q.1 ∈ tables_1 ∧ Cond.instanceMethod q.1 ∈ tables_1
set_option maxRecDepth 100000
theorem lw_p0 : lw_okq (⟨"LayersDesk", "thing", "(I)I"⟩, 5) := ⟨⟨by decide +kernel, by decide +kernel⟩, List.mem_of_getElem? (i := 5) rfl, List.mem_of_getElem? (i := 56) rfl, List.mem_of_getElem? (i := 57) rfl⟩
theorem lw_p1 : lw_okq (⟨"LayersDesk$Pairing", "partner", "(I)Z"⟩, 3) := ⟨⟨by decide +kernel, by decide +kernel⟩, List.mem_of_getElem? (i := 13) rfl, List.mem_of_getElem? (i := 72) rfl, List.mem_of_getElem? (i := 73) rfl⟩
theorem lw_p2 : lw_okq (⟨"LayersDesk", "count", "()V"⟩, 5) := ⟨⟨by decide +kernel, by decide +kernel⟩, List.mem_of_getElem? (i := 5) rfl, List.mem_of_getElem? (i := 89) rfl, List.mem_of_getElem? (i := 90) rfl⟩
theorem lw_p3 : lw_okq (⟨"LayersDeskModel", "at", "(I)I"⟩, 9) := ⟨⟨by decide +kernel, by decide +kernel⟩, List.mem_of_getElem? (i := 97) rfl, List.mem_of_getElem? (i := 141) rfl, List.mem_of_getElem? (i := 142) rfl⟩
theorem lw_p4 : lw_okq (⟨"LayersDeskModel", "reckon", "()V"⟩, 9) := ⟨⟨by decide +kernel, by decide +kernel⟩, List.mem_of_getElem? (i := 97) rfl, List.mem_of_getElem? (i := 153) rfl, List.mem_of_getElem? (i := 154) rfl⟩
def lw_privs_1 : List (MethodName × Nat) := [(⟨"LayersDesk", "thing", "(I)I"⟩, 5), (⟨"LayersDesk$Pairing", "partner", "(I)Z"⟩, 3), (⟨"LayersDesk", "count", "()V"⟩, 5), (⟨"LayersDeskModel", "at", "(I)I"⟩, 9), (⟨"LayersDeskModel", "reckon", "()V"⟩, 9)]
theorem lw_r1 : ∀ q ∈ lw_privs_1, lw_okq q := List.forall_mem_cons.mpr ⟨lw_p0, List.forall_mem_cons.mpr ⟨lw_p1, List.forall_mem_cons.mpr ⟨lw_p2, List.forall_mem_cons.mpr ⟨lw_p3, List.forall_mem_cons.mpr ⟨lw_p4, fun _ h => absurd h List.not_mem_nil⟩⟩⟩⟩⟩
def lw_privs : List (MethodName × Nat) := lw_privs_1
def lw_tbl : List Cond := k2_sels lw_privs ++ tables_1
theorem lw_privs_ok : ∀ q ∈ lw_privs, lw_okq q := lw_r1
-- ===== ONE list of words for every method: the tables' words that hold all through a run =====
def lw_all : List Cond := lw_tbl.filter goodWord
/-- a word of the tables by its place: claim/WORDS.tsv -/
theorem lw_w {w : Cond} (i : Nat) (h : lw_tbl[i]? = some w) (g : goodWord w = true) : w ∈ lw_all := List.mem_filter.mpr ⟨List.mem_of_getElem? h, g⟩
theorem lw_all_tbl {w : Cond} (h : w ∈ lw_all) : w ∈ lw_tbl := (List.mem_filter.mp h).1
theorem lw_self : GoodIn lw_all lw_all := fun w h => ⟨h, good_of_word (List.mem_filter.mp h).2⟩
/-- a class's field words, by their places -/
theorem lw_in (ws : List Cond) (ps : List Nat) (hp : ws = ps.filterMap (fun i => lw_tbl[i]?)) (hg : ws.all goodWord = true) : ∀ w ∈ ws, w ∈ lw_all := by
  intro w h
  have h1 := List.all_eq_true.mp hg w h
  rw [hp] at h
  obtain ⟨i, -, hi⟩ := List.mem_filterMap.mp h
  exact lw_w i hi h1
/-- the words of a contract for the method y with code b, L locals, answer r -/
abbrev ws_ (y : MethodName) (b : ByteArray) (L : Nat) (r : Option FieldType) : List Cond := Cond.code y b L r :: lw_all
theorem lw_meth {y : MethodName} {b : ByteArray} {L : Nat} {r : Option FieldType} (h : Cond.code y b L r ∈ lw_all) : GoodIn lw_all (ws_ y b L r) := by
  intro w hw
  rcases List.mem_cons.mp hw with e | e
  · rw [e]
    exact lw_self _ h
  · exact lw_self _ e
theorem lw_app {a c : List Cond} (ha : ∀ w ∈ a, w ∈ lw_all) (hc : GoodIn lw_all c) : GoodIn lw_all (a ++ c) := by
  intro w hw
  rcases List.mem_append.mp hw with e | e
  · exact lw_self w (ha w e)
  · exact hc w e
/-- what a call through an object asks: cwV n hts (lw_V ..) -/
theorem lw_V {own : String} {idx : Nat} {C : String} {y : MethodName} {b : ByteArray} {L : Nat} {r : Option FieldType} (h1 : Cond.methodLink own idx y ∈ lw_all) (h2 : Cond.instanceMethod y ∈ lw_all) (h3 : Cond.selects C y y ∈ lw_all) (h4 : Cond.initialized C ∈ lw_all) (h5 : Cond.code y b L r ∈ lw_all) : GoodIn lw_all (wsV own idx C y (ws_ y b L r)) := by
  refine lw_app ?_ (lw_meth h5)
  intro w hw
  simp only [List.mem_cons, List.not_mem_nil, or_false] at hw
  rcases hw with e | e | e | e
  · rw [e]; exact h1
  · rw [e]; exact h2
  · rw [e]; exact h3
  · rw [e]; exact h4
/-- what a static call asks: va_cwS n hts (lw_S ..) -/
theorem lw_S {own : String} {idx : Nat} {y : MethodName} {b : ByteArray} {L : Nat} {r : Option FieldType} (h1 : Cond.methodLink own idx y ∈ lw_all) (h2 : Cond.static y ∈ lw_all) (h3 : Cond.initialized y.cls ∈ lw_all) (h4 : Cond.code y b L r ∈ lw_all) : GoodIn lw_all (va_wsS own idx y (ws_ y b L r)) := by
  refine lw_app ?_ (lw_meth h4)
  intro w hw
  simp only [List.mem_cons, List.not_mem_nil, or_false] at hw
  rcases hw with e | e | e
  · rw [e]; exact h1
  · rw [e]; exact h2
  · rw [e]; exact h3
/-- the words of a contract for a method WITH HANDLERS (hh: its table) -/
abbrev wsW_ (y : MethodName) (b : ByteArray) (L : Nat) (r : Option FieldType) (hh : List (Nat × Nat × Nat × Nat)) : List Cond := Cond.codeWith y b L r hh :: lw_all
theorem lw_methW {y : MethodName} {b : ByteArray} {L : Nat} {r : Option FieldType} {hh : List (Nat × Nat × Nat × Nat)} (h : Cond.codeWith y b L r hh ∈ lw_all) : GoodIn lw_all (wsW_ y b L r hh) := by
  intro w hw
  rcases List.mem_cons.mp hw with e | e
  · rw [e]
    exact lw_self _ h
  · exact lw_self _ e
/-- any list of words by their places (lw_in), good -/
theorem lw_good {ws : List Cond} (h : ∀ w ∈ ws, w ∈ lw_all) : GoodIn lw_all ws := fun w hw => lw_self w (h w hw)
/-- what a call of a method with handlers asks: vx_cwVW n hts (lw_VW ..), vx_cwSW n hts (lw_SW ..) -/
theorem lw_VW {own : String} {idx : Nat} {C : String} {y : MethodName} {b : ByteArray} {L : Nat} {r : Option FieldType} {hh : List (Nat × Nat × Nat × Nat)} (h1 : Cond.methodLink own idx y ∈ lw_all) (h2 : Cond.instanceMethod y ∈ lw_all) (h3 : Cond.selects C y y ∈ lw_all) (h4 : Cond.initialized C ∈ lw_all) (h5 : Cond.codeWith y b L r hh ∈ lw_all) : GoodIn lw_all (wsV own idx C y (wsW_ y b L r hh)) := by
  refine lw_app ?_ (lw_methW h5)
  intro w hw
  simp only [List.mem_cons, List.not_mem_nil, or_false] at hw
  rcases hw with e | e | e | e
  · rw [e]; exact h1
  · rw [e]; exact h2
  · rw [e]; exact h3
  · rw [e]; exact h4
theorem lw_SW {own : String} {idx : Nat} {y : MethodName} {b : ByteArray} {L : Nat} {r : Option FieldType} {hh : List (Nat × Nat × Nat × Nat)} (h1 : Cond.methodLink own idx y ∈ lw_all) (h2 : Cond.static y ∈ lw_all) (h3 : Cond.initialized y.cls ∈ lw_all) (h4 : Cond.codeWith y b L r hh ∈ lw_all) : GoodIn lw_all (va_wsS own idx y (wsW_ y b L r hh)) := by
  refine lw_app ?_ (lw_methW h4)
  intro w hw
  simp only [List.mem_cons, List.not_mem_nil, or_false] at hw
  rcases hw with e | e | e
  · rw [e]; exact h1
  · rw [e]; exact h2
  · rw [e]; exact h3
/-- a word by its place in its run of the tables -/
theorem lw_at {r : List Cond} (hr : ∀ w ∈ r, w ∈ lw_tbl) {w : Cond} (i : Nat) (h : r[i]? = some w) : w ∈ lw_tbl := hr w (List.mem_of_getElem? h)
theorem lw_g {w : Cond} (h : w ∈ lw_tbl) (g : goodWord w = true) : w ∈ lw_all := List.mem_filter.mpr ⟨h, g⟩
theorem lw_ms : ∀ w ∈ k2_sels lw_privs, w ∈ lw_tbl := fun w h => show w ∈ k2_sels lw_privs ++ tables_1 from List.mem_append_left _ h
theorem lw_m0 : ∀ w ∈ tables_1, w ∈ lw_tbl := fun w h => show w ∈ k2_sels lw_privs ++ tables_1 from List.mem_append_right (k2_sels lw_privs) h
theorem qs0 : (Cond.selects "LayersDesk" ⟨"LayersDesk", "thing", "(I)I"⟩ ⟨"LayersDesk", "thing", "(I)I"⟩) ∈ lw_all := lw_g (lw_at lw_ms 0 rfl) rfl
theorem qs1 : (Cond.selects "LayersDesk$Pairing" ⟨"LayersDesk$Pairing", "partner", "(I)Z"⟩ ⟨"LayersDesk$Pairing", "partner", "(I)Z"⟩) ∈ lw_all := lw_g (lw_at lw_ms 1 rfl) rfl
theorem qs2 : (Cond.selects "LayersDesk" ⟨"LayersDesk", "count", "()V"⟩ ⟨"LayersDesk", "count", "()V"⟩) ∈ lw_all := lw_g (lw_at lw_ms 2 rfl) rfl
theorem qs3 : (Cond.selects "LayersDeskModel" ⟨"LayersDeskModel", "at", "(I)I"⟩ ⟨"LayersDeskModel", "at", "(I)I"⟩) ∈ lw_all := lw_g (lw_at lw_ms 3 rfl) rfl
theorem qs4 : (Cond.selects "LayersDeskModel" ⟨"LayersDeskModel", "reckon", "()V"⟩ ⟨"LayersDeskModel", "reckon", "()V"⟩) ∈ lw_all := lw_g (lw_at lw_ms 4 rfl) rfl
-- ===== end of PART A; then your names; then what follows =====
end
section
/-! LayersDesk -/
set_option maxRecDepth 100000
def RX0 : String := "LayersDesk"
def TX0 : u_T := fun k => match k with
  | 0 => ("LayersDesk", "down", "[I", true)
  | 1 => ("LayersDesk", "up", "[I", true)
  | 2 => ("LayersDesk", "ways", "[J", true)
  | 3 => ("LayersDesk", "pairing", "LLayersDesk$Pairing;", true)
  | _ => ("LayersDesk", "n", "I", false)
def tyX0 : Nat → FieldType := fun k => match k with
  | 0 => .array .int
  | 1 => .array .int
  | 2 => .array .long
  | 3 => .object "LayersDesk$Pairing"
  | _ => .int
abbrev wsX00 : List Cond := u_ws RX0 TX0 5
theorem nmX0 : ∀ a, a < 5 → ∀ b, b < 5 → a ≠ b → (TX0 a).2.1 ≠ (TX0 b).2.1 := by decide +kernel
theorem tyX0_ok : ∀ k, k < 5 → parseFieldDescriptor (TX0 k).2.2.1 = some (tyX0 k) := by decide +kernel
abbrev cX0_init : ByteArray := prog_1_method_1_code
def yX0_init : MethodName := ⟨RX0, "<init>", "()V"⟩
theorem dX0_init_0 : decode cX0_init 0 = .ok (.aload_n 0, 1) := by decide +kernel
theorem dX0_init_1 : decode cX0_init 1 = .ok (.invokespecial 1, 3) := by decide +kernel
theorem dX0_init_4 : decode cX0_init 4 = .ok (.aload_n 0, 1) := by decide +kernel
theorem dX0_init_5 : decode cX0_init 5 = .ok (.bipush 10, 2) := by decide +kernel
theorem dX0_init_7 : decode cX0_init 7 = .ok (.newarray .int, 2) := by decide +kernel
theorem dX0_init_9 : decode cX0_init 9 = .ok (.putfield 9, 3) := by decide +kernel
theorem dX0_init_12 : decode cX0_init 12 = .ok (.aload_n 0, 1) := by decide +kernel
theorem dX0_init_13 : decode cX0_init 13 = .ok (.bipush 10, 2) := by decide +kernel
theorem dX0_init_15 : decode cX0_init 15 = .ok (.newarray .int, 2) := by decide +kernel
theorem dX0_init_17 : decode cX0_init 17 = .ok (.putfield 13, 3) := by decide +kernel
theorem dX0_init_20 : decode cX0_init 20 = .ok (.aload_n 0, 1) := by decide +kernel
theorem dX0_init_21 : decode cX0_init 21 = .ok (.sipush 1024, 3) := by decide +kernel
theorem dX0_init_24 : decode cX0_init 24 = .ok (.newarray .long, 2) := by decide +kernel
theorem dX0_init_26 : decode cX0_init 26 = .ok (.putfield 16, 3) := by decide +kernel
theorem dX0_init_29 : decode cX0_init 29 = .ok (.aload_n 0, 1) := by decide +kernel
theorem dX0_init_30 : decode cX0_init 30 = .ok (.new 20, 3) := by decide +kernel
theorem dX0_init_33 : decode cX0_init 33 = .ok (.dup, 1) := by decide +kernel
theorem dX0_init_34 : decode cX0_init 34 = .ok (.invokespecial 22, 3) := by decide +kernel
theorem dX0_init_37 : decode cX0_init 37 = .ok (.putfield 23, 3) := by decide +kernel
theorem dX0_init_40 : decode cX0_init 40 = .ok (.aload_n 0, 1) := by decide +kernel
theorem dX0_init_41 : decode cX0_init 41 = .ok (.iconst 4, 1) := by decide +kernel
theorem dX0_init_42 : decode cX0_init 42 = .ok (.putfield 27, 3) := by decide +kernel
theorem dX0_init_45 : decode cX0_init 45 = .ok (.return_, 1) := by decide +kernel
abbrev cX0_places : ByteArray := prog_1_method_2_code
def yX0_places : MethodName := ⟨RX0, "places", "(I)V"⟩
theorem dX0_places_0 : decode cX0_places 0 = .ok (.aload_n 0, 1) := by decide +kernel
theorem dX0_places_1 : decode cX0_places 1 = .ok (.iconst 1, 1) := by decide +kernel
theorem dX0_places_2 : decode cX0_places 2 = .ok (.iload_n 1, 1) := by decide +kernel
theorem dX0_places_3 : decode cX0_places 3 = .ok (.ldc 31, 2) := by decide +kernel
theorem dX0_places_5 : decode cX0_places 5 = .ok (.iand, 1) := by decide +kernel
theorem dX0_places_6 : decode cX0_places 6 = .ok (.bipush 10, 2) := by decide +kernel
theorem dX0_places_8 : decode cX0_places 8 = .ok (.irem, 1) := by decide +kernel
theorem dX0_places_9 : decode cX0_places 9 = .ok (.iadd, 1) := by decide +kernel
theorem dX0_places_10 : decode cX0_places 10 = .ok (.putfield 27, 3) := by decide +kernel
theorem dX0_places_13 : decode cX0_places 13 = .ok (.iconst 0, 1) := by decide +kernel
theorem dX0_places_14 : decode cX0_places 14 = .ok (.istore_n 2, 1) := by decide +kernel
theorem dX0_places_15 : decode cX0_places 15 = .ok (.iload_n 2, 1) := by decide +kernel
theorem dX0_places_16 : decode cX0_places 16 = .ok (.bipush 10, 2) := by decide +kernel
theorem dX0_places_18 : decode cX0_places 18 = .ok (.if_icmp .ge 23, 3) := by decide +kernel
theorem dX0_places_21 : decode cX0_places 21 = .ok (.aload_n 0, 1) := by decide +kernel
theorem dX0_places_22 : decode cX0_places 22 = .ok (.getfield 9, 3) := by decide +kernel
theorem dX0_places_25 : decode cX0_places 25 = .ok (.iload_n 2, 1) := by decide +kernel
theorem dX0_places_26 : decode cX0_places 26 = .ok (.iconst 0, 1) := by decide +kernel
theorem dX0_places_27 : decode cX0_places 27 = .ok (.iastore, 1) := by decide +kernel
theorem dX0_places_28 : decode cX0_places 28 = .ok (.aload_n 0, 1) := by decide +kernel
theorem dX0_places_29 : decode cX0_places 29 = .ok (.getfield 13, 3) := by decide +kernel
theorem dX0_places_32 : decode cX0_places 32 = .ok (.iload_n 2, 1) := by decide +kernel
theorem dX0_places_33 : decode cX0_places 33 = .ok (.iconst 0, 1) := by decide +kernel
theorem dX0_places_34 : decode cX0_places 34 = .ok (.iastore, 1) := by decide +kernel
theorem dX0_places_35 : decode cX0_places 35 = .ok (.iinc 2 1, 3) := by decide +kernel
theorem dX0_places_38 : decode cX0_places 38 = .ok (.goto (-23), 3) := by decide +kernel
theorem dX0_places_41 : decode cX0_places 41 = .ok (.return_, 1) := by decide +kernel
abbrev cX0_put : ByteArray := prog_1_method_4_code
def yX0_put : MethodName := ⟨RX0, "put", "(II)Z"⟩
theorem dX0_put_0 : decode cX0_put 0 = .ok (.aload_n 0, 1) := by decide +kernel
theorem dX0_put_1 : decode cX0_put 1 = .ok (.iload_n 1, 1) := by decide +kernel
theorem dX0_put_2 : decode cX0_put 2 = .ok (.invokevirtual 32, 3) := by decide +kernel
theorem dX0_put_5 : decode cX0_put 5 = .ok (.istore_n 3, 1) := by decide +kernel
theorem dX0_put_6 : decode cX0_put 6 = .ok (.aload_n 0, 1) := by decide +kernel
theorem dX0_put_7 : decode cX0_put 7 = .ok (.iload_n 2, 1) := by decide +kernel
theorem dX0_put_8 : decode cX0_put 8 = .ok (.invokevirtual 32, 3) := by decide +kernel
theorem dX0_put_11 : decode cX0_put 11 = .ok (.istore 4, 2) := by decide +kernel
theorem dX0_put_13 : decode cX0_put 13 = .ok (.iload_n 3, 1) := by decide +kernel
theorem dX0_put_14 : decode cX0_put 14 = .ok (.iload 4, 2) := by decide +kernel
theorem dX0_put_16 : decode cX0_put 16 = .ok (.if_icmp .eq 18, 3) := by decide +kernel
theorem dX0_put_19 : decode cX0_put 19 = .ok (.aload_n 0, 1) := by decide +kernel
theorem dX0_put_20 : decode cX0_put 20 = .ok (.getfield 9, 3) := by decide +kernel
theorem dX0_put_23 : decode cX0_put 23 = .ok (.iload_n 3, 1) := by decide +kernel
theorem dX0_put_24 : decode cX0_put 24 = .ok (.iaload, 1) := by decide +kernel
theorem dX0_put_25 : decode cX0_put 25 = .ok (.iload 4, 2) := by decide +kernel
theorem dX0_put_27 : decode cX0_put 27 = .ok (.ishr, 1) := by decide +kernel
theorem dX0_put_28 : decode cX0_put 28 = .ok (.iconst 1, 1) := by decide +kernel
theorem dX0_put_29 : decode cX0_put 29 = .ok (.iand, 1) := by decide +kernel
theorem dX0_put_30 : decode cX0_put 30 = .ok (.iconst 1, 1) := by decide +kernel
theorem dX0_put_31 : decode cX0_put 31 = .ok (.if_icmp .ne 5, 3) := by decide +kernel
theorem dX0_put_34 : decode cX0_put 34 = .ok (.iconst 0, 1) := by decide +kernel
theorem dX0_put_35 : decode cX0_put 35 = .ok (.ireturn, 1) := by decide +kernel
theorem dX0_put_36 : decode cX0_put 36 = .ok (.aload_n 0, 1) := by decide +kernel
theorem dX0_put_37 : decode cX0_put 37 = .ok (.getfield 9, 3) := by decide +kernel
theorem dX0_put_40 : decode cX0_put 40 = .ok (.iload_n 3, 1) := by decide +kernel
theorem dX0_put_41 : decode cX0_put 41 = .ok (.iaload, 1) := by decide +kernel
theorem dX0_put_42 : decode cX0_put 42 = .ok (.iconst 1, 1) := by decide +kernel
theorem dX0_put_43 : decode cX0_put 43 = .ok (.iload_n 3, 1) := by decide +kernel
theorem dX0_put_44 : decode cX0_put 44 = .ok (.ishl, 1) := by decide +kernel
theorem dX0_put_45 : decode cX0_put 45 = .ok (.ior, 1) := by decide +kernel
theorem dX0_put_46 : decode cX0_put 46 = .ok (.istore 5, 2) := by decide +kernel
theorem dX0_put_48 : decode cX0_put 48 = .ok (.aload_n 0, 1) := by decide +kernel
theorem dX0_put_49 : decode cX0_put 49 = .ok (.getfield 13, 3) := by decide +kernel
theorem dX0_put_52 : decode cX0_put 52 = .ok (.iload 4, 2) := by decide +kernel
theorem dX0_put_54 : decode cX0_put 54 = .ok (.iaload, 1) := by decide +kernel
theorem dX0_put_55 : decode cX0_put 55 = .ok (.iconst 1, 1) := by decide +kernel
theorem dX0_put_56 : decode cX0_put 56 = .ok (.iload 4, 2) := by decide +kernel
theorem dX0_put_58 : decode cX0_put 58 = .ok (.ishl, 1) := by decide +kernel
theorem dX0_put_59 : decode cX0_put 59 = .ok (.ior, 1) := by decide +kernel
theorem dX0_put_60 : decode cX0_put 60 = .ok (.istore 6, 2) := by decide +kernel
theorem dX0_put_62 : decode cX0_put 62 = .ok (.iconst 0, 1) := by decide +kernel
theorem dX0_put_63 : decode cX0_put 63 = .ok (.istore 7, 2) := by decide +kernel
theorem dX0_put_65 : decode cX0_put 65 = .ok (.iload 7, 2) := by decide +kernel
theorem dX0_put_67 : decode cX0_put 67 = .ok (.aload_n 0, 1) := by decide +kernel
theorem dX0_put_68 : decode cX0_put 68 = .ok (.getfield 27, 3) := by decide +kernel
theorem dX0_put_71 : decode cX0_put 71 = .ok (.if_icmp .ge 55, 3) := by decide +kernel
theorem dX0_put_74 : decode cX0_put 74 = .ok (.iload 5, 2) := by decide +kernel
theorem dX0_put_76 : decode cX0_put 76 = .ok (.iload 7, 2) := by decide +kernel
theorem dX0_put_78 : decode cX0_put 78 = .ok (.ishr, 1) := by decide +kernel
theorem dX0_put_79 : decode cX0_put 79 = .ok (.iconst 1, 1) := by decide +kernel
theorem dX0_put_80 : decode cX0_put 80 = .ok (.iand, 1) := by decide +kernel
theorem dX0_put_81 : decode cX0_put 81 = .ok (.iconst 1, 1) := by decide +kernel
theorem dX0_put_82 : decode cX0_put 82 = .ok (.if_icmp .ne 15, 3) := by decide +kernel
theorem dX0_put_85 : decode cX0_put 85 = .ok (.aload_n 0, 1) := by decide +kernel
theorem dX0_put_86 : decode cX0_put 86 = .ok (.getfield 13, 3) := by decide +kernel
theorem dX0_put_89 : decode cX0_put 89 = .ok (.iload 7, 2) := by decide +kernel
theorem dX0_put_91 : decode cX0_put 91 = .ok (.dup2, 1) := by decide +kernel
theorem dX0_put_92 : decode cX0_put 92 = .ok (.iaload, 1) := by decide +kernel
theorem dX0_put_93 : decode cX0_put 93 = .ok (.iload 6, 2) := by decide +kernel
theorem dX0_put_95 : decode cX0_put 95 = .ok (.ior, 1) := by decide +kernel
theorem dX0_put_96 : decode cX0_put 96 = .ok (.iastore, 1) := by decide +kernel
theorem dX0_put_97 : decode cX0_put 97 = .ok (.iload 6, 2) := by decide +kernel
theorem dX0_put_99 : decode cX0_put 99 = .ok (.iload 7, 2) := by decide +kernel
theorem dX0_put_101 : decode cX0_put 101 = .ok (.ishr, 1) := by decide +kernel
theorem dX0_put_102 : decode cX0_put 102 = .ok (.iconst 1, 1) := by decide +kernel
theorem dX0_put_103 : decode cX0_put 103 = .ok (.iand, 1) := by decide +kernel
theorem dX0_put_104 : decode cX0_put 104 = .ok (.iconst 1, 1) := by decide +kernel
theorem dX0_put_105 : decode cX0_put 105 = .ok (.if_icmp .ne 15, 3) := by decide +kernel
theorem dX0_put_108 : decode cX0_put 108 = .ok (.aload_n 0, 1) := by decide +kernel
theorem dX0_put_109 : decode cX0_put 109 = .ok (.getfield 9, 3) := by decide +kernel
theorem dX0_put_112 : decode cX0_put 112 = .ok (.iload 7, 2) := by decide +kernel
theorem dX0_put_114 : decode cX0_put 114 = .ok (.dup2, 1) := by decide +kernel
theorem dX0_put_115 : decode cX0_put 115 = .ok (.iaload, 1) := by decide +kernel
theorem dX0_put_116 : decode cX0_put 116 = .ok (.iload 5, 2) := by decide +kernel
theorem dX0_put_118 : decode cX0_put 118 = .ok (.ior, 1) := by decide +kernel
theorem dX0_put_119 : decode cX0_put 119 = .ok (.iastore, 1) := by decide +kernel
theorem dX0_put_120 : decode cX0_put 120 = .ok (.iinc 7 1, 3) := by decide +kernel
theorem dX0_put_123 : decode cX0_put 123 = .ok (.goto (-58), 3) := by decide +kernel
theorem dX0_put_126 : decode cX0_put 126 = .ok (.iconst 1, 1) := by decide +kernel
theorem dX0_put_127 : decode cX0_put 127 = .ok (.ireturn, 1) := by decide +kernel
abbrev cX0_thing : ByteArray := prog_1_method_3_code
def yX0_thing : MethodName := ⟨RX0, "thing", "(I)I"⟩
theorem dX0_thing_0 : decode cX0_thing 0 = .ok (.iload_n 1, 1) := by decide +kernel
theorem dX0_thing_1 : decode cX0_thing 1 = .ok (.ldc 31, 2) := by decide +kernel
theorem dX0_thing_3 : decode cX0_thing 3 = .ok (.iand, 1) := by decide +kernel
theorem dX0_thing_4 : decode cX0_thing 4 = .ok (.aload_n 0, 1) := by decide +kernel
theorem dX0_thing_5 : decode cX0_thing 5 = .ok (.getfield 27, 3) := by decide +kernel
theorem dX0_thing_8 : decode cX0_thing 8 = .ok (.irem, 1) := by decide +kernel
theorem dX0_thing_9 : decode cX0_thing 9 = .ok (.ireturn, 1) := by decide +kernel
abbrev cX0_below : ByteArray := prog_1_method_5_code
def yX0_below : MethodName := ⟨RX0, "below", "(II)Z"⟩
theorem dX0_below_0 : decode cX0_below 0 = .ok (.aload_n 0, 1) := by decide +kernel
theorem dX0_below_1 : decode cX0_below 1 = .ok (.getfield 13, 3) := by decide +kernel
theorem dX0_below_4 : decode cX0_below 4 = .ok (.aload_n 0, 1) := by decide +kernel
theorem dX0_below_5 : decode cX0_below 5 = .ok (.iload_n 1, 1) := by decide +kernel
theorem dX0_below_6 : decode cX0_below 6 = .ok (.invokevirtual 32, 3) := by decide +kernel
theorem dX0_below_9 : decode cX0_below 9 = .ok (.iaload, 1) := by decide +kernel
theorem dX0_below_10 : decode cX0_below 10 = .ok (.aload_n 0, 1) := by decide +kernel
theorem dX0_below_11 : decode cX0_below 11 = .ok (.iload_n 2, 1) := by decide +kernel
theorem dX0_below_12 : decode cX0_below 12 = .ok (.invokevirtual 32, 3) := by decide +kernel
theorem dX0_below_15 : decode cX0_below 15 = .ok (.ishr, 1) := by decide +kernel
theorem dX0_below_16 : decode cX0_below 16 = .ok (.iconst 1, 1) := by decide +kernel
theorem dX0_below_17 : decode cX0_below 17 = .ok (.iand, 1) := by decide +kernel
theorem dX0_below_18 : decode cX0_below 18 = .ok (.iconst 1, 1) := by decide +kernel
theorem dX0_below_19 : decode cX0_below 19 = .ok (.if_icmp .ne 7, 3) := by decide +kernel
theorem dX0_below_22 : decode cX0_below 22 = .ok (.iconst 1, 1) := by decide +kernel
theorem dX0_below_23 : decode cX0_below 23 = .ok (.goto 4, 3) := by decide +kernel
theorem dX0_below_26 : decode cX0_below 26 = .ok (.iconst 0, 1) := by decide +kernel
theorem dX0_below_27 : decode cX0_below 27 = .ok (.ireturn, 1) := by decide +kernel
abbrev cX0_cover : ByteArray := prog_1_method_6_code
def yX0_cover : MethodName := ⟨RX0, "cover", "()I"⟩
theorem dX0_cover_0 : decode cX0_cover 0 = .ok (.aload_n 0, 1) := by decide +kernel
theorem dX0_cover_1 : decode cX0_cover 1 = .ok (.getfield 27, 3) := by decide +kernel
theorem dX0_cover_4 : decode cX0_cover 4 = .ok (.aload_n 0, 1) := by decide +kernel
theorem dX0_cover_5 : decode cX0_cover 5 = .ok (.getfield 23, 3) := by decide +kernel
theorem dX0_cover_8 : decode cX0_cover 8 = .ok (.aload_n 0, 1) := by decide +kernel
theorem dX0_cover_9 : decode cX0_cover 9 = .ok (.getfield 13, 3) := by decide +kernel
theorem dX0_cover_12 : decode cX0_cover 12 = .ok (.aload_n 0, 1) := by decide +kernel
theorem dX0_cover_13 : decode cX0_cover 13 = .ok (.getfield 27, 3) := by decide +kernel
theorem dX0_cover_16 : decode cX0_cover 16 = .ok (.invokevirtual 36, 3) := by decide +kernel
theorem dX0_cover_19 : decode cX0_cover 19 = .ok (.isub, 1) := by decide +kernel
theorem dX0_cover_20 : decode cX0_cover 20 = .ok (.ireturn, 1) := by decide +kernel
abbrev cX0_width : ByteArray := prog_1_method_7_code
def yX0_width : MethodName := ⟨RX0, "width", "()I"⟩
theorem dX0_width_0 : decode cX0_width 0 = .ok (.aload_n 0, 1) := by decide +kernel
theorem dX0_width_1 : decode cX0_width 1 = .ok (.invokevirtual 40, 3) := by decide +kernel
theorem dX0_width_4 : decode cX0_width 4 = .ok (.ireturn, 1) := by decide +kernel
abbrev cX0_height : ByteArray := prog_1_method_8_code
def yX0_height : MethodName := ⟨RX0, "height", "()I"⟩
theorem dX0_height_0 : decode cX0_height 0 = .ok (.iconst 0, 1) := by decide +kernel
theorem dX0_height_1 : decode cX0_height 1 = .ok (.istore_n 1, 1) := by decide +kernel
theorem dX0_height_2 : decode cX0_height 2 = .ok (.iconst 1, 1) := by decide +kernel
theorem dX0_height_3 : decode cX0_height 3 = .ok (.aload_n 0, 1) := by decide +kernel
theorem dX0_height_4 : decode cX0_height 4 = .ok (.getfield 27, 3) := by decide +kernel
theorem dX0_height_7 : decode cX0_height 7 = .ok (.ishl, 1) := by decide +kernel
theorem dX0_height_8 : decode cX0_height 8 = .ok (.iconst 1, 1) := by decide +kernel
theorem dX0_height_9 : decode cX0_height 9 = .ok (.isub, 1) := by decide +kernel
theorem dX0_height_10 : decode cX0_height 10 = .ok (.istore_n 2, 1) := by decide +kernel
theorem dX0_height_11 : decode cX0_height 11 = .ok (.iload_n 2, 1) := by decide +kernel
theorem dX0_height_12 : decode cX0_height 12 = .ok (.ifCond .eq 64, 3) := by decide +kernel
theorem dX0_height_15 : decode cX0_height 15 = .ok (.iconst 0, 1) := by decide +kernel
theorem dX0_height_16 : decode cX0_height 16 = .ok (.istore_n 3, 1) := by decide +kernel
theorem dX0_height_17 : decode cX0_height 17 = .ok (.iconst 0, 1) := by decide +kernel
theorem dX0_height_18 : decode cX0_height 18 = .ok (.istore 4, 2) := by decide +kernel
theorem dX0_height_20 : decode cX0_height 20 = .ok (.iload 4, 2) := by decide +kernel
theorem dX0_height_22 : decode cX0_height 22 = .ok (.aload_n 0, 1) := by decide +kernel
theorem dX0_height_23 : decode cX0_height 23 = .ok (.getfield 27, 3) := by decide +kernel
theorem dX0_height_26 : decode cX0_height 26 = .ok (.if_icmp .ge 38, 3) := by decide +kernel
theorem dX0_height_29 : decode cX0_height 29 = .ok (.iload_n 2, 1) := by decide +kernel
theorem dX0_height_30 : decode cX0_height 30 = .ok (.iload 4, 2) := by decide +kernel
theorem dX0_height_32 : decode cX0_height 32 = .ok (.ishr, 1) := by decide +kernel
theorem dX0_height_33 : decode cX0_height 33 = .ok (.iconst 1, 1) := by decide +kernel
theorem dX0_height_34 : decode cX0_height 34 = .ok (.iand, 1) := by decide +kernel
theorem dX0_height_35 : decode cX0_height 35 = .ok (.iconst 1, 1) := by decide +kernel
theorem dX0_height_36 : decode cX0_height 36 = .ok (.if_icmp .ne 22, 3) := by decide +kernel
theorem dX0_height_39 : decode cX0_height 39 = .ok (.aload_n 0, 1) := by decide +kernel
theorem dX0_height_40 : decode cX0_height 40 = .ok (.getfield 9, 3) := by decide +kernel
theorem dX0_height_43 : decode cX0_height 43 = .ok (.iload 4, 2) := by decide +kernel
theorem dX0_height_45 : decode cX0_height 45 = .ok (.iaload, 1) := by decide +kernel
theorem dX0_height_46 : decode cX0_height 46 = .ok (.iload_n 2, 1) := by decide +kernel
theorem dX0_height_47 : decode cX0_height 47 = .ok (.iand, 1) := by decide +kernel
theorem dX0_height_48 : decode cX0_height 48 = .ok (.ifCond .ne 10, 3) := by decide +kernel
theorem dX0_height_51 : decode cX0_height 51 = .ok (.iload_n 3, 1) := by decide +kernel
theorem dX0_height_52 : decode cX0_height 52 = .ok (.iconst 1, 1) := by decide +kernel
theorem dX0_height_53 : decode cX0_height 53 = .ok (.iload 4, 2) := by decide +kernel
theorem dX0_height_55 : decode cX0_height 55 = .ok (.ishl, 1) := by decide +kernel
theorem dX0_height_56 : decode cX0_height 56 = .ok (.ior, 1) := by decide +kernel
theorem dX0_height_57 : decode cX0_height 57 = .ok (.istore_n 3, 1) := by decide +kernel
theorem dX0_height_58 : decode cX0_height 58 = .ok (.iinc 4 1, 3) := by decide +kernel
theorem dX0_height_61 : decode cX0_height 61 = .ok (.goto (-41), 3) := by decide +kernel
theorem dX0_height_64 : decode cX0_height 64 = .ok (.iload_n 2, 1) := by decide +kernel
theorem dX0_height_65 : decode cX0_height 65 = .ok (.iload_n 3, 1) := by decide +kernel
theorem dX0_height_66 : decode cX0_height 66 = .ok (.iconst (-1), 1) := by decide +kernel
theorem dX0_height_67 : decode cX0_height 67 = .ok (.ixor, 1) := by decide +kernel
theorem dX0_height_68 : decode cX0_height 68 = .ok (.iand, 1) := by decide +kernel
theorem dX0_height_69 : decode cX0_height 69 = .ok (.istore_n 2, 1) := by decide +kernel
theorem dX0_height_70 : decode cX0_height 70 = .ok (.iinc 1 1, 3) := by decide +kernel
theorem dX0_height_73 : decode cX0_height 73 = .ok (.goto (-62), 3) := by decide +kernel
theorem dX0_height_76 : decode cX0_height 76 = .ok (.iload_n 1, 1) := by decide +kernel
theorem dX0_height_77 : decode cX0_height 77 = .ok (.ireturn, 1) := by decide +kernel
abbrev cX0_rows : ByteArray := prog_1_method_10_code
def yX0_rows : MethodName := ⟨RX0, "rows", "()J"⟩
theorem dX0_rows_0 : decode cX0_rows 0 = .ok (.aload_n 0, 1) := by decide +kernel
theorem dX0_rows_1 : decode cX0_rows 1 = .ok (.invokevirtual 44, 3) := by decide +kernel
theorem dX0_rows_4 : decode cX0_rows 4 = .ok (.aload_n 0, 1) := by decide +kernel
theorem dX0_rows_5 : decode cX0_rows 5 = .ok (.getfield 16, 3) := by decide +kernel
theorem dX0_rows_8 : decode cX0_rows 8 = .ok (.iconst 1, 1) := by decide +kernel
theorem dX0_rows_9 : decode cX0_rows 9 = .ok (.aload_n 0, 1) := by decide +kernel
theorem dX0_rows_10 : decode cX0_rows 10 = .ok (.getfield 27, 3) := by decide +kernel
theorem dX0_rows_13 : decode cX0_rows 13 = .ok (.ishl, 1) := by decide +kernel
theorem dX0_rows_14 : decode cX0_rows 14 = .ok (.iconst 1, 1) := by decide +kernel
theorem dX0_rows_15 : decode cX0_rows 15 = .ok (.isub, 1) := by decide +kernel
theorem dX0_rows_16 : decode cX0_rows 16 = .ok (.laload, 1) := by decide +kernel
theorem dX0_rows_17 : decode cX0_rows 17 = .ok (.lreturn, 1) := by decide +kernel
abbrev cX0_count : ByteArray := prog_1_method_9_code
def yX0_count : MethodName := ⟨RX0, "count", "()V"⟩
theorem dX0_count_0 : decode cX0_count 0 = .ok (.iconst 1, 1) := by decide +kernel
theorem dX0_count_1 : decode cX0_count 1 = .ok (.aload_n 0, 1) := by decide +kernel
theorem dX0_count_2 : decode cX0_count 2 = .ok (.getfield 27, 3) := by decide +kernel
theorem dX0_count_5 : decode cX0_count 5 = .ok (.ishl, 1) := by decide +kernel
theorem dX0_count_6 : decode cX0_count 6 = .ok (.istore_n 1, 1) := by decide +kernel
theorem dX0_count_7 : decode cX0_count 7 = .ok (.iconst 0, 1) := by decide +kernel
theorem dX0_count_8 : decode cX0_count 8 = .ok (.istore_n 2, 1) := by decide +kernel
theorem dX0_count_9 : decode cX0_count 9 = .ok (.iload_n 2, 1) := by decide +kernel
theorem dX0_count_10 : decode cX0_count 10 = .ok (.iload_n 1, 1) := by decide +kernel
theorem dX0_count_11 : decode cX0_count 11 = .ok (.if_icmp .ge 16, 3) := by decide +kernel
theorem dX0_count_14 : decode cX0_count 14 = .ok (.aload_n 0, 1) := by decide +kernel
theorem dX0_count_15 : decode cX0_count 15 = .ok (.getfield 16, 3) := by decide +kernel
theorem dX0_count_18 : decode cX0_count 18 = .ok (.iload_n 2, 1) := by decide +kernel
theorem dX0_count_19 : decode cX0_count 19 = .ok (.lconst 0, 1) := by decide +kernel
theorem dX0_count_20 : decode cX0_count 20 = .ok (.lastore, 1) := by decide +kernel
theorem dX0_count_21 : decode cX0_count 21 = .ok (.iinc 2 1, 3) := by decide +kernel
theorem dX0_count_24 : decode cX0_count 24 = .ok (.goto (-15), 3) := by decide +kernel
theorem dX0_count_27 : decode cX0_count 27 = .ok (.aload_n 0, 1) := by decide +kernel
theorem dX0_count_28 : decode cX0_count 28 = .ok (.getfield 16, 3) := by decide +kernel
theorem dX0_count_31 : decode cX0_count 31 = .ok (.iconst 0, 1) := by decide +kernel
theorem dX0_count_32 : decode cX0_count 32 = .ok (.lconst 1, 1) := by decide +kernel
theorem dX0_count_33 : decode cX0_count 33 = .ok (.lastore, 1) := by decide +kernel
theorem dX0_count_34 : decode cX0_count 34 = .ok (.iconst 0, 1) := by decide +kernel
theorem dX0_count_35 : decode cX0_count 35 = .ok (.istore_n 2, 1) := by decide +kernel
theorem dX0_count_36 : decode cX0_count 36 = .ok (.iload_n 2, 1) := by decide +kernel
theorem dX0_count_37 : decode cX0_count 37 = .ok (.iload_n 1, 1) := by decide +kernel
theorem dX0_count_38 : decode cX0_count 38 = .ok (.if_icmp .ge 79, 3) := by decide +kernel
theorem dX0_count_41 : decode cX0_count 41 = .ok (.aload_n 0, 1) := by decide +kernel
theorem dX0_count_42 : decode cX0_count 42 = .ok (.getfield 16, 3) := by decide +kernel
theorem dX0_count_45 : decode cX0_count 45 = .ok (.iload_n 2, 1) := by decide +kernel
theorem dX0_count_46 : decode cX0_count 46 = .ok (.laload, 1) := by decide +kernel
theorem dX0_count_47 : decode cX0_count 47 = .ok (.lconst 0, 1) := by decide +kernel
theorem dX0_count_48 : decode cX0_count 48 = .ok (.lcmp, 1) := by decide +kernel
theorem dX0_count_49 : decode cX0_count 49 = .ok (.ifCond .ne 6, 3) := by decide +kernel
theorem dX0_count_52 : decode cX0_count 52 = .ok (.goto 59, 3) := by decide +kernel
theorem dX0_count_55 : decode cX0_count 55 = .ok (.iconst 0, 1) := by decide +kernel
theorem dX0_count_56 : decode cX0_count 56 = .ok (.istore_n 3, 1) := by decide +kernel
theorem dX0_count_57 : decode cX0_count 57 = .ok (.iload_n 3, 1) := by decide +kernel
theorem dX0_count_58 : decode cX0_count 58 = .ok (.aload_n 0, 1) := by decide +kernel
theorem dX0_count_59 : decode cX0_count 59 = .ok (.getfield 27, 3) := by decide +kernel
theorem dX0_count_62 : decode cX0_count 62 = .ok (.if_icmp .ge 49, 3) := by decide +kernel
theorem dX0_count_65 : decode cX0_count 65 = .ok (.iload_n 2, 1) := by decide +kernel
theorem dX0_count_66 : decode cX0_count 66 = .ok (.iload_n 3, 1) := by decide +kernel
theorem dX0_count_67 : decode cX0_count 67 = .ok (.ishr, 1) := by decide +kernel
theorem dX0_count_68 : decode cX0_count 68 = .ok (.iconst 1, 1) := by decide +kernel
theorem dX0_count_69 : decode cX0_count 69 = .ok (.iand, 1) := by decide +kernel
theorem dX0_count_70 : decode cX0_count 70 = .ok (.ifCond .ne 35, 3) := by decide +kernel
theorem dX0_count_73 : decode cX0_count 73 = .ok (.aload_n 0, 1) := by decide +kernel
theorem dX0_count_74 : decode cX0_count 74 = .ok (.getfield 9, 3) := by decide +kernel
theorem dX0_count_77 : decode cX0_count 77 = .ok (.iload_n 3, 1) := by decide +kernel
theorem dX0_count_78 : decode cX0_count 78 = .ok (.iaload, 1) := by decide +kernel
theorem dX0_count_79 : decode cX0_count 79 = .ok (.iload_n 2, 1) := by decide +kernel
theorem dX0_count_80 : decode cX0_count 80 = .ok (.iconst (-1), 1) := by decide +kernel
theorem dX0_count_81 : decode cX0_count 81 = .ok (.ixor, 1) := by decide +kernel
theorem dX0_count_82 : decode cX0_count 82 = .ok (.iand, 1) := by decide +kernel
theorem dX0_count_83 : decode cX0_count 83 = .ok (.ifCond .ne 22, 3) := by decide +kernel
theorem dX0_count_86 : decode cX0_count 86 = .ok (.aload_n 0, 1) := by decide +kernel
theorem dX0_count_87 : decode cX0_count 87 = .ok (.getfield 16, 3) := by decide +kernel
theorem dX0_count_90 : decode cX0_count 90 = .ok (.iload_n 2, 1) := by decide +kernel
theorem dX0_count_91 : decode cX0_count 91 = .ok (.iconst 1, 1) := by decide +kernel
theorem dX0_count_92 : decode cX0_count 92 = .ok (.iload_n 3, 1) := by decide +kernel
theorem dX0_count_93 : decode cX0_count 93 = .ok (.ishl, 1) := by decide +kernel
theorem dX0_count_94 : decode cX0_count 94 = .ok (.ior, 1) := by decide +kernel
theorem dX0_count_95 : decode cX0_count 95 = .ok (.dup2, 1) := by decide +kernel
theorem dX0_count_96 : decode cX0_count 96 = .ok (.laload, 1) := by decide +kernel
theorem dX0_count_97 : decode cX0_count 97 = .ok (.aload_n 0, 1) := by decide +kernel
theorem dX0_count_98 : decode cX0_count 98 = .ok (.getfield 16, 3) := by decide +kernel
theorem dX0_count_101 : decode cX0_count 101 = .ok (.iload_n 2, 1) := by decide +kernel
theorem dX0_count_102 : decode cX0_count 102 = .ok (.laload, 1) := by decide +kernel
theorem dX0_count_103 : decode cX0_count 103 = .ok (.ladd, 1) := by decide +kernel
theorem dX0_count_104 : decode cX0_count 104 = .ok (.lastore, 1) := by decide +kernel
theorem dX0_count_105 : decode cX0_count 105 = .ok (.iinc 3 1, 3) := by decide +kernel
theorem dX0_count_108 : decode cX0_count 108 = .ok (.goto (-51), 3) := by decide +kernel
theorem dX0_count_111 : decode cX0_count 111 = .ok (.iinc 2 1, 3) := by decide +kernel
theorem dX0_count_114 : decode cX0_count 114 = .ok (.goto (-78), 3) := by decide +kernel
theorem dX0_count_117 : decode cX0_count 117 = .ok (.return_, 1) := by decide +kernel
abbrev cX0_closed : ByteArray := prog_1_method_11_code
def yX0_closed : MethodName := ⟨RX0, "closed", "()I"⟩
theorem dX0_closed_0 : decode cX0_closed 0 = .ok (.aload_n 0, 1) := by decide +kernel
theorem dX0_closed_1 : decode cX0_closed 1 = .ok (.invokevirtual 44, 3) := by decide +kernel
theorem dX0_closed_4 : decode cX0_closed 4 = .ok (.iconst 0, 1) := by decide +kernel
theorem dX0_closed_5 : decode cX0_closed 5 = .ok (.istore_n 1, 1) := by decide +kernel
theorem dX0_closed_6 : decode cX0_closed 6 = .ok (.iconst 0, 1) := by decide +kernel
theorem dX0_closed_7 : decode cX0_closed 7 = .ok (.istore_n 2, 1) := by decide +kernel
theorem dX0_closed_8 : decode cX0_closed 8 = .ok (.iload_n 2, 1) := by decide +kernel
theorem dX0_closed_9 : decode cX0_closed 9 = .ok (.iconst 1, 1) := by decide +kernel
theorem dX0_closed_10 : decode cX0_closed 10 = .ok (.aload_n 0, 1) := by decide +kernel
theorem dX0_closed_11 : decode cX0_closed 11 = .ok (.getfield 27, 3) := by decide +kernel
theorem dX0_closed_14 : decode cX0_closed 14 = .ok (.ishl, 1) := by decide +kernel
theorem dX0_closed_15 : decode cX0_closed 15 = .ok (.if_icmp .ge 23, 3) := by decide +kernel
theorem dX0_closed_18 : decode cX0_closed 18 = .ok (.aload_n 0, 1) := by decide +kernel
theorem dX0_closed_19 : decode cX0_closed 19 = .ok (.getfield 16, 3) := by decide +kernel
theorem dX0_closed_22 : decode cX0_closed 22 = .ok (.iload_n 2, 1) := by decide +kernel
theorem dX0_closed_23 : decode cX0_closed 23 = .ok (.laload, 1) := by decide +kernel
theorem dX0_closed_24 : decode cX0_closed 24 = .ok (.lconst 0, 1) := by decide +kernel
theorem dX0_closed_25 : decode cX0_closed 25 = .ok (.lcmp, 1) := by decide +kernel
theorem dX0_closed_26 : decode cX0_closed 26 = .ok (.ifCond .le 6, 3) := by decide +kernel
theorem dX0_closed_29 : decode cX0_closed 29 = .ok (.iinc 1 1, 3) := by decide +kernel
theorem dX0_closed_32 : decode cX0_closed 32 = .ok (.iinc 2 1, 3) := by decide +kernel
theorem dX0_closed_35 : decode cX0_closed 35 = .ok (.goto (-27), 3) := by decide +kernel
theorem dX0_closed_38 : decode cX0_closed 38 = .ok (.iload_n 1, 1) := by decide +kernel
theorem dX0_closed_39 : decode cX0_closed 39 = .ok (.ireturn, 1) := by decide +kernel
theorem q6 : (Jvm.Cond.initialized "LayersDesk") ∈ lw_all := lw_g (lw_at lw_m0 1 rfl) rfl
theorem q10 : (Jvm.Cond.instantiable "LayersDesk" (5 : Nat)) ∈ lw_all := lw_g (lw_at lw_m0 5 rfl) rfl
theorem q12 : (Jvm.Cond.instanceMethod ({ cls := "LayersDesk", name := "<init>", desc := "()V" } : Jvm.MethodName)) ∈ lw_all := lw_g (lw_at lw_m0 7 rfl) rfl
theorem q13 : (Jvm.Cond.code ({ cls := "LayersDesk", name := "<init>", desc := "()V" } : Jvm.MethodName) prog_1_method_1_code (1 : Nat) (Option.none : Option Jvm.ClassFile.FieldType)) ∈ lw_all := lw_g (lw_at lw_m0 8 rfl) rfl
theorem q14 : (Jvm.Cond.methodLink "LayersDesk" (1 : Nat) ({ cls := "java/lang/Object", name := "<init>", desc := "()V" } : Jvm.MethodName)) ∈ lw_all := lw_g (lw_at lw_m0 9 rfl) rfl
theorem q17 : (Jvm.Cond.classLink "LayersDesk" (20 : Nat) "LayersDesk$Pairing") ∈ lw_all := lw_g (lw_at lw_m0 12 rfl) rfl
theorem q19 : (Jvm.Cond.methodLinkNest "LayersDesk" (22 : Nat) ({ cls := "LayersDesk$Pairing", name := "<init>", desc := "()V" } : Jvm.MethodName) "LayersDesk") ∈ lw_tbl := lw_at lw_m0 14 rfl
theorem q35 : (Jvm.Cond.fieldLink "LayersDesk" (9 : Nat) "LayersDesk" "down" "[I") ∈ lw_all := lw_g (lw_at lw_m0 30 rfl) rfl
theorem q36 : (Jvm.Cond.fieldLink "LayersDesk" (13 : Nat) "LayersDesk" "up" "[I") ∈ lw_all := lw_g (lw_at lw_m0 31 rfl) rfl
theorem q37 : (Jvm.Cond.fieldLink "LayersDesk" (16 : Nat) "LayersDesk" "ways" "[J") ∈ lw_all := lw_g (lw_at lw_m0 32 rfl) rfl
theorem q38 : (Jvm.Cond.fieldLink "LayersDesk" (23 : Nat) "LayersDesk" "pairing" "LLayersDesk$Pairing;") ∈ lw_all := lw_g (lw_at lw_m0 33 rfl) rfl
theorem q39 : (Jvm.Cond.fieldLink "LayersDesk" (27 : Nat) "LayersDesk" "n" "I") ∈ lw_all := lw_g (lw_at lw_m0 34 rfl) rfl
theorem q40 : (Jvm.Cond.laysFinal "LayersDesk" "LayersDesk" "down" "[I") ∈ lw_all := lw_g (lw_at lw_m0 35 rfl) rfl
theorem q41 : (Jvm.Cond.soleField "LayersDesk" "down") ∈ lw_all := lw_g (lw_at lw_m0 36 rfl) rfl
theorem q42 : (Jvm.Cond.laysFinal "LayersDesk" "LayersDesk" "up" "[I") ∈ lw_all := lw_g (lw_at lw_m0 37 rfl) rfl
theorem q43 : (Jvm.Cond.soleField "LayersDesk" "up") ∈ lw_all := lw_g (lw_at lw_m0 38 rfl) rfl
theorem q44 : (Jvm.Cond.laysFinal "LayersDesk" "LayersDesk" "ways" "[J") ∈ lw_all := lw_g (lw_at lw_m0 39 rfl) rfl
theorem q45 : (Jvm.Cond.soleField "LayersDesk" "ways") ∈ lw_all := lw_g (lw_at lw_m0 40 rfl) rfl
theorem q46 : (Jvm.Cond.laysFinal "LayersDesk" "LayersDesk" "pairing" "LLayersDesk$Pairing;") ∈ lw_all := lw_g (lw_at lw_m0 41 rfl) rfl
theorem q47 : (Jvm.Cond.soleField "LayersDesk" "pairing") ∈ lw_all := lw_g (lw_at lw_m0 42 rfl) rfl
theorem q48 : (Jvm.Cond.lays "LayersDesk" "LayersDesk" "n" "I") ∈ lw_all := lw_g (lw_at lw_m0 43 rfl) rfl
theorem q49 : (Jvm.Cond.soleField "LayersDesk" "n") ∈ lw_all := lw_g (lw_at lw_m0 44 rfl) rfl
theorem q50 : (Jvm.Cond.superclass "LayersDesk" "java/lang/Object") ∈ lw_all := lw_g (lw_at lw_m0 45 rfl) rfl
theorem q52 : (Jvm.Cond.instanceMethod ({ cls := "LayersDesk", name := "places", desc := "(I)V" } : Jvm.MethodName)) ∈ lw_all := lw_g (lw_at lw_m0 47 rfl) rfl
theorem q53 : (Jvm.Cond.selects "LayersDesk" ({ cls := "LayersDesk", name := "places", desc := "(I)V" } : Jvm.MethodName) ({ cls := "LayersDesk", name := "places", desc := "(I)V" } : Jvm.MethodName)) ∈ lw_all := lw_g (lw_at lw_m0 48 rfl) rfl
theorem q54 : (Jvm.Cond.code ({ cls := "LayersDesk", name := "places", desc := "(I)V" } : Jvm.MethodName) prog_1_method_2_code (3 : Nat) (Option.none : Option Jvm.ClassFile.FieldType)) ∈ lw_all := lw_g (lw_at lw_m0 49 rfl) rfl
theorem q55 : (Jvm.Cond.constant "LayersDesk" (31 : Nat) (2147483647 : Int32)) ∈ lw_all := lw_g (lw_at lw_m0 50 rfl) rfl
theorem q57 : (Jvm.Cond.instanceMethod ({ cls := "LayersDesk", name := "put", desc := "(II)Z" } : Jvm.MethodName)) ∈ lw_all := lw_g (lw_at lw_m0 52 rfl) rfl
theorem q58 : (Jvm.Cond.selects "LayersDesk" ({ cls := "LayersDesk", name := "put", desc := "(II)Z" } : Jvm.MethodName) ({ cls := "LayersDesk", name := "put", desc := "(II)Z" } : Jvm.MethodName)) ∈ lw_all := lw_g (lw_at lw_m0 53 rfl) rfl
theorem q59 : (Jvm.Cond.code ({ cls := "LayersDesk", name := "put", desc := "(II)Z" } : Jvm.MethodName) prog_1_method_4_code (8 : Nat) (Option.some Jvm.ClassFile.FieldType.boolean)) ∈ lw_all := lw_g (lw_at lw_m0 54 rfl) rfl
theorem q60 : (Jvm.Cond.methodLink "LayersDesk" (32 : Nat) ({ cls := "LayersDesk", name := "thing", desc := "(I)I" } : Jvm.MethodName)) ∈ lw_all := lw_g (lw_at lw_m0 55 rfl) rfl
theorem q61 : (Jvm.Cond.privateMethod ({ cls := "LayersDesk", name := "thing", desc := "(I)I" } : Jvm.MethodName)) ∈ lw_tbl := lw_at lw_m0 56 rfl
theorem q62 : (Jvm.Cond.instanceMethod ({ cls := "LayersDesk", name := "thing", desc := "(I)I" } : Jvm.MethodName)) ∈ lw_all := lw_g (lw_at lw_m0 57 rfl) rfl
theorem q63 : (Jvm.Cond.code ({ cls := "LayersDesk", name := "thing", desc := "(I)I" } : Jvm.MethodName) prog_1_method_3_code (2 : Nat) (Option.some Jvm.ClassFile.FieldType.int)) ∈ lw_all := lw_g (lw_at lw_m0 58 rfl) rfl
theorem q65 : (Jvm.Cond.instanceMethod ({ cls := "LayersDesk", name := "below", desc := "(II)Z" } : Jvm.MethodName)) ∈ lw_all := lw_g (lw_at lw_m0 60 rfl) rfl
theorem q66 : (Jvm.Cond.selects "LayersDesk" ({ cls := "LayersDesk", name := "below", desc := "(II)Z" } : Jvm.MethodName) ({ cls := "LayersDesk", name := "below", desc := "(II)Z" } : Jvm.MethodName)) ∈ lw_all := lw_g (lw_at lw_m0 61 rfl) rfl
theorem q67 : (Jvm.Cond.code ({ cls := "LayersDesk", name := "below", desc := "(II)Z" } : Jvm.MethodName) prog_1_method_5_code (3 : Nat) (Option.some Jvm.ClassFile.FieldType.boolean)) ∈ lw_all := lw_g (lw_at lw_m0 62 rfl) rfl
theorem q69 : (Jvm.Cond.instanceMethod ({ cls := "LayersDesk", name := "cover", desc := "()I" } : Jvm.MethodName)) ∈ lw_all := lw_g (lw_at lw_m0 64 rfl) rfl
theorem q70 : (Jvm.Cond.selects "LayersDesk" ({ cls := "LayersDesk", name := "cover", desc := "()I" } : Jvm.MethodName) ({ cls := "LayersDesk", name := "cover", desc := "()I" } : Jvm.MethodName)) ∈ lw_all := lw_g (lw_at lw_m0 65 rfl) rfl
theorem q71 : (Jvm.Cond.code ({ cls := "LayersDesk", name := "cover", desc := "()I" } : Jvm.MethodName) prog_1_method_6_code (1 : Nat) (Option.some Jvm.ClassFile.FieldType.int)) ∈ lw_all := lw_g (lw_at lw_m0 66 rfl) rfl
theorem q72 : (Jvm.Cond.methodLink "LayersDesk" (36 : Nat) ({ cls := "LayersDesk$Pairing", name := "most", desc := "([II)I" } : Jvm.MethodName)) ∈ lw_all := lw_g (lw_at lw_m0 67 rfl) rfl
theorem q81 : (Jvm.Cond.instanceMethod ({ cls := "LayersDesk", name := "width", desc := "()I" } : Jvm.MethodName)) ∈ lw_all := lw_g (lw_at lw_m0 76 rfl) rfl
theorem q82 : (Jvm.Cond.selects "LayersDesk" ({ cls := "LayersDesk", name := "width", desc := "()I" } : Jvm.MethodName) ({ cls := "LayersDesk", name := "width", desc := "()I" } : Jvm.MethodName)) ∈ lw_all := lw_g (lw_at lw_m0 77 rfl) rfl
theorem q83 : (Jvm.Cond.code ({ cls := "LayersDesk", name := "width", desc := "()I" } : Jvm.MethodName) prog_1_method_7_code (1 : Nat) (Option.some Jvm.ClassFile.FieldType.int)) ∈ lw_all := lw_g (lw_at lw_m0 78 rfl) rfl
theorem q84 : (Jvm.Cond.methodLink "LayersDesk" (40 : Nat) ({ cls := "LayersDesk", name := "cover", desc := "()I" } : Jvm.MethodName)) ∈ lw_all := lw_g (lw_at lw_m0 79 rfl) rfl
theorem q86 : (Jvm.Cond.instanceMethod ({ cls := "LayersDesk", name := "height", desc := "()I" } : Jvm.MethodName)) ∈ lw_all := lw_g (lw_at lw_m0 81 rfl) rfl
theorem q87 : (Jvm.Cond.selects "LayersDesk" ({ cls := "LayersDesk", name := "height", desc := "()I" } : Jvm.MethodName) ({ cls := "LayersDesk", name := "height", desc := "()I" } : Jvm.MethodName)) ∈ lw_all := lw_g (lw_at lw_m0 82 rfl) rfl
theorem q88 : (Jvm.Cond.code ({ cls := "LayersDesk", name := "height", desc := "()I" } : Jvm.MethodName) prog_1_method_8_code (5 : Nat) (Option.some Jvm.ClassFile.FieldType.int)) ∈ lw_all := lw_g (lw_at lw_m0 83 rfl) rfl
theorem q90 : (Jvm.Cond.instanceMethod ({ cls := "LayersDesk", name := "rows", desc := "()J" } : Jvm.MethodName)) ∈ lw_all := lw_g (lw_at lw_m0 85 rfl) rfl
theorem q91 : (Jvm.Cond.selects "LayersDesk" ({ cls := "LayersDesk", name := "rows", desc := "()J" } : Jvm.MethodName) ({ cls := "LayersDesk", name := "rows", desc := "()J" } : Jvm.MethodName)) ∈ lw_all := lw_g (lw_at lw_m0 86 rfl) rfl
theorem q92 : (Jvm.Cond.code ({ cls := "LayersDesk", name := "rows", desc := "()J" } : Jvm.MethodName) prog_1_method_10_code (1 : Nat) (Option.some Jvm.ClassFile.FieldType.long)) ∈ lw_all := lw_g (lw_at lw_m0 87 rfl) rfl
theorem q93 : (Jvm.Cond.methodLink "LayersDesk" (44 : Nat) ({ cls := "LayersDesk", name := "count", desc := "()V" } : Jvm.MethodName)) ∈ lw_all := lw_g (lw_at lw_m0 88 rfl) rfl
theorem q94 : (Jvm.Cond.privateMethod ({ cls := "LayersDesk", name := "count", desc := "()V" } : Jvm.MethodName)) ∈ lw_tbl := lw_at lw_m0 89 rfl
theorem q95 : (Jvm.Cond.instanceMethod ({ cls := "LayersDesk", name := "count", desc := "()V" } : Jvm.MethodName)) ∈ lw_all := lw_g (lw_at lw_m0 90 rfl) rfl
theorem q96 : (Jvm.Cond.code ({ cls := "LayersDesk", name := "count", desc := "()V" } : Jvm.MethodName) prog_1_method_9_code (4 : Nat) (Option.none : Option Jvm.ClassFile.FieldType)) ∈ lw_all := lw_g (lw_at lw_m0 91 rfl) rfl
theorem q98 : (Jvm.Cond.instanceMethod ({ cls := "LayersDesk", name := "closed", desc := "()I" } : Jvm.MethodName)) ∈ lw_all := lw_g (lw_at lw_m0 93 rfl) rfl
theorem q99 : (Jvm.Cond.selects "LayersDesk" ({ cls := "LayersDesk", name := "closed", desc := "()I" } : Jvm.MethodName) ({ cls := "LayersDesk", name := "closed", desc := "()I" } : Jvm.MethodName)) ∈ lw_all := lw_g (lw_at lw_m0 94 rfl) rfl
theorem q100 : (Jvm.Cond.code ({ cls := "LayersDesk", name := "closed", desc := "()I" } : Jvm.MethodName) prog_1_method_11_code (3 : Nat) (Option.some Jvm.ClassFile.FieldType.int)) ∈ lw_all := lw_g (lw_at lw_m0 95 rfl) rfl
theorem in_X0 : ∀ w ∈ wsX00, w ∈ lw_all := lw_in wsX00 [40, 42, 44, 46, 48] (by decide +kernel) (by decide +kernel)
end
section
/-! LayersDesk$Pairing -/
set_option maxRecDepth 100000
def RX1 : String := "LayersDesk$Pairing"
def TX1 : u_T := fun k => match k with
  | 0 => ("LayersDesk$Pairing", "above", "[I", true)
  | 1 => ("LayersDesk$Pairing", "lower", "[I", true)
  | _ => ("LayersDesk$Pairing", "tried", "I", false)
def tyX1 : Nat → FieldType := fun k => match k with
  | 0 => .array .int
  | 1 => .array .int
  | _ => .int
abbrev wsX10 : List Cond := u_ws RX1 TX1 3
theorem nmX1 : ∀ a, a < 3 → ∀ b, b < 3 → a ≠ b → (TX1 a).2.1 ≠ (TX1 b).2.1 := by decide +kernel
theorem tyX1_ok : ∀ k, k < 3 → parseFieldDescriptor (TX1 k).2.2.1 = some (tyX1 k) := by decide +kernel
abbrev cX1_init : ByteArray := prog_2_method_1_code
def yX1_init : MethodName := ⟨RX1, "<init>", "()V"⟩
theorem dX1_init_0 : decode cX1_init 0 = .ok (.aload_n 0, 1) := by decide +kernel
theorem dX1_init_1 : decode cX1_init 1 = .ok (.invokespecial 3, 3) := by decide +kernel
theorem dX1_init_4 : decode cX1_init 4 = .ok (.aload_n 0, 1) := by decide +kernel
theorem dX1_init_5 : decode cX1_init 5 = .ok (.bipush 10, 2) := by decide +kernel
theorem dX1_init_7 : decode cX1_init 7 = .ok (.newarray .int, 2) := by decide +kernel
theorem dX1_init_9 : decode cX1_init 9 = .ok (.putfield 9, 3) := by decide +kernel
theorem dX1_init_12 : decode cX1_init 12 = .ok (.aload_n 0, 1) := by decide +kernel
theorem dX1_init_13 : decode cX1_init 13 = .ok (.bipush 10, 2) := by decide +kernel
theorem dX1_init_15 : decode cX1_init 15 = .ok (.newarray .int, 2) := by decide +kernel
theorem dX1_init_17 : decode cX1_init 17 = .ok (.putfield 15, 3) := by decide +kernel
theorem dX1_init_20 : decode cX1_init 20 = .ok (.return_, 1) := by decide +kernel
abbrev cX1_most : ByteArray := prog_2_method_3_code
def yX1_most : MethodName := ⟨RX1, "most", "([II)I"⟩
theorem dX1_most_0 : decode cX1_most 0 = .ok (.iconst 0, 1) := by decide +kernel
theorem dX1_most_1 : decode cX1_most 1 = .ok (.istore_n 3, 1) := by decide +kernel
theorem dX1_most_2 : decode cX1_most 2 = .ok (.iload_n 3, 1) := by decide +kernel
theorem dX1_most_3 : decode cX1_most 3 = .ok (.bipush 10, 2) := by decide +kernel
theorem dX1_most_5 : decode cX1_most 5 = .ok (.if_icmp .ge 34, 3) := by decide +kernel
theorem dX1_most_8 : decode cX1_most 8 = .ok (.aload_n 0, 1) := by decide +kernel
theorem dX1_most_9 : decode cX1_most 9 = .ok (.getfield 9, 3) := by decide +kernel
theorem dX1_most_12 : decode cX1_most 12 = .ok (.iload_n 3, 1) := by decide +kernel
theorem dX1_most_13 : decode cX1_most 13 = .ok (.iload_n 3, 1) := by decide +kernel
theorem dX1_most_14 : decode cX1_most 14 = .ok (.iload_n 2, 1) := by decide +kernel
theorem dX1_most_15 : decode cX1_most 15 = .ok (.if_icmp .ge 9, 3) := by decide +kernel
theorem dX1_most_18 : decode cX1_most 18 = .ok (.aload_n 1, 1) := by decide +kernel
theorem dX1_most_19 : decode cX1_most 19 = .ok (.iload_n 3, 1) := by decide +kernel
theorem dX1_most_20 : decode cX1_most 20 = .ok (.iaload, 1) := by decide +kernel
theorem dX1_most_21 : decode cX1_most 21 = .ok (.goto 4, 3) := by decide +kernel
theorem dX1_most_24 : decode cX1_most 24 = .ok (.iconst 0, 1) := by decide +kernel
theorem dX1_most_25 : decode cX1_most 25 = .ok (.iastore, 1) := by decide +kernel
theorem dX1_most_26 : decode cX1_most 26 = .ok (.aload_n 0, 1) := by decide +kernel
theorem dX1_most_27 : decode cX1_most 27 = .ok (.getfield 15, 3) := by decide +kernel
theorem dX1_most_30 : decode cX1_most 30 = .ok (.iload_n 3, 1) := by decide +kernel
theorem dX1_most_31 : decode cX1_most 31 = .ok (.iconst (-1), 1) := by decide +kernel
theorem dX1_most_32 : decode cX1_most 32 = .ok (.iastore, 1) := by decide +kernel
theorem dX1_most_33 : decode cX1_most 33 = .ok (.iinc 3 1, 3) := by decide +kernel
theorem dX1_most_36 : decode cX1_most 36 = .ok (.goto (-34), 3) := by decide +kernel
theorem dX1_most_39 : decode cX1_most 39 = .ok (.iconst 0, 1) := by decide +kernel
theorem dX1_most_40 : decode cX1_most 40 = .ok (.istore_n 3, 1) := by decide +kernel
theorem dX1_most_41 : decode cX1_most 41 = .ok (.iconst 0, 1) := by decide +kernel
theorem dX1_most_42 : decode cX1_most 42 = .ok (.istore 4, 2) := by decide +kernel
theorem dX1_most_44 : decode cX1_most 44 = .ok (.iload 4, 2) := by decide +kernel
theorem dX1_most_46 : decode cX1_most 46 = .ok (.iload_n 2, 1) := by decide +kernel
theorem dX1_most_47 : decode cX1_most 47 = .ok (.if_icmp .ge 26, 3) := by decide +kernel
theorem dX1_most_50 : decode cX1_most 50 = .ok (.aload_n 0, 1) := by decide +kernel
theorem dX1_most_51 : decode cX1_most 51 = .ok (.iconst 0, 1) := by decide +kernel
theorem dX1_most_52 : decode cX1_most 52 = .ok (.putfield 18, 3) := by decide +kernel
theorem dX1_most_55 : decode cX1_most 55 = .ok (.aload_n 0, 1) := by decide +kernel
theorem dX1_most_56 : decode cX1_most 56 = .ok (.iload 4, 2) := by decide +kernel
theorem dX1_most_58 : decode cX1_most 58 = .ok (.invokevirtual 22, 3) := by decide +kernel
theorem dX1_most_61 : decode cX1_most 61 = .ok (.ifCond .eq 6, 3) := by decide +kernel
theorem dX1_most_64 : decode cX1_most 64 = .ok (.iinc 3 1, 3) := by decide +kernel
theorem dX1_most_67 : decode cX1_most 67 = .ok (.iinc 4 1, 3) := by decide +kernel
theorem dX1_most_70 : decode cX1_most 70 = .ok (.goto (-26), 3) := by decide +kernel
theorem dX1_most_73 : decode cX1_most 73 = .ok (.iload_n 3, 1) := by decide +kernel
theorem dX1_most_74 : decode cX1_most 74 = .ok (.ireturn, 1) := by decide +kernel
abbrev cX1_partner : ByteArray := prog_2_method_2_code
def yX1_partner : MethodName := ⟨RX1, "partner", "(I)Z"⟩
theorem dX1_partner_0 : decode cX1_partner 0 = .ok (.iconst 0, 1) := by decide +kernel
theorem dX1_partner_1 : decode cX1_partner 1 = .ok (.istore_n 2, 1) := by decide +kernel
theorem dX1_partner_2 : decode cX1_partner 2 = .ok (.iload_n 2, 1) := by decide +kernel
theorem dX1_partner_3 : decode cX1_partner 3 = .ok (.bipush 10, 2) := by decide +kernel
theorem dX1_partner_5 : decode cX1_partner 5 = .ok (.if_icmp .ge 84, 3) := by decide +kernel
theorem dX1_partner_8 : decode cX1_partner 8 = .ok (.aload_n 0, 1) := by decide +kernel
theorem dX1_partner_9 : decode cX1_partner 9 = .ok (.getfield 9, 3) := by decide +kernel
theorem dX1_partner_12 : decode cX1_partner 12 = .ok (.iload_n 1, 1) := by decide +kernel
theorem dX1_partner_13 : decode cX1_partner 13 = .ok (.iaload, 1) := by decide +kernel
theorem dX1_partner_14 : decode cX1_partner 14 = .ok (.iload_n 2, 1) := by decide +kernel
theorem dX1_partner_15 : decode cX1_partner 15 = .ok (.ishr, 1) := by decide +kernel
theorem dX1_partner_16 : decode cX1_partner 16 = .ok (.iconst 1, 1) := by decide +kernel
theorem dX1_partner_17 : decode cX1_partner 17 = .ok (.iand, 1) := by decide +kernel
theorem dX1_partner_18 : decode cX1_partner 18 = .ok (.ifCond .eq 65, 3) := by decide +kernel
theorem dX1_partner_21 : decode cX1_partner 21 = .ok (.aload_n 0, 1) := by decide +kernel
theorem dX1_partner_22 : decode cX1_partner 22 = .ok (.getfield 18, 3) := by decide +kernel
theorem dX1_partner_25 : decode cX1_partner 25 = .ok (.iload_n 2, 1) := by decide +kernel
theorem dX1_partner_26 : decode cX1_partner 26 = .ok (.ishr, 1) := by decide +kernel
theorem dX1_partner_27 : decode cX1_partner 27 = .ok (.iconst 1, 1) := by decide +kernel
theorem dX1_partner_28 : decode cX1_partner 28 = .ok (.iand, 1) := by decide +kernel
theorem dX1_partner_29 : decode cX1_partner 29 = .ok (.iconst 1, 1) := by decide +kernel
theorem dX1_partner_30 : decode cX1_partner 30 = .ok (.if_icmp .ne 6, 3) := by decide +kernel
theorem dX1_partner_33 : decode cX1_partner 33 = .ok (.goto 50, 3) := by decide +kernel
theorem dX1_partner_36 : decode cX1_partner 36 = .ok (.aload_n 0, 1) := by decide +kernel
theorem dX1_partner_37 : decode cX1_partner 37 = .ok (.dup, 1) := by decide +kernel
theorem dX1_partner_38 : decode cX1_partner 38 = .ok (.getfield 18, 3) := by decide +kernel
theorem dX1_partner_41 : decode cX1_partner 41 = .ok (.iconst 1, 1) := by decide +kernel
theorem dX1_partner_42 : decode cX1_partner 42 = .ok (.iload_n 2, 1) := by decide +kernel
theorem dX1_partner_43 : decode cX1_partner 43 = .ok (.ishl, 1) := by decide +kernel
theorem dX1_partner_44 : decode cX1_partner 44 = .ok (.ior, 1) := by decide +kernel
theorem dX1_partner_45 : decode cX1_partner 45 = .ok (.putfield 18, 3) := by decide +kernel
theorem dX1_partner_48 : decode cX1_partner 48 = .ok (.aload_n 0, 1) := by decide +kernel
theorem dX1_partner_49 : decode cX1_partner 49 = .ok (.getfield 15, 3) := by decide +kernel
theorem dX1_partner_52 : decode cX1_partner 52 = .ok (.iload_n 2, 1) := by decide +kernel
theorem dX1_partner_53 : decode cX1_partner 53 = .ok (.iaload, 1) := by decide +kernel
theorem dX1_partner_54 : decode cX1_partner 54 = .ok (.iconst (-1), 1) := by decide +kernel
theorem dX1_partner_55 : decode cX1_partner 55 = .ok (.if_icmp .eq 19, 3) := by decide +kernel
theorem dX1_partner_58 : decode cX1_partner 58 = .ok (.aload_n 0, 1) := by decide +kernel
theorem dX1_partner_59 : decode cX1_partner 59 = .ok (.aload_n 0, 1) := by decide +kernel
theorem dX1_partner_60 : decode cX1_partner 60 = .ok (.getfield 15, 3) := by decide +kernel
theorem dX1_partner_63 : decode cX1_partner 63 = .ok (.iload_n 2, 1) := by decide +kernel
theorem dX1_partner_64 : decode cX1_partner 64 = .ok (.iaload, 1) := by decide +kernel
theorem dX1_partner_65 : decode cX1_partner 65 = .ok (.invokevirtual 22, 3) := by decide +kernel
theorem dX1_partner_68 : decode cX1_partner 68 = .ok (.ifCond .ne 6, 3) := by decide +kernel
theorem dX1_partner_71 : decode cX1_partner 71 = .ok (.goto 12, 3) := by decide +kernel
theorem dX1_partner_74 : decode cX1_partner 74 = .ok (.aload_n 0, 1) := by decide +kernel
theorem dX1_partner_75 : decode cX1_partner 75 = .ok (.getfield 15, 3) := by decide +kernel
theorem dX1_partner_78 : decode cX1_partner 78 = .ok (.iload_n 2, 1) := by decide +kernel
theorem dX1_partner_79 : decode cX1_partner 79 = .ok (.iload_n 1, 1) := by decide +kernel
theorem dX1_partner_80 : decode cX1_partner 80 = .ok (.iastore, 1) := by decide +kernel
theorem dX1_partner_81 : decode cX1_partner 81 = .ok (.iconst 1, 1) := by decide +kernel
theorem dX1_partner_82 : decode cX1_partner 82 = .ok (.ireturn, 1) := by decide +kernel
theorem dX1_partner_83 : decode cX1_partner 83 = .ok (.iinc 2 1, 3) := by decide +kernel
theorem dX1_partner_86 : decode cX1_partner 86 = .ok (.goto (-84), 3) := by decide +kernel
theorem dX1_partner_89 : decode cX1_partner 89 = .ok (.iconst 0, 1) := by decide +kernel
theorem dX1_partner_90 : decode cX1_partner 90 = .ok (.ireturn, 1) := by decide +kernel
theorem q7 : (Jvm.Cond.initialized "LayersDesk$Pairing") ∈ lw_all := lw_g (lw_at lw_m0 2 rfl) rfl
theorem q18 : (Jvm.Cond.instantiable "LayersDesk$Pairing" (3 : Nat)) ∈ lw_all := lw_g (lw_at lw_m0 13 rfl) rfl
theorem q20 : (Jvm.Cond.instanceMethod ({ cls := "LayersDesk$Pairing", name := "<init>", desc := "()V" } : Jvm.MethodName)) ∈ lw_all := lw_g (lw_at lw_m0 15 rfl) rfl
theorem q21 : (Jvm.Cond.code ({ cls := "LayersDesk$Pairing", name := "<init>", desc := "()V" } : Jvm.MethodName) prog_2_method_1_code (1 : Nat) (Option.none : Option Jvm.ClassFile.FieldType)) ∈ lw_all := lw_g (lw_at lw_m0 16 rfl) rfl
theorem q22 : (Jvm.Cond.methodLink "LayersDesk$Pairing" (3 : Nat) ({ cls := "java/lang/Object", name := "<init>", desc := "()V" } : Jvm.MethodName)) ∈ lw_all := lw_g (lw_at lw_m0 17 rfl) rfl
theorem q23 : (Jvm.Cond.fieldLink "LayersDesk$Pairing" (9 : Nat) "LayersDesk$Pairing" "above" "[I") ∈ lw_all := lw_g (lw_at lw_m0 18 rfl) rfl
theorem q24 : (Jvm.Cond.fieldLink "LayersDesk$Pairing" (15 : Nat) "LayersDesk$Pairing" "lower" "[I") ∈ lw_all := lw_g (lw_at lw_m0 19 rfl) rfl
theorem q25 : (Jvm.Cond.fieldLink "LayersDesk$Pairing" (18 : Nat) "LayersDesk$Pairing" "tried" "I") ∈ lw_all := lw_g (lw_at lw_m0 20 rfl) rfl
theorem q26 : (Jvm.Cond.laysFinal "LayersDesk$Pairing" "LayersDesk$Pairing" "above" "[I") ∈ lw_all := lw_g (lw_at lw_m0 21 rfl) rfl
theorem q27 : (Jvm.Cond.soleField "LayersDesk$Pairing" "above") ∈ lw_all := lw_g (lw_at lw_m0 22 rfl) rfl
theorem q28 : (Jvm.Cond.laysFinal "LayersDesk$Pairing" "LayersDesk$Pairing" "lower" "[I") ∈ lw_all := lw_g (lw_at lw_m0 23 rfl) rfl
theorem q29 : (Jvm.Cond.soleField "LayersDesk$Pairing" "lower") ∈ lw_all := lw_g (lw_at lw_m0 24 rfl) rfl
theorem q30 : (Jvm.Cond.lays "LayersDesk$Pairing" "LayersDesk$Pairing" "tried" "I") ∈ lw_all := lw_g (lw_at lw_m0 25 rfl) rfl
theorem q31 : (Jvm.Cond.soleField "LayersDesk$Pairing" "tried") ∈ lw_all := lw_g (lw_at lw_m0 26 rfl) rfl
theorem q32 : (Jvm.Cond.superclass "LayersDesk$Pairing" "java/lang/Object") ∈ lw_all := lw_g (lw_at lw_m0 27 rfl) rfl
theorem q73 : (Jvm.Cond.instanceMethod ({ cls := "LayersDesk$Pairing", name := "most", desc := "([II)I" } : Jvm.MethodName)) ∈ lw_all := lw_g (lw_at lw_m0 68 rfl) rfl
theorem q74 : (Jvm.Cond.selects "LayersDesk$Pairing" ({ cls := "LayersDesk$Pairing", name := "most", desc := "([II)I" } : Jvm.MethodName) ({ cls := "LayersDesk$Pairing", name := "most", desc := "([II)I" } : Jvm.MethodName)) ∈ lw_all := lw_g (lw_at lw_m0 69 rfl) rfl
theorem q75 : (Jvm.Cond.code ({ cls := "LayersDesk$Pairing", name := "most", desc := "([II)I" } : Jvm.MethodName) prog_2_method_3_code (5 : Nat) (Option.some Jvm.ClassFile.FieldType.int)) ∈ lw_all := lw_g (lw_at lw_m0 70 rfl) rfl
theorem q76 : (Jvm.Cond.methodLink "LayersDesk$Pairing" (22 : Nat) ({ cls := "LayersDesk$Pairing", name := "partner", desc := "(I)Z" } : Jvm.MethodName)) ∈ lw_all := lw_g (lw_at lw_m0 71 rfl) rfl
theorem q77 : (Jvm.Cond.privateMethod ({ cls := "LayersDesk$Pairing", name := "partner", desc := "(I)Z" } : Jvm.MethodName)) ∈ lw_tbl := lw_at lw_m0 72 rfl
theorem q78 : (Jvm.Cond.instanceMethod ({ cls := "LayersDesk$Pairing", name := "partner", desc := "(I)Z" } : Jvm.MethodName)) ∈ lw_all := lw_g (lw_at lw_m0 73 rfl) rfl
theorem q79 : (Jvm.Cond.code ({ cls := "LayersDesk$Pairing", name := "partner", desc := "(I)Z" } : Jvm.MethodName) prog_2_method_2_code (3 : Nat) (Option.some Jvm.ClassFile.FieldType.boolean)) ∈ lw_all := lw_g (lw_at lw_m0 74 rfl) rfl
theorem in_X1 : ∀ w ∈ wsX10, w ∈ lw_all := lw_in wsX10 [26, 28, 30] (by decide +kernel) (by decide +kernel)
/-! java/lang/Object -/
set_option maxRecDepth 100000
def RJ0 : String := "java/lang/Object"
abbrev cJ0_init : ByteArray := object_method_1_code
def yJ0_init : MethodName := ⟨RJ0, "<init>", "()V"⟩
theorem dJ0_init_0 : decode cJ0_init 0 = .ok (.return_, 1) := by decide +kernel
theorem q15 : (Jvm.Cond.instanceMethod ({ cls := "java/lang/Object", name := "<init>", desc := "()V" } : Jvm.MethodName)) ∈ lw_all := lw_g (lw_at lw_m0 10 rfl) rfl
theorem q16 : (Jvm.Cond.code ({ cls := "java/lang/Object", name := "<init>", desc := "()V" } : Jvm.MethodName) object_method_1_code (1 : Nat) (Option.none : Option Jvm.ClassFile.FieldType)) ∈ lw_all := lw_g (lw_at lw_m0 11 rfl) rfl
end
section
/-! LayersDeskModel -/
set_option maxRecDepth 100000
def RX2 : String := "LayersDeskModel"
def TX2 : u_T := fun k => match k with
  | 0 => ("LayersDeskModel", "up", "[I", true)
  | 1 => ("LayersDeskModel", "n", "I", false)
  | 2 => ("LayersDeskModel", "known", "Z", false)
  | 3 => ("LayersDeskModel", "width", "I", false)
  | 4 => ("LayersDeskModel", "height", "I", false)
  | 5 => ("LayersDeskModel", "closed", "I", false)
  | 6 => ("LayersDeskModel", "least", "[I", true)
  | 7 => ("LayersDeskModel", "chain", "[Z", true)
  | _ => ("LayersDeskModel", "ways", "[J", true)
def tyX2 : Nat → FieldType := fun k => match k with
  | 0 => .array .int
  | 1 => .int
  | 2 => .boolean
  | 3 => .int
  | 4 => .int
  | 5 => .int
  | 6 => .array .int
  | 7 => .array .boolean
  | _ => .array .long
abbrev wsX20 : List Cond := u_ws RX2 TX2 9
theorem nmX2 : ∀ a, a < 9 → ∀ b, b < 9 → a ≠ b → (TX2 a).2.1 ≠ (TX2 b).2.1 := by decide +kernel
theorem tyX2_ok : ∀ k, k < 9 → parseFieldDescriptor (TX2 k).2.2.1 = some (tyX2 k) := by decide +kernel
abbrev cX2_init : ByteArray := prog_4_method_1_code
def yX2_init : MethodName := ⟨RX2, "<init>", "()V"⟩
theorem dX2_init_0 : decode cX2_init 0 = .ok (.aload_n 0, 1) := by decide +kernel
theorem dX2_init_1 : decode cX2_init 1 = .ok (.invokespecial 1, 3) := by decide +kernel
theorem dX2_init_4 : decode cX2_init 4 = .ok (.aload_n 0, 1) := by decide +kernel
theorem dX2_init_5 : decode cX2_init 5 = .ok (.bipush 10, 2) := by decide +kernel
theorem dX2_init_7 : decode cX2_init 7 = .ok (.newarray .int, 2) := by decide +kernel
theorem dX2_init_9 : decode cX2_init 9 = .ok (.putfield 7, 3) := by decide +kernel
theorem dX2_init_12 : decode cX2_init 12 = .ok (.aload_n 0, 1) := by decide +kernel
theorem dX2_init_13 : decode cX2_init 13 = .ok (.iconst 4, 1) := by decide +kernel
theorem dX2_init_14 : decode cX2_init 14 = .ok (.putfield 13, 3) := by decide +kernel
theorem dX2_init_17 : decode cX2_init 17 = .ok (.aload_n 0, 1) := by decide +kernel
theorem dX2_init_18 : decode cX2_init 18 = .ok (.sipush 1024, 3) := by decide +kernel
theorem dX2_init_21 : decode cX2_init 21 = .ok (.newarray .int, 2) := by decide +kernel
theorem dX2_init_23 : decode cX2_init 23 = .ok (.putfield 17, 3) := by decide +kernel
theorem dX2_init_26 : decode cX2_init 26 = .ok (.aload_n 0, 1) := by decide +kernel
theorem dX2_init_27 : decode cX2_init 27 = .ok (.sipush 1024, 3) := by decide +kernel
theorem dX2_init_30 : decode cX2_init 30 = .ok (.newarray .boolean, 2) := by decide +kernel
theorem dX2_init_32 : decode cX2_init 32 = .ok (.putfield 20, 3) := by decide +kernel
theorem dX2_init_35 : decode cX2_init 35 = .ok (.aload_n 0, 1) := by decide +kernel
theorem dX2_init_36 : decode cX2_init 36 = .ok (.sipush 1024, 3) := by decide +kernel
theorem dX2_init_39 : decode cX2_init 39 = .ok (.newarray .long, 2) := by decide +kernel
theorem dX2_init_41 : decode cX2_init 41 = .ok (.putfield 24, 3) := by decide +kernel
theorem dX2_init_44 : decode cX2_init 44 = .ok (.return_, 1) := by decide +kernel
abbrev cX2_places : ByteArray := prog_4_method_2_code
def yX2_places : MethodName := ⟨RX2, "places", "(I)V"⟩
theorem dX2_places_0 : decode cX2_places 0 = .ok (.aload_n 0, 1) := by decide +kernel
theorem dX2_places_1 : decode cX2_places 1 = .ok (.iconst 1, 1) := by decide +kernel
theorem dX2_places_2 : decode cX2_places 2 = .ok (.iload_n 1, 1) := by decide +kernel
theorem dX2_places_3 : decode cX2_places 3 = .ok (.ldc 28, 2) := by decide +kernel
theorem dX2_places_5 : decode cX2_places 5 = .ok (.iand, 1) := by decide +kernel
theorem dX2_places_6 : decode cX2_places 6 = .ok (.bipush 10, 2) := by decide +kernel
theorem dX2_places_8 : decode cX2_places 8 = .ok (.irem, 1) := by decide +kernel
theorem dX2_places_9 : decode cX2_places 9 = .ok (.iadd, 1) := by decide +kernel
theorem dX2_places_10 : decode cX2_places 10 = .ok (.putfield 13, 3) := by decide +kernel
theorem dX2_places_13 : decode cX2_places 13 = .ok (.iconst 0, 1) := by decide +kernel
theorem dX2_places_14 : decode cX2_places 14 = .ok (.istore_n 2, 1) := by decide +kernel
theorem dX2_places_15 : decode cX2_places 15 = .ok (.iload_n 2, 1) := by decide +kernel
theorem dX2_places_16 : decode cX2_places 16 = .ok (.bipush 10, 2) := by decide +kernel
theorem dX2_places_18 : decode cX2_places 18 = .ok (.if_icmp .ge 16, 3) := by decide +kernel
theorem dX2_places_21 : decode cX2_places 21 = .ok (.aload_n 0, 1) := by decide +kernel
theorem dX2_places_22 : decode cX2_places 22 = .ok (.getfield 7, 3) := by decide +kernel
theorem dX2_places_25 : decode cX2_places 25 = .ok (.iload_n 2, 1) := by decide +kernel
theorem dX2_places_26 : decode cX2_places 26 = .ok (.iconst 0, 1) := by decide +kernel
theorem dX2_places_27 : decode cX2_places 27 = .ok (.iastore, 1) := by decide +kernel
theorem dX2_places_28 : decode cX2_places 28 = .ok (.iinc 2 1, 3) := by decide +kernel
theorem dX2_places_31 : decode cX2_places 31 = .ok (.goto (-16), 3) := by decide +kernel
theorem dX2_places_34 : decode cX2_places 34 = .ok (.aload_n 0, 1) := by decide +kernel
theorem dX2_places_35 : decode cX2_places 35 = .ok (.iconst 0, 1) := by decide +kernel
theorem dX2_places_36 : decode cX2_places 36 = .ok (.putfield 29, 3) := by decide +kernel
theorem dX2_places_39 : decode cX2_places 39 = .ok (.return_, 1) := by decide +kernel
abbrev cX2_put : ByteArray := prog_4_method_4_code
def yX2_put : MethodName := ⟨RX2, "put", "(II)Z"⟩
theorem dX2_put_0 : decode cX2_put 0 = .ok (.aload_n 0, 1) := by decide +kernel
theorem dX2_put_1 : decode cX2_put 1 = .ok (.iload_n 1, 1) := by decide +kernel
theorem dX2_put_2 : decode cX2_put 2 = .ok (.invokevirtual 33, 3) := by decide +kernel
theorem dX2_put_5 : decode cX2_put 5 = .ok (.istore_n 3, 1) := by decide +kernel
theorem dX2_put_6 : decode cX2_put 6 = .ok (.aload_n 0, 1) := by decide +kernel
theorem dX2_put_7 : decode cX2_put 7 = .ok (.iload_n 2, 1) := by decide +kernel
theorem dX2_put_8 : decode cX2_put 8 = .ok (.invokevirtual 33, 3) := by decide +kernel
theorem dX2_put_11 : decode cX2_put 11 = .ok (.istore 4, 2) := by decide +kernel
theorem dX2_put_13 : decode cX2_put 13 = .ok (.iload_n 3, 1) := by decide +kernel
theorem dX2_put_14 : decode cX2_put 14 = .ok (.iload 4, 2) := by decide +kernel
theorem dX2_put_16 : decode cX2_put 16 = .ok (.if_icmp .eq 17, 3) := by decide +kernel
theorem dX2_put_19 : decode cX2_put 19 = .ok (.aload_n 0, 1) := by decide +kernel
theorem dX2_put_20 : decode cX2_put 20 = .ok (.getfield 7, 3) := by decide +kernel
theorem dX2_put_23 : decode cX2_put 23 = .ok (.iload 4, 2) := by decide +kernel
theorem dX2_put_25 : decode cX2_put 25 = .ok (.iaload, 1) := by decide +kernel
theorem dX2_put_26 : decode cX2_put 26 = .ok (.iload_n 3, 1) := by decide +kernel
theorem dX2_put_27 : decode cX2_put 27 = .ok (.ishr, 1) := by decide +kernel
theorem dX2_put_28 : decode cX2_put 28 = .ok (.iconst 1, 1) := by decide +kernel
theorem dX2_put_29 : decode cX2_put 29 = .ok (.iand, 1) := by decide +kernel
theorem dX2_put_30 : decode cX2_put 30 = .ok (.ifCond .eq 5, 3) := by decide +kernel
theorem dX2_put_33 : decode cX2_put 33 = .ok (.iconst 0, 1) := by decide +kernel
theorem dX2_put_34 : decode cX2_put 34 = .ok (.ireturn, 1) := by decide +kernel
theorem dX2_put_35 : decode cX2_put 35 = .ok (.aload_n 0, 1) := by decide +kernel
theorem dX2_put_36 : decode cX2_put 36 = .ok (.getfield 7, 3) := by decide +kernel
theorem dX2_put_39 : decode cX2_put 39 = .ok (.iload 4, 2) := by decide +kernel
theorem dX2_put_41 : decode cX2_put 41 = .ok (.iaload, 1) := by decide +kernel
theorem dX2_put_42 : decode cX2_put 42 = .ok (.iconst 1, 1) := by decide +kernel
theorem dX2_put_43 : decode cX2_put 43 = .ok (.iload 4, 2) := by decide +kernel
theorem dX2_put_45 : decode cX2_put 45 = .ok (.ishl, 1) := by decide +kernel
theorem dX2_put_46 : decode cX2_put 46 = .ok (.ior, 1) := by decide +kernel
theorem dX2_put_47 : decode cX2_put 47 = .ok (.istore 5, 2) := by decide +kernel
theorem dX2_put_49 : decode cX2_put 49 = .ok (.iconst 0, 1) := by decide +kernel
theorem dX2_put_50 : decode cX2_put 50 = .ok (.istore 6, 2) := by decide +kernel
theorem dX2_put_52 : decode cX2_put 52 = .ok (.iload 6, 2) := by decide +kernel
theorem dX2_put_54 : decode cX2_put 54 = .ok (.aload_n 0, 1) := by decide +kernel
theorem dX2_put_55 : decode cX2_put 55 = .ok (.getfield 13, 3) := by decide +kernel
theorem dX2_put_58 : decode cX2_put 58 = .ok (.if_icmp .ge 46, 3) := by decide +kernel
theorem dX2_put_61 : decode cX2_put 61 = .ok (.iload 6, 2) := by decide +kernel
theorem dX2_put_63 : decode cX2_put 63 = .ok (.iload_n 3, 1) := by decide +kernel
theorem dX2_put_64 : decode cX2_put 64 = .ok (.if_icmp .eq 17, 3) := by decide +kernel
theorem dX2_put_67 : decode cX2_put 67 = .ok (.aload_n 0, 1) := by decide +kernel
theorem dX2_put_68 : decode cX2_put 68 = .ok (.getfield 7, 3) := by decide +kernel
theorem dX2_put_71 : decode cX2_put 71 = .ok (.iload 6, 2) := by decide +kernel
theorem dX2_put_73 : decode cX2_put 73 = .ok (.iaload, 1) := by decide +kernel
theorem dX2_put_74 : decode cX2_put 74 = .ok (.iload_n 3, 1) := by decide +kernel
theorem dX2_put_75 : decode cX2_put 75 = .ok (.ishr, 1) := by decide +kernel
theorem dX2_put_76 : decode cX2_put 76 = .ok (.iconst 1, 1) := by decide +kernel
theorem dX2_put_77 : decode cX2_put 77 = .ok (.iand, 1) := by decide +kernel
theorem dX2_put_78 : decode cX2_put 78 = .ok (.ifCond .eq 20, 3) := by decide +kernel
theorem dX2_put_81 : decode cX2_put 81 = .ok (.aload_n 0, 1) := by decide +kernel
theorem dX2_put_82 : decode cX2_put 82 = .ok (.getfield 7, 3) := by decide +kernel
theorem dX2_put_85 : decode cX2_put 85 = .ok (.iload 6, 2) := by decide +kernel
theorem dX2_put_87 : decode cX2_put 87 = .ok (.aload_n 0, 1) := by decide +kernel
theorem dX2_put_88 : decode cX2_put 88 = .ok (.getfield 7, 3) := by decide +kernel
theorem dX2_put_91 : decode cX2_put 91 = .ok (.iload 6, 2) := by decide +kernel
theorem dX2_put_93 : decode cX2_put 93 = .ok (.iaload, 1) := by decide +kernel
theorem dX2_put_94 : decode cX2_put 94 = .ok (.iload 5, 2) := by decide +kernel
theorem dX2_put_96 : decode cX2_put 96 = .ok (.ior, 1) := by decide +kernel
theorem dX2_put_97 : decode cX2_put 97 = .ok (.iastore, 1) := by decide +kernel
theorem dX2_put_98 : decode cX2_put 98 = .ok (.iinc 6 1, 3) := by decide +kernel
theorem dX2_put_101 : decode cX2_put 101 = .ok (.goto (-49), 3) := by decide +kernel
theorem dX2_put_104 : decode cX2_put 104 = .ok (.aload_n 0, 1) := by decide +kernel
theorem dX2_put_105 : decode cX2_put 105 = .ok (.iconst 0, 1) := by decide +kernel
theorem dX2_put_106 : decode cX2_put 106 = .ok (.putfield 29, 3) := by decide +kernel
theorem dX2_put_109 : decode cX2_put 109 = .ok (.iconst 1, 1) := by decide +kernel
theorem dX2_put_110 : decode cX2_put 110 = .ok (.ireturn, 1) := by decide +kernel
abbrev cX2_at : ByteArray := prog_4_method_3_code
def yX2_at : MethodName := ⟨RX2, "at", "(I)I"⟩
theorem dX2_at_0 : decode cX2_at 0 = .ok (.iload_n 1, 1) := by decide +kernel
theorem dX2_at_1 : decode cX2_at 1 = .ok (.ldc 28, 2) := by decide +kernel
theorem dX2_at_3 : decode cX2_at 3 = .ok (.iand, 1) := by decide +kernel
theorem dX2_at_4 : decode cX2_at 4 = .ok (.aload_n 0, 1) := by decide +kernel
theorem dX2_at_5 : decode cX2_at 5 = .ok (.getfield 13, 3) := by decide +kernel
theorem dX2_at_8 : decode cX2_at 8 = .ok (.irem, 1) := by decide +kernel
theorem dX2_at_9 : decode cX2_at 9 = .ok (.ireturn, 1) := by decide +kernel
abbrev cX2_below : ByteArray := prog_4_method_5_code
def yX2_below : MethodName := ⟨RX2, "below", "(II)Z"⟩
theorem dX2_below_0 : decode cX2_below 0 = .ok (.aload_n 0, 1) := by decide +kernel
theorem dX2_below_1 : decode cX2_below 1 = .ok (.getfield 7, 3) := by decide +kernel
theorem dX2_below_4 : decode cX2_below 4 = .ok (.aload_n 0, 1) := by decide +kernel
theorem dX2_below_5 : decode cX2_below 5 = .ok (.iload_n 1, 1) := by decide +kernel
theorem dX2_below_6 : decode cX2_below 6 = .ok (.invokevirtual 33, 3) := by decide +kernel
theorem dX2_below_9 : decode cX2_below 9 = .ok (.iaload, 1) := by decide +kernel
theorem dX2_below_10 : decode cX2_below 10 = .ok (.aload_n 0, 1) := by decide +kernel
theorem dX2_below_11 : decode cX2_below 11 = .ok (.iload_n 2, 1) := by decide +kernel
theorem dX2_below_12 : decode cX2_below 12 = .ok (.invokevirtual 33, 3) := by decide +kernel
theorem dX2_below_15 : decode cX2_below 15 = .ok (.ishr, 1) := by decide +kernel
theorem dX2_below_16 : decode cX2_below 16 = .ok (.iconst 1, 1) := by decide +kernel
theorem dX2_below_17 : decode cX2_below 17 = .ok (.iand, 1) := by decide +kernel
theorem dX2_below_18 : decode cX2_below 18 = .ok (.ifCond .eq 7, 3) := by decide +kernel
theorem dX2_below_21 : decode cX2_below 21 = .ok (.iconst 1, 1) := by decide +kernel
theorem dX2_below_22 : decode cX2_below 22 = .ok (.goto 4, 3) := by decide +kernel
theorem dX2_below_25 : decode cX2_below 25 = .ok (.iconst 0, 1) := by decide +kernel
theorem dX2_below_26 : decode cX2_below 26 = .ok (.ireturn, 1) := by decide +kernel
abbrev cX2_width : ByteArray := prog_4_method_8_code
def yX2_width : MethodName := ⟨RX2, "width", "()I"⟩
theorem dX2_width_0 : decode cX2_width 0 = .ok (.aload_n 0, 1) := by decide +kernel
theorem dX2_width_1 : decode cX2_width 1 = .ok (.invokevirtual 49, 3) := by decide +kernel
theorem dX2_width_4 : decode cX2_width 4 = .ok (.aload_n 0, 1) := by decide +kernel
theorem dX2_width_5 : decode cX2_width 5 = .ok (.getfield 37, 3) := by decide +kernel
theorem dX2_width_8 : decode cX2_width 8 = .ok (.ireturn, 1) := by decide +kernel
abbrev cX2_reckon : ByteArray := prog_4_method_7_code
def yX2_reckon : MethodName := ⟨RX2, "reckon", "()V"⟩
theorem dX2_reckon_0 : decode cX2_reckon 0 = .ok (.aload_n 0, 1) := by decide +kernel
theorem dX2_reckon_1 : decode cX2_reckon 1 = .ok (.getfield 29, 3) := by decide +kernel
theorem dX2_reckon_4 : decode cX2_reckon 4 = .ok (.ifCond .eq 4, 3) := by decide +kernel
theorem dX2_reckon_7 : decode cX2_reckon 7 = .ok (.return_, 1) := by decide +kernel
theorem dX2_reckon_8 : decode cX2_reckon 8 = .ok (.aload_n 0, 1) := by decide +kernel
theorem dX2_reckon_9 : decode cX2_reckon 9 = .ok (.iconst 1, 1) := by decide +kernel
theorem dX2_reckon_10 : decode cX2_reckon 10 = .ok (.putfield 29, 3) := by decide +kernel
theorem dX2_reckon_13 : decode cX2_reckon 13 = .ok (.aload_n 0, 1) := by decide +kernel
theorem dX2_reckon_14 : decode cX2_reckon 14 = .ok (.iconst 0, 1) := by decide +kernel
theorem dX2_reckon_15 : decode cX2_reckon 15 = .ok (.putfield 37, 3) := by decide +kernel
theorem dX2_reckon_18 : decode cX2_reckon 18 = .ok (.aload_n 0, 1) := by decide +kernel
theorem dX2_reckon_19 : decode cX2_reckon 19 = .ok (.iconst 0, 1) := by decide +kernel
theorem dX2_reckon_20 : decode cX2_reckon 20 = .ok (.putfield 40, 3) := by decide +kernel
theorem dX2_reckon_23 : decode cX2_reckon 23 = .ok (.aload_n 0, 1) := by decide +kernel
theorem dX2_reckon_24 : decode cX2_reckon 24 = .ok (.iconst 0, 1) := by decide +kernel
theorem dX2_reckon_25 : decode cX2_reckon 25 = .ok (.putfield 43, 3) := by decide +kernel
theorem dX2_reckon_28 : decode cX2_reckon 28 = .ok (.iconst 0, 1) := by decide +kernel
theorem dX2_reckon_29 : decode cX2_reckon 29 = .ok (.istore_n 1, 1) := by decide +kernel
theorem dX2_reckon_30 : decode cX2_reckon 30 = .ok (.iload_n 1, 1) := by decide +kernel
theorem dX2_reckon_31 : decode cX2_reckon 31 = .ok (.iconst 1, 1) := by decide +kernel
theorem dX2_reckon_32 : decode cX2_reckon 32 = .ok (.aload_n 0, 1) := by decide +kernel
theorem dX2_reckon_33 : decode cX2_reckon 33 = .ok (.getfield 13, 3) := by decide +kernel
theorem dX2_reckon_36 : decode cX2_reckon 36 = .ok (.ishl, 1) := by decide +kernel
theorem dX2_reckon_37 : decode cX2_reckon 37 = .ok (.if_icmp .ge 291, 3) := by decide +kernel
theorem dX2_reckon_40 : decode cX2_reckon 40 = .ok (.iconst 1, 1) := by decide +kernel
theorem dX2_reckon_41 : decode cX2_reckon 41 = .ok (.istore_n 2, 1) := by decide +kernel
theorem dX2_reckon_42 : decode cX2_reckon 42 = .ok (.iconst 1, 1) := by decide +kernel
theorem dX2_reckon_43 : decode cX2_reckon 43 = .ok (.istore_n 3, 1) := by decide +kernel
theorem dX2_reckon_44 : decode cX2_reckon 44 = .ok (.iconst 1, 1) := by decide +kernel
theorem dX2_reckon_45 : decode cX2_reckon 45 = .ok (.istore 4, 2) := by decide +kernel
theorem dX2_reckon_47 : decode cX2_reckon 47 = .ok (.iload_n 1, 1) := by decide +kernel
theorem dX2_reckon_48 : decode cX2_reckon 48 = .ok (.ifCond .ne 7, 3) := by decide +kernel
theorem dX2_reckon_51 : decode cX2_reckon 51 = .ok (.lconst 1, 1) := by decide +kernel
theorem dX2_reckon_52 : decode cX2_reckon 52 = .ok (.goto 4, 3) := by decide +kernel
theorem dX2_reckon_55 : decode cX2_reckon 55 = .ok (.lconst 0, 1) := by decide +kernel
theorem dX2_reckon_56 : decode cX2_reckon 56 = .ok (.lstore 5, 2) := by decide +kernel
theorem dX2_reckon_58 : decode cX2_reckon 58 = .ok (.iconst 0, 1) := by decide +kernel
theorem dX2_reckon_59 : decode cX2_reckon 59 = .ok (.istore 7, 2) := by decide +kernel
theorem dX2_reckon_61 : decode cX2_reckon 61 = .ok (.iload 7, 2) := by decide +kernel
theorem dX2_reckon_63 : decode cX2_reckon 63 = .ok (.aload_n 0, 1) := by decide +kernel
theorem dX2_reckon_64 : decode cX2_reckon 64 = .ok (.getfield 13, 3) := by decide +kernel
theorem dX2_reckon_67 : decode cX2_reckon 67 = .ok (.if_icmp .ge 181, 3) := by decide +kernel
theorem dX2_reckon_70 : decode cX2_reckon 70 = .ok (.iload_n 1, 1) := by decide +kernel
theorem dX2_reckon_71 : decode cX2_reckon 71 = .ok (.iload 7, 2) := by decide +kernel
theorem dX2_reckon_73 : decode cX2_reckon 73 = .ok (.ishr, 1) := by decide +kernel
theorem dX2_reckon_74 : decode cX2_reckon 74 = .ok (.iconst 1, 1) := by decide +kernel
theorem dX2_reckon_75 : decode cX2_reckon 75 = .ok (.iand, 1) := by decide +kernel
theorem dX2_reckon_76 : decode cX2_reckon 76 = .ok (.ifCond .eq 142, 3) := by decide +kernel
theorem dX2_reckon_79 : decode cX2_reckon 79 = .ok (.iload_n 2, 1) := by decide +kernel
theorem dX2_reckon_80 : decode cX2_reckon 80 = .ok (.ifCond .eq 19, 3) := by decide +kernel
theorem dX2_reckon_83 : decode cX2_reckon 83 = .ok (.iload_n 1, 1) := by decide +kernel
theorem dX2_reckon_84 : decode cX2_reckon 84 = .ok (.aload_n 0, 1) := by decide +kernel
theorem dX2_reckon_85 : decode cX2_reckon 85 = .ok (.getfield 7, 3) := by decide +kernel
theorem dX2_reckon_88 : decode cX2_reckon 88 = .ok (.iload 7, 2) := by decide +kernel
theorem dX2_reckon_90 : decode cX2_reckon 90 = .ok (.iaload, 1) := by decide +kernel
theorem dX2_reckon_91 : decode cX2_reckon 91 = .ok (.iand, 1) := by decide +kernel
theorem dX2_reckon_92 : decode cX2_reckon 92 = .ok (.ifCond .ne 7, 3) := by decide +kernel
theorem dX2_reckon_95 : decode cX2_reckon 95 = .ok (.iconst 1, 1) := by decide +kernel
theorem dX2_reckon_96 : decode cX2_reckon 96 = .ok (.goto 4, 3) := by decide +kernel
theorem dX2_reckon_99 : decode cX2_reckon 99 = .ok (.iconst 0, 1) := by decide +kernel
theorem dX2_reckon_100 : decode cX2_reckon 100 = .ok (.istore_n 2, 1) := by decide +kernel
theorem dX2_reckon_101 : decode cX2_reckon 101 = .ok (.aload_n 0, 1) := by decide +kernel
theorem dX2_reckon_102 : decode cX2_reckon 102 = .ok (.getfield 7, 3) := by decide +kernel
theorem dX2_reckon_105 : decode cX2_reckon 105 = .ok (.iload 7, 2) := by decide +kernel
theorem dX2_reckon_107 : decode cX2_reckon 107 = .ok (.iaload, 1) := by decide +kernel
theorem dX2_reckon_108 : decode cX2_reckon 108 = .ok (.iconst 1, 1) := by decide +kernel
theorem dX2_reckon_109 : decode cX2_reckon 109 = .ok (.iload 7, 2) := by decide +kernel
theorem dX2_reckon_111 : decode cX2_reckon 111 = .ok (.ishl, 1) := by decide +kernel
theorem dX2_reckon_112 : decode cX2_reckon 112 = .ok (.ior, 1) := by decide +kernel
theorem dX2_reckon_113 : decode cX2_reckon 113 = .ok (.istore 8, 2) := by decide +kernel
theorem dX2_reckon_115 : decode cX2_reckon 115 = .ok (.iconst 0, 1) := by decide +kernel
theorem dX2_reckon_116 : decode cX2_reckon 116 = .ok (.istore 9, 2) := by decide +kernel
theorem dX2_reckon_118 : decode cX2_reckon 118 = .ok (.iload 9, 2) := by decide +kernel
theorem dX2_reckon_120 : decode cX2_reckon 120 = .ok (.aload_n 0, 1) := by decide +kernel
theorem dX2_reckon_121 : decode cX2_reckon 121 = .ok (.getfield 13, 3) := by decide +kernel
theorem dX2_reckon_124 : decode cX2_reckon 124 = .ok (.if_icmp .ge 42, 3) := by decide +kernel
theorem dX2_reckon_127 : decode cX2_reckon 127 = .ok (.iload_n 1, 1) := by decide +kernel
theorem dX2_reckon_128 : decode cX2_reckon 128 = .ok (.iload 9, 2) := by decide +kernel
theorem dX2_reckon_130 : decode cX2_reckon 130 = .ok (.ishr, 1) := by decide +kernel
theorem dX2_reckon_131 : decode cX2_reckon 131 = .ok (.iconst 1, 1) := by decide +kernel
theorem dX2_reckon_132 : decode cX2_reckon 132 = .ok (.iand, 1) := by decide +kernel
theorem dX2_reckon_133 : decode cX2_reckon 133 = .ok (.ifCond .eq 27, 3) := by decide +kernel
theorem dX2_reckon_136 : decode cX2_reckon 136 = .ok (.aload_n 0, 1) := by decide +kernel
theorem dX2_reckon_137 : decode cX2_reckon 137 = .ok (.getfield 7, 3) := by decide +kernel
theorem dX2_reckon_140 : decode cX2_reckon 140 = .ok (.iload 9, 2) := by decide +kernel
theorem dX2_reckon_142 : decode cX2_reckon 142 = .ok (.iaload, 1) := by decide +kernel
theorem dX2_reckon_143 : decode cX2_reckon 143 = .ok (.iload 7, 2) := by decide +kernel
theorem dX2_reckon_145 : decode cX2_reckon 145 = .ok (.ishr, 1) := by decide +kernel
theorem dX2_reckon_146 : decode cX2_reckon 146 = .ok (.iconst 1, 1) := by decide +kernel
theorem dX2_reckon_147 : decode cX2_reckon 147 = .ok (.iand, 1) := by decide +kernel
theorem dX2_reckon_148 : decode cX2_reckon 148 = .ok (.ifCond .eq 12, 3) := by decide +kernel
theorem dX2_reckon_151 : decode cX2_reckon 151 = .ok (.iload 8, 2) := by decide +kernel
theorem dX2_reckon_153 : decode cX2_reckon 153 = .ok (.iconst 1, 1) := by decide +kernel
theorem dX2_reckon_154 : decode cX2_reckon 154 = .ok (.iload 9, 2) := by decide +kernel
theorem dX2_reckon_156 : decode cX2_reckon 156 = .ok (.ishl, 1) := by decide +kernel
theorem dX2_reckon_157 : decode cX2_reckon 157 = .ok (.ior, 1) := by decide +kernel
theorem dX2_reckon_158 : decode cX2_reckon 158 = .ok (.istore 8, 2) := by decide +kernel
theorem dX2_reckon_160 : decode cX2_reckon 160 = .ok (.iinc 9 1, 3) := by decide +kernel
theorem dX2_reckon_163 : decode cX2_reckon 163 = .ok (.goto (-45), 3) := by decide +kernel
theorem dX2_reckon_166 : decode cX2_reckon 166 = .ok (.iload_n 3, 1) := by decide +kernel
theorem dX2_reckon_167 : decode cX2_reckon 167 = .ok (.ifCond .eq 16, 3) := by decide +kernel
theorem dX2_reckon_170 : decode cX2_reckon 170 = .ok (.iload_n 1, 1) := by decide +kernel
theorem dX2_reckon_171 : decode cX2_reckon 171 = .ok (.iload 8, 2) := by decide +kernel
theorem dX2_reckon_173 : decode cX2_reckon 173 = .ok (.iconst (-1), 1) := by decide +kernel
theorem dX2_reckon_174 : decode cX2_reckon 174 = .ok (.ixor, 1) := by decide +kernel
theorem dX2_reckon_175 : decode cX2_reckon 175 = .ok (.iand, 1) := by decide +kernel
theorem dX2_reckon_176 : decode cX2_reckon 176 = .ok (.ifCond .ne 7, 3) := by decide +kernel
theorem dX2_reckon_179 : decode cX2_reckon 179 = .ok (.iconst 1, 1) := by decide +kernel
theorem dX2_reckon_180 : decode cX2_reckon 180 = .ok (.goto 4, 3) := by decide +kernel
theorem dX2_reckon_183 : decode cX2_reckon 183 = .ok (.iconst 0, 1) := by decide +kernel
theorem dX2_reckon_184 : decode cX2_reckon 184 = .ok (.istore_n 3, 1) := by decide +kernel
theorem dX2_reckon_185 : decode cX2_reckon 185 = .ok (.iload_n 1, 1) := by decide +kernel
theorem dX2_reckon_186 : decode cX2_reckon 186 = .ok (.aload_n 0, 1) := by decide +kernel
theorem dX2_reckon_187 : decode cX2_reckon 187 = .ok (.getfield 7, 3) := by decide +kernel
theorem dX2_reckon_190 : decode cX2_reckon 190 = .ok (.iload 7, 2) := by decide +kernel
theorem dX2_reckon_192 : decode cX2_reckon 192 = .ok (.iaload, 1) := by decide +kernel
theorem dX2_reckon_193 : decode cX2_reckon 193 = .ok (.iand, 1) := by decide +kernel
theorem dX2_reckon_194 : decode cX2_reckon 194 = .ok (.ifCond .ne 21, 3) := by decide +kernel
theorem dX2_reckon_197 : decode cX2_reckon 197 = .ok (.lload 5, 2) := by decide +kernel
theorem dX2_reckon_199 : decode cX2_reckon 199 = .ok (.aload_n 0, 1) := by decide +kernel
theorem dX2_reckon_200 : decode cX2_reckon 200 = .ok (.getfield 24, 3) := by decide +kernel
theorem dX2_reckon_203 : decode cX2_reckon 203 = .ok (.iload_n 1, 1) := by decide +kernel
theorem dX2_reckon_204 : decode cX2_reckon 204 = .ok (.iconst 1, 1) := by decide +kernel
theorem dX2_reckon_205 : decode cX2_reckon 205 = .ok (.iload 7, 2) := by decide +kernel
theorem dX2_reckon_207 : decode cX2_reckon 207 = .ok (.ishl, 1) := by decide +kernel
theorem dX2_reckon_208 : decode cX2_reckon 208 = .ok (.iconst (-1), 1) := by decide +kernel
theorem dX2_reckon_209 : decode cX2_reckon 209 = .ok (.ixor, 1) := by decide +kernel
theorem dX2_reckon_210 : decode cX2_reckon 210 = .ok (.iand, 1) := by decide +kernel
theorem dX2_reckon_211 : decode cX2_reckon 211 = .ok (.laload, 1) := by decide +kernel
theorem dX2_reckon_212 : decode cX2_reckon 212 = .ok (.ladd, 1) := by decide +kernel
theorem dX2_reckon_213 : decode cX2_reckon 213 = .ok (.lstore 5, 2) := by decide +kernel
theorem dX2_reckon_215 : decode cX2_reckon 215 = .ok (.goto 27, 3) := by decide +kernel
theorem dX2_reckon_218 : decode cX2_reckon 218 = .ok (.iload 4, 2) := by decide +kernel
theorem dX2_reckon_220 : decode cX2_reckon 220 = .ok (.ifCond .eq 19, 3) := by decide +kernel
theorem dX2_reckon_223 : decode cX2_reckon 223 = .ok (.iload_n 1, 1) := by decide +kernel
theorem dX2_reckon_224 : decode cX2_reckon 224 = .ok (.aload_n 0, 1) := by decide +kernel
theorem dX2_reckon_225 : decode cX2_reckon 225 = .ok (.getfield 7, 3) := by decide +kernel
theorem dX2_reckon_228 : decode cX2_reckon 228 = .ok (.iload 7, 2) := by decide +kernel
theorem dX2_reckon_230 : decode cX2_reckon 230 = .ok (.iaload, 1) := by decide +kernel
theorem dX2_reckon_231 : decode cX2_reckon 231 = .ok (.iand, 1) := by decide +kernel
theorem dX2_reckon_232 : decode cX2_reckon 232 = .ok (.ifCond .ne 7, 3) := by decide +kernel
theorem dX2_reckon_235 : decode cX2_reckon 235 = .ok (.iconst 1, 1) := by decide +kernel
theorem dX2_reckon_236 : decode cX2_reckon 236 = .ok (.goto 4, 3) := by decide +kernel
theorem dX2_reckon_239 : decode cX2_reckon 239 = .ok (.iconst 0, 1) := by decide +kernel
theorem dX2_reckon_240 : decode cX2_reckon 240 = .ok (.istore 4, 2) := by decide +kernel
theorem dX2_reckon_242 : decode cX2_reckon 242 = .ok (.iinc 7 1, 3) := by decide +kernel
theorem dX2_reckon_245 : decode cX2_reckon 245 = .ok (.goto (-184), 3) := by decide +kernel
theorem dX2_reckon_248 : decode cX2_reckon 248 = .ok (.aload_n 0, 1) := by decide +kernel
theorem dX2_reckon_249 : decode cX2_reckon 249 = .ok (.getfield 24, 3) := by decide +kernel
theorem dX2_reckon_252 : decode cX2_reckon 252 = .ok (.iload_n 1, 1) := by decide +kernel
theorem dX2_reckon_253 : decode cX2_reckon 253 = .ok (.lload 5, 2) := by decide +kernel
theorem dX2_reckon_255 : decode cX2_reckon 255 = .ok (.lastore, 1) := by decide +kernel
theorem dX2_reckon_256 : decode cX2_reckon 256 = .ok (.aload_n 0, 1) := by decide +kernel
theorem dX2_reckon_257 : decode cX2_reckon 257 = .ok (.getfield 20, 3) := by decide +kernel
theorem dX2_reckon_260 : decode cX2_reckon 260 = .ok (.iload_n 1, 1) := by decide +kernel
theorem dX2_reckon_261 : decode cX2_reckon 261 = .ok (.iload_n 3, 1) := by decide +kernel
theorem dX2_reckon_262 : decode cX2_reckon 262 = .ok (.bastore, 1) := by decide +kernel
theorem dX2_reckon_263 : decode cX2_reckon 263 = .ok (.iload_n 1, 1) := by decide +kernel
theorem dX2_reckon_264 : decode cX2_reckon 264 = .ok (.invokestatic 46, 3) := by decide +kernel
theorem dX2_reckon_267 : decode cX2_reckon 267 = .ok (.istore 7, 2) := by decide +kernel
theorem dX2_reckon_269 : decode cX2_reckon 269 = .ok (.iload_n 2, 1) := by decide +kernel
theorem dX2_reckon_270 : decode cX2_reckon 270 = .ok (.ifCond .eq 18, 3) := by decide +kernel
theorem dX2_reckon_273 : decode cX2_reckon 273 = .ok (.iload 7, 2) := by decide +kernel
theorem dX2_reckon_275 : decode cX2_reckon 275 = .ok (.aload_n 0, 1) := by decide +kernel
theorem dX2_reckon_276 : decode cX2_reckon 276 = .ok (.getfield 37, 3) := by decide +kernel
theorem dX2_reckon_279 : decode cX2_reckon 279 = .ok (.if_icmp .le 9, 3) := by decide +kernel
theorem dX2_reckon_282 : decode cX2_reckon 282 = .ok (.aload_n 0, 1) := by decide +kernel
theorem dX2_reckon_283 : decode cX2_reckon 283 = .ok (.iload 7, 2) := by decide +kernel
theorem dX2_reckon_285 : decode cX2_reckon 285 = .ok (.putfield 37, 3) := by decide +kernel
theorem dX2_reckon_288 : decode cX2_reckon 288 = .ok (.iload_n 3, 1) := by decide +kernel
theorem dX2_reckon_289 : decode cX2_reckon 289 = .ok (.ifCond .eq 18, 3) := by decide +kernel
theorem dX2_reckon_292 : decode cX2_reckon 292 = .ok (.iload 7, 2) := by decide +kernel
theorem dX2_reckon_294 : decode cX2_reckon 294 = .ok (.aload_n 0, 1) := by decide +kernel
theorem dX2_reckon_295 : decode cX2_reckon 295 = .ok (.getfield 40, 3) := by decide +kernel
theorem dX2_reckon_298 : decode cX2_reckon 298 = .ok (.if_icmp .le 9, 3) := by decide +kernel
theorem dX2_reckon_301 : decode cX2_reckon 301 = .ok (.aload_n 0, 1) := by decide +kernel
theorem dX2_reckon_302 : decode cX2_reckon 302 = .ok (.iload 7, 2) := by decide +kernel
theorem dX2_reckon_304 : decode cX2_reckon 304 = .ok (.putfield 40, 3) := by decide +kernel
theorem dX2_reckon_307 : decode cX2_reckon 307 = .ok (.iload 4, 2) := by decide +kernel
theorem dX2_reckon_309 : decode cX2_reckon 309 = .ok (.ifCond .eq 13, 3) := by decide +kernel
theorem dX2_reckon_312 : decode cX2_reckon 312 = .ok (.aload_n 0, 1) := by decide +kernel
theorem dX2_reckon_313 : decode cX2_reckon 313 = .ok (.aload_n 0, 1) := by decide +kernel
theorem dX2_reckon_314 : decode cX2_reckon 314 = .ok (.getfield 43, 3) := by decide +kernel
theorem dX2_reckon_317 : decode cX2_reckon 317 = .ok (.iconst 1, 1) := by decide +kernel
theorem dX2_reckon_318 : decode cX2_reckon 318 = .ok (.iadd, 1) := by decide +kernel
theorem dX2_reckon_319 : decode cX2_reckon 319 = .ok (.putfield 43, 3) := by decide +kernel
theorem dX2_reckon_322 : decode cX2_reckon 322 = .ok (.iinc 1 1, 3) := by decide +kernel
theorem dX2_reckon_325 : decode cX2_reckon 325 = .ok (.goto (-295), 3) := by decide +kernel
theorem dX2_reckon_328 : decode cX2_reckon 328 = .ok (.aload_n 0, 1) := by decide +kernel
theorem dX2_reckon_329 : decode cX2_reckon 329 = .ok (.getfield 17, 3) := by decide +kernel
theorem dX2_reckon_332 : decode cX2_reckon 332 = .ok (.iconst 0, 1) := by decide +kernel
theorem dX2_reckon_333 : decode cX2_reckon 333 = .ok (.iconst 0, 1) := by decide +kernel
theorem dX2_reckon_334 : decode cX2_reckon 334 = .ok (.iastore, 1) := by decide +kernel
theorem dX2_reckon_335 : decode cX2_reckon 335 = .ok (.iconst 1, 1) := by decide +kernel
theorem dX2_reckon_336 : decode cX2_reckon 336 = .ok (.istore_n 1, 1) := by decide +kernel
theorem dX2_reckon_337 : decode cX2_reckon 337 = .ok (.iload_n 1, 1) := by decide +kernel
theorem dX2_reckon_338 : decode cX2_reckon 338 = .ok (.iconst 1, 1) := by decide +kernel
theorem dX2_reckon_339 : decode cX2_reckon 339 = .ok (.aload_n 0, 1) := by decide +kernel
theorem dX2_reckon_340 : decode cX2_reckon 340 = .ok (.getfield 13, 3) := by decide +kernel
theorem dX2_reckon_343 : decode cX2_reckon 343 = .ok (.ishl, 1) := by decide +kernel
theorem dX2_reckon_344 : decode cX2_reckon 344 = .ok (.if_icmp .ge 80, 3) := by decide +kernel
theorem dX2_reckon_347 : decode cX2_reckon 347 = .ok (.aload_n 0, 1) := by decide +kernel
theorem dX2_reckon_348 : decode cX2_reckon 348 = .ok (.getfield 17, 3) := by decide +kernel
theorem dX2_reckon_351 : decode cX2_reckon 351 = .ok (.iload_n 1, 1) := by decide +kernel
theorem dX2_reckon_352 : decode cX2_reckon 352 = .ok (.bipush 99, 2) := by decide +kernel
theorem dX2_reckon_354 : decode cX2_reckon 354 = .ok (.iastore, 1) := by decide +kernel
theorem dX2_reckon_355 : decode cX2_reckon 355 = .ok (.iload_n 1, 1) := by decide +kernel
theorem dX2_reckon_356 : decode cX2_reckon 356 = .ok (.istore_n 2, 1) := by decide +kernel
theorem dX2_reckon_357 : decode cX2_reckon 357 = .ok (.iload_n 2, 1) := by decide +kernel
theorem dX2_reckon_358 : decode cX2_reckon 358 = .ok (.ifCond .le 60, 3) := by decide +kernel
theorem dX2_reckon_361 : decode cX2_reckon 361 = .ok (.aload_n 0, 1) := by decide +kernel
theorem dX2_reckon_362 : decode cX2_reckon 362 = .ok (.getfield 20, 3) := by decide +kernel
theorem dX2_reckon_365 : decode cX2_reckon 365 = .ok (.iload_n 2, 1) := by decide +kernel
theorem dX2_reckon_366 : decode cX2_reckon 366 = .ok (.baload, 1) := by decide +kernel
theorem dX2_reckon_367 : decode cX2_reckon 367 = .ok (.ifCond .eq 42, 3) := by decide +kernel
theorem dX2_reckon_370 : decode cX2_reckon 370 = .ok (.aload_n 0, 1) := by decide +kernel
theorem dX2_reckon_371 : decode cX2_reckon 371 = .ok (.getfield 17, 3) := by decide +kernel
theorem dX2_reckon_374 : decode cX2_reckon 374 = .ok (.iload_n 1, 1) := by decide +kernel
theorem dX2_reckon_375 : decode cX2_reckon 375 = .ok (.iload_n 2, 1) := by decide +kernel
theorem dX2_reckon_376 : decode cX2_reckon 376 = .ok (.iconst (-1), 1) := by decide +kernel
theorem dX2_reckon_377 : decode cX2_reckon 377 = .ok (.ixor, 1) := by decide +kernel
theorem dX2_reckon_378 : decode cX2_reckon 378 = .ok (.iand, 1) := by decide +kernel
theorem dX2_reckon_379 : decode cX2_reckon 379 = .ok (.iaload, 1) := by decide +kernel
theorem dX2_reckon_380 : decode cX2_reckon 380 = .ok (.iconst 1, 1) := by decide +kernel
theorem dX2_reckon_381 : decode cX2_reckon 381 = .ok (.iadd, 1) := by decide +kernel
theorem dX2_reckon_382 : decode cX2_reckon 382 = .ok (.aload_n 0, 1) := by decide +kernel
theorem dX2_reckon_383 : decode cX2_reckon 383 = .ok (.getfield 17, 3) := by decide +kernel
theorem dX2_reckon_386 : decode cX2_reckon 386 = .ok (.iload_n 1, 1) := by decide +kernel
theorem dX2_reckon_387 : decode cX2_reckon 387 = .ok (.iaload, 1) := by decide +kernel
theorem dX2_reckon_388 : decode cX2_reckon 388 = .ok (.if_icmp .ge 21, 3) := by decide +kernel
theorem dX2_reckon_391 : decode cX2_reckon 391 = .ok (.aload_n 0, 1) := by decide +kernel
theorem dX2_reckon_392 : decode cX2_reckon 392 = .ok (.getfield 17, 3) := by decide +kernel
theorem dX2_reckon_395 : decode cX2_reckon 395 = .ok (.iload_n 1, 1) := by decide +kernel
theorem dX2_reckon_396 : decode cX2_reckon 396 = .ok (.aload_n 0, 1) := by decide +kernel
theorem dX2_reckon_397 : decode cX2_reckon 397 = .ok (.getfield 17, 3) := by decide +kernel
theorem dX2_reckon_400 : decode cX2_reckon 400 = .ok (.iload_n 1, 1) := by decide +kernel
theorem dX2_reckon_401 : decode cX2_reckon 401 = .ok (.iload_n 2, 1) := by decide +kernel
theorem dX2_reckon_402 : decode cX2_reckon 402 = .ok (.iconst (-1), 1) := by decide +kernel
theorem dX2_reckon_403 : decode cX2_reckon 403 = .ok (.ixor, 1) := by decide +kernel
theorem dX2_reckon_404 : decode cX2_reckon 404 = .ok (.iand, 1) := by decide +kernel
theorem dX2_reckon_405 : decode cX2_reckon 405 = .ok (.iaload, 1) := by decide +kernel
theorem dX2_reckon_406 : decode cX2_reckon 406 = .ok (.iconst 1, 1) := by decide +kernel
theorem dX2_reckon_407 : decode cX2_reckon 407 = .ok (.iadd, 1) := by decide +kernel
theorem dX2_reckon_408 : decode cX2_reckon 408 = .ok (.iastore, 1) := by decide +kernel
theorem dX2_reckon_409 : decode cX2_reckon 409 = .ok (.iload_n 2, 1) := by decide +kernel
theorem dX2_reckon_410 : decode cX2_reckon 410 = .ok (.iconst 1, 1) := by decide +kernel
theorem dX2_reckon_411 : decode cX2_reckon 411 = .ok (.isub, 1) := by decide +kernel
theorem dX2_reckon_412 : decode cX2_reckon 412 = .ok (.iload_n 1, 1) := by decide +kernel
theorem dX2_reckon_413 : decode cX2_reckon 413 = .ok (.iand, 1) := by decide +kernel
theorem dX2_reckon_414 : decode cX2_reckon 414 = .ok (.istore_n 2, 1) := by decide +kernel
theorem dX2_reckon_415 : decode cX2_reckon 415 = .ok (.goto (-58), 3) := by decide +kernel
theorem dX2_reckon_418 : decode cX2_reckon 418 = .ok (.iinc 1 1, 3) := by decide +kernel
theorem dX2_reckon_421 : decode cX2_reckon 421 = .ok (.goto (-84), 3) := by decide +kernel
theorem dX2_reckon_424 : decode cX2_reckon 424 = .ok (.return_, 1) := by decide +kernel
abbrev cX2_count : ByteArray := prog_4_method_6_code
def yX2_count : MethodName := ⟨RX2, "count", "(I)I"⟩
theorem dX2_count_0 : decode cX2_count 0 = .ok (.iconst 0, 1) := by decide +kernel
theorem dX2_count_1 : decode cX2_count 1 = .ok (.istore_n 1, 1) := by decide +kernel
theorem dX2_count_2 : decode cX2_count 2 = .ok (.iload_n 0, 1) := by decide +kernel
theorem dX2_count_3 : decode cX2_count 3 = .ok (.istore_n 2, 1) := by decide +kernel
theorem dX2_count_4 : decode cX2_count 4 = .ok (.iload_n 2, 1) := by decide +kernel
theorem dX2_count_5 : decode cX2_count 5 = .ok (.ifCond .eq 16, 3) := by decide +kernel
theorem dX2_count_8 : decode cX2_count 8 = .ok (.iload_n 2, 1) := by decide +kernel
theorem dX2_count_9 : decode cX2_count 9 = .ok (.iload_n 2, 1) := by decide +kernel
theorem dX2_count_10 : decode cX2_count 10 = .ok (.iconst 1, 1) := by decide +kernel
theorem dX2_count_11 : decode cX2_count 11 = .ok (.isub, 1) := by decide +kernel
theorem dX2_count_12 : decode cX2_count 12 = .ok (.iand, 1) := by decide +kernel
theorem dX2_count_13 : decode cX2_count 13 = .ok (.istore_n 2, 1) := by decide +kernel
theorem dX2_count_14 : decode cX2_count 14 = .ok (.iload_n 1, 1) := by decide +kernel
theorem dX2_count_15 : decode cX2_count 15 = .ok (.iconst 1, 1) := by decide +kernel
theorem dX2_count_16 : decode cX2_count 16 = .ok (.iadd, 1) := by decide +kernel
theorem dX2_count_17 : decode cX2_count 17 = .ok (.istore_n 1, 1) := by decide +kernel
theorem dX2_count_18 : decode cX2_count 18 = .ok (.goto (-14), 3) := by decide +kernel
theorem dX2_count_21 : decode cX2_count 21 = .ok (.iload_n 1, 1) := by decide +kernel
theorem dX2_count_22 : decode cX2_count 22 = .ok (.ireturn, 1) := by decide +kernel
abbrev cX2_height : ByteArray := prog_4_method_9_code
def yX2_height : MethodName := ⟨RX2, "height", "()I"⟩
theorem dX2_height_0 : decode cX2_height 0 = .ok (.aload_n 0, 1) := by decide +kernel
theorem dX2_height_1 : decode cX2_height 1 = .ok (.invokevirtual 49, 3) := by decide +kernel
theorem dX2_height_4 : decode cX2_height 4 = .ok (.aload_n 0, 1) := by decide +kernel
theorem dX2_height_5 : decode cX2_height 5 = .ok (.getfield 40, 3) := by decide +kernel
theorem dX2_height_8 : decode cX2_height 8 = .ok (.ireturn, 1) := by decide +kernel
abbrev cX2_cover : ByteArray := prog_4_method_10_code
def yX2_cover : MethodName := ⟨RX2, "cover", "()I"⟩
theorem dX2_cover_0 : decode cX2_cover 0 = .ok (.aload_n 0, 1) := by decide +kernel
theorem dX2_cover_1 : decode cX2_cover 1 = .ok (.invokevirtual 49, 3) := by decide +kernel
theorem dX2_cover_4 : decode cX2_cover 4 = .ok (.aload_n 0, 1) := by decide +kernel
theorem dX2_cover_5 : decode cX2_cover 5 = .ok (.getfield 17, 3) := by decide +kernel
theorem dX2_cover_8 : decode cX2_cover 8 = .ok (.iconst 1, 1) := by decide +kernel
theorem dX2_cover_9 : decode cX2_cover 9 = .ok (.aload_n 0, 1) := by decide +kernel
theorem dX2_cover_10 : decode cX2_cover 10 = .ok (.getfield 13, 3) := by decide +kernel
theorem dX2_cover_13 : decode cX2_cover 13 = .ok (.ishl, 1) := by decide +kernel
theorem dX2_cover_14 : decode cX2_cover 14 = .ok (.iconst 1, 1) := by decide +kernel
theorem dX2_cover_15 : decode cX2_cover 15 = .ok (.isub, 1) := by decide +kernel
theorem dX2_cover_16 : decode cX2_cover 16 = .ok (.iaload, 1) := by decide +kernel
theorem dX2_cover_17 : decode cX2_cover 17 = .ok (.ireturn, 1) := by decide +kernel
abbrev cX2_rows : ByteArray := prog_4_method_11_code
def yX2_rows : MethodName := ⟨RX2, "rows", "()J"⟩
theorem dX2_rows_0 : decode cX2_rows 0 = .ok (.aload_n 0, 1) := by decide +kernel
theorem dX2_rows_1 : decode cX2_rows 1 = .ok (.invokevirtual 49, 3) := by decide +kernel
theorem dX2_rows_4 : decode cX2_rows 4 = .ok (.aload_n 0, 1) := by decide +kernel
theorem dX2_rows_5 : decode cX2_rows 5 = .ok (.getfield 24, 3) := by decide +kernel
theorem dX2_rows_8 : decode cX2_rows 8 = .ok (.iconst 1, 1) := by decide +kernel
theorem dX2_rows_9 : decode cX2_rows 9 = .ok (.aload_n 0, 1) := by decide +kernel
theorem dX2_rows_10 : decode cX2_rows 10 = .ok (.getfield 13, 3) := by decide +kernel
theorem dX2_rows_13 : decode cX2_rows 13 = .ok (.ishl, 1) := by decide +kernel
theorem dX2_rows_14 : decode cX2_rows 14 = .ok (.iconst 1, 1) := by decide +kernel
theorem dX2_rows_15 : decode cX2_rows 15 = .ok (.isub, 1) := by decide +kernel
theorem dX2_rows_16 : decode cX2_rows 16 = .ok (.laload, 1) := by decide +kernel
theorem dX2_rows_17 : decode cX2_rows 17 = .ok (.lreturn, 1) := by decide +kernel
abbrev cX2_closed : ByteArray := prog_4_method_12_code
def yX2_closed : MethodName := ⟨RX2, "closed", "()I"⟩
theorem dX2_closed_0 : decode cX2_closed 0 = .ok (.aload_n 0, 1) := by decide +kernel
theorem dX2_closed_1 : decode cX2_closed 1 = .ok (.invokevirtual 49, 3) := by decide +kernel
theorem dX2_closed_4 : decode cX2_closed 4 = .ok (.aload_n 0, 1) := by decide +kernel
theorem dX2_closed_5 : decode cX2_closed 5 = .ok (.getfield 43, 3) := by decide +kernel
theorem dX2_closed_8 : decode cX2_closed 8 = .ok (.ireturn, 1) := by decide +kernel
theorem q8 : (Jvm.Cond.initialized "LayersDeskModel") ∈ lw_all := lw_g (lw_at lw_m0 3 rfl) rfl
theorem q102 : (Jvm.Cond.instantiable "LayersDeskModel" (9 : Nat)) ∈ lw_all := lw_g (lw_at lw_m0 97 rfl) rfl
theorem q104 : (Jvm.Cond.instanceMethod ({ cls := "LayersDeskModel", name := "<init>", desc := "()V" } : Jvm.MethodName)) ∈ lw_all := lw_g (lw_at lw_m0 99 rfl) rfl
theorem q105 : (Jvm.Cond.code ({ cls := "LayersDeskModel", name := "<init>", desc := "()V" } : Jvm.MethodName) prog_4_method_1_code (1 : Nat) (Option.none : Option Jvm.ClassFile.FieldType)) ∈ lw_all := lw_g (lw_at lw_m0 100 rfl) rfl
theorem q106 : (Jvm.Cond.methodLink "LayersDeskModel" (1 : Nat) ({ cls := "java/lang/Object", name := "<init>", desc := "()V" } : Jvm.MethodName)) ∈ lw_all := lw_g (lw_at lw_m0 101 rfl) rfl
theorem q107 : (Jvm.Cond.fieldLink "LayersDeskModel" (7 : Nat) "LayersDeskModel" "up" "[I") ∈ lw_all := lw_g (lw_at lw_m0 102 rfl) rfl
theorem q108 : (Jvm.Cond.fieldLink "LayersDeskModel" (13 : Nat) "LayersDeskModel" "n" "I") ∈ lw_all := lw_g (lw_at lw_m0 103 rfl) rfl
theorem q109 : (Jvm.Cond.fieldLink "LayersDeskModel" (29 : Nat) "LayersDeskModel" "known" "Z") ∈ lw_all := lw_g (lw_at lw_m0 104 rfl) rfl
theorem q110 : (Jvm.Cond.fieldLink "LayersDeskModel" (37 : Nat) "LayersDeskModel" "width" "I") ∈ lw_all := lw_g (lw_at lw_m0 105 rfl) rfl
theorem q111 : (Jvm.Cond.fieldLink "LayersDeskModel" (40 : Nat) "LayersDeskModel" "height" "I") ∈ lw_all := lw_g (lw_at lw_m0 106 rfl) rfl
theorem q112 : (Jvm.Cond.fieldLink "LayersDeskModel" (43 : Nat) "LayersDeskModel" "closed" "I") ∈ lw_all := lw_g (lw_at lw_m0 107 rfl) rfl
theorem q113 : (Jvm.Cond.fieldLink "LayersDeskModel" (17 : Nat) "LayersDeskModel" "least" "[I") ∈ lw_all := lw_g (lw_at lw_m0 108 rfl) rfl
theorem q114 : (Jvm.Cond.fieldLink "LayersDeskModel" (20 : Nat) "LayersDeskModel" "chain" "[Z") ∈ lw_all := lw_g (lw_at lw_m0 109 rfl) rfl
theorem q115 : (Jvm.Cond.fieldLink "LayersDeskModel" (24 : Nat) "LayersDeskModel" "ways" "[J") ∈ lw_all := lw_g (lw_at lw_m0 110 rfl) rfl
theorem q116 : (Jvm.Cond.laysFinal "LayersDeskModel" "LayersDeskModel" "up" "[I") ∈ lw_all := lw_g (lw_at lw_m0 111 rfl) rfl
theorem q117 : (Jvm.Cond.soleField "LayersDeskModel" "up") ∈ lw_all := lw_g (lw_at lw_m0 112 rfl) rfl
theorem q118 : (Jvm.Cond.lays "LayersDeskModel" "LayersDeskModel" "n" "I") ∈ lw_all := lw_g (lw_at lw_m0 113 rfl) rfl
theorem q119 : (Jvm.Cond.soleField "LayersDeskModel" "n") ∈ lw_all := lw_g (lw_at lw_m0 114 rfl) rfl
theorem q120 : (Jvm.Cond.lays "LayersDeskModel" "LayersDeskModel" "known" "Z") ∈ lw_all := lw_g (lw_at lw_m0 115 rfl) rfl
theorem q121 : (Jvm.Cond.soleField "LayersDeskModel" "known") ∈ lw_all := lw_g (lw_at lw_m0 116 rfl) rfl
theorem q122 : (Jvm.Cond.lays "LayersDeskModel" "LayersDeskModel" "width" "I") ∈ lw_all := lw_g (lw_at lw_m0 117 rfl) rfl
theorem q123 : (Jvm.Cond.soleField "LayersDeskModel" "width") ∈ lw_all := lw_g (lw_at lw_m0 118 rfl) rfl
theorem q124 : (Jvm.Cond.lays "LayersDeskModel" "LayersDeskModel" "height" "I") ∈ lw_all := lw_g (lw_at lw_m0 119 rfl) rfl
theorem q125 : (Jvm.Cond.soleField "LayersDeskModel" "height") ∈ lw_all := lw_g (lw_at lw_m0 120 rfl) rfl
theorem q126 : (Jvm.Cond.lays "LayersDeskModel" "LayersDeskModel" "closed" "I") ∈ lw_all := lw_g (lw_at lw_m0 121 rfl) rfl
theorem q127 : (Jvm.Cond.soleField "LayersDeskModel" "closed") ∈ lw_all := lw_g (lw_at lw_m0 122 rfl) rfl
theorem q128 : (Jvm.Cond.laysFinal "LayersDeskModel" "LayersDeskModel" "least" "[I") ∈ lw_all := lw_g (lw_at lw_m0 123 rfl) rfl
theorem q129 : (Jvm.Cond.soleField "LayersDeskModel" "least") ∈ lw_all := lw_g (lw_at lw_m0 124 rfl) rfl
theorem q130 : (Jvm.Cond.laysFinal "LayersDeskModel" "LayersDeskModel" "chain" "[Z") ∈ lw_all := lw_g (lw_at lw_m0 125 rfl) rfl
theorem q131 : (Jvm.Cond.soleField "LayersDeskModel" "chain") ∈ lw_all := lw_g (lw_at lw_m0 126 rfl) rfl
theorem q132 : (Jvm.Cond.laysFinal "LayersDeskModel" "LayersDeskModel" "ways" "[J") ∈ lw_all := lw_g (lw_at lw_m0 127 rfl) rfl
theorem q133 : (Jvm.Cond.soleField "LayersDeskModel" "ways") ∈ lw_all := lw_g (lw_at lw_m0 128 rfl) rfl
theorem q134 : (Jvm.Cond.superclass "LayersDeskModel" "java/lang/Object") ∈ lw_all := lw_g (lw_at lw_m0 129 rfl) rfl
theorem q137 : (Jvm.Cond.instanceMethod ({ cls := "LayersDeskModel", name := "places", desc := "(I)V" } : Jvm.MethodName)) ∈ lw_all := lw_g (lw_at lw_m0 132 rfl) rfl
theorem q138 : (Jvm.Cond.selects "LayersDeskModel" ({ cls := "LayersDeskModel", name := "places", desc := "(I)V" } : Jvm.MethodName) ({ cls := "LayersDeskModel", name := "places", desc := "(I)V" } : Jvm.MethodName)) ∈ lw_all := lw_g (lw_at lw_m0 133 rfl) rfl
theorem q139 : (Jvm.Cond.code ({ cls := "LayersDeskModel", name := "places", desc := "(I)V" } : Jvm.MethodName) prog_4_method_2_code (3 : Nat) (Option.none : Option Jvm.ClassFile.FieldType)) ∈ lw_all := lw_g (lw_at lw_m0 134 rfl) rfl
theorem q140 : (Jvm.Cond.constant "LayersDeskModel" (28 : Nat) (2147483647 : Int32)) ∈ lw_all := lw_g (lw_at lw_m0 135 rfl) rfl
theorem q142 : (Jvm.Cond.instanceMethod ({ cls := "LayersDeskModel", name := "put", desc := "(II)Z" } : Jvm.MethodName)) ∈ lw_all := lw_g (lw_at lw_m0 137 rfl) rfl
theorem q143 : (Jvm.Cond.selects "LayersDeskModel" ({ cls := "LayersDeskModel", name := "put", desc := "(II)Z" } : Jvm.MethodName) ({ cls := "LayersDeskModel", name := "put", desc := "(II)Z" } : Jvm.MethodName)) ∈ lw_all := lw_g (lw_at lw_m0 138 rfl) rfl
theorem q144 : (Jvm.Cond.code ({ cls := "LayersDeskModel", name := "put", desc := "(II)Z" } : Jvm.MethodName) prog_4_method_4_code (7 : Nat) (Option.some Jvm.ClassFile.FieldType.boolean)) ∈ lw_all := lw_g (lw_at lw_m0 139 rfl) rfl
theorem q145 : (Jvm.Cond.methodLink "LayersDeskModel" (33 : Nat) ({ cls := "LayersDeskModel", name := "at", desc := "(I)I" } : Jvm.MethodName)) ∈ lw_all := lw_g (lw_at lw_m0 140 rfl) rfl
theorem q146 : (Jvm.Cond.privateMethod ({ cls := "LayersDeskModel", name := "at", desc := "(I)I" } : Jvm.MethodName)) ∈ lw_tbl := lw_at lw_m0 141 rfl
theorem q147 : (Jvm.Cond.instanceMethod ({ cls := "LayersDeskModel", name := "at", desc := "(I)I" } : Jvm.MethodName)) ∈ lw_all := lw_g (lw_at lw_m0 142 rfl) rfl
theorem q148 : (Jvm.Cond.code ({ cls := "LayersDeskModel", name := "at", desc := "(I)I" } : Jvm.MethodName) prog_4_method_3_code (2 : Nat) (Option.some Jvm.ClassFile.FieldType.int)) ∈ lw_all := lw_g (lw_at lw_m0 143 rfl) rfl
theorem q150 : (Jvm.Cond.instanceMethod ({ cls := "LayersDeskModel", name := "below", desc := "(II)Z" } : Jvm.MethodName)) ∈ lw_all := lw_g (lw_at lw_m0 145 rfl) rfl
theorem q151 : (Jvm.Cond.selects "LayersDeskModel" ({ cls := "LayersDeskModel", name := "below", desc := "(II)Z" } : Jvm.MethodName) ({ cls := "LayersDeskModel", name := "below", desc := "(II)Z" } : Jvm.MethodName)) ∈ lw_all := lw_g (lw_at lw_m0 146 rfl) rfl
theorem q152 : (Jvm.Cond.code ({ cls := "LayersDeskModel", name := "below", desc := "(II)Z" } : Jvm.MethodName) prog_4_method_5_code (3 : Nat) (Option.some Jvm.ClassFile.FieldType.boolean)) ∈ lw_all := lw_g (lw_at lw_m0 147 rfl) rfl
theorem q154 : (Jvm.Cond.instanceMethod ({ cls := "LayersDeskModel", name := "width", desc := "()I" } : Jvm.MethodName)) ∈ lw_all := lw_g (lw_at lw_m0 149 rfl) rfl
theorem q155 : (Jvm.Cond.selects "LayersDeskModel" ({ cls := "LayersDeskModel", name := "width", desc := "()I" } : Jvm.MethodName) ({ cls := "LayersDeskModel", name := "width", desc := "()I" } : Jvm.MethodName)) ∈ lw_all := lw_g (lw_at lw_m0 150 rfl) rfl
theorem q156 : (Jvm.Cond.code ({ cls := "LayersDeskModel", name := "width", desc := "()I" } : Jvm.MethodName) prog_4_method_8_code (1 : Nat) (Option.some Jvm.ClassFile.FieldType.int)) ∈ lw_all := lw_g (lw_at lw_m0 151 rfl) rfl
theorem q157 : (Jvm.Cond.methodLink "LayersDeskModel" (49 : Nat) ({ cls := "LayersDeskModel", name := "reckon", desc := "()V" } : Jvm.MethodName)) ∈ lw_all := lw_g (lw_at lw_m0 152 rfl) rfl
theorem q158 : (Jvm.Cond.privateMethod ({ cls := "LayersDeskModel", name := "reckon", desc := "()V" } : Jvm.MethodName)) ∈ lw_tbl := lw_at lw_m0 153 rfl
theorem q159 : (Jvm.Cond.instanceMethod ({ cls := "LayersDeskModel", name := "reckon", desc := "()V" } : Jvm.MethodName)) ∈ lw_all := lw_g (lw_at lw_m0 154 rfl) rfl
theorem q160 : (Jvm.Cond.code ({ cls := "LayersDeskModel", name := "reckon", desc := "()V" } : Jvm.MethodName) prog_4_method_7_code (10 : Nat) (Option.none : Option Jvm.ClassFile.FieldType)) ∈ lw_all := lw_g (lw_at lw_m0 155 rfl) rfl
theorem q161 : (Jvm.Cond.methodLink "LayersDeskModel" (46 : Nat) ({ cls := "LayersDeskModel", name := "count", desc := "(I)I" } : Jvm.MethodName)) ∈ lw_all := lw_g (lw_at lw_m0 156 rfl) rfl
theorem q162 : (Jvm.Cond.static ({ cls := "LayersDeskModel", name := "count", desc := "(I)I" } : Jvm.MethodName)) ∈ lw_all := lw_g (lw_at lw_m0 157 rfl) rfl
theorem q163 : (Jvm.Cond.code ({ cls := "LayersDeskModel", name := "count", desc := "(I)I" } : Jvm.MethodName) prog_4_method_6_code (3 : Nat) (Option.some Jvm.ClassFile.FieldType.int)) ∈ lw_all := lw_g (lw_at lw_m0 158 rfl) rfl
theorem q165 : (Jvm.Cond.instanceMethod ({ cls := "LayersDeskModel", name := "height", desc := "()I" } : Jvm.MethodName)) ∈ lw_all := lw_g (lw_at lw_m0 160 rfl) rfl
theorem q166 : (Jvm.Cond.selects "LayersDeskModel" ({ cls := "LayersDeskModel", name := "height", desc := "()I" } : Jvm.MethodName) ({ cls := "LayersDeskModel", name := "height", desc := "()I" } : Jvm.MethodName)) ∈ lw_all := lw_g (lw_at lw_m0 161 rfl) rfl
theorem q167 : (Jvm.Cond.code ({ cls := "LayersDeskModel", name := "height", desc := "()I" } : Jvm.MethodName) prog_4_method_9_code (1 : Nat) (Option.some Jvm.ClassFile.FieldType.int)) ∈ lw_all := lw_g (lw_at lw_m0 162 rfl) rfl
theorem q169 : (Jvm.Cond.instanceMethod ({ cls := "LayersDeskModel", name := "cover", desc := "()I" } : Jvm.MethodName)) ∈ lw_all := lw_g (lw_at lw_m0 164 rfl) rfl
theorem q170 : (Jvm.Cond.selects "LayersDeskModel" ({ cls := "LayersDeskModel", name := "cover", desc := "()I" } : Jvm.MethodName) ({ cls := "LayersDeskModel", name := "cover", desc := "()I" } : Jvm.MethodName)) ∈ lw_all := lw_g (lw_at lw_m0 165 rfl) rfl
theorem q171 : (Jvm.Cond.code ({ cls := "LayersDeskModel", name := "cover", desc := "()I" } : Jvm.MethodName) prog_4_method_10_code (1 : Nat) (Option.some Jvm.ClassFile.FieldType.int)) ∈ lw_all := lw_g (lw_at lw_m0 166 rfl) rfl
theorem q173 : (Jvm.Cond.instanceMethod ({ cls := "LayersDeskModel", name := "rows", desc := "()J" } : Jvm.MethodName)) ∈ lw_all := lw_g (lw_at lw_m0 168 rfl) rfl
theorem q174 : (Jvm.Cond.selects "LayersDeskModel" ({ cls := "LayersDeskModel", name := "rows", desc := "()J" } : Jvm.MethodName) ({ cls := "LayersDeskModel", name := "rows", desc := "()J" } : Jvm.MethodName)) ∈ lw_all := lw_g (lw_at lw_m0 169 rfl) rfl
theorem q175 : (Jvm.Cond.code ({ cls := "LayersDeskModel", name := "rows", desc := "()J" } : Jvm.MethodName) prog_4_method_11_code (1 : Nat) (Option.some Jvm.ClassFile.FieldType.long)) ∈ lw_all := lw_g (lw_at lw_m0 170 rfl) rfl
theorem q177 : (Jvm.Cond.instanceMethod ({ cls := "LayersDeskModel", name := "closed", desc := "()I" } : Jvm.MethodName)) ∈ lw_all := lw_g (lw_at lw_m0 172 rfl) rfl
theorem q178 : (Jvm.Cond.selects "LayersDeskModel" ({ cls := "LayersDeskModel", name := "closed", desc := "()I" } : Jvm.MethodName) ({ cls := "LayersDeskModel", name := "closed", desc := "()I" } : Jvm.MethodName)) ∈ lw_all := lw_g (lw_at lw_m0 173 rfl) rfl
theorem q179 : (Jvm.Cond.code ({ cls := "LayersDeskModel", name := "closed", desc := "()I" } : Jvm.MethodName) prog_4_method_12_code (1 : Nat) (Option.some Jvm.ClassFile.FieldType.int)) ∈ lw_all := lw_g (lw_at lw_m0 174 rfl) rfl
theorem in_X2 : ∀ w ∈ wsX20, w ∈ lw_all := lw_in wsX20 [116, 118, 120, 122, 124, 126, 128, 130, 132] (by decide +kernel) (by decide +kernel)
end
section
/-! the law's own entry -/
set_option maxRecDepth 100000
abbrev cL_law : ByteArray := code
theorem dL_law_0 : decode cL_law 0 = .ok (.new 7, 3) := by decide +kernel
theorem dL_law_3 : decode cL_law 3 = .ok (.dup, 1) := by decide +kernel
theorem dL_law_4 : decode cL_law 4 = .ok (.invokespecial 9, 3) := by decide +kernel
theorem dL_law_7 : decode cL_law 7 = .ok (.astore_n 1, 1) := by decide +kernel
theorem dL_law_8 : decode cL_law 8 = .ok (.new 10, 3) := by decide +kernel
theorem dL_law_11 : decode cL_law 11 = .ok (.dup, 1) := by decide +kernel
theorem dL_law_12 : decode cL_law 12 = .ok (.invokespecial 12, 3) := by decide +kernel
theorem dL_law_15 : decode cL_law 15 = .ok (.astore_n 2, 1) := by decide +kernel
theorem dL_law_16 : decode cL_law 16 = .ok (.iconst 0, 1) := by decide +kernel
theorem dL_law_17 : decode cL_law 17 = .ok (.istore_n 3, 1) := by decide +kernel
theorem dL_law_18 : decode cL_law 18 = .ok (.iload_n 3, 1) := by decide +kernel
theorem dL_law_19 : decode cL_law 19 = .ok (.aload_n 0, 1) := by decide +kernel
theorem dL_law_20 : decode cL_law 20 = .ok (.arraylength, 1) := by decide +kernel
theorem dL_law_21 : decode cL_law 21 = .ok (.iconst 3, 1) := by decide +kernel
theorem dL_law_22 : decode cL_law 22 = .ok (.isub, 1) := by decide +kernel
theorem dL_law_23 : decode cL_law 23 = .ok (.if_icmp .gt 216, 3) := by decide +kernel
theorem dL_law_26 : decode cL_law 26 = .ok (.aload_n 0, 1) := by decide +kernel
theorem dL_law_27 : decode cL_law 27 = .ok (.iload_n 3, 1) := by decide +kernel
theorem dL_law_28 : decode cL_law 28 = .ok (.iaload, 1) := by decide +kernel
theorem dL_law_29 : decode cL_law 29 = .ok (.bipush 7, 2) := by decide +kernel
theorem dL_law_31 : decode cL_law 31 = .ok (.iand, 1) := by decide +kernel
theorem dL_law_32 : decode cL_law 32 = .ok (.tableswitch 201 0 7 #[48, 69, 102, 135, 148, 161, 174, 188], 48) := by decide +kernel
theorem dL_law_80 : decode cL_law 80 = .ok (.aload_n 1, 1) := by decide +kernel
theorem dL_law_81 : decode cL_law 81 = .ok (.aload_n 0, 1) := by decide +kernel
theorem dL_law_82 : decode cL_law 82 = .ok (.iload_n 3, 1) := by decide +kernel
theorem dL_law_83 : decode cL_law 83 = .ok (.iconst 1, 1) := by decide +kernel
theorem dL_law_84 : decode cL_law 84 = .ok (.iadd, 1) := by decide +kernel
theorem dL_law_85 : decode cL_law 85 = .ok (.iaload, 1) := by decide +kernel
theorem dL_law_86 : decode cL_law 86 = .ok (.invokevirtual 13, 3) := by decide +kernel
theorem dL_law_89 : decode cL_law 89 = .ok (.aload_n 2, 1) := by decide +kernel
theorem dL_law_90 : decode cL_law 90 = .ok (.aload_n 0, 1) := by decide +kernel
theorem dL_law_91 : decode cL_law 91 = .ok (.iload_n 3, 1) := by decide +kernel
theorem dL_law_92 : decode cL_law 92 = .ok (.iconst 1, 1) := by decide +kernel
theorem dL_law_93 : decode cL_law 93 = .ok (.iadd, 1) := by decide +kernel
theorem dL_law_94 : decode cL_law 94 = .ok (.iaload, 1) := by decide +kernel
theorem dL_law_95 : decode cL_law 95 = .ok (.invokevirtual 17, 3) := by decide +kernel
theorem dL_law_98 : decode cL_law 98 = .ok (.goto 135, 3) := by decide +kernel
theorem dL_law_101 : decode cL_law 101 = .ok (.aload_n 1, 1) := by decide +kernel
theorem dL_law_102 : decode cL_law 102 = .ok (.aload_n 0, 1) := by decide +kernel
theorem dL_law_103 : decode cL_law 103 = .ok (.iload_n 3, 1) := by decide +kernel
theorem dL_law_104 : decode cL_law 104 = .ok (.iconst 1, 1) := by decide +kernel
theorem dL_law_105 : decode cL_law 105 = .ok (.iadd, 1) := by decide +kernel
theorem dL_law_106 : decode cL_law 106 = .ok (.iaload, 1) := by decide +kernel
theorem dL_law_107 : decode cL_law 107 = .ok (.aload_n 0, 1) := by decide +kernel
theorem dL_law_108 : decode cL_law 108 = .ok (.iload_n 3, 1) := by decide +kernel
theorem dL_law_109 : decode cL_law 109 = .ok (.iconst 2, 1) := by decide +kernel
theorem dL_law_110 : decode cL_law 110 = .ok (.iadd, 1) := by decide +kernel
theorem dL_law_111 : decode cL_law 111 = .ok (.iaload, 1) := by decide +kernel
theorem dL_law_112 : decode cL_law 112 = .ok (.invokevirtual 18, 3) := by decide +kernel
theorem dL_law_115 : decode cL_law 115 = .ok (.aload_n 2, 1) := by decide +kernel
theorem dL_law_116 : decode cL_law 116 = .ok (.aload_n 0, 1) := by decide +kernel
theorem dL_law_117 : decode cL_law 117 = .ok (.iload_n 3, 1) := by decide +kernel
theorem dL_law_118 : decode cL_law 118 = .ok (.iconst 1, 1) := by decide +kernel
theorem dL_law_119 : decode cL_law 119 = .ok (.iadd, 1) := by decide +kernel
theorem dL_law_120 : decode cL_law 120 = .ok (.iaload, 1) := by decide +kernel
theorem dL_law_121 : decode cL_law 121 = .ok (.aload_n 0, 1) := by decide +kernel
theorem dL_law_122 : decode cL_law 122 = .ok (.iload_n 3, 1) := by decide +kernel
theorem dL_law_123 : decode cL_law 123 = .ok (.iconst 2, 1) := by decide +kernel
theorem dL_law_124 : decode cL_law 124 = .ok (.iadd, 1) := by decide +kernel
theorem dL_law_125 : decode cL_law 125 = .ok (.iaload, 1) := by decide +kernel
theorem dL_law_126 : decode cL_law 126 = .ok (.invokevirtual 22, 3) := by decide +kernel
theorem dL_law_129 : decode cL_law 129 = .ok (.if_icmp .eq 104, 3) := by decide +kernel
theorem dL_law_132 : decode cL_law 132 = .ok (.iconst 0, 1) := by decide +kernel
theorem dL_law_133 : decode cL_law 133 = .ok (.ireturn, 1) := by decide +kernel
theorem dL_law_134 : decode cL_law 134 = .ok (.aload_n 1, 1) := by decide +kernel
theorem dL_law_135 : decode cL_law 135 = .ok (.aload_n 0, 1) := by decide +kernel
theorem dL_law_136 : decode cL_law 136 = .ok (.iload_n 3, 1) := by decide +kernel
theorem dL_law_137 : decode cL_law 137 = .ok (.iconst 1, 1) := by decide +kernel
theorem dL_law_138 : decode cL_law 138 = .ok (.iadd, 1) := by decide +kernel
theorem dL_law_139 : decode cL_law 139 = .ok (.iaload, 1) := by decide +kernel
theorem dL_law_140 : decode cL_law 140 = .ok (.aload_n 0, 1) := by decide +kernel
theorem dL_law_141 : decode cL_law 141 = .ok (.iload_n 3, 1) := by decide +kernel
theorem dL_law_142 : decode cL_law 142 = .ok (.iconst 2, 1) := by decide +kernel
theorem dL_law_143 : decode cL_law 143 = .ok (.iadd, 1) := by decide +kernel
theorem dL_law_144 : decode cL_law 144 = .ok (.iaload, 1) := by decide +kernel
theorem dL_law_145 : decode cL_law 145 = .ok (.invokevirtual 23, 3) := by decide +kernel
theorem dL_law_148 : decode cL_law 148 = .ok (.aload_n 2, 1) := by decide +kernel
theorem dL_law_149 : decode cL_law 149 = .ok (.aload_n 0, 1) := by decide +kernel
theorem dL_law_150 : decode cL_law 150 = .ok (.iload_n 3, 1) := by decide +kernel
theorem dL_law_151 : decode cL_law 151 = .ok (.iconst 1, 1) := by decide +kernel
theorem dL_law_152 : decode cL_law 152 = .ok (.iadd, 1) := by decide +kernel
theorem dL_law_153 : decode cL_law 153 = .ok (.iaload, 1) := by decide +kernel
theorem dL_law_154 : decode cL_law 154 = .ok (.aload_n 0, 1) := by decide +kernel
theorem dL_law_155 : decode cL_law 155 = .ok (.iload_n 3, 1) := by decide +kernel
theorem dL_law_156 : decode cL_law 156 = .ok (.iconst 2, 1) := by decide +kernel
theorem dL_law_157 : decode cL_law 157 = .ok (.iadd, 1) := by decide +kernel
theorem dL_law_158 : decode cL_law 158 = .ok (.iaload, 1) := by decide +kernel
theorem dL_law_159 : decode cL_law 159 = .ok (.invokevirtual 26, 3) := by decide +kernel
theorem dL_law_162 : decode cL_law 162 = .ok (.if_icmp .eq 71, 3) := by decide +kernel
theorem dL_law_165 : decode cL_law 165 = .ok (.iconst 0, 1) := by decide +kernel
theorem dL_law_166 : decode cL_law 166 = .ok (.ireturn, 1) := by decide +kernel
theorem dL_law_167 : decode cL_law 167 = .ok (.aload_n 1, 1) := by decide +kernel
theorem dL_law_168 : decode cL_law 168 = .ok (.invokevirtual 27, 3) := by decide +kernel
theorem dL_law_171 : decode cL_law 171 = .ok (.aload_n 2, 1) := by decide +kernel
theorem dL_law_172 : decode cL_law 172 = .ok (.invokevirtual 31, 3) := by decide +kernel
theorem dL_law_175 : decode cL_law 175 = .ok (.if_icmp .eq 58, 3) := by decide +kernel
theorem dL_law_178 : decode cL_law 178 = .ok (.iconst 0, 1) := by decide +kernel
theorem dL_law_179 : decode cL_law 179 = .ok (.ireturn, 1) := by decide +kernel
theorem dL_law_180 : decode cL_law 180 = .ok (.aload_n 1, 1) := by decide +kernel
theorem dL_law_181 : decode cL_law 181 = .ok (.invokevirtual 32, 3) := by decide +kernel
theorem dL_law_184 : decode cL_law 184 = .ok (.aload_n 2, 1) := by decide +kernel
theorem dL_law_185 : decode cL_law 185 = .ok (.invokevirtual 35, 3) := by decide +kernel
theorem dL_law_188 : decode cL_law 188 = .ok (.if_icmp .eq 45, 3) := by decide +kernel
theorem dL_law_191 : decode cL_law 191 = .ok (.iconst 0, 1) := by decide +kernel
theorem dL_law_192 : decode cL_law 192 = .ok (.ireturn, 1) := by decide +kernel
theorem dL_law_193 : decode cL_law 193 = .ok (.aload_n 1, 1) := by decide +kernel
theorem dL_law_194 : decode cL_law 194 = .ok (.invokevirtual 36, 3) := by decide +kernel
theorem dL_law_197 : decode cL_law 197 = .ok (.aload_n 2, 1) := by decide +kernel
theorem dL_law_198 : decode cL_law 198 = .ok (.invokevirtual 39, 3) := by decide +kernel
theorem dL_law_201 : decode cL_law 201 = .ok (.if_icmp .eq 32, 3) := by decide +kernel
theorem dL_law_204 : decode cL_law 204 = .ok (.iconst 0, 1) := by decide +kernel
theorem dL_law_205 : decode cL_law 205 = .ok (.ireturn, 1) := by decide +kernel
theorem dL_law_206 : decode cL_law 206 = .ok (.aload_n 1, 1) := by decide +kernel
theorem dL_law_207 : decode cL_law 207 = .ok (.invokevirtual 40, 3) := by decide +kernel
theorem dL_law_210 : decode cL_law 210 = .ok (.aload_n 2, 1) := by decide +kernel
theorem dL_law_211 : decode cL_law 211 = .ok (.invokevirtual 44, 3) := by decide +kernel
theorem dL_law_214 : decode cL_law 214 = .ok (.lcmp, 1) := by decide +kernel
theorem dL_law_215 : decode cL_law 215 = .ok (.ifCond .eq 18, 3) := by decide +kernel
theorem dL_law_218 : decode cL_law 218 = .ok (.iconst 0, 1) := by decide +kernel
theorem dL_law_219 : decode cL_law 219 = .ok (.ireturn, 1) := by decide +kernel
theorem dL_law_220 : decode cL_law 220 = .ok (.aload_n 1, 1) := by decide +kernel
theorem dL_law_221 : decode cL_law 221 = .ok (.invokevirtual 45, 3) := by decide +kernel
theorem dL_law_224 : decode cL_law 224 = .ok (.aload_n 2, 1) := by decide +kernel
theorem dL_law_225 : decode cL_law 225 = .ok (.invokevirtual 48, 3) := by decide +kernel
theorem dL_law_228 : decode cL_law 228 = .ok (.if_icmp .eq 5, 3) := by decide +kernel
theorem dL_law_231 : decode cL_law 231 = .ok (.iconst 0, 1) := by decide +kernel
theorem dL_law_232 : decode cL_law 232 = .ok (.ireturn, 1) := by decide +kernel
theorem dL_law_233 : decode cL_law 233 = .ok (.iinc 3 3, 3) := by decide +kernel
theorem dL_law_236 : decode cL_law 236 = .ok (.goto (-218), 3) := by decide +kernel
theorem dL_law_239 : decode cL_law 239 = .ok (.iconst 1, 1) := by decide +kernel
theorem dL_law_240 : decode cL_law 240 = .ok (.ireturn, 1) := by decide +kernel
theorem q5 : (Jvm.Cond.initialized "LayersDeskLaw") ∈ lw_all := lw_g (lw_at lw_m0 0 rfl) rfl
set_option maxRecDepth 100000
theorem q9 : (Jvm.Cond.classLink "LayersDeskLaw" (7 : Nat) "LayersDesk") ∈ lw_all := lw_g (lw_at lw_m0 4 rfl) rfl
theorem q11 : (Jvm.Cond.methodLink "LayersDeskLaw" (9 : Nat) ({ cls := "LayersDesk", name := "<init>", desc := "()V" } : Jvm.MethodName)) ∈ lw_all := lw_g (lw_at lw_m0 6 rfl) rfl
theorem q51 : (Jvm.Cond.methodLink "LayersDeskLaw" (13 : Nat) ({ cls := "LayersDesk", name := "places", desc := "(I)V" } : Jvm.MethodName)) ∈ lw_all := lw_g (lw_at lw_m0 46 rfl) rfl
theorem q56 : (Jvm.Cond.methodLink "LayersDeskLaw" (18 : Nat) ({ cls := "LayersDesk", name := "put", desc := "(II)Z" } : Jvm.MethodName)) ∈ lw_all := lw_g (lw_at lw_m0 51 rfl) rfl
theorem q64 : (Jvm.Cond.methodLink "LayersDeskLaw" (23 : Nat) ({ cls := "LayersDesk", name := "below", desc := "(II)Z" } : Jvm.MethodName)) ∈ lw_all := lw_g (lw_at lw_m0 59 rfl) rfl
theorem q68 : (Jvm.Cond.methodLink "LayersDeskLaw" (36 : Nat) ({ cls := "LayersDesk", name := "cover", desc := "()I" } : Jvm.MethodName)) ∈ lw_all := lw_g (lw_at lw_m0 63 rfl) rfl
theorem q80 : (Jvm.Cond.methodLink "LayersDeskLaw" (27 : Nat) ({ cls := "LayersDesk", name := "width", desc := "()I" } : Jvm.MethodName)) ∈ lw_all := lw_g (lw_at lw_m0 75 rfl) rfl
theorem q85 : (Jvm.Cond.methodLink "LayersDeskLaw" (32 : Nat) ({ cls := "LayersDesk", name := "height", desc := "()I" } : Jvm.MethodName)) ∈ lw_all := lw_g (lw_at lw_m0 80 rfl) rfl
theorem q89 : (Jvm.Cond.methodLink "LayersDeskLaw" (40 : Nat) ({ cls := "LayersDesk", name := "rows", desc := "()J" } : Jvm.MethodName)) ∈ lw_all := lw_g (lw_at lw_m0 84 rfl) rfl
theorem q97 : (Jvm.Cond.methodLink "LayersDeskLaw" (45 : Nat) ({ cls := "LayersDesk", name := "closed", desc := "()I" } : Jvm.MethodName)) ∈ lw_all := lw_g (lw_at lw_m0 92 rfl) rfl
theorem q101 : (Jvm.Cond.classLink "LayersDeskLaw" (10 : Nat) "LayersDeskModel") ∈ lw_all := lw_g (lw_at lw_m0 96 rfl) rfl
theorem q103 : (Jvm.Cond.methodLink "LayersDeskLaw" (12 : Nat) ({ cls := "LayersDeskModel", name := "<init>", desc := "()V" } : Jvm.MethodName)) ∈ lw_all := lw_g (lw_at lw_m0 98 rfl) rfl
theorem q136 : (Jvm.Cond.methodLink "LayersDeskLaw" (17 : Nat) ({ cls := "LayersDeskModel", name := "places", desc := "(I)V" } : Jvm.MethodName)) ∈ lw_all := lw_g (lw_at lw_m0 131 rfl) rfl
theorem q141 : (Jvm.Cond.methodLink "LayersDeskLaw" (22 : Nat) ({ cls := "LayersDeskModel", name := "put", desc := "(II)Z" } : Jvm.MethodName)) ∈ lw_all := lw_g (lw_at lw_m0 136 rfl) rfl
theorem q149 : (Jvm.Cond.methodLink "LayersDeskLaw" (26 : Nat) ({ cls := "LayersDeskModel", name := "below", desc := "(II)Z" } : Jvm.MethodName)) ∈ lw_all := lw_g (lw_at lw_m0 144 rfl) rfl
theorem q153 : (Jvm.Cond.methodLink "LayersDeskLaw" (31 : Nat) ({ cls := "LayersDeskModel", name := "width", desc := "()I" } : Jvm.MethodName)) ∈ lw_all := lw_g (lw_at lw_m0 148 rfl) rfl
theorem q164 : (Jvm.Cond.methodLink "LayersDeskLaw" (35 : Nat) ({ cls := "LayersDeskModel", name := "height", desc := "()I" } : Jvm.MethodName)) ∈ lw_all := lw_g (lw_at lw_m0 159 rfl) rfl
theorem q168 : (Jvm.Cond.methodLink "LayersDeskLaw" (39 : Nat) ({ cls := "LayersDeskModel", name := "cover", desc := "()I" } : Jvm.MethodName)) ∈ lw_all := lw_g (lw_at lw_m0 163 rfl) rfl
theorem q172 : (Jvm.Cond.methodLink "LayersDeskLaw" (44 : Nat) ({ cls := "LayersDeskModel", name := "rows", desc := "()J" } : Jvm.MethodName)) ∈ lw_all := lw_g (lw_at lw_m0 167 rfl) rfl
theorem q176 : (Jvm.Cond.methodLink "LayersDeskLaw" (48 : Nat) ({ cls := "LayersDeskModel", name := "closed", desc := "()I" } : Jvm.MethodName)) ∈ lw_all := lw_g (lw_at lw_m0 171 rfl) rfl
theorem q33 : (Jvm.Cond.arrayClass Jvm.ClassFile.FieldType.int) ∈ lw_all := lw_g (lw_at lw_m0 28 rfl) rfl
set_option maxRecDepth 100000
theorem q34 : (Jvm.Cond.arrayClass Jvm.ClassFile.FieldType.long) ∈ lw_all := lw_g (lw_at lw_m0 29 rfl) rfl
theorem q135 : (Jvm.Cond.arrayClass Jvm.ClassFile.FieldType.boolean) ∈ lw_all := lw_g (lw_at lw_m0 130 rfl) rfl
end
section
/-! plain facts on numbers (pasted families of kit/laws first) -/
theorem s_l : ∀ n, n < 32 → ((nI n &&& 31).toBitVec.smod 32).toNat = n := by decide +kernel
theorem fa_and (a b : Nat) : nI a &&& nI b = nI (a &&& b) := by
  apply Int32.toBitVec_inj.1
  show BitVec.ofNat 32 a &&& BitVec.ofNat 32 b = BitVec.ofNat 32 (a &&& b)
  apply BitVec.eq_of_getLsbD_eq
  intro i hi
  simp [hi]
theorem fa_or (a b : Nat) : nI a ||| nI b = nI (a ||| b) := by
  apply Int32.toBitVec_inj.1
  show BitVec.ofNat 32 a ||| BitVec.ofNat 32 b = BitVec.ofNat 32 (a ||| b)
  apply BitVec.eq_of_getLsbD_eq
  intro i hi
  simp [hi]
theorem fb_xorI (a b : Nat) : nI a ^^^ nI b = nI (a ^^^ b) := by
  apply Int32.toBitVec_inj.1
  show BitVec.ofNat 32 a ^^^ BitVec.ofNat 32 b = BitVec.ofNat 32 (a ^^^ b)
  apply BitVec.eq_of_getLsbD_eq
  intro i hi
  simp [hi]
/-! ===== how many places have a property ===== -/
def fb_ct (p : Nat → Bool) : Nat → Nat
  | 0 => 0
  | n + 1 => fb_ct p n + (if p n then 1 else 0)
theorem fb_ct_succ (p : Nat → Bool) (n : Nat) : fb_ct p (n + 1) = fb_ct p n + (if p n then 1 else 0) := rfl
theorem fb_ct_le (p : Nat → Bool) : ∀ n, fb_ct p n ≤ n
  | 0 => Nat.le_refl _
  | n + 1 => by
    have h := fb_ct_le p n
    rw [fb_ct_succ]
    split <;> omega
theorem fb_ct_step (p : Nat → Bool) (m : Nat) : ∀ n, fb_ct p m ≤ fb_ct p (m + n)
  | 0 => Nat.le_refl _
  | n + 1 => by
    have h := fb_ct_step p m n
    show fb_ct p m ≤ fb_ct p (m + n + 1)
    rw [fb_ct_succ]
    omega
theorem fb_ct_mono (p : Nat → Bool) {m n : Nat} (h : m ≤ n) : fb_ct p m ≤ fb_ct p n := by
  have := fb_ct_step p m (n - m)
  rwa [Nat.add_sub_cancel' h] at this
theorem fb_ct_cong {p q : Nat → Bool} : ∀ {n : Nat}, (∀ k, k < n → p k = q k) → fb_ct p n = fb_ct q n
  | 0, _ => rfl
  | n + 1, h => by
    rw [fb_ct_succ, fb_ct_succ, fb_ct_cong (fun k hk => h k (by omega)), h n (by omega)]
/-- one place changed -/
theorem fb_ct_out (p : Nat → Bool) (b : Bool) {i n : Nat} (h : n ≤ i) : fb_ct (fun k => if k = i then b else p k) n = fb_ct p n :=
  fb_ct_cong fun k hk => if_neg (by omega)
theorem fb_ct_upd (p : Nat → Bool) (b : Bool) {i : Nat} : ∀ {n : Nat}, i < n → fb_ct (fun k => if k = i then b else p k) n + (if p i then 1 else 0) = fb_ct p n + (if b then 1 else 0)
  | 0, h => absurd h (Nat.not_lt_zero i)
  | n + 1, h => by
    rw [fb_ct_succ, fb_ct_succ]
    rcases Nat.lt_or_ge i n with q | q
    · have := fb_ct_upd p b q
      have e : (if n = i then b else p n) = p n := if_neg (by omega)
      rw [e]
      omega
    · have e : i = n := by omega
      subst e
      rw [fb_ct_out p b (Nat.le_refl _)]
      simp only [if_true]
      omega
theorem fb_ct_sub {p q : Nat → Bool} : ∀ {n : Nat}, (∀ k, k < n → p k = true → q k = true) → fb_ct p n ≤ fb_ct q n
  | 0, _ => Nat.le_refl _
  | n + 1, h => by
    have h1 := fb_ct_sub (n := n) (p := p) (q := q) (fun k hk => h k (by omega))
    have h2 := h n (by omega)
    rw [fb_ct_succ, fb_ct_succ]
    cases hp : p n <;> cases hq : q n <;> simp_all <;> omega
theorem fb_ct_or {p q : Nat → Bool} : ∀ {n : Nat}, (∀ k, k < n → ¬ (p k = true ∧ q k = true)) → fb_ct (fun k => p k || q k) n = fb_ct p n + fb_ct q n
  | 0, _ => rfl
  | n + 1, h => by
    have h1 := fb_ct_or (n := n) (p := p) (q := q) (fun k hk => h k (by omega))
    have h2 := h n (by omega)
    rw [fb_ct_succ, fb_ct_succ, fb_ct_succ, h1]
    cases hp : p n <;> cases hq : q n <;> simp_all <;> omega
theorem fb_ct_not (p : Nat → Bool) : ∀ n, fb_ct p n + fb_ct (fun k => !p k) n = n
  | 0 => rfl
  | n + 1 => by
    have h := fb_ct_not p n
    rw [fb_ct_succ, fb_ct_succ]
    cases p n <;> simp <;> omega
theorem fb_ct_split (p : Nat → Bool) (m : Nat) : ∀ n, fb_ct p (m + n) = fb_ct p m + fb_ct (fun k => p (m + k)) n
  | 0 => rfl
  | n + 1 => by
    have h := fb_ct_split p m n
    show fb_ct p (m + n + 1) = _
    rw [fb_ct_succ, fb_ct_succ, h, Nat.add_assoc]
theorem fb_ct_zero {p : Nat → Bool} : ∀ {n : Nat}, fb_ct p n = 0 ↔ ∀ k, k < n → p k = false
  | 0 => ⟨fun _ k hk => absurd hk (Nat.not_lt_zero k), fun _ => rfl⟩
  | n + 1 => by
    have h := fb_ct_zero (p := p) (n := n)
    rw [fb_ct_succ]
    constructor
    · intro e k hk
      have e1 : fb_ct p n = 0 := by omega
      rcases Nat.lt_or_ge k n with q | q
      · exact h.mp e1 k q
      · have ek : k = n := by omega
        subst ek
        cases hp : p k
        · rfl
        · simp [hp] at e
    · intro a
      rw [h.mpr (fun k hk => a k (by omega)), a n (by omega)]
      rfl
theorem fb_ct_pos {p : Nat → Bool} {n : Nat} : 0 < fb_ct p n ↔ ∃ k, k < n ∧ p k = true := by
  constructor
  · intro h
    refine Classical.byContradiction fun hx => ?_
    have := fb_ct_zero.mpr (fun k hk => by
      cases hp : p k
      · rfl
      · exact absurd ⟨k, hk, hp⟩ hx : ∀ k, k < n → p k = false)
    omega
  · rintro ⟨k, hk, hp⟩
    rcases Nat.eq_zero_or_pos (fb_ct p n) with e | e
    · have := fb_ct_zero.mp e k hk
      rw [this] at hp
      cases hp
    · exact e
theorem fb_ct_all {p : Nat → Bool} {n : Nat} : fb_ct p n = n ↔ ∀ k, k < n → p k = true := by
  have h := fb_ct_not p n
  constructor
  · intro e k hk
    have z : fb_ct (fun k => !p k) n = 0 := by omega
    have := fb_ct_zero.mp z k hk
    cases hp : p k
    · simp [hp] at this
    · rfl
  · intro a
    have z : fb_ct (fun k => !p k) n = 0 := fb_ct_zero.mpr (fun k hk => by simp [a k hk])
    omega
/-- the k-th place with the property -/
theorem fb_ct_kth {p : Nat → Bool} {k : Nat} : ∀ {n : Nat}, k < fb_ct p n → ∃ i, i < n ∧ p i = true ∧ fb_ct p i = k
  | 0, h => absurd h (Nat.not_lt_zero k)
  | n + 1, h => by
    rcases Nat.lt_or_ge k (fb_ct p n) with q | q
    · obtain ⟨i, h1, h2⟩ := fb_ct_kth q
      exact ⟨i, by omega, h2⟩
    · rw [fb_ct_succ] at h
      cases hp : p n
      · simp [hp] at h; omega
      · simp [hp] at h
        exact ⟨n, by omega, hp, by omega⟩
theorem fb_ct_kth_one {p : Nat → Bool} {i j : Nat} (hi : p i = true) (hj : p j = true) (e : fb_ct p i = fb_ct p j) : i = j := by
  have key : ∀ a b : Nat, a < b → p a = true → fb_ct p a < fb_ct p b := by
    intro a b hab ha
    have h := fb_ct_mono p (show a + 1 ≤ b from hab)
    rw [fb_ct_succ, ha] at h
    simp at h
    omega
  rcases Nat.lt_trichotomy i j with q | q | q
  · have := key i j q hi; omega
  · exact q
  · have := key j i q hj; omega
/-! ===== sums over a range: one place changed, parts, bounds ===== -/
def fb_sm (f : Nat → Nat) : Nat → Nat
  | 0 => 0
  | n + 1 => fb_sm f n + f n
theorem fb_sm_succ (f : Nat → Nat) (n : Nat) : fb_sm f (n + 1) = fb_sm f n + f n := rfl
theorem fb_sm_cong {f g : Nat → Nat} : ∀ {n : Nat}, (∀ k, k < n → f k = g k) → fb_sm f n = fb_sm g n
  | 0, _ => rfl
  | n + 1, h => by rw [fb_sm_succ, fb_sm_succ, fb_sm_cong (fun k hk => h k (by omega)), h n (by omega)]
theorem fb_sm_out (f : Nat → Nat) (v : Nat) {i n : Nat} (h : n ≤ i) : fb_sm (fun k => if k = i then v else f k) n = fb_sm f n :=
  fb_sm_cong fun k hk => if_neg (by omega)
theorem fb_sm_upd (f : Nat → Nat) (v : Nat) {i : Nat} : ∀ {n : Nat}, i < n → fb_sm (fun k => if k = i then v else f k) n + f i = fb_sm f n + v
  | 0, h => absurd h (Nat.not_lt_zero i)
  | n + 1, h => by
    rw [fb_sm_succ, fb_sm_succ]
    rcases Nat.lt_or_ge i n with q | q
    · have := fb_sm_upd f v q
      have e : (if n = i then v else f n) = f n := if_neg (by omega)
      rw [e]
      omega
    · have e : i = n := by omega
      subst e
      rw [fb_sm_out f v (Nat.le_refl _)]
      simp only [if_true]
      omega
theorem fb_sm_add (f g : Nat → Nat) : ∀ n, fb_sm (fun k => f k + g k) n = fb_sm f n + fb_sm g n
  | 0 => rfl
  | n + 1 => by
    have h := fb_sm_add f g n
    rw [fb_sm_succ, fb_sm_succ, fb_sm_succ, h]
    omega
theorem fb_sm_le {f g : Nat → Nat} : ∀ {n : Nat}, (∀ k, k < n → f k ≤ g k) → fb_sm f n ≤ fb_sm g n
  | 0, _ => Nat.le_refl _
  | n + 1, h => by
    have h1 := fb_sm_le (n := n) (f := f) (g := g) (fun k hk => h k (by omega))
    have h2 := h n (by omega)
    rw [fb_sm_succ, fb_sm_succ]
    omega
theorem fb_sm_const (c : Nat) : ∀ n, fb_sm (fun _ => c) n = n * c
  | 0 => by rw [Nat.zero_mul]; rfl
  | n + 1 => by rw [fb_sm_succ, fb_sm_const c n, Nat.succ_mul]
theorem fb_sm_bound {f : Nat → Nat} {c n : Nat} (h : ∀ k, k < n → f k ≤ c) : fb_sm f n ≤ n * c := by
  rw [← fb_sm_const c n]
  exact fb_sm_le h
theorem fb_sm_mono (f : Nat → Nat) (m : Nat) : ∀ n, fb_sm f m ≤ fb_sm f (m + n)
  | 0 => Nat.le_refl _
  | n + 1 => by
    have h := fb_sm_mono f m n
    show fb_sm f m ≤ fb_sm f (m + n + 1)
    rw [fb_sm_succ]
    omega
theorem fb_sm_part (f : Nat → Nat) {i n : Nat} (h : i < n) : fb_sm f i + f i ≤ fb_sm f n := by
  have := fb_sm_mono f (i + 1) (n - (i + 1))
  rw [fb_sm_succ, show i + 1 + (n - (i + 1)) = n by omega] at this
  exact this
theorem fb_sm_split (f : Nat → Nat) (m : Nat) : ∀ n, fb_sm f (m + n) = fb_sm f m + fb_sm (fun k => f (m + k)) n
  | 0 => rfl
  | n + 1 => by
    have h := fb_sm_split f m n
    show fb_sm f (m + n + 1) = _
    rw [fb_sm_succ, fb_sm_succ, h, Nat.add_assoc]
theorem fb_sm_zero {f : Nat → Nat} {n : Nat} (h : fb_sm f n = 0) : ∀ k, k < n → f k = 0 := fun k hk => by
  have := fb_sm_part f hk
  omega
/-! ===== sets of small numbers as numbers ===== -/
/-- a without b -/
def ly_sd (a b : Nat) : Nat := a ^^^ (a &&& b)
theorem ly_sd_bit (a b i : Nat) : (ly_sd a b).testBit i = (a.testBit i && !b.testBit i) := by
  unfold ly_sd
  rw [Nat.testBit_xor, Nat.testBit_and]
  cases a.testBit i <;> cases b.testBit i <;> rfl
theorem ly_sd_le (a b : Nat) : ly_sd a b ≤ a := by
  have e : ly_sd a b = ly_sd a b &&& a := by
    apply Nat.eq_of_testBit_eq
    intro i
    rw [Nat.testBit_and, ly_sd_bit]
    cases a.testBit i <;> cases b.testBit i <;> rfl
  rw [e]
  exact Nat.and_le_right
theorem ly_sd_lt {a b : Nat} {i : Nat} (h1 : a.testBit i = true) (h2 : b.testBit i = true) : ly_sd a b < a := by
  rcases Nat.lt_or_eq_of_le (ly_sd_le a b) with h | h
  · exact h
  · have e : (ly_sd a b).testBit i = a.testBit i := by rw [h]
    rw [ly_sd_bit, h1, h2] at e
    exact absurd e (by decide)
theorem ly_lt_bit {s n i : Nat} (hs : s < 2 ^ n) (h : s.testBit i = true) : i < n := by
  rcases Nat.lt_or_ge i n with q | q
  · exact q
  · have : s.testBit i = false := Nat.testBit_lt_two_pow (Nat.lt_of_lt_of_le hs (Nat.pow_le_pow_right (by decide) q))
    rw [this] at h
    exact absurd h (by decide)
theorem ly_and0 {a b : Nat} : a &&& b = 0 ↔ ∀ i, a.testBit i = true → b.testBit i = false := by
  constructor
  · intro h i hi
    have e : (a &&& b).testBit i = false := by rw [h]; exact Nat.zero_testBit i
    rw [Nat.testBit_and, hi] at e
    simpa using e
  · intro h
    apply Nat.eq_of_testBit_eq
    intro i
    rw [Nat.testBit_and, Nat.zero_testBit]
    cases q : a.testBit i with
    | false => rfl
    | true => rw [h i q]; rfl
theorem ly_sd0 {a b : Nat} : ly_sd a b = 0 ↔ ∀ i, a.testBit i = true → b.testBit i = true := by
  constructor
  · intro h i hi
    have e : (ly_sd a b).testBit i = false := by rw [h]; exact Nat.zero_testBit i
    rw [ly_sd_bit, hi] at e
    simpa using e
  · intro h
    apply Nat.eq_of_testBit_eq
    intro i
    rw [ly_sd_bit, Nat.zero_testBit]
    cases q : a.testBit i with
    | false => rfl
    | true => rw [h i q]; rfl
theorem ly_or_bit (s i j : Nat) : (s ||| 2 ^ i).testBit j = (s.testBit j || decide (i = j)) := by
  rw [Nat.testBit_or, Nat.testBit_two_pow]
theorem ly_p31 {j : Nat} (h : j < 31) : 2 ^ j < 2 ^ 31 := Nat.pow_lt_pow_right (by decide) h
theorem ly_p10 {n : Nat} (h : n ≤ 10) : 2 ^ n ≤ 1024 := show 2 ^ n ≤ 2 ^ 10 from Nat.pow_le_pow_right (by decide) h
theorem ly_pw {i n : Nat} (h : i < n) : 2 ^ i < 2 ^ n := Nat.pow_lt_pow_right (by decide) h
/-! ===== the machine's bit operations on small numbers ===== -/
theorem ly_shl {j : Nat} (h : j < 31) : nI 1 <<< (nI j &&& 31) = nI (2 ^ j) := by
  have := pk_shlN (n := 1) (nI j &&& 31) j (s_l j (by omega)) (by have := ly_p31 h; omega)
  rw [this, Nat.one_mul]
theorem ly_bit {k j : Nat} (hk : k < 2 ^ 31) (hj : j < 32) : (nI k >>> (nI j &&& 31)) &&& nI 1 = nI (if k.testBit j then 1 else 0) := by
  rw [pk_shrN hk (nI j &&& 31) j (s_l j hj), fa_and, Nat.and_one_is_mod, Nat.testBit_eq_decide_div_mod_eq]
  rcases Nat.mod_two_eq_zero_or_one (k / 2 ^ j) with e | e <;> rw [e] <;> rfl
theorem ly_bit0 {b : Bool} (h : nI (if b then 1 else 0) = 0) : b = false := by
  cases b with
  | false => rfl
  | true => exact absurd h (by decide)
theorem ly_bitn0 {b : Bool} (h : ¬ nI (if b then 1 else 0) = 0) : b = true := by
  cases b with
  | false => exact absurd rfl h
  | true => rfl
theorem ly_bit1 {b : Bool} (h : nI (if b then 1 else 0) = nI 1) : b = true := by
  cases b with
  | false => exact absurd h (by decide)
  | true => rfl
theorem ly_bitn1 {b : Bool} (h : ¬ nI (if b then 1 else 0) = nI 1) : b = false := by
  cases b with
  | false => rfl
  | true => exact absurd rfl h
theorem ly_not {a b : Nat} (ha : a < 2 ^ 32) : nI a &&& (nI b ^^^ (-1)) = nI (ly_sd a b) := by
  rw [show (-1 : Int32) = nI (2 ^ 32 - 1) by decide, fb_xorI, fa_and]
  congr 1
  apply Nat.eq_of_testBit_eq
  intro i
  rw [Nat.testBit_and, Nat.testBit_xor, ly_sd_bit, Nat.testBit_two_pow_sub_one]
  rcases Nat.lt_or_ge i 32 with q | q
  · rw [decide_eq_true q]
    cases a.testBit i <;> cases b.testBit i <;> rfl
  · have : a.testBit i = false := Nat.testBit_lt_two_pow (Nat.lt_of_lt_of_le ha (Nat.pow_le_pow_right (by decide) q))
    rw [this]
    rfl
theorem ly_eq0 {k : Nat} (hk : k < 2 ^ 31) : nI k = 0 ↔ k = 0 := by
  rw [← nI_0, nI_eq hk (by decide)]
/-- the place that a number asks for -/
def ly_ix (n : Nat) (x : Int32) : Nat := x.toBitVec.toNat % 2 ^ 31 % n
theorem ly_ix_lt {n : Nat} (h : 0 < n) (x : Int32) : ly_ix n x < n := Nat.mod_lt _ h
theorem ly_ix_mask (x : Int32) : x &&& 2147483647 = nI (x.toBitVec.toNat % 2 ^ 31) := pk_and x 31 (by decide)
theorem ly_ix_rem {n : Nat} (h : 0 < n) (hn : n < 2 ^ 31) (x : Int32) : nI (x.toBitVec.toNat % 2 ^ 31) - nI (x.toBitVec.toNat % 2 ^ 31) / nI n * nI n = nI (ly_ix n x) := pk_rem (Nat.mod_lt _ (by decide)) h hn
theorem ly_sub {a b : Nat} (h : b ≤ a) : nI a - nI b = nI (a - b) := pk_sub h
theorem ly_full {n : Nat} (h : n ≤ 10) : nI (2 ^ n) - nI 1 = nI (2 ^ n - 1) := pk_sub (Nat.two_pow_pos n)
theorem ly_cmp0 {a : Nat} (h : a < 2 ^ 63) : (lg_cmp (lN a) (lN 0) = 0 ↔ a = 0) ∧ (lg_cmp (lN a) (lN 0) ≤ 0 ↔ a = 0) := by
  unfold lg_cmp
  rcases Nat.eq_zero_or_pos a with e | e
  · subst e
    constructor <;> decide
  · have h1 : lN 0 < lN a := (pk_lLT (by decide) h).mpr e
    rw [if_pos h1]
    constructor
    · constructor
      · intro q; exact absurd q (by decide)
      · intro q; omega
    · constructor
      · intro q; exact absurd q (by decide)
      · intro q; omega
end
section
/-! ===== what is computed, in plain words: U i: the things above i, as bits; n things ===== -/
/-- a strict order on the things below n -/
def ly_O (n : Nat) (U : Nat → Nat) : Prop := (∀ i, i < n → U i < 2 ^ n) ∧ (∀ i, i < n → (U i).testBit i = false) ∧ ∀ i j k, i < n → j < n → (U i).testBit j = true → (U j).testBit k = true → (U i).testBit k = true
/-- D i: the things below i -/
def ly_V (n : Nat) (U D : Nat → Nat) : Prop := (∀ i, i < n → D i < 2 ^ n) ∧ ∀ i j, i < n → j < n → (D j).testBit i = (U i).testBit j
def ly_all (p : Nat → Bool) : Nat → Bool
  | 0 => true
  | k + 1 => ly_all p k && p k
theorem ly_all_iff {p : Nat → Bool} : ∀ {n : Nat}, ly_all p n = true ↔ ∀ k, k < n → p k = true
  | 0 => ⟨fun _ k hk => absurd hk (by omega), fun _ => rfl⟩
  | n + 1 => by
    rw [ly_all, Bool.and_eq_true, ly_all_iff (n := n)]
    constructor
    · rintro ⟨h1, h2⟩ k hk
      rcases Nat.lt_or_eq_of_le (Nat.le_of_lt_succ hk) with q | q
      · exact h1 k q
      · rw [q]; exact h2
    · intro h
      exact ⟨fun k hk => h k (by omega), h n (by omega)⟩
/-- no two of s are one above the other -/
def ly_free (n : Nat) (U : Nat → Nat) (s : Nat) : Bool := ly_all (fun a => !s.testBit a || decide (s &&& U a = 0)) n
/-- what a is related to, of s -/
def ly_rel (U : Nat → Nat) (s a : Nat) : Nat → Nat
  | 0 => U a ||| 2 ^ a
  | b + 1 => if s.testBit b && (U b).testBit a then ly_rel U s a b ||| 2 ^ b else ly_rel U s a b
def ly_line (n : Nat) (U : Nat → Nat) (s : Nat) : Bool := ly_all (fun a => !s.testBit a || decide (ly_sd s (ly_rel U s a n) = 0)) n
/-- with a thing of s all that lies below it is in s -/
def ly_down (n : Nat) (U : Nat → Nat) (s : Nat) : Bool := ly_all (fun a => s.testBit a || decide (s &&& U a = 0)) n
/-- how many things -/
def ly_pc (s : Nat) : Nat := fb_ct (fun i => s.testBit i) 10
/-- the greatest number of things in a set with the property p -/
def ly_mx (p : Nat → Bool) : Nat → Nat
  | 0 => 0
  | s + 1 => if p s && decide (ly_mx p s < ly_pc s) then ly_pc s else ly_mx p s
/-- in how many ways s is put into a row -/
def ly_E (n : Nat) (U : Nat → Nat) (s : Nat) : Nat :=
  (if s = 0 then 1 else 0) + fb_sm (fun a => if h : s.testBit a = true ∧ s &&& U a = 0 then ly_E n U (ly_sd s (2 ^ a)) else 0) n
termination_by s
decreasing_by exact ly_sd_lt h.1 Nat.testBit_two_pow_self
/-- one term of that sum -/
def ly_Et (n : Nat) (U : Nat → Nat) (s a : Nat) : Nat := if s.testBit a && decide (s &&& U a = 0) then ly_E n U (ly_sd s (2 ^ a)) else 0
theorem ly_E_eq (n : Nat) (U : Nat → Nat) (s : Nat) : ly_E n U s = (if s = 0 then 1 else 0) + fb_sm (ly_Et n U s) n := by
  rw [ly_E]
  congr 1
  apply fb_sm_cong
  intro a _
  unfold ly_Et
  by_cases h : s.testBit a = true ∧ s &&& U a = 0
  · rw [dif_pos h, if_pos (by simp [h.1, h.2])]
  · rw [dif_neg h, if_neg (by simpa using h)]
/-- k sets with the property p, none empty, apart, together t -/
def ly_CP (p : Nat → Bool) : Nat → Nat → Prop
  | 0, t => t = 0
  | k + 1, t => ∃ q, q ≠ 0 ∧ (∀ i, q.testBit i = true → t.testBit i = true) ∧ p q = true ∧ ly_CP p k (ly_sd t q)
/-- v is the least number of such sets -/
def ly_M (p : Nat → Bool) (t v : Nat) : Prop := ly_CP p v t ∧ ∀ k, ly_CP p k t → v ≤ k
/-- p things have partners above them, no two the same; and p covers all pairs -/
def ly_pair (n : Nat) (U : Nat → Nat) (p : Nat) : Prop :=
  (∃ f : Nat → Option Nat, (∀ b x, b < 10 → f b = some x → x < n ∧ (U x).testBit b = true) ∧ (∀ b b' x, b < 10 → b' < 10 → f b = some x → f b' = some x → b = b') ∧ fb_ct (fun b => (f b).isSome) 10 = p) ∧
  ∃ cl cr : Nat → Bool, (∀ x b, x < n → b < 10 → (U x).testBit b = true → cl x = true ∨ cr b = true) ∧ fb_ct cl 10 + fb_ct cr 10 ≤ p
/-- the things after a pair was put: x below y -/
def ly_put (n : Nat) (U : Nat → Nat) (x y : Nat) (i : Nat) : Nat := if i < n ∧ (i = x ∨ (U i).testBit x = true) then U i ||| (U y ||| 2 ^ y) else U i
end
section
/-! ===== the machine's rows over one bundle of facts ===== -/
abbrev vwCl : List vw_C := [(RX0, TX0, 5), (RX1, TX1, 3), (RX2, TX2, 9)]
/-- what holds all through a method -/
abbrev ly_C (p : Program) (m : MethodId) (meth : Method) (c : Code) (cc : ByteArray) (nL : Nat) (s : State) (args : Array Value) (own : String) (D : va_G) (tys : List (ClassId × FieldType)) (A : Nat → Prop) : Prop :=
  CallFix p m c cc nL s args lw_all own ∧ va_K D vwCl tys s ∧ (∀ q : Nat, s.heap.size ≤ q → A q) ∧ meth.locks = false
/-- the world now -/
abbrev ly_w (D : va_G) (A : Nat → Prop) (H0 : Heap) (ws : va_W) (H : Heap) (locs : List Loc) : Prop := va_P D vwCl ws H ∧ va_D A ws ∧ va_S A H0 H locs
abbrev ly_Pre (D : va_G) (tys : List (ClassId × FieldType)) (sz : Nat) (ws : va_W) (U : State) : Prop := U.heap.size = sz ∧ va_P D vwCl ws U.heap ∧ va_K D vwCl tys U ∧ va_D (fun _ => True) ws
abbrev ly_Bo {S : Type} (D : va_G) (tys : List (ClassId × FieldType)) (A : Nat → Prop) (W' : S → va_W) (u : S) (t : State) : Prop := va_P D vwCl (W' u) t.heap ∧ va_K D vwCl tys t ∧ va_D A (W' u)
/-- contracts: the world ws goes over to W' u, with 'post answer u' -/
def ly_Mi {S : Type} (l : Launch) (y : MethodName) (wds : List Cond) (rm : Room) (av : List Value) (D : va_G) (tys : List (ClassId × FieldType)) (ws : va_W) (post : Int32 → S → Prop) (W' : S → va_W) : Prop :=
  ∀ sz : Nat, Met l y wds rm (va_Pc av (ly_Pre D tys sz ws)) (va_Qi post (ly_Bo D tys (va_A ws sz) W') (va_A ws sz)) 0 0 (va_A ws sz)
def ly_Ml {S : Type} (l : Launch) (y : MethodName) (wds : List Cond) (rm : Room) (av : List Value) (D : va_G) (tys : List (ClassId × FieldType)) (ws : va_W) (post : Int64 → S → Prop) (W' : S → va_W) : Prop :=
  ∀ sz : Nat, Met l y wds rm (va_Pc av (ly_Pre D tys sz ws)) (va_Ql post (ly_Bo D tys (va_A ws sz) W') (va_A ws sz)) 0 0 (va_A ws sz)
def ly_Mv {S : Type} (l : Launch) (y : MethodName) (wds : List Cond) (rm : Room) (av : List Value) (D : va_G) (tys : List (ClassId × FieldType)) (ws : va_W) (post : S → Prop) (W' : S → va_W) : Prop :=
  ∀ sz : Nat, Met l y wds rm (va_Pc av (ly_Pre D tys sz ws)) (va_Qv post (ly_Bo D tys (va_A ws sz) W') (va_A ws sz)) 0 0 (va_A ws sz)
theorem ly_blind {D : va_G} {tys : List (ClassId × FieldType)} {sz : Nat} {ws : va_W} {av : List Value} : FrameBlind (va_Pc av (ly_Pre D tys sz ws)) := by
  intro a U g mk q
  obtain ⟨q0, q1, qP, qK, qD⟩ := q
  exact ⟨q0, q1, qP, va_K.moved (u := U) (U := U.calling g mk a) (Vm.Alike.refl U.vm) qK, qD⟩
section ly_rows
variable {p : Program} {l : Launch} {e : Env} {R : Room} {s : State} {m : MethodId} {args : Array Value} {below : List Frame} {meth : Method} {c : Code} {H : Heap} {locs : List Loc} {cells slots : Nat} {Q : State → Prop}
variable {cc : ByteArray} {nL : Nat} {own : String} {D : va_G} {tys : List (ClassId × FieldType)} {A : Nat → Prop} {H0 : Heap} {ws : va_W} {pc : Nat} {ls : Array Slot} {rest : List Value} {a : Nat}
theorem ly_top {x y : Int32} (h : x = y) (k : W p l e R s m args below meth c H locs cells slots Q (F0 m pc ls (.int y :: rest))) : W p l e R s m args below meth c H locs cells slots Q (F0 m pc ls (.int x :: rest)) := h ▸ k
theorem ly_topl {x y : Int64} (h : x = y) (k : W p l e R s m args below meth c H locs cells slots Q (F0 m pc ls (.long y :: rest))) : W p l e R s m args below meth c H locs cells slots Q (F0 m pc ls (.long x :: rest)) := h ▸ k
theorem ly_iald (C : ly_C p m meth c cc nL s args own D tys A) (hw : ly_w D A H0 ws H locs) (q0 t0 : Nat) {cA : ClassId} {n : Nat} {f : Nat → Int32} (ha : ws[q0]? = some (a, .inl (cA, n, .inl f))) (ht : tys[t0]? = some (cA, .int)) {t : Nat} (hlt : t < n) (hn : n < 2 ^ 31) {v : Int32} (hv : f t = v) (hdg : decode cc pc = .ok (.iaload, 1))
    (k : W p l e R s m args below meth c H locs cells slots Q (F0 m (pc + 1) ls (.int v :: rest))) : W p l e R s m args below meth c H locs cells slots Q (F0 m pc ls (.int (nI t) :: .ref a :: rest)) := by
  refine va_iald C.1.1 C.1.2.1 C.2.1 hw.1 q0 t0 ha ht (vp_in_nI hlt hn) hdg ?_
  rw [nI_clamp (by omega), hv]
  exact k
theorem ly_zald (C : ly_C p m meth c cc nL s args own D tys A) (hw : ly_w D A H0 ws H locs) (q0 t0 : Nat) {cA : ClassId} {n : Nat} {f : Nat → Int32} (ha : ws[q0]? = some (a, .inl (cA, n, .inl f))) (ht : tys[t0]? = some (cA, .boolean)) {t : Nat} (hlt : t < n) (hn : n < 2 ^ 31) {v : Int32} (hv : f t = v) (hdg : decode cc pc = .ok (.baload, 1))
    (k : W p l e R s m args below meth c H locs cells slots Q (F0 m (pc + 1) ls (.int v :: rest))) : W p l e R s m args below meth c H locs cells slots Q (F0 m pc ls (.int (nI t) :: .ref a :: rest)) := by
  refine va_zald C.1.1 C.1.2.1 C.2.1 hw.1 q0 t0 ha ht (vp_in_nI hlt hn) hdg ?_
  rw [nI_clamp (by omega), hv]
  exact k
theorem ly_lald (C : ly_C p m meth c cc nL s args own D tys A) (hw : ly_w D A H0 ws H locs) (q0 t0 : Nat) {cA : ClassId} {n : Nat} {f : Nat → Int64} (ha : ws[q0]? = some (a, .inl (cA, n, .inr (.inl f)))) (ht : tys[t0]? = some (cA, .long)) {t : Nat} (hlt : t < n) (hn : n < 2 ^ 31) {v : Int64} (hv : f t = v) (hdg : decode cc pc = .ok (.laload, 1))
    (k : W p l e R s m args below meth c H locs cells slots Q (F0 m (pc + 1) ls (.long v :: rest))) : W p l e R s m args below meth c H locs cells slots Q (F0 m pc ls (.int (nI t) :: .ref a :: rest)) := by
  refine va_lald C.1.1 C.1.2.1 C.2.1 hw.1 q0 t0 ha ht (vp_in_nI hlt hn) hdg ?_
  rw [nI_clamp (by omega), hv]
  exact k
theorem ly_iast (C : ly_C p m meth c cc nL s args own D tys A) (hw : ly_w D A H0 ws H locs) (q0 t0 : Nat) {cA : ClassId} {n : Nat} {f : Nat → Int32} (ha : ws[q0]? = some (a, .inl (cA, n, .inl f))) (ht : tys[t0]? = some (cA, .int)) {t : Nat} (hlt : t < n) (hn : n < 2 ^ 31) {x : Int32} (hdg : decode cc pc = .ok (.iastore, 1))
    (k : ∀ (H1 : Heap) (locs1 : List Loc), ly_w D A H0 (ws.set q0 (a, .inl (cA, n, .inl (upd f t x)))) H1 locs1 → W p l e R s m args below meth c H1 locs1 cells slots Q (F0 m (pc + 1) ls rest)) : W p l e R s m args below meth c H locs cells slots Q (F0 m pc ls (.int x :: .int (nI t) :: .ref a :: rest)) := by
  refine va_iast C.1.1 C.1.2.1 C.2.1 hw.1 hw.2.1 hw.2.2 q0 t0 ha ht (vp_in_nI hlt hn) hdg (fun H1 locs1 h1 h2 h3 => ?_)
  rw [nI_clamp (by omega)] at h1 h2
  exact k H1 locs1 ⟨h1, h2, h3⟩
theorem ly_zast (C : ly_C p m meth c cc nL s args own D tys A) (hw : ly_w D A H0 ws H locs) (q0 t0 : Nat) {cA : ClassId} {n : Nat} {f : Nat → Int32} (ha : ws[q0]? = some (a, .inl (cA, n, .inl f))) (ht : tys[t0]? = some (cA, .boolean)) {t : Nat} (hlt : t < n) (hn : n < 2 ^ 31) {x : Int32} (hx : vp_nar .boolean x = x) (hdg : decode cc pc = .ok (.bastore, 1))
    (k : ∀ (H1 : Heap) (locs1 : List Loc), ly_w D A H0 (ws.set q0 (a, .inl (cA, n, .inl (upd f t x)))) H1 locs1 → W p l e R s m args below meth c H1 locs1 cells slots Q (F0 m (pc + 1) ls rest)) : W p l e R s m args below meth c H locs cells slots Q (F0 m pc ls (.int x :: .int (nI t) :: .ref a :: rest)) := by
  refine va_zast C.1.1 C.1.2.1 C.2.1 hw.1 hw.2.1 hw.2.2 q0 t0 ha ht (vp_in_nI hlt hn) hdg (fun H1 locs1 h1 h2 h3 => ?_)
  rw [nI_clamp (by omega), hx] at h1 h2
  exact k H1 locs1 ⟨h1, h2, h3⟩
theorem ly_last (C : ly_C p m meth c cc nL s args own D tys A) (hw : ly_w D A H0 ws H locs) (q0 t0 : Nat) {cA : ClassId} {n : Nat} {f : Nat → Int64} (ha : ws[q0]? = some (a, .inl (cA, n, .inr (.inl f)))) (ht : tys[t0]? = some (cA, .long)) {t : Nat} (hlt : t < n) (hn : n < 2 ^ 31) {x : Int64} (hdg : decode cc pc = .ok (.lastore, 1))
    (k : ∀ (H1 : Heap) (locs1 : List Loc), ly_w D A H0 (ws.set q0 (a, .inl (cA, n, .inr (.inl (vp_updL f t x))))) H1 locs1 → W p l e R s m args below meth c H1 locs1 cells slots Q (F0 m (pc + 1) ls rest)) : W p l e R s m args below meth c H locs cells slots Q (F0 m pc ls (.long x :: .int (nI t) :: .ref a :: rest)) := by
  refine va_last C.1.1 C.1.2.1 C.2.1 hw.1 hw.2.1 hw.2.2 q0 t0 ha ht (vp_in_nI hlt hn) hdg (fun H1 locs1 h1 h2 h3 => ?_)
  rw [nI_clamp (by omega)] at h1 h2
  exact k H1 locs1 ⟨h1, h2, h3⟩
/-- a field read, a field written (not a final one) -/
theorem ly_gf {CN : String} {T : u_T} {N ci index : Nat} (hin : ∀ w ∈ u_ws CN T N, w ∈ lw_all) (C : ly_C p m meth c cc nL s args own D tys A) (hw : ly_w D A H0 ws H locs) (q0 : Nat) {fs : List Value} (he : ws[q0]? = some (a, .inr (ci, fs))) (hc : vwCl[ci]? = some (CN, T, N)) (k : Nat) (hk : k < N) (hlink : Cond.fieldLink own index (T k).1 (T k).2.1 (T k).2.2.1 ∈ lw_all) {v : Value} (hv : fs[k]? = some v) (hdg : decode cc pc = .ok (.getfield index, 3))
    (kk : W p l e R s m args below meth c H locs cells slots Q (F0 m (pc + 3) ls (v :: rest))) : W p l e R s m args below meth c H locs cells slots Q (F0 m pc ls (.ref a :: rest)) :=
  va_get C.1.1 C.1.2.1 C.1.2.2.2.2 hin C.1.2.2.2.1 C.2.1 hw.1 q0 he hc k hk (C.1.2.2.2.2 _ hlink) (fun _ h9 => h9) hv hdg kk
theorem ly_pf {CN : String} {T : u_T} {N ci index : Nat} (hin : ∀ w ∈ u_ws CN T N, w ∈ lw_all) (ty0 : Nat → FieldType) (hty : ∀ k, k < N → parseFieldDescriptor (T k).2.2.1 = some (ty0 k)) (hnm : ∀ a, a < N → ∀ b, b < N → a ≠ b → (T a).2.1 ≠ (T b).2.1) (C : ly_C p m meth c cc nL s args own D tys A) (hw : ly_w D A H0 ws H locs) (q0 : Nat) {fs : List Value} (he : ws[q0]? = some (a, .inr (ci, fs))) (hc : vwCl[ci]? = some (CN, T, N)) (k : Nat) (hk : k < N) (hlink : Cond.fieldLink own index (T k).1 (T k).2.1 (T k).2.2.1 ∈ lw_all) (hfin : (T k).2.2.2 = false) {v : Value} (hn : narrow (ty0 k) v = v) (hfit : fits (ty0 k) v = true) (hl : k < fs.length) (hdg : decode cc pc = .ok (.putfield index, 3))
    (kk : ∀ (H1 : Heap) (locs1 : List Loc), ly_w D A H0 (ws.set q0 (a, .inr (ci, fs.set k v))) H1 locs1 → W p l e R s m args below meth c H1 locs1 cells slots Q (F0 m (pc + 3) ls rest)) : W p l e R s m args below meth c H locs cells slots Q (F0 m pc ls (v :: .ref a :: rest)) :=
  va_put C.1.1 C.1.2.1 C.1.2.2.2.2 hin ty0 hty hnm C.1.2.2.2.1 C.2.1 hw.1 hw.2.1 hw.2.2 q0 he hc k hk (C.1.2.2.2.2 _ hlink) (fun _ h9 => h9) hfin (hty k hk) hn hfit hl hdg (fun H1 locs1 h1 h2 h3 => kk H1 locs1 ⟨h1, h2, h3⟩)
theorem ly_pfF {CN : String} {T : u_T} {N ci index : Nat} (hin : ∀ w ∈ u_ws CN T N, w ∈ lw_all) (ty0 : Nat → FieldType) (hty : ∀ k, k < N → parseFieldDescriptor (T k).2.2.1 = some (ty0 k)) (hnm : ∀ a, a < N → ∀ b, b < N → a ≠ b → (T a).2.1 ≠ (T b).2.1) (C : ly_C p m meth c cc nL s args own D tys A) (hK : va_K D vwCl tys s) (hw : ly_w D A H0 ws H locs) (q0 : Nat) {fs : List Value} (he : ws[q0]? = some (a, .inr (ci, fs))) (hc : vwCl[ci]? = some (CN, T, N)) (k : Nat) (hk : k < N) (hlink : Cond.fieldLink own index (T k).1 (T k).2.1 (T k).2.2.1 ∈ lw_all) (hfin : (T k).2.2.2 = true) (hin2 : meth.name = "<init>") (hdecl : (T k).1 = own) {v : Value} (hn : narrow (ty0 k) v = v) (hfit : fits (ty0 k) v = true) (hl : k < fs.length) (hdg : decode cc pc = .ok (.putfield index, 3))
    (kk : ∀ (H1 : Heap) (locs1 : List Loc), ly_w D A H0 (ws.set q0 (a, .inr (ci, fs.set k v))) H1 locs1 → W p l e R s m args below meth c H1 locs1 cells slots Q (F0 m (pc + 3) ls rest)) : W p l e R s m args below meth c H locs cells slots Q (F0 m pc ls (v :: .ref a :: rest)) :=
  va_putF C.1.1 C.1.2.1 C.1.2.2.2.2 hin ty0 hty hnm C.1.2.2.2.1 hK hw.1 hw.2.1 hw.2.2 q0 he hc k hk (C.1.2.2.2.2 _ hlink) (fun _ h9 => h9) hfin hin2 hdecl (hty k hk) hn hfit hl hdg (fun H1 locs1 h1 h2 h3 => kk H1 locs1 ⟨h1, h2, h3⟩)
/-- a method's end -/
theorem ly_iret {S : Type} {post : Int32 → S → Prop} {W' : S → va_W} {v : Int32} {u : S} (C : ly_C p m meth c cc nL s args own D tys A) (hr : meth.sig.returnType = some .int) (hw : ly_w D A s.heap (W' u) H locs) (hp : post v u) (hdg : decode cc pc = .ok (.ireturn, 1)) :
    W p l e R s m args below meth c H locs cells slots (MQ below (va_Qi post (ly_Bo D tys A W') A) args s cells slots A) (F0 m pc ls [.int v]) :=
  W.iret C.1.1 C.1.2.1 hr (fun t ht hW => ⟨⟨v, u, rfl, hp, by rw [ht]; exact hw.1, va_K.moved hW.alike C.2.1, hw.2.1⟩, hw.2.2.F ht⟩) hw.2.2.2.2 hdg C.2.2.2
theorem ly_zret {S : Type} {post : Int32 → S → Prop} {W' : S → va_W} {v : Int32} {u : S} (C : ly_C p m meth c cc nL s args own D tys A) (hr : meth.sig.returnType = some .boolean) (hn : narrow .boolean (.int v) = .int v) (hw : ly_w D A s.heap (W' u) H locs) (hp : post v u) (hdg : decode cc pc = .ok (.ireturn, 1)) :
    W p l e R s m args below meth c H locs cells slots (MQ below (va_Qi post (ly_Bo D tys A W') A) args s cells slots A) (F0 m pc ls [.int v]) :=
  W.zret C.1.1 C.1.2.1 hr hn (fun t ht hW => ⟨⟨v, u, rfl, hp, by rw [ht]; exact hw.1, va_K.moved hW.alike C.2.1, hw.2.1⟩, hw.2.2.F ht⟩) hw.2.2.2.2 hdg C.2.2.2
theorem ly_lret {S : Type} {post : Int64 → S → Prop} {W' : S → va_W} {v : Int64} {u : S} (C : ly_C p m meth c cc nL s args own D tys A) (hr : meth.sig.returnType = some .long) (hw : ly_w D A s.heap (W' u) H locs) (hp : post v u) (hdg : decode cc pc = .ok (.lreturn, 1)) :
    W p l e R s m args below meth c H locs cells slots (MQ below (va_Ql post (ly_Bo D tys A W') A) args s cells slots A) (F0 m pc ls [.long v]) :=
  W.lret C.1.1 C.1.2.1 hr (fun t ht hW => ⟨⟨v, u, rfl, hp, by rw [ht]; exact hw.1, va_K.moved hW.alike C.2.1, hw.2.1⟩, hw.2.2.F ht⟩) hw.2.2.2.2 hdg C.2.2.2
theorem ly_vret {S : Type} {post : S → Prop} {W' : S → va_W} {u : S} (C : ly_C p m meth c cc nL s args own D tys A) (hr : meth.sig.returnType = none) (hw : ly_w D A s.heap (W' u) H locs) (hp : post u) (hdg : decode cc pc = .ok (.return_, 1)) :
    W p l e R s m args below meth c H locs cells slots (MQ below (va_Qv post (ly_Bo D tys A W') A) args s cells slots A) (F0 m pc ls []) :=
  W.vret C.1.1 C.1.2.1 hr (fun t ht hW => ⟨⟨u, rfl, hp, by rw [ht]; exact hw.1, va_K.moved hW.alike C.2.1, hw.2.1⟩, hw.2.2.F ht⟩) hw.2.2.2.2 hdg C.2.2.2
end ly_rows
end
section
/-! ===== calls over the bundle; a contract out of a walk ===== -/
section ly_calls
variable {p : Program} {l : Launch} {e : Env} {R : Room} {s : State} {m : MethodId} {args : Array Value} {below : List Frame} {meth : Method} {c : Code} {H : Heap} {locs : List Loc} {cells slots : Nat} {Q : State → Prop}
variable {cc : ByteArray} {nL : Nat} {own : String} {D : va_G} {tys : List (ClassId × FieldType)} {A : Nat → Prop} {ws : va_W} {pc : Nat} {ls : Array Slot} {rest : List Value} {a : Nat}
variable {y : MethodName} {bytes : ByteArray} {maxL n index : Nat} {ret : Option FieldType} {wds : List Cond} {rm : Room} {CN : String} {b : Nat} {As : List Value}
/-- behind a call: the rest and the callee's new world -/
theorem ly_after {wc wr w1 : va_W} {H1 : Heap} {locs1 : List Loc} {t : State} (hw : ly_w D A s.heap ws H locs) (hA : ∀ q : Nat, s.heap.size ≤ q → A q) (isC isR : List Nat) (hC : isC.map (fun i => ws[i]?) = wc.map some) (hR : isR.map (fun i => ws[i]?) = wr.map some) (hn : va_nd isR = true) (hdis : ∀ i ∈ isR, i ∉ isC)
    (ht : t.heap = H1) (hk : ∀ q : Nat, q < H.size → ¬ va_A wc H.size q → H1[q]? = H[q]?) (hP1 : va_P D vwCl w1 t.heap) (hD1 : va_D (va_A wc H.size) w1) (hS : va_S A s.heap H1 locs1) : ly_w D A s.heap (wr ++ w1) H1 locs1 := by
  have hF := va_free (wc := wc) hw.2.1 hw.2.2 hA isC hC
  rw [ht] at hP1
  obtain ⟨h1, h2⟩ := va_join (wr := wr) (w1 := w1) hw.1 hw.2.1 isC isR hC hR hn hdis hk hF hP1 hD1
  exact ⟨h1, h2, hS⟩
theorem ly_subw {wc : va_W} (hw : ly_w D A s.heap ws H locs) (isC : List Nat) (hn : va_nd isC = true) (hC : isC.map (fun i => ws[i]?) = wc.map some) : va_P D vwCl wc H ∧ va_D (fun _ => True) wc := by
  refine ⟨hw.1.sub isC ?_, (hw.2.1.sub isC hn hC).weaken (fun _ _ _ _ => trivial)⟩
  have e := congrArg (fun l => l.filterMap id) hC
  simpa [List.filterMap_map] using e
theorem ly_calli {S : Type} {post : Int32 → S → Prop} {W' : S → va_W} {wc wr : va_W} {ci : Nat} {fs : List Value} {q : vw_C} (hM : ly_Mi l y wds rm (.ref b :: As) D tys wc post W') (C : ly_C p m meth c cc nL s args own D tys A) (cw : CallW R s args own q.1 index y bytes maxL ret wds rm 0 0 n) (hw : ly_w D A s.heap ws H locs) (isC isR : List Nat) (hC : isC.map (fun i => ws[i]?) = wc.map some) (hR : isR.map (fun i => ws[i]?) = wr.map some) (hnC : va_nd isC = true) (hn : va_nd isR = true) (hdis : ∀ i ∈ isR, i ∉ isC)
    (q0 : Nat) (hc : vwCl[ci]? = some q) (he : wc[q0]? = some (b, .inr (ci, fs))) (hlen : As.length = n) (hsize : ls.size = nL) (hst : (rest.map fun v => v.category).sum ≤ 8) (hdg : decode cc pc = .ok (.invokevirtual index, 3)) (hcl : cells ≤ R.cells) (hsl : slots ≤ R.slots)
    (kk : ∀ (r : Int32) (u : S) (H1 : Heap) (locs1 : List Loc), post r u → ly_w D A s.heap (wr ++ W' u) H1 locs1 → W p l e R s m args below meth c H1 locs1 cells slots Q (F0 m (pc + 3) ls (.int r :: rest))) : W p l e R s m args below meth c H locs cells slots Q (F0 m pc ls (As.reverse ++ .ref b :: rest)) := by
  obtain ⟨hPc, hDc⟩ := ly_subw hw isC hnC hC
  have hF := va_free (wc := wc) hw.2.1 hw.2.2 C.2.2.1 isC hC
  refine va_calli (va_runV (As := As) (rest := rest) C.1 (hM H.size) cw ⟨ly_blind, va_recv C.2.1 hPc hc he, fun U hU hW => ⟨rfl, by rw [hU], by rw [hU]; exact hPc, va_K.moved hW.alike C.2.1, hDc⟩⟩ rfl hlen hsize rfl (lv_room hst) hdg ⟨hcl, hsl⟩) hw.2.2 (fun q _ h => hF q h) hF (fun r u t H1 locs1 ht hvm hp hB hz hk hS => ?_)
  exact kk r u H1 locs1 hp (ly_after hw C.2.2.1 isC isR hC hR hn hdis ht hk hB.1 hB.2.2 hS)
theorem ly_calll {S : Type} {post : Int64 → S → Prop} {W' : S → va_W} {wc wr : va_W} {ci : Nat} {fs : List Value} {q : vw_C} (hM : ly_Ml l y wds rm (.ref b :: As) D tys wc post W') (C : ly_C p m meth c cc nL s args own D tys A) (cw : CallW R s args own q.1 index y bytes maxL ret wds rm 0 0 n) (hw : ly_w D A s.heap ws H locs) (isC isR : List Nat) (hC : isC.map (fun i => ws[i]?) = wc.map some) (hR : isR.map (fun i => ws[i]?) = wr.map some) (hnC : va_nd isC = true) (hn : va_nd isR = true) (hdis : ∀ i ∈ isR, i ∉ isC)
    (q0 : Nat) (hc : vwCl[ci]? = some q) (he : wc[q0]? = some (b, .inr (ci, fs))) (hlen : As.length = n) (hsize : ls.size = nL) (hst : (rest.map fun v => v.category).sum ≤ 8) (hdg : decode cc pc = .ok (.invokevirtual index, 3)) (hcl : cells ≤ R.cells) (hsl : slots ≤ R.slots)
    (kk : ∀ (r : Int64) (u : S) (H1 : Heap) (locs1 : List Loc), post r u → ly_w D A s.heap (wr ++ W' u) H1 locs1 → W p l e R s m args below meth c H1 locs1 cells slots Q (F0 m (pc + 3) ls (.long r :: rest))) : W p l e R s m args below meth c H locs cells slots Q (F0 m pc ls (As.reverse ++ .ref b :: rest)) := by
  obtain ⟨hPc, hDc⟩ := ly_subw hw isC hnC hC
  have hF := va_free (wc := wc) hw.2.1 hw.2.2 C.2.2.1 isC hC
  refine va_calll (va_runV (As := As) (rest := rest) C.1 (hM H.size) cw ⟨ly_blind, va_recv C.2.1 hPc hc he, fun U hU hW => ⟨rfl, by rw [hU], by rw [hU]; exact hPc, va_K.moved hW.alike C.2.1, hDc⟩⟩ rfl hlen hsize rfl (lv_room hst) hdg ⟨hcl, hsl⟩) hw.2.2 (fun q _ h => hF q h) hF (fun r u t H1 locs1 ht hvm hp hB hz hk hS => ?_)
  exact kk r u H1 locs1 hp (ly_after hw C.2.2.1 isC isR hC hR hn hdis ht hk hB.1 hB.2.2 hS)
theorem ly_callv {S : Type} {post : S → Prop} {W' : S → va_W} {wc wr : va_W} {ci : Nat} {fs : List Value} {q : vw_C} (hM : ly_Mv l y wds rm (.ref b :: As) D tys wc post W') (C : ly_C p m meth c cc nL s args own D tys A) (cw : CallW R s args own q.1 index y bytes maxL ret wds rm 0 0 n) (hw : ly_w D A s.heap ws H locs) (isC isR : List Nat) (hC : isC.map (fun i => ws[i]?) = wc.map some) (hR : isR.map (fun i => ws[i]?) = wr.map some) (hnC : va_nd isC = true) (hn : va_nd isR = true) (hdis : ∀ i ∈ isR, i ∉ isC)
    (q0 : Nat) (hc : vwCl[ci]? = some q) (he : wc[q0]? = some (b, .inr (ci, fs))) (hlen : As.length = n) (hsize : ls.size = nL) (hst : (rest.map fun v => v.category).sum ≤ 8) (hdg : decode cc pc = .ok (.invokevirtual index, 3)) (hcl : cells ≤ R.cells) (hsl : slots ≤ R.slots)
    (kk : ∀ (u : S) (H1 : Heap) (locs1 : List Loc), post u → ly_w D A s.heap (wr ++ W' u) H1 locs1 → W p l e R s m args below meth c H1 locs1 cells slots Q (F0 m (pc + 3) ls rest)) : W p l e R s m args below meth c H locs cells slots Q (F0 m pc ls (As.reverse ++ .ref b :: rest)) := by
  obtain ⟨hPc, hDc⟩ := ly_subw hw isC hnC hC
  have hF := va_free (wc := wc) hw.2.1 hw.2.2 C.2.2.1 isC hC
  refine va_callv (va_runV (As := As) (rest := rest) C.1 (hM H.size) cw ⟨ly_blind, va_recv C.2.1 hPc hc he, fun U hU hW => ⟨rfl, by rw [hU], by rw [hU]; exact hPc, va_K.moved hW.alike C.2.1, hDc⟩⟩ rfl hlen hsize rfl (lv_room hst) hdg ⟨hcl, hsl⟩) hw.2.2 (fun q _ h => hF q h) hF (fun u t H1 locs1 ht hvm hp hB hz hk hS => ?_)
  exact kk u H1 locs1 hp (ly_after hw C.2.2.1 isC isR hC hR hn hdis ht hk hB.1 hB.2.2 hS)
/-- a static call with an empty world of its own -/
theorem ly_calls {S : Type} {post : Int32 → S → Prop} {W' : S → va_W} {wc wr : va_W} (hM : ly_Mi l y wds rm As D tys wc post W') (C : ly_C p m meth c cc nL s args own D tys A) (cw : CallB R s args own index y bytes maxL ret wds rm 0 0 n ∧ (Cond.static y).before args s = true) (hw : ly_w D A s.heap ws H locs) (isC isR : List Nat) (hC : isC.map (fun i => ws[i]?) = wc.map some) (hR : isR.map (fun i => ws[i]?) = wr.map some) (hnC : va_nd isC = true) (hn : va_nd isR = true) (hdis : ∀ i ∈ isR, i ∉ isC)
    (hlen : As.length = n) (hsize : ls.size = nL) (hst : (rest.map fun v => v.category).sum ≤ 8) (hdg : decode cc pc = .ok (.invokestatic index, 3)) (hcl : cells ≤ R.cells) (hsl : slots ≤ R.slots)
    (kk : ∀ (r : Int32) (u : S) (H1 : Heap) (locs1 : List Loc), post r u → ly_w D A s.heap (wr ++ W' u) H1 locs1 → W p l e R s m args below meth c H1 locs1 cells slots Q (F0 m (pc + 3) ls (.int r :: rest))) : W p l e R s m args below meth c H locs cells slots Q (F0 m pc ls (As.reverse ++ rest)) := by
  obtain ⟨hPc, hDc⟩ := ly_subw hw isC hnC hC
  have hF := va_free (wc := wc) hw.2.1 hw.2.2 C.2.2.1 isC hC
  refine va_calli (va_runS (As := As) (rest := rest) C.1 (hM H.size) cw ⟨ly_blind, fun U hU hW => ⟨rfl, by rw [hU], by rw [hU]; exact hPc, va_K.moved hW.alike C.2.1, hDc⟩⟩ rfl hlen hsize rfl (lv_room hst) hdg ⟨hcl, hsl⟩) hw.2.2 (fun q _ h => hF q h) hF (fun r u t H1 locs1 ht hvm hp hB hz hk hS => ?_)
  exact kk r u H1 locs1 hp (ly_after hw C.2.2.1 isC isR hC hR hn hdis ht hk hB.1 hB.2.2 hS)
/-- a contract out of a walk -/
theorem ly_ofi {S : Type} {av : List Value} {post : Int32 → S → Prop} {W' : S → va_W} (hy : plainName y.cls = true) (hlen : (lg_sl av).length ≤ maxL)
    (body : ∀ (p : Program) (e : Env) (s : State) (m : MethodId) (below : List Frame) (meth : Method) (c : Code) (A : Nat → Prop) (ls : Array Slot), ly_C p m meth c cc maxL s av.toArray y.cls D tys A → meth.sig.returnType = ret → ly_w D A s.heap ws s.heap [] → lv_has ls maxL (lv_args 0 av) →
      W p l e rm s m av.toArray below meth c s.heap [] 0 0 (MQ below (va_Qi post (ly_Bo D tys A W') A) av.toArray s 0 0 A) (F0 m 0 ls [])) : ly_Mi l y (ws_ y cc maxL ret) rm av D tys ws post W' := by
  intro sz
  refine Met.ofW (cc := cc) (maxL := maxL) (ret := ret) hy rfl ?_
  intro p e s m args below meth c s₁ B hml hv
  obtain ⟨rfl, hsz, hP, hK, hD0⟩ := hv
  have hts := atoms_spec (ws := ws_ y cc maxL ret) B.pre
  have hts : ∀ w ∈ lw_all, w.before _ s = true := fun w h => hts w (List.mem_cons_of_mem _ h)
  subst hsz
  rw [lg_entry_eq]
  exact body p e s m below meth c _ _ ⟨⟨B.exec, B.bytes, hml, findClass_of_methodNamed B.named, hts⟩, hK, fun q h => Or.inr h, B.notSynchronized⟩ B.returns ⟨hP, hD0.self, va_S.rf⟩ (lv_entry av hlen)
theorem ly_ofl {S : Type} {av : List Value} {post : Int64 → S → Prop} {W' : S → va_W} (hy : plainName y.cls = true) (hlen : (lg_sl av).length ≤ maxL)
    (body : ∀ (p : Program) (e : Env) (s : State) (m : MethodId) (below : List Frame) (meth : Method) (c : Code) (A : Nat → Prop) (ls : Array Slot), ly_C p m meth c cc maxL s av.toArray y.cls D tys A → meth.sig.returnType = ret → ly_w D A s.heap ws s.heap [] → lv_has ls maxL (lv_args 0 av) →
      W p l e rm s m av.toArray below meth c s.heap [] 0 0 (MQ below (va_Ql post (ly_Bo D tys A W') A) av.toArray s 0 0 A) (F0 m 0 ls [])) : ly_Ml l y (ws_ y cc maxL ret) rm av D tys ws post W' := by
  intro sz
  refine Met.ofW (cc := cc) (maxL := maxL) (ret := ret) hy rfl ?_
  intro p e s m args below meth c s₁ B hml hv
  obtain ⟨rfl, hsz, hP, hK, hD0⟩ := hv
  have hts := atoms_spec (ws := ws_ y cc maxL ret) B.pre
  have hts : ∀ w ∈ lw_all, w.before _ s = true := fun w h => hts w (List.mem_cons_of_mem _ h)
  subst hsz
  rw [lg_entry_eq]
  exact body p e s m below meth c _ _ ⟨⟨B.exec, B.bytes, hml, findClass_of_methodNamed B.named, hts⟩, hK, fun q h => Or.inr h, B.notSynchronized⟩ B.returns ⟨hP, hD0.self, va_S.rf⟩ (lv_entry av hlen)
theorem ly_ofv {S : Type} {av : List Value} {post : S → Prop} {W' : S → va_W} (hy : plainName y.cls = true) (hlen : (lg_sl av).length ≤ maxL)
    (body : ∀ (p : Program) (e : Env) (s : State) (m : MethodId) (below : List Frame) (meth : Method) (c : Code) (A : Nat → Prop) (ls : Array Slot), ly_C p m meth c cc maxL s av.toArray y.cls D tys A → meth.sig.returnType = ret → ly_w D A s.heap ws s.heap [] → lv_has ls maxL (lv_args 0 av) →
      W p l e rm s m av.toArray below meth c s.heap [] 0 0 (MQ below (va_Qv post (ly_Bo D tys A W') A) av.toArray s 0 0 A) (F0 m 0 ls [])) : ly_Mv l y (ws_ y cc maxL ret) rm av D tys ws post W' := by
  intro sz
  refine Met.ofW (cc := cc) (maxL := maxL) (ret := ret) hy rfl ?_
  intro p e s m args below meth c s₁ B hml hv
  obtain ⟨rfl, hsz, hP, hK, hD0⟩ := hv
  have hts := atoms_spec (ws := ws_ y cc maxL ret) B.pre
  have hts : ∀ w ∈ lw_all, w.before _ s = true := fun w h => hts w (List.mem_cons_of_mem _ h)
  subst hsz
  rw [lg_entry_eq]
  exact body p e s m below meth c _ _ ⟨⟨B.exec, B.bytes, hml, findClass_of_methodNamed B.named, hts⟩, hK, fun q h => Or.inr h, B.notSynchronized⟩ B.returns ⟨hP, hD0.self, va_S.rf⟩ (lv_entry av hlen)
end ly_calls
end
section
/-! ===== the two worlds: what the cells hold, as plain numbers ===== -/
def ly_u {α : Type} (f : Nat → α) (k : Nat) (x : α) : Nat → α := fun j => if j = k then x else f j
theorem ly_us {α : Type} {f : Nat → α} {k : Nat} {x : α} : ly_u f k x k = x := if_pos rfl
theorem ly_un {α : Type} {f : Nat → α} {k j : Nat} {x : α} (h : j ≠ k) : ly_u f k x j = f j := if_neg h
/-- a partner, or none: -1 -/
def ly_o : Option Nat → Int32
  | none => -1
  | some x => nI x
theorem ly_updN (U : Nat → Nat) (t x : Nat) : upd (fun j => nI (U j)) t (nI x) = fun j => nI (ly_u U t x j) := by
  funext j
  by_cases h : j = t
  · subst h; rw [pk_us, ly_us]
  · rw [pk_un h, ly_un h]
theorem ly_updO (U : Nat → Option Nat) (t : Nat) (x : Option Nat) : upd (fun j => ly_o (U j)) t (ly_o x) = fun j => ly_o (ly_u U t x j) := by
  funext j
  by_cases h : j = t
  · subst h; rw [pk_us, ly_us]
  · rw [pk_un h, ly_un h]
theorem ly_updL (U : Nat → Nat) (t x : Nat) : vp_updL (fun j => lN (U j)) t (lN x) = fun j => lN (ly_u U t x j) := by
  funext j
  by_cases h : j = t
  · subst h; rw [pk_uLs, ly_us]
  · rw [pk_uLn h, ly_un h]
abbrev ly_tys (cI cJ cZ : ClassId) : List (ClassId × FieldType) := [(cI, .int), (cJ, .long), (cZ, .boolean)]
/-- LayersDesk and its Pairing -/
abbrev ly_WD (h dn up wy pr ab lo : Nat) (cI cJ : ClassId) (n tr : Nat) (Dn Up Ab : Nat → Nat) (Lo : Nat → Option Nat) (Wy : Nat → Nat) : va_W :=
  [(h, .inr (0, [.ref dn, .ref up, .ref wy, .ref pr, .int (nI n)])), (dn, .inl (cI, 10, .inl (fun j => nI (Dn j)))), (up, .inl (cI, 10, .inl (fun j => nI (Up j)))), (wy, .inl (cJ, 1024, .inr (.inl (fun j => lN (Wy j))))), (pr, .inr (1, [.ref ab, .ref lo, .int (nI tr)])), (ab, .inl (cI, 10, .inl (fun j => nI (Ab j)))), (lo, .inl (cI, 10, .inl (fun j => ly_o (Lo j))))]
/-- LayersDeskModel -/
abbrev ly_WM (mo mu le ch mw : Nat) (cI cJ cZ : ClassId) (n kn wi he cl : Nat) (Up Le Ch Mw : Nat → Nat) : va_W :=
  [(mo, .inr (2, [.ref mu, .int (nI n), .int (nI kn), .int (nI wi), .int (nI he), .int (nI cl), .ref le, .ref ch, .ref mw])), (mu, .inl (cI, 10, .inl (fun j => nI (Up j)))), (le, .inl (cI, 1024, .inl (fun j => nI (Le j)))), (ch, .inl (cZ, 1024, .inl (fun j => nI (Ch j)))), (mw, .inl (cJ, 1024, .inr (.inl (fun j => lN (Mw j)))))]
section ly_store
variable {p : Program} {l : Launch} {e : Env} {R : Room} {s : State} {m : MethodId} {args : Array Value} {below : List Frame} {meth : Method} {c : Code} {H : Heap} {locs : List Loc} {cells slots : Nat} {Q : State → Prop}
variable {cc : ByteArray} {nL : Nat} {own : String} {D : va_G} {tys : List (ClassId × FieldType)} {A : Nat → Prop} {H0 : Heap} {ws : va_W} {pc : Nat} {ls : Array Slot} {rest : List Value} {a : Nat}
theorem ly_iastN (C : ly_C p m meth c cc nL s args own D tys A) (hw : ly_w D A H0 ws H locs) (q0 t0 : Nat) {cA : ClassId} {n : Nat} {U : Nat → Nat} (ha : ws[q0]? = some (a, .inl (cA, n, .inl (fun j => nI (U j))))) (ht : tys[t0]? = some (cA, .int)) {t x : Nat} (hlt : t < n) (hn : n < 2 ^ 31) (hdg : decode cc pc = .ok (.iastore, 1))
    (k : ∀ (H1 : Heap) (locs1 : List Loc), ly_w D A H0 (ws.set q0 (a, .inl (cA, n, .inl (fun j => nI (ly_u U t x j))))) H1 locs1 → W p l e R s m args below meth c H1 locs1 cells slots Q (F0 m (pc + 1) ls rest)) : W p l e R s m args below meth c H locs cells slots Q (F0 m pc ls (.int (nI x) :: .int (nI t) :: .ref a :: rest)) :=
  ly_iast C hw q0 t0 ha ht hlt hn hdg (fun H1 locs1 h => k H1 locs1 (by rw [← ly_updN]; exact h))
theorem ly_iastO (C : ly_C p m meth c cc nL s args own D tys A) (hw : ly_w D A H0 ws H locs) (q0 t0 : Nat) {cA : ClassId} {n : Nat} {U : Nat → Option Nat} (ha : ws[q0]? = some (a, .inl (cA, n, .inl (fun j => ly_o (U j))))) (ht : tys[t0]? = some (cA, .int)) {t : Nat} {x : Int32} (z : Option Nat) (hz : x = ly_o z) (hlt : t < n) (hn : n < 2 ^ 31) (hdg : decode cc pc = .ok (.iastore, 1))
    (k : ∀ (H1 : Heap) (locs1 : List Loc), ly_w D A H0 (ws.set q0 (a, .inl (cA, n, .inl (fun j => ly_o (ly_u U t z j))))) H1 locs1 → W p l e R s m args below meth c H1 locs1 cells slots Q (F0 m (pc + 1) ls rest)) : W p l e R s m args below meth c H locs cells slots Q (F0 m pc ls (.int x :: .int (nI t) :: .ref a :: rest)) :=
  ly_iast C hw q0 t0 ha ht hlt hn hdg (fun H1 locs1 h => k H1 locs1 (by rw [← ly_updO, ← hz]; exact h))
theorem ly_zastN (C : ly_C p m meth c cc nL s args own D tys A) (hw : ly_w D A H0 ws H locs) (q0 t0 : Nat) {cA : ClassId} {n : Nat} {U : Nat → Nat} (ha : ws[q0]? = some (a, .inl (cA, n, .inl (fun j => nI (U j))))) (ht : tys[t0]? = some (cA, .boolean)) {t : Nat} {b : Bool} (hlt : t < n) (hn : n < 2 ^ 31) (hdg : decode cc pc = .ok (.bastore, 1))
    (k : ∀ (H1 : Heap) (locs1 : List Loc), ly_w D A H0 (ws.set q0 (a, .inl (cA, n, .inl (fun j => nI (ly_u U t (if b then 1 else 0) j))))) H1 locs1 → W p l e R s m args below meth c H1 locs1 cells slots Q (F0 m (pc + 1) ls rest)) : W p l e R s m args below meth c H locs cells slots Q (F0 m pc ls (.int (nI (if b then 1 else 0)) :: .int (nI t) :: .ref a :: rest)) :=
  ly_zast C hw q0 t0 ha ht hlt hn (by cases b <;> decide) hdg (fun H1 locs1 h => k H1 locs1 (by rw [← ly_updN]; exact h))
theorem ly_lastN (C : ly_C p m meth c cc nL s args own D tys A) (hw : ly_w D A H0 ws H locs) (q0 t0 : Nat) {cA : ClassId} {n : Nat} {U : Nat → Nat} (ha : ws[q0]? = some (a, .inl (cA, n, .inr (.inl (fun j => lN (U j)))))) (ht : tys[t0]? = some (cA, .long)) {t x : Nat} (hlt : t < n) (hn : n < 2 ^ 31) (hdg : decode cc pc = .ok (.lastore, 1))
    (k : ∀ (H1 : Heap) (locs1 : List Loc), ly_w D A H0 (ws.set q0 (a, .inl (cA, n, .inr (.inl (fun j => lN (ly_u U t x j)))))) H1 locs1 → W p l e R s m args below meth c H1 locs1 cells slots Q (F0 m (pc + 1) ls rest)) : W p l e R s m args below meth c H locs cells slots Q (F0 m pc ls (.long (lN x) :: .int (nI t) :: .ref a :: rest)) :=
  ly_last C hw q0 t0 ha ht hlt hn hdg (fun H1 locs1 h => k H1 locs1 (by rw [← ly_updL]; exact h))
end ly_store
end
section
/-! ===== arrays behind a row of stores ===== -/
/-- 'add' put to F at the places below n that sel has -/
def ly_or (n : Nat) (sel add : Nat) (F : Nat → Nat) (j : Nat) : Nat := if j < n ∧ sel.testBit j = true then F j ||| add else F j
theorem ly_or_0 (sel add : Nat) (F : Nat → Nat) : ly_or 0 sel add F = F := by
  funext j
  exact if_neg (by omega)
theorem ly_or_at (i sel add : Nat) (F : Nat → Nat) : ly_or i sel add F i = F i := if_neg (by omega)
theorem ly_or_t {i sel : Nat} (h : sel.testBit i = true) (add : Nat) (F : Nat → Nat) : ly_u (ly_or i sel add F) i (ly_or i sel add F i ||| add) = ly_or (i + 1) sel add F := by
  funext j
  rw [ly_or_at]
  by_cases e : j = i
  · subst e
    rw [ly_us]
    exact (if_pos ⟨Nat.lt_succ_self j, h⟩).symm
  · rw [ly_un e]
    unfold ly_or
    by_cases q : j < i ∧ sel.testBit j = true
    · rw [if_pos q, if_pos ⟨by omega, q.2⟩]
    · rw [if_neg q, if_neg (fun z => q ⟨by omega, z.2⟩)]
theorem ly_or_f {i sel : Nat} (h : sel.testBit i = false) (add : Nat) (F : Nat → Nat) : ly_or i sel add F = ly_or (i + 1) sel add F := by
  funext j
  unfold ly_or
  by_cases q : j < i ∧ sel.testBit j = true
  · rw [if_pos q, if_pos ⟨by omega, q.2⟩]
  · rw [if_neg q, if_neg]
    rintro ⟨z1, z2⟩
    rcases Nat.lt_or_eq_of_le (Nat.le_of_lt_succ z1) with z | z
    · exact q ⟨z, z2⟩
    · rw [z, h] at z2; exact absurd z2 (by decide)
theorem ly_put_0 (U : Nat → Nat) (x y : Nat) : ly_put 0 U x y = U := by
  funext j
  exact if_neg (by omega)
theorem ly_put_at (i : Nat) (U : Nat → Nat) (x y : Nat) : ly_put i U x y i = U i := if_neg (by omega)
theorem ly_put_t {i : Nat} {U : Nat → Nat} {x y : Nat} (h : i = x ∨ (U i).testBit x = true) : ly_u (ly_put i U x y) i (ly_put i U x y i ||| (U y ||| 2 ^ y)) = ly_put (i + 1) U x y := by
  funext j
  rw [ly_put_at]
  by_cases e : j = i
  · subst e
    rw [ly_us]
    exact (if_pos ⟨Nat.lt_succ_self j, h⟩).symm
  · rw [ly_un e]
    unfold ly_put
    by_cases q : j < i ∧ (j = x ∨ (U j).testBit x = true)
    · rw [if_pos q, if_pos ⟨by omega, q.2⟩]
    · rw [if_neg q, if_neg (fun z => q ⟨by omega, z.2⟩)]
theorem ly_put_f {i : Nat} {U : Nat → Nat} {x y : Nat} (h1 : i ≠ x) (h2 : (U i).testBit x = false) : ly_put i U x y = ly_put (i + 1) U x y := by
  funext j
  unfold ly_put
  by_cases q : j < i ∧ (j = x ∨ (U j).testBit x = true)
  · rw [if_pos q, if_pos ⟨by omega, q.2⟩]
  · rw [if_neg q, if_neg]
    rintro ⟨z1, z2⟩
    rcases Nat.lt_or_eq_of_le (Nat.le_of_lt_succ z1) with z | z
    · exact q ⟨z, z2⟩
    · subst z
      rcases z2 with z2 | z2
      · exact h1 z2
      · rw [h2] at z2; exact absurd z2 (by decide)
theorem ly_or1024 {a b : Nat} (ha : a < 1024) (hb : b < 10) : a ||| 2 ^ b < 1024 := Nat.or_lt_two_pow (n := 10) ha (ly_pw hb)
end
section
/-! LayersDesk: thing, places, below (rows printed by gen) -/
set_option maxHeartbeats 4000000 in
set_option maxRecDepth 100000 in
/-- thing(x): the place that x asks for -/
theorem mt_thing (l : Launch) {dC : Nat → ClassId} {dI : Nat → Nat → Nat} {cI cJ cZ : ClassId} {h dn up wy pr ab lo : Nat} {n tr : Nat} {Dn Up Ab : Nat → Nat} {Lo : Nat → Option Nat} {Wy : Nat → Nat} (hn : 0 < n) (hn2 : n ≤ 10) (x : Int32) : ly_Mi (S := Unit) l yX0_thing (ws_ yX0_thing cX0_thing 2 (some .int)) ({ frames := 0, cells := 0, slots := 0, locals := 0 } : Room) [.ref h, .int x] (dC, dI) (ly_tys cI cJ cZ) (ly_WD h dn up wy pr ab lo cI cJ n tr Dn Up Ab Lo Wy) (fun r _ => r = nI (ly_ix n x)) (fun _ => (ly_WD h dn up wy pr ab lo cI cJ n tr Dn Up Ab Lo Wy)) := by
  refine ly_ofi (by decide) (Nat.le_of_ble_eq_true rfl) ?_
  intro p e s m below meth c A ls C hr hw hl
  have C : ly_C p m meth c cX0_thing 2 s _ RX0 (dC, dI) (ly_tys cI cJ cZ) A := C
  have hl : lv_has ls 2 [(0, .ref h), (1, .int x)] := hl
  refine lv_iload_n C.1.1 C.1.2.1 dX0_thing_0 rfl (lv_at hl 1 rfl) ?_
  refine lv_ldc C.1.1 C.1.2.1 C.1.2.2.2.1 (C.1.2.2.2.2 _ q55) dX0_thing_1 ?_
  refine lv_iand C.1.1 C.1.2.1 dX0_thing_3 ?_
  refine ly_top (ly_ix_mask x) ?_
  refine lv_aload_n C.1.1 C.1.2.1 dX0_thing_4 rfl (lv_at hl 0 rfl) ?_
  refine ly_gf in_X0 C hw 0 rfl rfl 4 (by decide) q39 rfl dX0_thing_5 ?_
  refine lv_irem C.1.1 C.1.2.1 dX0_thing_8 (nI_ne0 hn (by omega)) ?_
  refine ly_top (ly_ix_rem hn (by omega) x) ?_
  exact ly_iret (u := ()) C hr hw rfl dX0_thing_9
/-- zero at the places below i -/
def ly_z (i : Nat) (F : Nat → Nat) (j : Nat) : Nat := if j < i then 0 else F j
theorem ly_z_0 (F : Nat → Nat) : ly_z 0 F = F := by
  funext j
  exact if_neg (by omega)
theorem ly_z_s (i : Nat) (F : Nat → Nat) : ly_u (ly_z i F) i 0 = ly_z (i + 1) F := by
  funext j
  unfold ly_z
  by_cases e : j = i
  · subst e
    rw [ly_us, if_pos (Nat.lt_succ_self j)]
  · rw [ly_un e]
    by_cases q : j < i
    · rw [if_pos q, if_pos (by omega)]
    · rw [if_neg q, if_neg (by omega)]
set_option maxHeartbeats 4000000 in
set_option maxRecDepth 100000 in
/-- the loop of places -/
theorem lp_places0 {p : Program} {l : Launch} {e : Env} {R : Room} {s : State} {m : MethodId} {args : Array Value} {below : List Frame} {meth : Method} {c : Code} {Q : State → Prop} {dC : Nat → ClassId} {dI : Nat → Nat → Nat} {cI cJ cZ : ClassId} {A : Nat → Prop} {h dn up wy pr ab lo : Nat} {n tr : Nat} {Dn Up Ab : Nat → Nat} {Lo : Nat → Option Nat} {Wy : Nat → Nat} (C : ly_C p m meth c cX0_places 3 s args RX0 (dC, dI) (ly_tys cI cJ cZ) A) {y : Int32} (kk : ∀ (H : Heap) (locs : List Loc) (ls : Array Slot), ly_w (dC, dI) A s.heap (ly_WD h dn up wy pr ab lo cI cJ n tr (ly_z 10 Dn) (ly_z 10 Up) Ab Lo Wy) H locs → W p l e R s m args below meth c H locs 0 0 Q (F0 m 41 ls [])) :
    ∀ (k i : Nat) (H : Heap) (locs : List Loc) (ls : Array Slot), i + k = 10 → ly_w (dC, dI) A s.heap (ly_WD h dn up wy pr ab lo cI cJ n tr (ly_z i Dn) (ly_z i Up) Ab Lo Wy) H locs → lv_has ls 3 [(2, .int (nI i)), (0, .ref h), (1, .int y)] → W p l e R s m args below meth c H locs 0 0 Q (F0 m 15 ls []) := by
  intro k
  induction k with
  | zero =>
    intro i H locs ls hi hw hl
    have hi : i = 10 := hi
    subst hi
    refine lv_iload_n C.1.1 C.1.2.1 dX0_places_15 rfl (lv_at hl 0 rfl) ?_
    refine lv_bipush (v := nI 10) C.1.1 C.1.2.1 dX0_places_16 (by decide) ?_
    refine lv_icmp_ge (tgt := 41) C.1.1 C.1.2.1 dX0_places_18 (by decide) (fun c18 => ?_) (fun c18 => ?_)
    · skip
      exact kk H locs ls hw
    · skip
      exact absurd (nI_le (by omega) (by omega)) c18
  | succ k ih =>
    intro i H locs ls hi hw hl
    refine lv_iload_n C.1.1 C.1.2.1 dX0_places_15 rfl (lv_at hl 0 rfl) ?_
    refine lv_bipush (v := nI 10) C.1.1 C.1.2.1 dX0_places_16 (by decide) ?_
    refine lv_icmp_ge (tgt := 41) C.1.1 C.1.2.1 dX0_places_18 (by decide) (fun c18 => ?_) (fun c18 => ?_)
    · skip
      exact absurd c18 (nI_ge (by omega) (by omega))
    · skip
      refine lv_aload_n C.1.1 C.1.2.1 dX0_places_21 rfl (lv_at hl 1 rfl) ?_
      refine ly_gf in_X0 C hw 0 rfl rfl 0 (by decide) q35 rfl dX0_places_22 ?_
      refine lv_iload_n C.1.1 C.1.2.1 dX0_places_25 rfl (lv_at hl 0 rfl) ?_
      refine lv_iconst (v := nI 0) C.1.1 C.1.2.1 dX0_places_26 (by decide) ?_
      refine ly_iastN C hw 1 0 rfl rfl (by omega) (by decide) dX0_places_27 (fun H locs hw => ?_)
      have hw : ly_w (dC, dI) A s.heap (ly_WD h dn up wy pr ab lo cI cJ n tr (ly_u (ly_z i Dn) i 0) (ly_z i Up) Ab Lo Wy) H locs := hw
      refine lv_aload_n C.1.1 C.1.2.1 dX0_places_28 rfl (lv_at hl 1 rfl) ?_
      refine ly_gf in_X0 C hw 0 rfl rfl 1 (by decide) q36 rfl dX0_places_29 ?_
      refine lv_iload_n C.1.1 C.1.2.1 dX0_places_32 rfl (lv_at hl 0 rfl) ?_
      refine lv_iconst (v := nI 0) C.1.1 C.1.2.1 dX0_places_33 (by decide) ?_
      refine ly_iastN C hw 2 0 rfl rfl (by omega) (by decide) dX0_places_34 (fun H locs hw => ?_)
      have hw : ly_w (dC, dI) A s.heap (ly_WD h dn up wy pr ab lo cI cJ n tr (ly_u (ly_z i Dn) i 0) (ly_u (ly_z i Up) i 0) Ab Lo Wy) H locs := hw
      refine lv_iinc (v := nI (i + 1)) (lv' := [(2, .int (nI (i + 1))), (0, .ref h), (1, .int y)]) C.1.1 C.1.2.1 dX0_places_35 hl (k := 0) rfl (nI_add i 1) (by decide) rfl (fun ls hl => ?_)
      refine lv_goto (tgt := 15) C.1.1 C.1.2.1 dX0_places_38 (by decide) ?_
      refine ih (i + 1) H locs ls (by omega) ?_ hl
      rw [← ly_z_s, ← ly_z_s]
      exact hw
set_option maxHeartbeats 4000000 in
set_option maxRecDepth 100000 in
/-- places(x) -/
theorem mt_places0 (l : Launch) {dC : Nat → ClassId} {dI : Nat → Nat → Nat} {cI cJ cZ : ClassId} {h dn up wy pr ab lo : Nat} {n tr : Nat} {Dn Up Ab : Nat → Nat} {Lo : Nat → Option Nat} {Wy : Nat → Nat} (x : Int32) : ly_Mv (S := Unit) l yX0_places (ws_ yX0_places cX0_places 3 (none)) ({ frames := 0, cells := 0, slots := 0, locals := 0 } : Room) [.ref h, .int x] (dC, dI) (ly_tys cI cJ cZ) (ly_WD h dn up wy pr ab lo cI cJ n tr Dn Up Ab Lo Wy) (fun _ => True) (fun _ => (ly_WD h dn up wy pr ab lo cI cJ (1 + ly_ix 10 x) tr (ly_z 10 Dn) (ly_z 10 Up) Ab Lo Wy)) := by
  refine ly_ofv (by decide) (Nat.le_of_ble_eq_true rfl) ?_
  intro p e s m below meth c A ls C hr hw hl
  have C : ly_C p m meth c cX0_places 3 s _ RX0 (dC, dI) (ly_tys cI cJ cZ) A := C
  have hl : lv_has ls 3 [(0, .ref h), (1, .int x)] := hl
  refine lv_aload_n C.1.1 C.1.2.1 dX0_places_0 rfl (lv_at hl 0 rfl) ?_
  refine lv_iconst (v := nI 1) C.1.1 C.1.2.1 dX0_places_1 (by decide) ?_
  refine lv_iload_n C.1.1 C.1.2.1 dX0_places_2 rfl (lv_at hl 1 rfl) ?_
  refine lv_ldc C.1.1 C.1.2.1 C.1.2.2.2.1 (C.1.2.2.2.2 _ q55) dX0_places_3 ?_
  refine lv_iand C.1.1 C.1.2.1 dX0_places_5 ?_
  refine ly_top (ly_ix_mask x) ?_
  refine lv_bipush (v := nI 10) C.1.1 C.1.2.1 dX0_places_6 (by decide) ?_
  refine lv_irem C.1.1 C.1.2.1 dX0_places_8 (by decide) ?_
  refine ly_top (ly_ix_rem (n := 10) (by decide) (by decide) x) ?_
  refine lv_iadd C.1.1 C.1.2.1 dX0_places_9 ?_
  refine ly_top (nI_add 1 (ly_ix 10 x)) ?_
  refine ly_pf in_X0 tyX0 tyX0_ok nmX0 C hw 0 rfl rfl 4 (by decide) q39 rfl rfl rfl (Nat.le_of_ble_eq_true rfl) dX0_places_10 (fun H locs hw => ?_)
  have hw : ly_w (dC, dI) A s.heap (ly_WD h dn up wy pr ab lo cI cJ (1 + (ly_ix 10 x)) tr Dn Up Ab Lo Wy) H locs := hw
  refine lv_iconst (v := nI 0) C.1.1 C.1.2.1 dX0_places_13 (by decide) ?_
  refine lv_istore_n (lv' := [(2, .int (nI 0)), (0, .ref h), (1, .int x)]) C.1.1 C.1.2.1 dX0_places_14 rfl hl (by decide) rfl (fun ls hl => ?_)
  have hw : ly_w (dC, dI) A s.heap (ly_WD h dn up wy pr ab lo cI cJ (1 + ly_ix 10 x) tr (ly_z 0 Dn) (ly_z 0 Up) Ab Lo Wy) H locs := by rw [ly_z_0, ly_z_0]; exact hw
  refine lp_places0 C (fun H locs ls hw => ?_) 10 0 H locs ls (by omega) hw hl
  exact ly_vret (u := ()) C hr hw trivial dX0_places_41
set_option maxHeartbeats 4000000 in
set_option maxRecDepth 100000 in
/-- below(x, y) -/
theorem mt_below0 (l : Launch) {dC : Nat → ClassId} {dI : Nat → Nat → Nat} {cI cJ cZ : ClassId} {h dn up wy pr ab lo : Nat} {n tr : Nat} {Dn Up Ab : Nat → Nat} {Lo : Nat → Option Nat} {Wy : Nat → Nat} (hn : 0 < n) (hn2 : n ≤ 10) (hU : ∀ j, j < n → Up j < 1024) (x y : Int32) : ly_Mi (S := Unit) l yX0_below (ws_ yX0_below cX0_below 3 (some .boolean)) ({ frames := 1, cells := 0, slots := 0, locals := 21 } : Room) [.ref h, .int x, .int y] (dC, dI) (ly_tys cI cJ cZ) (ly_WD h dn up wy pr ab lo cI cJ n tr Dn Up Ab Lo Wy) (fun r _ => r = nI (if (Up (ly_ix n x)).testBit (ly_ix n y) then 1 else 0)) (fun _ => (ly_WD h dn up wy pr ab lo cI cJ n tr Dn Up Ab Lo Wy)) := by
  refine ly_ofi (by decide) (Nat.le_of_ble_eq_true rfl) ?_
  intro p e s m below meth c A ls C hr hw hl
  have C : ly_C p m meth c cX0_below 3 s _ RX0 (dC, dI) (ly_tys cI cJ cZ) A := C
  have hl : lv_has ls 3 [(0, .ref h), (1, .int x), (2, .int y)] := hl
  have hix := ly_ix_lt hn x
  have hiy := ly_ix_lt hn y
  refine lv_aload_n C.1.1 C.1.2.1 dX0_below_0 rfl (lv_at hl 0 rfl) ?_
  refine ly_gf in_X0 C hw 0 rfl rfl 1 (by decide) q36 rfl dX0_below_1 ?_
  refine lv_aload_n C.1.1 C.1.2.1 dX0_below_4 rfl (lv_at hl 0 rfl) ?_
  refine lv_iload_n C.1.1 C.1.2.1 dX0_below_5 rfl (lv_at hl 1 rfl) ?_
  refine ly_calli (wr := []) (rest := [.ref up]) (mt_thing l hn hn2 x) C (cwV 1 C.1.2.2.2.2 (lw_V q60 q62 qs0 q6 q63) rfl rfl rfl (by decide +kernel) ⟨Nat.le_of_ble_eq_true rfl, Nat.le_of_ble_eq_true rfl⟩) hw [0, 1, 2, 3, 4, 5, 6] [] rfl rfl (by decide) (by decide) (by decide) 0 rfl rfl rfl hl.1 (Nat.le_of_ble_eq_true rfl) dX0_below_6 (Nat.zero_le _) (Nat.zero_le _) (fun r u H locs hp hw => ?_)
  subst hp
  refine ly_iald C hw 2 0 rfl rfl (by omega) (by decide) rfl dX0_below_9 ?_
  refine lv_aload_n C.1.1 C.1.2.1 dX0_below_10 rfl (lv_at hl 0 rfl) ?_
  refine lv_iload_n C.1.1 C.1.2.1 dX0_below_11 rfl (lv_at hl 2 rfl) ?_
  refine ly_calli (wr := []) (rest := [.int (nI (Up (ly_ix n x)))]) (mt_thing l hn hn2 y) C (cwV 1 C.1.2.2.2.2 (lw_V q60 q62 qs0 q6 q63) rfl rfl rfl (by decide +kernel) ⟨Nat.le_of_ble_eq_true rfl, Nat.le_of_ble_eq_true rfl⟩) hw [0, 1, 2, 3, 4, 5, 6] [] rfl rfl (by decide) (by decide) (by decide) 0 rfl rfl rfl hl.1 (Nat.le_of_ble_eq_true rfl) dX0_below_12 (Nat.zero_le _) (Nat.zero_le _) (fun r u H locs hp hw => ?_)
  subst hp
  refine lv_ishr C.1.1 C.1.2.1 dX0_below_15 ?_
  refine lv_iconst (v := nI 1) C.1.1 C.1.2.1 dX0_below_16 (by decide) ?_
  refine lv_iand C.1.1 C.1.2.1 dX0_below_17 ?_
  refine ly_top (ly_bit (Nat.lt_trans (hU _ hix) (by decide)) (by omega)) ?_
  refine lv_iconst (v := nI 1) C.1.1 C.1.2.1 dX0_below_18 (by decide) ?_
  refine lv_icmp_ne (tgt := 26) C.1.1 C.1.2.1 dX0_below_19 (by decide) (fun c19 => ?_) (fun c19 => ?_)
  · have c19 := ly_bitn1 c19
    refine lv_iconst (v := nI 0) C.1.1 C.1.2.1 dX0_below_26 (by decide) ?_
    exact ly_zret (u := ()) C hr (by decide) hw (by rw [c19]; rfl) dX0_below_27
  · have c19 := ly_bit1 c19
    refine lv_iconst (v := nI 1) C.1.1 C.1.2.1 dX0_below_22 (by decide) ?_
    refine lv_goto (tgt := 27) C.1.1 C.1.2.1 dX0_below_23 (by decide) ?_
    exact ly_zret (u := ()) C hr (by decide) hw (by rw [c19]; rfl) dX0_below_27
end
section
/-! LayersDesk: put (rows printed by gen) -/
set_option maxHeartbeats 4000000 in
set_option maxRecDepth 100000 in
/-- the loop of put -/
theorem lp_put0 {p : Program} {l : Launch} {e : Env} {R : Room} {s : State} {m : MethodId} {args : Array Value} {below : List Frame} {meth : Method} {c : Code} {Q : State → Prop} {dC : Nat → ClassId} {dI : Nat → Nat → Nat} {cI cJ cZ : ClassId} {A : Nat → Prop} {h dn uq wy pr ab lo : Nat} {n tr lb ub va vb : Nat} {D U Ab : Nat → Nat} {Lo : Nat → Option Nat} {Wy : Nat → Nat} (C : ly_C p m meth c cX0_put 8 s args RX0 (dC, dI) (ly_tys cI cJ cZ) A) {x y : Int32} (hn2 : n ≤ 10) (hlb : lb < 1024) (hub : ub < 1024) (kk : ∀ (H : Heap) (locs : List Loc) (ls : Array Slot), ly_w (dC, dI) A s.heap (ly_WD h dn uq wy pr ab lo cI cJ n tr (ly_or n ub lb D) (ly_or n lb ub U) Ab Lo Wy) H locs → W p l e R s m args below meth c H locs 0 0 Q (F0 m 126 ls [])) :
    ∀ (k i : Nat) (H : Heap) (locs : List Loc) (ls : Array Slot), i + k = n → ly_w (dC, dI) A s.heap (ly_WD h dn uq wy pr ab lo cI cJ n tr (ly_or i ub lb D) (ly_or i lb ub U) Ab Lo Wy) H locs → lv_has ls 8 [(7, .int (nI i)), (6, .int (nI ub)), (5, .int (nI lb)), (4, .int (nI vb)), (3, .int (nI va)), (0, .ref h), (1, .int x), (2, .int y)] → W p l e R s m args below meth c H locs 0 0 Q (F0 m 65 ls []) := by
  intro k
  induction k with
  | zero =>
    intro i H locs ls hi hw hl
    have hi : i = n := hi
    subst hi
    refine lv_iload C.1.1 C.1.2.1 dX0_put_65 (lv_at hl 0 rfl) ?_
    refine lv_aload_n C.1.1 C.1.2.1 dX0_put_67 rfl (lv_at hl 5 rfl) ?_
    refine ly_gf in_X0 C hw 0 rfl rfl 4 (by decide) q39 rfl dX0_put_68 ?_
    refine lv_icmp_ge (tgt := 126) C.1.1 C.1.2.1 dX0_put_71 (by decide) (fun c71 => ?_) (fun c71 => ?_)
    · skip
      exact kk H locs ls hw
    · skip
      exact absurd (nI_le (Nat.le_refl _) (by omega)) c71
  | succ k ih =>
    intro i H locs ls hi hw hl
    refine lv_iload C.1.1 C.1.2.1 dX0_put_65 (lv_at hl 0 rfl) ?_
    refine lv_aload_n C.1.1 C.1.2.1 dX0_put_67 rfl (lv_at hl 5 rfl) ?_
    refine ly_gf in_X0 C hw 0 rfl rfl 4 (by decide) q39 rfl dX0_put_68 ?_
    refine lv_icmp_ge (tgt := 126) C.1.1 C.1.2.1 dX0_put_71 (by decide) (fun c71 => ?_) (fun c71 => ?_)
    · skip
      exact absurd c71 (nI_ge (by omega) (by omega))
    · skip
      refine lv_iload C.1.1 C.1.2.1 dX0_put_74 (lv_at hl 2 rfl) ?_
      refine lv_iload C.1.1 C.1.2.1 dX0_put_76 (lv_at hl 0 rfl) ?_
      refine lv_ishr C.1.1 C.1.2.1 dX0_put_78 ?_
      refine lv_iconst (v := nI 1) C.1.1 C.1.2.1 dX0_put_79 (by decide) ?_
      refine lv_iand C.1.1 C.1.2.1 dX0_put_80 ?_
      refine ly_top (ly_bit (by omega) (by omega)) ?_
      refine lv_iconst (v := nI 1) C.1.1 C.1.2.1 dX0_put_81 (by decide) ?_
      refine lv_icmp_ne (tgt := 97) C.1.1 C.1.2.1 dX0_put_82 (by decide) (fun c82 => ?_) (fun c82 => ?_)
      · have c82 := ly_bitn1 c82
        refine lv_iload C.1.1 C.1.2.1 dX0_put_97 (lv_at hl 1 rfl) ?_
        refine lv_iload C.1.1 C.1.2.1 dX0_put_99 (lv_at hl 0 rfl) ?_
        refine lv_ishr C.1.1 C.1.2.1 dX0_put_101 ?_
        refine lv_iconst (v := nI 1) C.1.1 C.1.2.1 dX0_put_102 (by decide) ?_
        refine lv_iand C.1.1 C.1.2.1 dX0_put_103 ?_
        refine ly_top (ly_bit (by omega) (by omega)) ?_
        refine lv_iconst (v := nI 1) C.1.1 C.1.2.1 dX0_put_104 (by decide) ?_
        refine lv_icmp_ne (tgt := 120) C.1.1 C.1.2.1 dX0_put_105 (by decide) (fun c105 => ?_) (fun c105 => ?_)
        · have c105 := ly_bitn1 c105
          refine lv_iinc (v := nI (i + 1)) (lv' := [(7, .int (nI (i + 1))), (6, .int (nI ub)), (5, .int (nI lb)), (4, .int (nI vb)), (3, .int (nI va)), (0, .ref h), (1, .int x), (2, .int y)]) C.1.1 C.1.2.1 dX0_put_120 hl (k := 0) rfl (nI_add i 1) (by decide) rfl (fun ls hl => ?_)
          refine lv_goto (tgt := 65) C.1.1 C.1.2.1 dX0_put_123 (by decide) ?_
          refine ih (i + 1) H locs ls (by omega) ?_ hl
          rw [← ly_or_f c105 lb D, ← ly_or_f c82 ub U]
          exact hw
        · have c105 := ly_bit1 c105
          refine lv_aload_n C.1.1 C.1.2.1 dX0_put_108 rfl (lv_at hl 5 rfl) ?_
          refine ly_gf in_X0 C hw 0 rfl rfl 0 (by decide) q35 rfl dX0_put_109 ?_
          refine lv_iload C.1.1 C.1.2.1 dX0_put_112 (lv_at hl 0 rfl) ?_
          refine lv_dup2_11 C.1.1 C.1.2.1 dX0_put_114 rfl rfl ?_
          refine ly_iald C hw 1 0 rfl rfl (by omega) (by decide) rfl dX0_put_115 ?_
          refine lv_iload C.1.1 C.1.2.1 dX0_put_116 (lv_at hl 2 rfl) ?_
          refine lv_ior C.1.1 C.1.2.1 dX0_put_118 ?_
          refine ly_top (fa_or ((ly_or i ub lb D) i) lb) ?_
          refine ly_iastN C hw 1 0 rfl rfl (by omega) (by decide) dX0_put_119 (fun H locs hw => ?_)
          have hw : ly_w (dC, dI) A s.heap (ly_WD h dn uq wy pr ab lo cI cJ n tr (ly_u (ly_or i ub lb D) i (((ly_or i ub lb D) i) ||| lb)) (ly_or i lb ub U) Ab Lo Wy) H locs := hw
          refine lv_iinc (v := nI (i + 1)) (lv' := [(7, .int (nI (i + 1))), (6, .int (nI ub)), (5, .int (nI lb)), (4, .int (nI vb)), (3, .int (nI va)), (0, .ref h), (1, .int x), (2, .int y)]) C.1.1 C.1.2.1 dX0_put_120 hl (k := 0) rfl (nI_add i 1) (by decide) rfl (fun ls hl => ?_)
          refine lv_goto (tgt := 65) C.1.1 C.1.2.1 dX0_put_123 (by decide) ?_
          refine ih (i + 1) H locs ls (by omega) ?_ hl
          rw [← ly_or_t c105 lb D, ← ly_or_f c82 ub U]
          exact hw
      · have c82 := ly_bit1 c82
        refine lv_aload_n C.1.1 C.1.2.1 dX0_put_85 rfl (lv_at hl 5 rfl) ?_
        refine ly_gf in_X0 C hw 0 rfl rfl 1 (by decide) q36 rfl dX0_put_86 ?_
        refine lv_iload C.1.1 C.1.2.1 dX0_put_89 (lv_at hl 0 rfl) ?_
        refine lv_dup2_11 C.1.1 C.1.2.1 dX0_put_91 rfl rfl ?_
        refine ly_iald C hw 2 0 rfl rfl (by omega) (by decide) rfl dX0_put_92 ?_
        refine lv_iload C.1.1 C.1.2.1 dX0_put_93 (lv_at hl 1 rfl) ?_
        refine lv_ior C.1.1 C.1.2.1 dX0_put_95 ?_
        refine ly_top (fa_or ((ly_or i lb ub U) i) ub) ?_
        refine ly_iastN C hw 2 0 rfl rfl (by omega) (by decide) dX0_put_96 (fun H locs hw => ?_)
        have hw : ly_w (dC, dI) A s.heap (ly_WD h dn uq wy pr ab lo cI cJ n tr (ly_or i ub lb D) (ly_u (ly_or i lb ub U) i (((ly_or i lb ub U) i) ||| ub)) Ab Lo Wy) H locs := hw
        refine lv_iload C.1.1 C.1.2.1 dX0_put_97 (lv_at hl 1 rfl) ?_
        refine lv_iload C.1.1 C.1.2.1 dX0_put_99 (lv_at hl 0 rfl) ?_
        refine lv_ishr C.1.1 C.1.2.1 dX0_put_101 ?_
        refine lv_iconst (v := nI 1) C.1.1 C.1.2.1 dX0_put_102 (by decide) ?_
        refine lv_iand C.1.1 C.1.2.1 dX0_put_103 ?_
        refine ly_top (ly_bit (by omega) (by omega)) ?_
        refine lv_iconst (v := nI 1) C.1.1 C.1.2.1 dX0_put_104 (by decide) ?_
        refine lv_icmp_ne (tgt := 120) C.1.1 C.1.2.1 dX0_put_105 (by decide) (fun c105 => ?_) (fun c105 => ?_)
        · have c105 := ly_bitn1 c105
          refine lv_iinc (v := nI (i + 1)) (lv' := [(7, .int (nI (i + 1))), (6, .int (nI ub)), (5, .int (nI lb)), (4, .int (nI vb)), (3, .int (nI va)), (0, .ref h), (1, .int x), (2, .int y)]) C.1.1 C.1.2.1 dX0_put_120 hl (k := 0) rfl (nI_add i 1) (by decide) rfl (fun ls hl => ?_)
          refine lv_goto (tgt := 65) C.1.1 C.1.2.1 dX0_put_123 (by decide) ?_
          refine ih (i + 1) H locs ls (by omega) ?_ hl
          rw [← ly_or_f c105 lb D, ← ly_or_t c82 ub U]
          exact hw
        · have c105 := ly_bit1 c105
          refine lv_aload_n C.1.1 C.1.2.1 dX0_put_108 rfl (lv_at hl 5 rfl) ?_
          refine ly_gf in_X0 C hw 0 rfl rfl 0 (by decide) q35 rfl dX0_put_109 ?_
          refine lv_iload C.1.1 C.1.2.1 dX0_put_112 (lv_at hl 0 rfl) ?_
          refine lv_dup2_11 C.1.1 C.1.2.1 dX0_put_114 rfl rfl ?_
          refine ly_iald C hw 1 0 rfl rfl (by omega) (by decide) rfl dX0_put_115 ?_
          refine lv_iload C.1.1 C.1.2.1 dX0_put_116 (lv_at hl 2 rfl) ?_
          refine lv_ior C.1.1 C.1.2.1 dX0_put_118 ?_
          refine ly_top (fa_or ((ly_or i ub lb D) i) lb) ?_
          refine ly_iastN C hw 1 0 rfl rfl (by omega) (by decide) dX0_put_119 (fun H locs hw => ?_)
          have hw : ly_w (dC, dI) A s.heap (ly_WD h dn uq wy pr ab lo cI cJ n tr (ly_u (ly_or i ub lb D) i (((ly_or i ub lb D) i) ||| lb)) (ly_u (ly_or i lb ub U) i (((ly_or i lb ub U) i) ||| ub)) Ab Lo Wy) H locs := hw
          refine lv_iinc (v := nI (i + 1)) (lv' := [(7, .int (nI (i + 1))), (6, .int (nI ub)), (5, .int (nI lb)), (4, .int (nI vb)), (3, .int (nI va)), (0, .ref h), (1, .int x), (2, .int y)]) C.1.1 C.1.2.1 dX0_put_120 hl (k := 0) rfl (nI_add i 1) (by decide) rfl (fun ls hl => ?_)
          refine lv_goto (tgt := 65) C.1.1 C.1.2.1 dX0_put_123 (by decide) ?_
          refine ih (i + 1) H locs ls (by omega) ?_ hl
          rw [← ly_or_t c105 lb D, ← ly_or_t c82 ub U]
          exact hw
set_option maxHeartbeats 4000000 in
set_option maxRecDepth 100000 in
/-- put(x, y) -/
theorem mt_put0 (l : Launch) {dC : Nat → ClassId} {dI : Nat → Nat → Nat} {cI cJ cZ : ClassId} {h dn up wy pr ab lo : Nat} {n tr : Nat} {Dn Up Ab : Nat → Nat} {Lo : Nat → Option Nat} {Wy : Nat → Nat} (hn : 0 < n) (hn2 : n ≤ 10) (hU : ∀ j, j < n → Up j < 1024) (hD : ∀ j, j < n → Dn j < 1024) (x y : Int32) : ly_Mi (S := (Nat → Nat) × (Nat → Nat)) l yX0_put (ws_ yX0_put cX0_put 8 (some .boolean)) ({ frames := 1, cells := 0, slots := 0, locals := 21 } : Room) [.ref h, .int x, .int y] (dC, dI) (ly_tys cI cJ cZ) (ly_WD h dn up wy pr ab lo cI cJ n tr Dn Up Ab Lo Wy) (fun r (u : (Nat → Nat) × (Nat → Nat)) => (ly_ix n x = ly_ix n y ∨ (Dn (ly_ix n x)).testBit (ly_ix n y) = true) ∧ r = nI 0 ∧ u = (Dn, Up) ∨ (ly_ix n x ≠ ly_ix n y ∧ (Dn (ly_ix n x)).testBit (ly_ix n y) = false) ∧ r = nI 1 ∧ u = (ly_or n (Up (ly_ix n y) ||| 2 ^ ly_ix n y) (Dn (ly_ix n x) ||| 2 ^ ly_ix n x) Dn, ly_or n (Dn (ly_ix n x) ||| 2 ^ ly_ix n x) (Up (ly_ix n y) ||| 2 ^ ly_ix n y) Up)) (fun u => (ly_WD h dn up wy pr ab lo cI cJ n tr (u.1) (u.2) Ab Lo Wy)) := by
  refine ly_ofi (by decide) (Nat.le_of_ble_eq_true rfl) ?_
  intro p e s m below meth c A ls C hr hw hl
  have C : ly_C p m meth c cX0_put 8 s _ RX0 (dC, dI) (ly_tys cI cJ cZ) A := C
  have hl : lv_has ls 8 [(0, .ref h), (1, .int x), (2, .int y)] := hl
  have hix := ly_ix_lt hn x
  have hiy := ly_ix_lt hn y
  refine lv_aload_n C.1.1 C.1.2.1 dX0_put_0 rfl (lv_at hl 0 rfl) ?_
  refine lv_iload_n C.1.1 C.1.2.1 dX0_put_1 rfl (lv_at hl 1 rfl) ?_
  refine ly_calli (wr := []) (rest := []) (mt_thing l hn hn2 x) C (cwV 1 C.1.2.2.2.2 (lw_V q60 q62 qs0 q6 q63) rfl rfl rfl (by decide +kernel) ⟨Nat.le_of_ble_eq_true rfl, Nat.le_of_ble_eq_true rfl⟩) hw [0, 1, 2, 3, 4, 5, 6] [] rfl rfl (by decide) (by decide) (by decide) 0 rfl rfl rfl hl.1 (Nat.le_of_ble_eq_true rfl) dX0_put_2 (Nat.zero_le _) (Nat.zero_le _) (fun r u H locs hp hw => ?_)
  subst hp
  refine lv_istore_n (lv' := [(3, .int (nI (ly_ix n x))), (0, .ref h), (1, .int x), (2, .int y)]) C.1.1 C.1.2.1 dX0_put_5 rfl hl (by decide) rfl (fun ls hl => ?_)
  refine lv_aload_n C.1.1 C.1.2.1 dX0_put_6 rfl (lv_at hl 1 rfl) ?_
  refine lv_iload_n C.1.1 C.1.2.1 dX0_put_7 rfl (lv_at hl 3 rfl) ?_
  refine ly_calli (wr := []) (rest := []) (mt_thing l hn hn2 y) C (cwV 1 C.1.2.2.2.2 (lw_V q60 q62 qs0 q6 q63) rfl rfl rfl (by decide +kernel) ⟨Nat.le_of_ble_eq_true rfl, Nat.le_of_ble_eq_true rfl⟩) hw [0, 1, 2, 3, 4, 5, 6] [] rfl rfl (by decide) (by decide) (by decide) 0 rfl rfl rfl hl.1 (Nat.le_of_ble_eq_true rfl) dX0_put_8 (Nat.zero_le _) (Nat.zero_le _) (fun r u H locs hp hw => ?_)
  subst hp
  refine lv_istore (lv' := [(4, .int (nI (ly_ix n y))), (3, .int (nI (ly_ix n x))), (0, .ref h), (1, .int x), (2, .int y)]) C.1.1 C.1.2.1 dX0_put_11 hl (by decide) rfl (fun ls hl => ?_)
  refine lv_iload_n C.1.1 C.1.2.1 dX0_put_13 rfl (lv_at hl 1 rfl) ?_
  refine lv_iload C.1.1 C.1.2.1 dX0_put_14 (lv_at hl 0 rfl) ?_
  refine lv_icmp_eq (tgt := 34) C.1.1 C.1.2.1 dX0_put_16 (by decide) (fun c16 => ?_) (fun c16 => ?_)
  · have c16 := (nI_eq (by omega) (by omega)).mp c16
    refine lv_iconst (v := nI 0) C.1.1 C.1.2.1 dX0_put_34 (by decide) ?_
    exact ly_zret (u := (Dn, Up)) C hr (by decide) hw (Or.inl ⟨Or.inl c16, rfl, rfl⟩) dX0_put_35
  · have c16 : ly_ix n x ≠ ly_ix n y := fun q => c16 (by rw [q])
    refine lv_aload_n C.1.1 C.1.2.1 dX0_put_19 rfl (lv_at hl 2 rfl) ?_
    refine ly_gf in_X0 C hw 0 rfl rfl 0 (by decide) q35 rfl dX0_put_20 ?_
    refine lv_iload_n C.1.1 C.1.2.1 dX0_put_23 rfl (lv_at hl 1 rfl) ?_
    refine ly_iald C hw 1 0 rfl rfl (by omega) (by decide) rfl dX0_put_24 ?_
    refine lv_iload C.1.1 C.1.2.1 dX0_put_25 (lv_at hl 0 rfl) ?_
    refine lv_ishr C.1.1 C.1.2.1 dX0_put_27 ?_
    refine lv_iconst (v := nI 1) C.1.1 C.1.2.1 dX0_put_28 (by decide) ?_
    refine lv_iand C.1.1 C.1.2.1 dX0_put_29 ?_
    refine ly_top (ly_bit (Nat.lt_trans (hD _ hix) (by decide)) (by omega)) ?_
    refine lv_iconst (v := nI 1) C.1.1 C.1.2.1 dX0_put_30 (by decide) ?_
    refine lv_icmp_ne (tgt := 36) C.1.1 C.1.2.1 dX0_put_31 (by decide) (fun c31 => ?_) (fun c31 => ?_)
    · have c31 := ly_bitn1 c31
      refine lv_aload_n C.1.1 C.1.2.1 dX0_put_36 rfl (lv_at hl 2 rfl) ?_
      refine ly_gf in_X0 C hw 0 rfl rfl 0 (by decide) q35 rfl dX0_put_37 ?_
      refine lv_iload_n C.1.1 C.1.2.1 dX0_put_40 rfl (lv_at hl 1 rfl) ?_
      refine ly_iald C hw 1 0 rfl rfl (by omega) (by decide) rfl dX0_put_41 ?_
      refine lv_iconst (v := nI 1) C.1.1 C.1.2.1 dX0_put_42 (by decide) ?_
      refine lv_iload_n C.1.1 C.1.2.1 dX0_put_43 rfl (lv_at hl 1 rfl) ?_
      refine lv_ishl C.1.1 C.1.2.1 dX0_put_44 ?_
      refine ly_top (ly_shl (by omega)) ?_
      refine lv_ior C.1.1 C.1.2.1 dX0_put_45 ?_
      refine ly_top (fa_or (Dn (ly_ix n x)) (2 ^ (ly_ix n x))) ?_
      refine lv_istore (lv' := [(5, .int (nI ((Dn (ly_ix n x)) ||| (2 ^ (ly_ix n x))))), (4, .int (nI (ly_ix n y))), (3, .int (nI (ly_ix n x))), (0, .ref h), (1, .int x), (2, .int y)]) C.1.1 C.1.2.1 dX0_put_46 hl (by decide) rfl (fun ls hl => ?_)
      refine lv_aload_n C.1.1 C.1.2.1 dX0_put_48 rfl (lv_at hl 3 rfl) ?_
      refine ly_gf in_X0 C hw 0 rfl rfl 1 (by decide) q36 rfl dX0_put_49 ?_
      refine lv_iload C.1.1 C.1.2.1 dX0_put_52 (lv_at hl 1 rfl) ?_
      refine ly_iald C hw 2 0 rfl rfl (by omega) (by decide) rfl dX0_put_54 ?_
      refine lv_iconst (v := nI 1) C.1.1 C.1.2.1 dX0_put_55 (by decide) ?_
      refine lv_iload C.1.1 C.1.2.1 dX0_put_56 (lv_at hl 1 rfl) ?_
      refine lv_ishl C.1.1 C.1.2.1 dX0_put_58 ?_
      refine ly_top (ly_shl (by omega)) ?_
      refine lv_ior C.1.1 C.1.2.1 dX0_put_59 ?_
      refine ly_top (fa_or (Up (ly_ix n y)) (2 ^ (ly_ix n y))) ?_
      refine lv_istore (lv' := [(6, .int (nI ((Up (ly_ix n y)) ||| (2 ^ (ly_ix n y))))), (5, .int (nI ((Dn (ly_ix n x)) ||| (2 ^ (ly_ix n x))))), (4, .int (nI (ly_ix n y))), (3, .int (nI (ly_ix n x))), (0, .ref h), (1, .int x), (2, .int y)]) C.1.1 C.1.2.1 dX0_put_60 hl (by decide) rfl (fun ls hl => ?_)
      refine lv_iconst (v := nI 0) C.1.1 C.1.2.1 dX0_put_62 (by decide) ?_
      refine lv_istore (lv' := [(7, .int (nI 0)), (6, .int (nI ((Up (ly_ix n y)) ||| (2 ^ (ly_ix n y))))), (5, .int (nI ((Dn (ly_ix n x)) ||| (2 ^ (ly_ix n x))))), (4, .int (nI (ly_ix n y))), (3, .int (nI (ly_ix n x))), (0, .ref h), (1, .int x), (2, .int y)]) C.1.1 C.1.2.1 dX0_put_63 hl (by decide) rfl (fun ls hl => ?_)
      refine lp_put0 C hn2 (ly_or1024 (hD _ hix) (by omega)) (ly_or1024 (hU _ hiy) (by omega)) (fun H locs ls hw => ?_) n 0 H locs ls (by omega) (by rw [ly_or_0, ly_or_0]; exact hw) hl
      refine lv_iconst (v := nI 1) C.1.1 C.1.2.1 dX0_put_126 (by decide) ?_
      exact ly_zret (u := (_, _)) C hr (by decide) hw (Or.inr ⟨⟨c16, c31⟩, rfl, rfl⟩) dX0_put_127
    · have c31 := ly_bit1 c31
      refine lv_iconst (v := nI 0) C.1.1 C.1.2.1 dX0_put_34 (by decide) ?_
      exact ly_zret (u := (Dn, Up)) C hr (by decide) hw (Or.inl ⟨Or.inr c31, rfl, rfl⟩) dX0_put_35
end
section
/-! ===== a layer of what is left ===== -/
def ly_layer (Dn : Nat → Nat) (left : Nat) : Nat → Nat
  | 0 => 0
  | i + 1 => if left.testBit i && decide (Dn i &&& left = 0) then ly_layer Dn left i ||| 2 ^ i else ly_layer Dn left i
theorem ly_layer_t {Dn : Nat → Nat} {left i : Nat} (h1 : left.testBit i = true) (h2 : Dn i &&& left = 0) : ly_layer Dn left (i + 1) = ly_layer Dn left i ||| 2 ^ i := by
  rw [ly_layer, if_pos (by simp [h1, h2])]
theorem ly_layer_f1 {Dn : Nat → Nat} {left i : Nat} (h1 : left.testBit i = false) : ly_layer Dn left (i + 1) = ly_layer Dn left i := by
  rw [ly_layer, if_neg (by simp [h1])]
theorem ly_layer_f2 {Dn : Nat → Nat} {left i : Nat} (h2 : ¬ Dn i &&& left = 0) : ly_layer Dn left (i + 1) = ly_layer Dn left i := by
  rw [ly_layer, if_neg (by simp [h2])]
theorem ly_and1024 {a b : Nat} (hb : b < 1024) : a &&& b < 1024 := Nat.and_lt_two_pow (n := 10) a hb
end
section
/-! LayersDesk: height (rows printed by gen) -/
set_option maxHeartbeats 4000000 in
set_option maxRecDepth 100000 in
/-- the inner loop of height -/
theorem lp_height1 {p : Program} {l : Launch} {e : Env} {R : Room} {s : State} {m : MethodId} {args : Array Value} {below : List Frame} {meth : Method} {c : Code} {Q : State → Prop} {dC : Nat → ClassId} {dI : Nat → Nat → Nat} {cI cJ cZ : ClassId} {A : Nat → Prop} {H : Heap} {locs : List Loc} {h dn up wy pr ab lo : Nat} {n tr : Nat} {Dn Up Ab : Nat → Nat} {Lo : Nat → Option Nat} {Wy : Nat → Nat} {left mo : Nat} (C : ly_C p m meth c cX0_height 5 s args RX0 (dC, dI) (ly_tys cI cJ cZ) A) (hn2 : n ≤ 10) (hleft : left < 1024) (kk : ∀ (ls : Array Slot), lv_has ls 5 [(4, .int (nI n)), (3, .int (nI (ly_layer Dn left n))), (2, .int (nI left)), (1, .int (nI mo)), (0, .ref h)] → W p l e R s m args below meth c H locs 0 0 Q (F0 m 64 ls [])) (hw : ly_w (dC, dI) A s.heap (ly_WD h dn up wy pr ab lo cI cJ n tr Dn Up Ab Lo Wy) H locs) :
    ∀ (k i : Nat) (ls : Array Slot), i + k = n → lv_has ls 5 [(4, .int (nI i)), (3, .int (nI (ly_layer Dn left i))), (2, .int (nI left)), (1, .int (nI mo)), (0, .ref h)] → W p l e R s m args below meth c H locs 0 0 Q (F0 m 20 ls []) := by
  intro k
  induction k with
  | zero =>
    intro i ls hi hl
    have hi : i = n := hi
    subst hi
    refine lv_iload C.1.1 C.1.2.1 dX0_height_20 (lv_at hl 0 rfl) ?_
    refine lv_aload_n C.1.1 C.1.2.1 dX0_height_22 rfl (lv_at hl 4 rfl) ?_
    refine ly_gf in_X0 C hw 0 rfl rfl 4 (by decide) q39 rfl dX0_height_23 ?_
    refine lv_icmp_ge (tgt := 64) C.1.1 C.1.2.1 dX0_height_26 (by decide) (fun c26 => ?_) (fun c26 => ?_)
    · exact kk ls hl
    · exact absurd (nI_le (Nat.le_refl _) (by omega)) c26
  | succ k ih =>
    intro i ls hi hl
    refine lv_iload C.1.1 C.1.2.1 dX0_height_20 (lv_at hl 0 rfl) ?_
    refine lv_aload_n C.1.1 C.1.2.1 dX0_height_22 rfl (lv_at hl 4 rfl) ?_
    refine ly_gf in_X0 C hw 0 rfl rfl 4 (by decide) q39 rfl dX0_height_23 ?_
    refine lv_icmp_ge (tgt := 64) C.1.1 C.1.2.1 dX0_height_26 (by decide) (fun c26 => ?_) (fun c26 => ?_)
    · exact absurd c26 (nI_ge (by omega) (by omega))
    · skip
      refine lv_iload_n C.1.1 C.1.2.1 dX0_height_29 rfl (lv_at hl 2 rfl) ?_
      refine lv_iload C.1.1 C.1.2.1 dX0_height_30 (lv_at hl 0 rfl) ?_
      refine lv_ishr C.1.1 C.1.2.1 dX0_height_32 ?_
      refine lv_iconst (v := nI 1) C.1.1 C.1.2.1 dX0_height_33 (by decide) ?_
      refine lv_iand C.1.1 C.1.2.1 dX0_height_34 ?_
      refine ly_top (ly_bit (by omega) (by omega)) ?_
      refine lv_iconst (v := nI 1) C.1.1 C.1.2.1 dX0_height_35 (by decide) ?_
      refine lv_icmp_ne (tgt := 58) C.1.1 C.1.2.1 dX0_height_36 (by decide) (fun c36 => ?_) (fun c36 => ?_)
      · have c36 := ly_bitn1 c36
        refine lv_iinc (v := nI (i + 1)) (lv' := [(4, .int (nI (i + 1))), (3, .int (nI (ly_layer Dn left i))), (2, .int (nI left)), (1, .int (nI mo)), (0, .ref h)]) C.1.1 C.1.2.1 dX0_height_58 hl (k := 0) rfl (nI_add i 1) (by decide) rfl (fun ls hl => ?_)
        refine lv_goto (tgt := 20) C.1.1 C.1.2.1 dX0_height_61 (by decide) ?_
        exact ih (i + 1) ls (by omega) (by rw [ly_layer_f1 c36]; exact hl)
      · have c36 := ly_bit1 c36
        refine lv_aload_n C.1.1 C.1.2.1 dX0_height_39 rfl (lv_at hl 4 rfl) ?_
        refine ly_gf in_X0 C hw 0 rfl rfl 0 (by decide) q35 rfl dX0_height_40 ?_
        refine lv_iload C.1.1 C.1.2.1 dX0_height_43 (lv_at hl 0 rfl) ?_
        refine ly_iald C hw 1 0 rfl rfl (by omega) (by decide) rfl dX0_height_45 ?_
        refine lv_iload_n C.1.1 C.1.2.1 dX0_height_46 rfl (lv_at hl 2 rfl) ?_
        refine lv_iand C.1.1 C.1.2.1 dX0_height_47 ?_
        refine ly_top (fa_and (Dn i) left) ?_
        refine lv_if_ne (tgt := 58) C.1.1 C.1.2.1 dX0_height_48 (by decide) (fun c48 => ?_) (fun c48 => ?_)
        · have c48 : ¬ Dn i &&& left = 0 := fun q => c48 (by rw [q]; rfl)
          refine lv_iinc (v := nI (i + 1)) (lv' := [(4, .int (nI (i + 1))), (3, .int (nI (ly_layer Dn left i))), (2, .int (nI left)), (1, .int (nI mo)), (0, .ref h)]) C.1.1 C.1.2.1 dX0_height_58 hl (k := 0) rfl (nI_add i 1) (by decide) rfl (fun ls hl => ?_)
          refine lv_goto (tgt := 20) C.1.1 C.1.2.1 dX0_height_61 (by decide) ?_
          exact ih (i + 1) ls (by omega) (by rw [ly_layer_f2 c48]; exact hl)
        · have c48 := (ly_eq0 (Nat.lt_trans (ly_and1024 hleft) (by decide))).mp c48
          refine lv_iload_n C.1.1 C.1.2.1 dX0_height_51 rfl (lv_at hl 1 rfl) ?_
          refine lv_iconst (v := nI 1) C.1.1 C.1.2.1 dX0_height_52 (by decide) ?_
          refine lv_iload C.1.1 C.1.2.1 dX0_height_53 (lv_at hl 0 rfl) ?_
          refine lv_ishl C.1.1 C.1.2.1 dX0_height_55 ?_
          refine ly_top (ly_shl (by omega)) ?_
          refine lv_ior C.1.1 C.1.2.1 dX0_height_56 ?_
          refine ly_top (fa_or (ly_layer Dn left i) (2 ^ i)) ?_
          refine lv_istore_n (lv' := [(3, .int (nI ((ly_layer Dn left i) ||| (2 ^ i)))), (4, .int (nI i)), (2, .int (nI left)), (1, .int (nI mo)), (0, .ref h)]) C.1.1 C.1.2.1 dX0_height_57 rfl hl (by decide) rfl (fun ls hl => ?_)
          refine lv_iinc (v := nI (i + 1)) (lv' := [(4, .int (nI (i + 1))), (3, .int (nI ((ly_layer Dn left i) ||| (2 ^ i)))), (2, .int (nI left)), (1, .int (nI mo)), (0, .ref h)]) C.1.1 C.1.2.1 dX0_height_58 hl (k := 1) rfl (nI_add i 1) (by decide) rfl (fun ls hl => ?_)
          refine lv_goto (tgt := 20) C.1.1 C.1.2.1 dX0_height_61 (by decide) ?_
          exact ih (i + 1) ls (by omega) (by rw [ly_layer_t c36 c48]; exact hl)
set_option maxHeartbeats 4000000 in
set_option maxRecDepth 100000 in
/-- the outer loop of height, by any invariant I of the count and of what is left -/
theorem lp_height0 {p : Program} {l : Launch} {e : Env} {R : Room} {s : State} {m : MethodId} {args : Array Value} {below : List Frame} {meth : Method} {c : Code} {Q : State → Prop} {dC : Nat → ClassId} {dI : Nat → Nat → Nat} {cI cJ cZ : ClassId} {A : Nat → Prop} {H : Heap} {locs : List Loc} {h dn up wy pr ab lo : Nat} {n tr : Nat} {Dn Up Ab : Nat → Nat} {Lo : Nat → Option Nat} {Wy : Nat → Nat} (I : Nat → Nat → Prop) (C : ly_C p m meth c cX0_height 5 s args RX0 (dC, dI) (ly_tys cI cJ cZ) A) (hn2 : n ≤ 10) (hI : ∀ k left, I k left → left < 2 ^ n → left ≠ 0 → ly_sd left (ly_layer Dn left n) < left ∧ I (k + 1) (ly_sd left (ly_layer Dn left n))) (kk : ∀ (k : Nat) (ls : Array Slot), I k 0 → lv_has ls 5 [(2, .int (nI 0)), (1, .int (nI k)), (0, .ref h)] → W p l e R s m args below meth c H locs 0 0 Q (F0 m 76 ls [])) (hw : ly_w (dC, dI) A s.heap (ly_WD h dn up wy pr ab lo cI cJ n tr Dn Up Ab Lo Wy) H locs) :
    ∀ (b left mo : Nat) (ls : Array Slot), left ≤ b → left < 2 ^ n → I mo left → lv_has ls 5 [(2, .int (nI left)), (1, .int (nI mo)), (0, .ref h)] → W p l e R s m args below meth c H locs 0 0 Q (F0 m 11 ls []) := by
  have hp := ly_p10 hn2
  intro b
  induction b with
  | zero =>
    intro left mo ls hb hlt hi hl
    have hb : left = 0 := by omega
    subst hb
    refine lv_iload_n C.1.1 C.1.2.1 dX0_height_11 rfl (lv_at hl 0 rfl) ?_
    refine lv_if_eq (tgt := 76) C.1.1 C.1.2.1 dX0_height_12 (by decide) (fun c12 => ?_) (fun c12 => ?_)
    · exact kk mo ls hi hl
    · exact absurd rfl c12
  | succ b ih =>
    intro left mo ls hb hlt hi hl
    refine lv_iload_n C.1.1 C.1.2.1 dX0_height_11 rfl (lv_at hl 0 rfl) ?_
    refine lv_if_eq (tgt := 76) C.1.1 C.1.2.1 dX0_height_12 (by decide) (fun c12 => ?_) (fun c12 => ?_)
    · have c12 := (ly_eq0 (by omega)).mp c12
      subst c12
      exact kk mo ls hi hl
    · have c12 : left ≠ 0 := fun q => c12 (by rw [q]; rfl)
      obtain ⟨h1, h2⟩ := hI mo left hi hlt c12
      refine lv_iconst (v := nI 0) C.1.1 C.1.2.1 dX0_height_15 (by decide) ?_
      refine lv_istore_n (lv' := [(3, .int (nI 0)), (2, .int (nI left)), (1, .int (nI mo)), (0, .ref h)]) C.1.1 C.1.2.1 dX0_height_16 rfl hl (by decide) rfl (fun ls hl => ?_)
      refine lv_iconst (v := nI 0) C.1.1 C.1.2.1 dX0_height_17 (by decide) ?_
      refine lv_istore (lv' := [(4, .int (nI 0)), (3, .int (nI 0)), (2, .int (nI left)), (1, .int (nI mo)), (0, .ref h)]) C.1.1 C.1.2.1 dX0_height_18 hl (by decide) rfl (fun ls hl => ?_)
      refine lp_height1 C hn2 (by omega) (fun ls hl => ?_) hw n 0 ls (by omega) hl
      refine lv_iload_n C.1.1 C.1.2.1 dX0_height_64 rfl (lv_at hl 2 rfl) ?_
      refine lv_iload_n C.1.1 C.1.2.1 dX0_height_65 rfl (lv_at hl 1 rfl) ?_
      refine lv_iconst (v := -1) C.1.1 C.1.2.1 dX0_height_66 (by decide) ?_
      refine lv_ixor C.1.1 C.1.2.1 dX0_height_67 ?_
      refine lv_iand C.1.1 C.1.2.1 dX0_height_68 ?_
      refine ly_top (ly_not (Nat.lt_trans (show _ < 2 ^ 31 from (by omega)) (by decide))) ?_
      refine lv_istore_n (lv' := [(2, .int (nI (ly_sd left (ly_layer Dn left n)))), (4, .int (nI n)), (3, .int (nI (ly_layer Dn left n))), (1, .int (nI mo)), (0, .ref h)]) C.1.1 C.1.2.1 dX0_height_69 rfl hl (by decide) rfl (fun ls hl => ?_)
      refine lv_iinc (v := nI (mo + 1)) (lv' := [(1, .int (nI (mo + 1))), (2, .int (nI (ly_sd left (ly_layer Dn left n)))), (4, .int (nI n)), (3, .int (nI (ly_layer Dn left n))), (0, .ref h)]) C.1.1 C.1.2.1 dX0_height_70 hl (k := 3) rfl (nI_add mo 1) (by decide) rfl (fun ls hl => ?_)
      refine lv_goto (tgt := 11) C.1.1 C.1.2.1 dX0_height_73 (by decide) ?_
      exact ih _ _ ls (by omega) (by omega) h2 (lv_sub hl [1, 0, 4] rfl)
set_option maxHeartbeats 4000000 in
set_option maxRecDepth 100000 in
/-- height() -/
theorem mt_height0 (l : Launch) {dC : Nat → ClassId} {dI : Nat → Nat → Nat} {cI cJ cZ : ClassId} {h dn up wy pr ab lo : Nat} {n tr : Nat} {Dn Up Ab : Nat → Nat} {Lo : Nat → Option Nat} {Wy : Nat → Nat} (I : Nat → Nat → Prop) (hn2 : n ≤ 10) (h0 : I 0 (2 ^ n - 1)) (hI : ∀ k left, I k left → left < 2 ^ n → left ≠ 0 → ly_sd left (ly_layer Dn left n) < left ∧ I (k + 1) (ly_sd left (ly_layer Dn left n))) : ly_Mi (S := Unit) l yX0_height (ws_ yX0_height cX0_height 5 (some .int)) ({ frames := 0, cells := 0, slots := 0, locals := 0 } : Room) [.ref h] (dC, dI) (ly_tys cI cJ cZ) (ly_WD h dn up wy pr ab lo cI cJ n tr Dn Up Ab Lo Wy) (fun r _ => ∃ k, r = nI k ∧ I k 0) (fun _ => (ly_WD h dn up wy pr ab lo cI cJ n tr Dn Up Ab Lo Wy)) := by
  refine ly_ofi (by decide) (Nat.le_of_ble_eq_true rfl) ?_
  intro p e s m below meth c A ls C hr hw hl
  have C : ly_C p m meth c cX0_height 5 s _ RX0 (dC, dI) (ly_tys cI cJ cZ) A := C
  have hl : lv_has ls 5 [(0, .ref h)] := hl
  have hp := Nat.two_pow_pos n
  refine lv_iconst (v := nI 0) C.1.1 C.1.2.1 dX0_height_0 (by decide) ?_
  refine lv_istore_n (lv' := [(1, .int (nI 0)), (0, .ref h)]) C.1.1 C.1.2.1 dX0_height_1 rfl hl (by decide) rfl (fun ls hl => ?_)
  refine lv_iconst (v := nI 1) C.1.1 C.1.2.1 dX0_height_2 (by decide) ?_
  refine lv_aload_n C.1.1 C.1.2.1 dX0_height_3 rfl (lv_at hl 1 rfl) ?_
  refine ly_gf in_X0 C hw 0 rfl rfl 4 (by decide) q39 rfl dX0_height_4 ?_
  refine lv_ishl C.1.1 C.1.2.1 dX0_height_7 ?_
  refine ly_top (ly_shl (by omega)) ?_
  refine lv_iconst (v := nI 1) C.1.1 C.1.2.1 dX0_height_8 (by decide) ?_
  refine lv_isub C.1.1 C.1.2.1 dX0_height_9 ?_
  refine ly_top (ly_sub (Nat.two_pow_pos n)) ?_
  refine lv_istore_n (lv' := [(2, .int (nI ((2 ^ n) - 1))), (1, .int (nI 0)), (0, .ref h)]) C.1.1 C.1.2.1 dX0_height_10 rfl hl (by decide) rfl (fun ls hl => ?_)
  refine lp_height0 I C hn2 hI (fun k ls hk hl => ?_) hw _ _ _ ls (Nat.le_refl _) (by omega) h0 hl
  refine lv_iload_n C.1.1 C.1.2.1 dX0_height_76 rfl (lv_at hl 1 rfl) ?_
  exact ly_iret (u := ()) C hr hw ⟨k, rfl, hk⟩ dX0_height_77
end
section
/-! LayersDesk: count, rows, closed (rows printed by gen) -/
theorem ly_orn {s i n : Nat} (hs : s < 2 ^ n) (hi : i < n) (hn : n ≤ 10) : s ||| 2 ^ i < 1024 := Nat.lt_of_lt_of_le (Nat.or_lt_two_pow hs (ly_pw hi)) (ly_p10 hn)
set_option maxHeartbeats 4000000 in
set_option maxRecDepth 100000 in
/-- the first loop of count: zeros -/
theorem lp_count1 {p : Program} {l : Launch} {e : Env} {R : Room} {s : State} {m : MethodId} {args : Array Value} {below : List Frame} {meth : Method} {c : Code} {Q : State → Prop} {dC : Nat → ClassId} {dI : Nat → Nat → Nat} {cI cJ cZ : ClassId} {A : Nat → Prop} {h dn up wy pr ab lo : Nat} {n tr : Nat} {Dn Up Ab : Nat → Nat} {Lo : Nat → Option Nat} (C : ly_C p m meth c cX0_count 4 s args RX0 (dC, dI) (ly_tys cI cJ cZ) A) (hn2 : n ≤ 10) (kk : ∀ (V : Nat → Nat) (H : Heap) (locs : List Loc) (ls : Array Slot), (∀ j, j < 2 ^ n → V j = 0) → ly_w (dC, dI) A s.heap (ly_WD h dn up wy pr ab lo cI cJ n tr Dn Up Ab Lo V) H locs → lv_has ls 4 [(2, .int (nI (2 ^ n))), (1, .int (nI (2 ^ n))), (0, .ref h)] → W p l e R s m args below meth c H locs 0 0 Q (F0 m 27 ls [])) :
    ∀ (k i : Nat) (V : Nat → Nat) (H : Heap) (locs : List Loc) (ls : Array Slot), i + k = 2 ^ n → (∀ j, j < i → V j = 0) → ly_w (dC, dI) A s.heap (ly_WD h dn up wy pr ab lo cI cJ n tr Dn Up Ab Lo V) H locs → lv_has ls 4 [(2, .int (nI i)), (1, .int (nI (2 ^ n))), (0, .ref h)] → W p l e R s m args below meth c H locs 0 0 Q (F0 m 9 ls []) := by
  have hp := ly_p10 hn2
  intro k
  induction k with
  | zero =>
    intro i V H locs ls hi hz hw hl
    have hi : i = 2 ^ n := hi
    refine lv_iload_n C.1.1 C.1.2.1 dX0_count_9 rfl (lv_at hl 0 rfl) ?_
    refine lv_iload_n C.1.1 C.1.2.1 dX0_count_10 rfl (lv_at hl 1 rfl) ?_
    refine lv_icmp_ge (tgt := 27) C.1.1 C.1.2.1 dX0_count_11 (by decide) (fun c11 => ?_) (fun c11 => ?_)
    · exact kk V H locs ls (fun j hj => hz j (by omega)) hw (by rw [← hi] at hl ⊢; exact hl)
    · exact absurd (nI_le (by omega) (by omega)) c11
  | succ k ih =>
    intro i V H locs ls hi hz hw hl
    refine lv_iload_n C.1.1 C.1.2.1 dX0_count_9 rfl (lv_at hl 0 rfl) ?_
    refine lv_iload_n C.1.1 C.1.2.1 dX0_count_10 rfl (lv_at hl 1 rfl) ?_
    refine lv_icmp_ge (tgt := 27) C.1.1 C.1.2.1 dX0_count_11 (by decide) (fun c11 => ?_) (fun c11 => ?_)
    · exact absurd c11 (nI_ge (by omega) (by omega))
    · skip
      refine lv_aload_n C.1.1 C.1.2.1 dX0_count_14 rfl (lv_at hl 2 rfl) ?_
      refine ly_gf in_X0 C hw 0 rfl rfl 2 (by decide) q37 rfl dX0_count_15 ?_
      refine lv_iload_n C.1.1 C.1.2.1 dX0_count_18 rfl (lv_at hl 0 rfl) ?_
      refine lv_lconst (v := lN 0) C.1.1 C.1.2.1 dX0_count_19 (by decide) ?_
      refine ly_lastN C hw 3 1 rfl rfl (by omega) (by decide) dX0_count_20 (fun H locs hw => ?_)
      have hw : ly_w (dC, dI) A s.heap (ly_WD h dn up wy pr ab lo cI cJ n tr Dn Up Ab Lo (ly_u V i 0)) H locs := hw
      refine lv_iinc (v := nI (i + 1)) (lv' := [(2, .int (nI (i + 1))), (1, .int (nI (2 ^ n))), (0, .ref h)]) C.1.1 C.1.2.1 dX0_count_21 hl (k := 0) rfl (nI_add i 1) (by decide) rfl (fun ls hl => ?_)
      refine lv_goto (tgt := 9) C.1.1 C.1.2.1 dX0_count_24 (by decide) ?_
      refine ih (i + 1) (ly_u V i 0) H locs ls (by omega) (fun j hj => ?_) hw hl
      rcases Nat.lt_or_eq_of_le (Nat.le_of_lt_succ hj) with q | q
      · rw [ly_un (by omega)]; exact hz j q
      · rw [q, ly_us]
set_option maxHeartbeats 4000000 in
set_option maxRecDepth 100000 in
/-- the inner loop of count -/
theorem lp_count3 {p : Program} {l : Launch} {e : Env} {R : Room} {s : State} {m : MethodId} {args : Array Value} {below : List Frame} {meth : Method} {c : Code} {Q : State → Prop} {dC : Nat → ClassId} {dI : Nat → Nat → Nat} {cI cJ cZ : ClassId} {A : Nat → Prop} {h dn up wy pr ab lo : Nat} {n tr : Nat} {Dn Up Ab : Nat → Nat} {Lo : Nat → Option Nat} (C : ly_C p m meth c cX0_count 4 s args RX0 (dC, dI) (ly_tys cI cJ cZ) A) (K : Nat → Nat → (Nat → Nat) → Prop) (hn2 : n ≤ 10) (hD : ∀ j, j < n → Dn j < 1024) (hadd : ∀ s i V, K s i V → s < 2 ^ n → i < n → s.testBit i = false → ly_sd (Dn i) s = 0 → K s (i + 1) (ly_u V (s ||| 2 ^ i) (V (s ||| 2 ^ i) + V s))) (hno : ∀ s i V, K s i V → s < 2 ^ n → i < n → (s.testBit i = true ∨ ly_sd (Dn i) s ≠ 0) → K s (i + 1) V) {t : Nat} (ht : t < 2 ^ n) (kk : ∀ (V : Nat → Nat) (H : Heap) (locs : List Loc) (ls : Array Slot), K t n V → ly_w (dC, dI) A s.heap (ly_WD h dn up wy pr ab lo cI cJ n tr Dn Up Ab Lo V) H locs → lv_has ls 4 [(3, .int (nI n)), (2, .int (nI t)), (1, .int (nI (2 ^ n))), (0, .ref h)] → W p l e R s m args below meth c H locs 0 0 Q (F0 m 111 ls [])) :
    ∀ (k i : Nat) (V : Nat → Nat) (H : Heap) (locs : List Loc) (ls : Array Slot), i + k = n → K t i V → ly_w (dC, dI) A s.heap (ly_WD h dn up wy pr ab lo cI cJ n tr Dn Up Ab Lo V) H locs → lv_has ls 4 [(3, .int (nI i)), (2, .int (nI t)), (1, .int (nI (2 ^ n))), (0, .ref h)] → W p l e R s m args below meth c H locs 0 0 Q (F0 m 57 ls []) := by
  have hp := ly_p10 hn2
  intro k
  induction k with
  | zero =>
    intro i V H locs ls hi hk hw hl
    have hi : i = n := hi
    subst hi
    refine lv_iload_n C.1.1 C.1.2.1 dX0_count_57 rfl (lv_at hl 0 rfl) ?_
    refine lv_aload_n C.1.1 C.1.2.1 dX0_count_58 rfl (lv_at hl 3 rfl) ?_
    refine ly_gf in_X0 C hw 0 rfl rfl 4 (by decide) q39 rfl dX0_count_59 ?_
    refine lv_icmp_ge (tgt := 111) C.1.1 C.1.2.1 dX0_count_62 (by decide) (fun c62 => ?_) (fun c62 => ?_)
    · exact kk V H locs ls hk hw hl
    · exact absurd (nI_le (by omega) (by omega)) c62
  | succ k ih =>
    intro i V H locs ls hi hk hw hl
    refine lv_iload_n C.1.1 C.1.2.1 dX0_count_57 rfl (lv_at hl 0 rfl) ?_
    refine lv_aload_n C.1.1 C.1.2.1 dX0_count_58 rfl (lv_at hl 3 rfl) ?_
    refine ly_gf in_X0 C hw 0 rfl rfl 4 (by decide) q39 rfl dX0_count_59 ?_
    refine lv_icmp_ge (tgt := 111) C.1.1 C.1.2.1 dX0_count_62 (by decide) (fun c62 => ?_) (fun c62 => ?_)
    · exact absurd c62 (nI_ge (by omega) (by omega))
    · have hin : i < n := by omega
      refine lv_iload_n C.1.1 C.1.2.1 dX0_count_65 rfl (lv_at hl 1 rfl) ?_
      refine lv_iload_n C.1.1 C.1.2.1 dX0_count_66 rfl (lv_at hl 0 rfl) ?_
      refine lv_ishr C.1.1 C.1.2.1 dX0_count_67 ?_
      refine lv_iconst (v := nI 1) C.1.1 C.1.2.1 dX0_count_68 (by decide) ?_
      refine lv_iand C.1.1 C.1.2.1 dX0_count_69 ?_
      refine ly_top (ly_bit (by omega) (by omega)) ?_
      refine lv_if_ne (tgt := 105) C.1.1 C.1.2.1 dX0_count_70 (by decide) (fun c70 => ?_) (fun c70 => ?_)
      · have c70 := ly_bitn0 c70
        refine lv_iinc (v := nI (i + 1)) (lv' := [(3, .int (nI (i + 1))), (2, .int (nI t)), (1, .int (nI (2 ^ n))), (0, .ref h)]) C.1.1 C.1.2.1 dX0_count_105 hl (k := 0) rfl (nI_add i 1) (by decide) rfl (fun ls hl => ?_)
        refine lv_goto (tgt := 57) C.1.1 C.1.2.1 dX0_count_108 (by decide) ?_
        exact ih (i + 1) V H locs ls (by omega) (hno _ _ _ hk ht hin (Or.inl c70)) hw hl
      · have c70 := ly_bit0 c70
        have hDi := hD i hin
        have hsd := ly_sd_le (Dn i) t
        refine lv_aload_n C.1.1 C.1.2.1 dX0_count_73 rfl (lv_at hl 3 rfl) ?_
        refine ly_gf in_X0 C hw 0 rfl rfl 0 (by decide) q35 rfl dX0_count_74 ?_
        refine lv_iload_n C.1.1 C.1.2.1 dX0_count_77 rfl (lv_at hl 0 rfl) ?_
        refine ly_iald C hw 1 0 rfl rfl (by omega) (by decide) rfl dX0_count_78 ?_
        refine lv_iload_n C.1.1 C.1.2.1 dX0_count_79 rfl (lv_at hl 1 rfl) ?_
        refine lv_iconst (v := -1) C.1.1 C.1.2.1 dX0_count_80 (by decide) ?_
        refine lv_ixor C.1.1 C.1.2.1 dX0_count_81 ?_
        refine lv_iand C.1.1 C.1.2.1 dX0_count_82 ?_
        refine ly_top (ly_not (Nat.lt_trans (show _ < 2 ^ 31 from (by omega)) (by decide))) ?_
        refine lv_if_ne (tgt := 105) C.1.1 C.1.2.1 dX0_count_83 (by decide) (fun c83 => ?_) (fun c83 => ?_)
        · have c83 : ly_sd (Dn i) t ≠ 0 := fun q => c83 (by rw [q]; rfl)
          refine lv_iinc (v := nI (i + 1)) (lv' := [(3, .int (nI (i + 1))), (2, .int (nI t)), (1, .int (nI (2 ^ n))), (0, .ref h)]) C.1.1 C.1.2.1 dX0_count_105 hl (k := 0) rfl (nI_add i 1) (by decide) rfl (fun ls hl => ?_)
          refine lv_goto (tgt := 57) C.1.1 C.1.2.1 dX0_count_108 (by decide) ?_
          exact ih (i + 1) V H locs ls (by omega) (hno _ _ _ hk ht hin (Or.inr c83)) hw hl
        · have c83 := (ly_eq0 (by omega)).mp c83
          have hor := ly_orn ht hin hn2
          refine lv_aload_n C.1.1 C.1.2.1 dX0_count_86 rfl (lv_at hl 3 rfl) ?_
          refine ly_gf in_X0 C hw 0 rfl rfl 2 (by decide) q37 rfl dX0_count_87 ?_
          refine lv_iload_n C.1.1 C.1.2.1 dX0_count_90 rfl (lv_at hl 1 rfl) ?_
          refine lv_iconst (v := nI 1) C.1.1 C.1.2.1 dX0_count_91 (by decide) ?_
          refine lv_iload_n C.1.1 C.1.2.1 dX0_count_92 rfl (lv_at hl 0 rfl) ?_
          refine lv_ishl C.1.1 C.1.2.1 dX0_count_93 ?_
          refine ly_top (ly_shl (by omega)) ?_
          refine lv_ior C.1.1 C.1.2.1 dX0_count_94 ?_
          refine ly_top (fa_or t (2 ^ i)) ?_
          refine lv_dup2_11 C.1.1 C.1.2.1 dX0_count_95 rfl rfl ?_
          refine ly_lald C hw 3 1 rfl rfl (by omega) (by decide) rfl dX0_count_96 ?_
          refine lv_aload_n C.1.1 C.1.2.1 dX0_count_97 rfl (lv_at hl 3 rfl) ?_
          refine ly_gf in_X0 C hw 0 rfl rfl 2 (by decide) q37 rfl dX0_count_98 ?_
          refine lv_iload_n C.1.1 C.1.2.1 dX0_count_101 rfl (lv_at hl 1 rfl) ?_
          refine ly_lald C hw 3 1 rfl rfl (by omega) (by decide) rfl dX0_count_102 ?_
          refine lv_ladd C.1.1 C.1.2.1 dX0_count_103 ?_
          refine ly_topl (lN_add (V (t ||| (2 ^ i))) (V t)) ?_
          refine ly_lastN C hw 3 1 rfl rfl (by omega) (by decide) dX0_count_104 (fun H locs hw => ?_)
          have hw : ly_w (dC, dI) A s.heap (ly_WD h dn up wy pr ab lo cI cJ n tr Dn Up Ab Lo (ly_u V (t ||| (2 ^ i)) ((V (t ||| (2 ^ i))) + (V t)))) H locs := hw
          refine lv_iinc (v := nI (i + 1)) (lv' := [(3, .int (nI (i + 1))), (2, .int (nI t)), (1, .int (nI (2 ^ n))), (0, .ref h)]) C.1.1 C.1.2.1 dX0_count_105 hl (k := 0) rfl (nI_add i 1) (by decide) rfl (fun ls hl => ?_)
          refine lv_goto (tgt := 57) C.1.1 C.1.2.1 dX0_count_108 (by decide) ?_
          exact ih (i + 1) _ H locs ls (by omega) (hadd _ _ _ hk ht hin c70 c83) hw hl
set_option maxHeartbeats 4000000 in
set_option maxRecDepth 100000 in
/-- the outer loop of count -/
theorem lp_count2 {p : Program} {l : Launch} {e : Env} {R : Room} {s : State} {m : MethodId} {args : Array Value} {below : List Frame} {meth : Method} {c : Code} {Q : State → Prop} {dC : Nat → ClassId} {dI : Nat → Nat → Nat} {cI cJ cZ : ClassId} {A : Nat → Prop} {h dn up wy pr ab lo : Nat} {n tr : Nat} {Dn Up Ab : Nat → Nat} {Lo : Nat → Option Nat} (C : ly_C p m meth c cX0_count 4 s args RX0 (dC, dI) (ly_tys cI cJ cZ) A) (J : Nat → (Nat → Nat) → Prop) (K : Nat → Nat → (Nat → Nat) → Prop) (hn2 : n ≤ 10) (hD : ∀ j, j < n → Dn j < 1024) (hb : ∀ s V, J s V → s < 2 ^ n → V s < 2 ^ 63) (hskip : ∀ s V, J s V → s < 2 ^ n → V s = 0 → J (s + 1) V) (hinn : ∀ s V, J s V → s < 2 ^ n → V s ≠ 0 → K s 0 V) (hnext : ∀ s V, K s n V → s < 2 ^ n → J (s + 1) V) (hadd : ∀ s i V, K s i V → s < 2 ^ n → i < n → s.testBit i = false → ly_sd (Dn i) s = 0 → K s (i + 1) (ly_u V (s ||| 2 ^ i) (V (s ||| 2 ^ i) + V s))) (hno : ∀ s i V, K s i V → s < 2 ^ n → i < n → (s.testBit i = true ∨ ly_sd (Dn i) s ≠ 0) → K s (i + 1) V) (kk : ∀ (V : Nat → Nat) (H : Heap) (locs : List Loc) (ls : Array Slot), J (2 ^ n) V → ly_w (dC, dI) A s.heap (ly_WD h dn up wy pr ab lo cI cJ n tr Dn Up Ab Lo V) H locs → W p l e R s m args below meth c H locs 0 0 Q (F0 m 117 ls [])) :
    ∀ (k t : Nat) (V : Nat → Nat) (H : Heap) (locs : List Loc) (ls : Array Slot), t + k = 2 ^ n → J t V → ly_w (dC, dI) A s.heap (ly_WD h dn up wy pr ab lo cI cJ n tr Dn Up Ab Lo V) H locs → lv_has ls 4 [(2, .int (nI t)), (1, .int (nI (2 ^ n))), (0, .ref h)] → W p l e R s m args below meth c H locs 0 0 Q (F0 m 36 ls []) := by
  have hp := ly_p10 hn2
  intro k
  induction k with
  | zero =>
    intro t V H locs ls hi hj hw hl
    have hi : t = 2 ^ n := hi
    rw [hi] at hj
    refine lv_iload_n C.1.1 C.1.2.1 dX0_count_36 rfl (lv_at hl 0 rfl) ?_
    refine lv_iload_n C.1.1 C.1.2.1 dX0_count_37 rfl (lv_at hl 1 rfl) ?_
    refine lv_icmp_ge (tgt := 117) C.1.1 C.1.2.1 dX0_count_38 (by decide) (fun c38 => ?_) (fun c38 => ?_)
    · exact kk V H locs ls hj hw
    · exact absurd (nI_le (by omega) (by omega)) c38
  | succ k ih =>
    intro t V H locs ls hi hj hw hl
    refine lv_iload_n C.1.1 C.1.2.1 dX0_count_36 rfl (lv_at hl 0 rfl) ?_
    refine lv_iload_n C.1.1 C.1.2.1 dX0_count_37 rfl (lv_at hl 1 rfl) ?_
    refine lv_icmp_ge (tgt := 117) C.1.1 C.1.2.1 dX0_count_38 (by decide) (fun c38 => ?_) (fun c38 => ?_)
    · exact absurd c38 (nI_ge (by omega) (by omega))
    · have ht : t < 2 ^ n := by omega
      have hvb := hb t V hj ht
      refine lv_aload_n C.1.1 C.1.2.1 dX0_count_41 rfl (lv_at hl 2 rfl) ?_
      refine ly_gf in_X0 C hw 0 rfl rfl 2 (by decide) q37 rfl dX0_count_42 ?_
      refine lv_iload_n C.1.1 C.1.2.1 dX0_count_45 rfl (lv_at hl 0 rfl) ?_
      refine ly_lald C hw 3 1 rfl rfl (by omega) (by decide) rfl dX0_count_46 ?_
      refine lv_lconst (v := lN 0) C.1.1 C.1.2.1 dX0_count_47 (by decide) ?_
      refine W.lcmp C.1.1 C.1.2.1 dX0_count_48 ?_
      refine lv_if_ne (tgt := 55) C.1.1 C.1.2.1 dX0_count_49 (by decide) (fun c49 => ?_) (fun c49 => ?_)
      · have c49 : V t ≠ 0 := fun q => c49 ((ly_cmp0 hvb).1.mpr q)
        refine lv_iconst (v := nI 0) C.1.1 C.1.2.1 dX0_count_55 (by decide) ?_
        refine lv_istore_n (lv' := [(3, .int (nI 0)), (2, .int (nI t)), (1, .int (nI (2 ^ n))), (0, .ref h)]) C.1.1 C.1.2.1 dX0_count_56 rfl hl (by decide) rfl (fun ls hl => ?_)
        refine lp_count3 C K hn2 hD hadd hno ht (fun V H locs ls hk hw hl => ?_) n 0 V H locs ls (by omega) (hinn _ _ hj ht c49) hw hl
        refine lv_iinc (v := nI (t + 1)) (lv' := [(2, .int (nI (t + 1))), (3, .int (nI n)), (1, .int (nI (2 ^ n))), (0, .ref h)]) C.1.1 C.1.2.1 dX0_count_111 hl (k := 1) rfl (nI_add t 1) (by decide) rfl (fun ls hl => ?_)
        refine lv_goto (tgt := 36) C.1.1 C.1.2.1 dX0_count_114 (by decide) ?_
        exact ih (t + 1) V H locs ls (by omega) (hnext _ _ hk ht) hw (lv_sub hl [0, 2, 3] rfl)
      · have c49 := (ly_cmp0 hvb).1.mp c49
        refine lv_goto (tgt := 111) C.1.1 C.1.2.1 dX0_count_52 (by decide) ?_
        refine lv_iinc (v := nI (t + 1)) (lv' := [(2, .int (nI (t + 1))), (1, .int (nI (2 ^ n))), (0, .ref h)]) C.1.1 C.1.2.1 dX0_count_111 hl (k := 0) rfl (nI_add t 1) (by decide) rfl (fun ls hl => ?_)
        refine lv_goto (tgt := 36) C.1.1 C.1.2.1 dX0_count_114 (by decide) ?_
        exact ih (t + 1) V H locs ls (by omega) (hskip _ _ hj ht c49) hw (lv_sub hl [0, 1, 2] rfl)
set_option maxHeartbeats 4000000 in
set_option maxRecDepth 100000 in
/-- count(): by any invariants J, K of the table -/
theorem mt_count0 (l : Launch) {dC : Nat → ClassId} {dI : Nat → Nat → Nat} {cI cJ cZ : ClassId} {h dn up wy pr ab lo : Nat} {n tr : Nat} {Dn Up Ab : Nat → Nat} {Lo : Nat → Option Nat} {Wy : Nat → Nat} (J : Nat → (Nat → Nat) → Prop) (K : Nat → Nat → (Nat → Nat) → Prop) (hn2 : n ≤ 10) (hD : ∀ j, j < n → Dn j < 1024) (hj0 : ∀ V : Nat → Nat, V 0 = 1 → (∀ j, 0 < j → j < 2 ^ n → V j = 0) → J 0 V) (hb : ∀ s V, J s V → s < 2 ^ n → V s < 2 ^ 63) (hskip : ∀ s V, J s V → s < 2 ^ n → V s = 0 → J (s + 1) V) (hinn : ∀ s V, J s V → s < 2 ^ n → V s ≠ 0 → K s 0 V) (hnext : ∀ s V, K s n V → s < 2 ^ n → J (s + 1) V) (hadd : ∀ s i V, K s i V → s < 2 ^ n → i < n → s.testBit i = false → ly_sd (Dn i) s = 0 → K s (i + 1) (ly_u V (s ||| 2 ^ i) (V (s ||| 2 ^ i) + V s))) (hno : ∀ s i V, K s i V → s < 2 ^ n → i < n → (s.testBit i = true ∨ ly_sd (Dn i) s ≠ 0) → K s (i + 1) V) : ly_Mv (S := Nat → Nat) l yX0_count (ws_ yX0_count cX0_count 4 (none)) ({ frames := 0, cells := 0, slots := 0, locals := 0 } : Room) [.ref h] (dC, dI) (ly_tys cI cJ cZ) (ly_WD h dn up wy pr ab lo cI cJ n tr Dn Up Ab Lo Wy) (fun V => J (2 ^ n) V) (fun V => (ly_WD h dn up wy pr ab lo cI cJ n tr Dn Up Ab Lo V)) := by
  refine ly_ofv (by decide) (Nat.le_of_ble_eq_true rfl) ?_
  intro p e s m below meth c A ls C hr hw hl
  have C : ly_C p m meth c cX0_count 4 s _ RX0 (dC, dI) (ly_tys cI cJ cZ) A := C
  have hl : lv_has ls 4 [(0, .ref h)] := hl
  have hp := ly_p10 hn2
  have hp0 := Nat.two_pow_pos n
  refine lv_iconst (v := nI 1) C.1.1 C.1.2.1 dX0_count_0 (by decide) ?_
  refine lv_aload_n C.1.1 C.1.2.1 dX0_count_1 rfl (lv_at hl 0 rfl) ?_
  refine ly_gf in_X0 C hw 0 rfl rfl 4 (by decide) q39 rfl dX0_count_2 ?_
  refine lv_ishl C.1.1 C.1.2.1 dX0_count_5 ?_
  refine ly_top (ly_shl (by omega)) ?_
  refine lv_istore_n (lv' := [(1, .int (nI (2 ^ n))), (0, .ref h)]) C.1.1 C.1.2.1 dX0_count_6 rfl hl (by decide) rfl (fun ls hl => ?_)
  refine lv_iconst (v := nI 0) C.1.1 C.1.2.1 dX0_count_7 (by decide) ?_
  refine lv_istore_n (lv' := [(2, .int (nI 0)), (1, .int (nI (2 ^ n))), (0, .ref h)]) C.1.1 C.1.2.1 dX0_count_8 rfl hl (by decide) rfl (fun ls hl => ?_)
  refine lp_count1 C hn2 (fun V H locs ls hz hw hl => ?_) (2 ^ n) 0 Wy _ _ ls (by omega) (fun j hj => absurd hj (by omega)) hw hl
  refine lv_aload_n C.1.1 C.1.2.1 dX0_count_27 rfl (lv_at hl 2 rfl) ?_
  refine ly_gf in_X0 C hw 0 rfl rfl 2 (by decide) q37 rfl dX0_count_28 ?_
  refine lv_iconst (v := nI 0) C.1.1 C.1.2.1 dX0_count_31 (by decide) ?_
  refine lv_lconst (v := lN 1) C.1.1 C.1.2.1 dX0_count_32 (by decide) ?_
  refine ly_lastN C hw 3 1 rfl rfl (by omega) (by decide) dX0_count_33 (fun H locs hw => ?_)
  have hw : ly_w (dC, dI) A s.heap (ly_WD h dn up wy pr ab lo cI cJ n tr Dn Up Ab Lo (ly_u V 0 1)) H locs := hw
  refine lv_iconst (v := nI 0) C.1.1 C.1.2.1 dX0_count_34 (by decide) ?_
  refine lv_istore_n (lv' := [(2, .int (nI 0)), (1, .int (nI (2 ^ n))), (0, .ref h)]) C.1.1 C.1.2.1 dX0_count_35 rfl hl (by decide) rfl (fun ls hl => ?_)
  refine lp_count2 C J K hn2 hD hb hskip hinn hnext hadd hno (fun V H locs ls hj hw => ?_) (2 ^ n) 0 _ H locs ls (by omega) (hj0 _ ly_us (fun j h1 h2 => by rw [ly_un (by omega)]; exact hz j h2)) hw hl
  exact ly_vret (u := V) C hr hw hj dX0_count_117
set_option maxHeartbeats 4000000 in
set_option maxRecDepth 100000 in
/-- rows() -/
theorem mt_rows0 (l : Launch) {dC : Nat → ClassId} {dI : Nat → Nat → Nat} {cI cJ cZ : ClassId} {h dn up wy pr ab lo : Nat} {n tr : Nat} {Dn Up Ab : Nat → Nat} {Lo : Nat → Option Nat} {Wy : Nat → Nat} (J : Nat → (Nat → Nat) → Prop) (K : Nat → Nat → (Nat → Nat) → Prop) (hn2 : n ≤ 10) (hD : ∀ j, j < n → Dn j < 1024) (hj0 : ∀ V : Nat → Nat, V 0 = 1 → (∀ j, 0 < j → j < 2 ^ n → V j = 0) → J 0 V) (hb : ∀ s V, J s V → s < 2 ^ n → V s < 2 ^ 63) (hskip : ∀ s V, J s V → s < 2 ^ n → V s = 0 → J (s + 1) V) (hinn : ∀ s V, J s V → s < 2 ^ n → V s ≠ 0 → K s 0 V) (hnext : ∀ s V, K s n V → s < 2 ^ n → J (s + 1) V) (hadd : ∀ s i V, K s i V → s < 2 ^ n → i < n → s.testBit i = false → ly_sd (Dn i) s = 0 → K s (i + 1) (ly_u V (s ||| 2 ^ i) (V (s ||| 2 ^ i) + V s))) (hno : ∀ s i V, K s i V → s < 2 ^ n → i < n → (s.testBit i = true ∨ ly_sd (Dn i) s ≠ 0) → K s (i + 1) V) : ly_Ml (S := Nat → Nat) l yX0_rows (ws_ yX0_rows cX0_rows 1 (some .long)) ({ frames := 1, cells := 0, slots := 0, locals := 23 } : Room) [.ref h] (dC, dI) (ly_tys cI cJ cZ) (ly_WD h dn up wy pr ab lo cI cJ n tr Dn Up Ab Lo Wy) (fun r V => J (2 ^ n) V ∧ r = lN (V (2 ^ n - 1))) (fun V => (ly_WD h dn up wy pr ab lo cI cJ n tr Dn Up Ab Lo V)) := by
  refine ly_ofl (by decide) (Nat.le_of_ble_eq_true rfl) ?_
  intro p e s m below meth c A ls C hr hw hl
  have C : ly_C p m meth c cX0_rows 1 s _ RX0 (dC, dI) (ly_tys cI cJ cZ) A := C
  have hl : lv_has ls 1 [(0, .ref h)] := hl
  have hp := ly_p10 hn2
  have hp0 := Nat.two_pow_pos n
  refine lv_aload_n C.1.1 C.1.2.1 dX0_rows_0 rfl (lv_at hl 0 rfl) ?_
  refine ly_callv (wr := []) (rest := []) (mt_count0 l J K hn2 hD hj0 hb hskip hinn hnext hadd hno) C (cwV 0 C.1.2.2.2.2 (lw_V q93 q95 qs2 q6 q96) rfl rfl rfl (by decide +kernel) ⟨Nat.le_of_ble_eq_true rfl, Nat.le_of_ble_eq_true rfl⟩) hw [0, 1, 2, 3, 4, 5, 6] [] rfl rfl (by decide) (by decide) (by decide) 0 rfl rfl rfl hl.1 (Nat.le_of_ble_eq_true rfl) dX0_rows_1 (Nat.zero_le _) (Nat.zero_le _) (fun V H locs hj hw => ?_)
  refine lv_aload_n C.1.1 C.1.2.1 dX0_rows_4 rfl (lv_at hl 0 rfl) ?_
  refine ly_gf in_X0 C hw 0 rfl rfl 2 (by decide) q37 rfl dX0_rows_5 ?_
  refine lv_iconst (v := nI 1) C.1.1 C.1.2.1 dX0_rows_8 (by decide) ?_
  refine lv_aload_n C.1.1 C.1.2.1 dX0_rows_9 rfl (lv_at hl 0 rfl) ?_
  refine ly_gf in_X0 C hw 0 rfl rfl 4 (by decide) q39 rfl dX0_rows_10 ?_
  refine lv_ishl C.1.1 C.1.2.1 dX0_rows_13 ?_
  refine ly_top (ly_shl (by omega)) ?_
  refine lv_iconst (v := nI 1) C.1.1 C.1.2.1 dX0_rows_14 (by decide) ?_
  refine lv_isub C.1.1 C.1.2.1 dX0_rows_15 ?_
  refine ly_top (ly_sub (by omega)) ?_
  refine ly_lald C hw 3 1 rfl rfl (by omega) (by decide) rfl dX0_rows_16 ?_
  exact ly_lret (u := V) C hr hw ⟨hj, rfl⟩ dX0_rows_17
set_option maxHeartbeats 4000000 in
set_option maxRecDepth 100000 in
/-- the loop of closed -/
theorem lp_closed {p : Program} {l : Launch} {e : Env} {R : Room} {s : State} {m : MethodId} {args : Array Value} {below : List Frame} {meth : Method} {c : Code} {Q : State → Prop} {dC : Nat → ClassId} {dI : Nat → Nat → Nat} {cI cJ cZ : ClassId} {A : Nat → Prop} {H : Heap} {locs : List Loc} {h dn up wy pr ab lo : Nat} {n tr : Nat} {Dn Up Ab : Nat → Nat} {Lo : Nat → Option Nat} {V : Nat → Nat} (C : ly_C p m meth c cX0_closed 3 s args RX0 (dC, dI) (ly_tys cI cJ cZ) A) (hn2 : n ≤ 10) (hV : ∀ j, j < 2 ^ n → V j < 2 ^ 63) (kk : ∀ (ls : Array Slot), lv_has ls 3 [(2, .int (nI (2 ^ n))), (1, .int (nI (fb_ct (fun j => decide (V j ≠ 0)) (2 ^ n)))), (0, .ref h)] → W p l e R s m args below meth c H locs 0 0 Q (F0 m 38 ls [])) (hw : ly_w (dC, dI) A s.heap (ly_WD h dn up wy pr ab lo cI cJ n tr Dn Up Ab Lo V) H locs) :
    ∀ (k i : Nat) (ls : Array Slot), i + k = 2 ^ n → lv_has ls 3 [(2, .int (nI i)), (1, .int (nI (fb_ct (fun j => decide (V j ≠ 0)) i))), (0, .ref h)] → W p l e R s m args below meth c H locs 0 0 Q (F0 m 8 ls []) := by
  have hp := ly_p10 hn2
  intro k
  induction k with
  | zero =>
    intro i ls hi hl
    have hi : i = 2 ^ n := hi
    refine lv_iload_n C.1.1 C.1.2.1 dX0_closed_8 rfl (lv_at hl 0 rfl) ?_
    refine lv_iconst (v := nI 1) C.1.1 C.1.2.1 dX0_closed_9 (by decide) ?_
    refine lv_aload_n C.1.1 C.1.2.1 dX0_closed_10 rfl (lv_at hl 2 rfl) ?_
    refine ly_gf in_X0 C hw 0 rfl rfl 4 (by decide) q39 rfl dX0_closed_11 ?_
    refine lv_ishl C.1.1 C.1.2.1 dX0_closed_14 ?_
    refine ly_top (ly_shl (by omega)) ?_
    refine lv_icmp_ge (tgt := 38) C.1.1 C.1.2.1 dX0_closed_15 (by decide) (fun c15 => ?_) (fun c15 => ?_)
    · exact kk ls (by rw [← hi]; exact hl)
    · exact absurd (nI_le (by omega) (by omega)) c15
  | succ k ih =>
    intro i ls hi hl
    have hin : i < 2 ^ n := by omega
    refine lv_iload_n C.1.1 C.1.2.1 dX0_closed_8 rfl (lv_at hl 0 rfl) ?_
    refine lv_iconst (v := nI 1) C.1.1 C.1.2.1 dX0_closed_9 (by decide) ?_
    refine lv_aload_n C.1.1 C.1.2.1 dX0_closed_10 rfl (lv_at hl 2 rfl) ?_
    refine ly_gf in_X0 C hw 0 rfl rfl 4 (by decide) q39 rfl dX0_closed_11 ?_
    refine lv_ishl C.1.1 C.1.2.1 dX0_closed_14 ?_
    refine ly_top (ly_shl (by omega)) ?_
    refine lv_icmp_ge (tgt := 38) C.1.1 C.1.2.1 dX0_closed_15 (by decide) (fun c15 => ?_) (fun c15 => ?_)
    · exact absurd c15 (nI_ge (by omega) (by omega))
    · have hvb := hV i hin
      refine lv_aload_n C.1.1 C.1.2.1 dX0_closed_18 rfl (lv_at hl 2 rfl) ?_
      refine ly_gf in_X0 C hw 0 rfl rfl 2 (by decide) q37 rfl dX0_closed_19 ?_
      refine lv_iload_n C.1.1 C.1.2.1 dX0_closed_22 rfl (lv_at hl 0 rfl) ?_
      refine ly_lald C hw 3 1 rfl rfl (by omega) (by decide) rfl dX0_closed_23 ?_
      refine lv_lconst (v := lN 0) C.1.1 C.1.2.1 dX0_closed_24 (by decide) ?_
      refine W.lcmp C.1.1 C.1.2.1 dX0_closed_25 ?_
      refine lv_if_le (tgt := 32) C.1.1 C.1.2.1 dX0_closed_26 (by decide) (fun c26 => ?_) (fun c26 => ?_)
      · have c26 := (ly_cmp0 hvb).2.mp c26
        refine lv_iinc (v := nI (i + 1)) (lv' := [(2, .int (nI (i + 1))), (1, .int (nI (fb_ct (fun j => decide (V j ≠ 0)) i))), (0, .ref h)]) C.1.1 C.1.2.1 dX0_closed_32 hl (k := 0) rfl (nI_add i 1) (by decide) rfl (fun ls hl => ?_)
        refine lv_goto (tgt := 8) C.1.1 C.1.2.1 dX0_closed_35 (by decide) ?_
        refine ih (i + 1) ls (by omega) ?_
        rw [fb_ct_succ, if_neg (by simp [c26])]
        exact hl
      · have c26 : V i ≠ 0 := fun q => c26 ((ly_cmp0 hvb).2.mpr q)
        refine lv_iinc (v := nI ((fb_ct (fun j => decide (V j ≠ 0)) i) + 1)) (lv' := [(1, .int (nI ((fb_ct (fun j => decide (V j ≠ 0)) i) + 1))), (2, .int (nI i)), (0, .ref h)]) C.1.1 C.1.2.1 dX0_closed_29 hl (k := 1) rfl (nI_add (fb_ct (fun j => decide (V j ≠ 0)) i) 1) (by decide) rfl (fun ls hl => ?_)
        refine lv_iinc (v := nI (i + 1)) (lv' := [(2, .int (nI (i + 1))), (1, .int (nI ((fb_ct (fun j => decide (V j ≠ 0)) i) + 1))), (0, .ref h)]) C.1.1 C.1.2.1 dX0_closed_32 hl (k := 1) rfl (nI_add i 1) (by decide) rfl (fun ls hl => ?_)
        refine lv_goto (tgt := 8) C.1.1 C.1.2.1 dX0_closed_35 (by decide) ?_
        refine ih (i + 1) ls (by omega) ?_
        rw [fb_ct_succ, if_pos (by simp [c26])]
        exact (lv_sub hl [0, 1, 2] rfl)
set_option maxHeartbeats 4000000 in
set_option maxRecDepth 100000 in
/-- closed() -/
theorem mt_closed0 (l : Launch) {dC : Nat → ClassId} {dI : Nat → Nat → Nat} {cI cJ cZ : ClassId} {h dn up wy pr ab lo : Nat} {n tr : Nat} {Dn Up Ab : Nat → Nat} {Lo : Nat → Option Nat} {Wy : Nat → Nat} (J : Nat → (Nat → Nat) → Prop) (K : Nat → Nat → (Nat → Nat) → Prop) (hn2 : n ≤ 10) (hD : ∀ j, j < n → Dn j < 1024) (hj0 : ∀ V : Nat → Nat, V 0 = 1 → (∀ j, 0 < j → j < 2 ^ n → V j = 0) → J 0 V) (hb : ∀ s V, J s V → s < 2 ^ n → V s < 2 ^ 63) (hskip : ∀ s V, J s V → s < 2 ^ n → V s = 0 → J (s + 1) V) (hinn : ∀ s V, J s V → s < 2 ^ n → V s ≠ 0 → K s 0 V) (hnext : ∀ s V, K s n V → s < 2 ^ n → J (s + 1) V) (hadd : ∀ s i V, K s i V → s < 2 ^ n → i < n → s.testBit i = false → ly_sd (Dn i) s = 0 → K s (i + 1) (ly_u V (s ||| 2 ^ i) (V (s ||| 2 ^ i) + V s))) (hno : ∀ s i V, K s i V → s < 2 ^ n → i < n → (s.testBit i = true ∨ ly_sd (Dn i) s ≠ 0) → K s (i + 1) V) (hbb : ∀ V : Nat → Nat, J (2 ^ n) V → ∀ j, j < 2 ^ n → V j < 2 ^ 63) : ly_Mi (S := Nat → Nat) l yX0_closed (ws_ yX0_closed cX0_closed 3 (some .int)) ({ frames := 1, cells := 0, slots := 0, locals := 23 } : Room) [.ref h] (dC, dI) (ly_tys cI cJ cZ) (ly_WD h dn up wy pr ab lo cI cJ n tr Dn Up Ab Lo Wy) (fun r V => J (2 ^ n) V ∧ r = nI (fb_ct (fun j => decide (V j ≠ 0)) (2 ^ n))) (fun V => (ly_WD h dn up wy pr ab lo cI cJ n tr Dn Up Ab Lo V)) := by
  refine ly_ofi (by decide) (Nat.le_of_ble_eq_true rfl) ?_
  intro p e s m below meth c A ls C hr hw hl
  have C : ly_C p m meth c cX0_closed 3 s _ RX0 (dC, dI) (ly_tys cI cJ cZ) A := C
  have hl : lv_has ls 3 [(0, .ref h)] := hl
  have hp := ly_p10 hn2
  have hp0 := Nat.two_pow_pos n
  refine lv_aload_n C.1.1 C.1.2.1 dX0_closed_0 rfl (lv_at hl 0 rfl) ?_
  refine ly_callv (wr := []) (rest := []) (mt_count0 l J K hn2 hD hj0 hb hskip hinn hnext hadd hno) C (cwV 0 C.1.2.2.2.2 (lw_V q93 q95 qs2 q6 q96) rfl rfl rfl (by decide +kernel) ⟨Nat.le_of_ble_eq_true rfl, Nat.le_of_ble_eq_true rfl⟩) hw [0, 1, 2, 3, 4, 5, 6] [] rfl rfl (by decide) (by decide) (by decide) 0 rfl rfl rfl hl.1 (Nat.le_of_ble_eq_true rfl) dX0_closed_1 (Nat.zero_le _) (Nat.zero_le _) (fun V H locs hj hw => ?_)
  refine lv_iconst (v := nI 0) C.1.1 C.1.2.1 dX0_closed_4 (by decide) ?_
  refine lv_istore_n (lv' := [(1, .int (nI 0)), (0, .ref h)]) C.1.1 C.1.2.1 dX0_closed_5 rfl hl (by decide) rfl (fun ls hl => ?_)
  refine lv_iconst (v := nI 0) C.1.1 C.1.2.1 dX0_closed_6 (by decide) ?_
  refine lv_istore_n (lv' := [(2, .int (nI 0)), (1, .int (nI 0)), (0, .ref h)]) C.1.1 C.1.2.1 dX0_closed_7 rfl hl (by decide) rfl (fun ls hl => ?_)
  refine lp_closed C hn2 (hbb V hj) (fun ls hl => ?_) hw (2 ^ n) 0 ls (by omega) hl
  refine lv_iload_n C.1.1 C.1.2.1 dX0_closed_38 rfl (lv_at hl 1 rfl) ?_
  exact ly_iret (u := V) C hr hw ⟨hj, rfl⟩ dX0_closed_39
end
section
/-! ===== the search for a partner, in plain words: Ab x: who may be x's partner; L b: whose partner b is; T: who was tried ===== -/
def ly_Vd (Ab : Nat → Nat) (L : Nat → Option Nat) : Prop := ∀ b x, b < 10 → L b = some x → x < 10 ∧ (Ab x).testBit b = true
def ly_In (L : Nat → Option Nat) (T : Nat) : Prop := ∀ b b' x, b < 10 → b' < 10 → T.testBit b = false → T.testBit b' = false → L b = some x → L b' = some x → b = b'
def ly_nof (L : Nat → Option Nat) (T a : Nat) : Prop := ∀ b, b < 10 → T.testBit b = false → L b ≠ some a
def ly_ct (L : Nat → Option Nat) : Nat := fb_ct (fun b => (L b).isSome) 10
def ly_PA (Ab : Nat → Nat) (L : Nat → Option Nat) (T a : Nat) : Prop := a < 10 ∧ T < 1024 ∧ ly_Vd Ab L ∧ ly_In L T ∧ ly_nof L T a
def ly_unt (T : Nat) : Nat := fb_ct (fun b => !T.testBit b) 10
def ly_cl (Ab : Nat → Nat) (L : Nat → Option Nat) (T T2 : Nat) : Prop := ∀ b, b < 10 → T2.testBit b = true → T.testBit b = false → ∃ x, L b = some x ∧ ∀ b', b' < 10 → (Ab x).testBit b' = true → T2.testBit b' = true
def ly_fail (Ab : Nat → Nat) (L : Nat → Option Nat) (T a T2 : Nat) : Prop := (∀ b, b < 10 → (Ab a).testBit b = true → T2.testBit b = true) ∧ ly_cl Ab L T T2
def ly_succ (Ab : Nat → Nat) (L : Nat → Option Nat) (T a : Nat) (L2 : Nat → Option Nat) : Prop := ly_Vd Ab L2 ∧ (∀ b, T.testBit b = true → L2 b = L b) ∧ ly_In L2 T ∧ (∀ b x, b < 10 → T.testBit b = false → L2 b = some x → x = a ∨ ∃ b2, b2 < 10 ∧ T.testBit b2 = false ∧ L b2 = some x) ∧ ly_ct L2 = ly_ct L + 1
def ly_PB (Ab : Nat → Nat) (L : Nat → Option Nat) (T a : Nat) (r : Int32) (u : (Nat → Option Nat) × Nat) : Prop := u.2 < 1024 ∧ (∀ b, T.testBit b = true → u.2.testBit b = true) ∧ (r = nI 0 ∧ u.1 = L ∧ ly_fail Ab L T a u.2 ∨ r = nI 1 ∧ ly_succ Ab L T a u.1)
/-- the loop's invariant: below b all is looked at -/
def ly_inv (Ab : Nat → Nat) (L : Nat → Option Nat) (T a b Tc : Nat) : Prop := Tc < 1024 ∧ (∀ j, T.testBit j = true → Tc.testBit j = true) ∧ (∀ j, j < b → (Ab a).testBit j = true → Tc.testBit j = true) ∧ ly_cl Ab L T Tc
theorem ly_inv_0 {Ab : Nat → Nat} {L : Nat → Option Nat} {T a : Nat} (h : T < 1024) : ly_inv Ab L T a 0 T :=
  ⟨h, fun _ q => q, fun _ q => absurd q (by omega), fun b _ q1 q2 => by rw [q1] at q2; exact absurd q2 (by decide)⟩
theorem ly_inv_end {Ab : Nat → Nat} {L : Nat → Option Nat} {T a Tc : Nat} (h : ly_inv Ab L T a 10 Tc) : ly_PB Ab L T a (nI 0) (L, Tc) :=
  ⟨h.1, h.2.1, Or.inl ⟨rfl, rfl, h.2.2.1, h.2.2.2⟩⟩
theorem ly_inv_skip {Ab : Nat → Nat} {L : Nat → Option Nat} {T a b Tc : Nat} (h : ly_inv Ab L T a b Tc) (hs : (Ab a).testBit b = true → Tc.testBit b = true) : ly_inv Ab L T a (b + 1) Tc := by
  refine ⟨h.1, h.2.1, fun j hj hb => ?_, h.2.2.2⟩
  rcases Nat.lt_or_eq_of_le (Nat.le_of_lt_succ hj) with q | q
  · exact h.2.2.1 j q hb
  · subst q; exact hs hb
theorem ly_or_self (T b : Nat) : (T ||| 2 ^ b).testBit b = true := by rw [ly_or_bit]; simp
theorem ly_or_mono {T b j : Nat} (h : T.testBit j = true) : (T ||| 2 ^ b).testBit j = true := by rw [ly_or_bit, h]; rfl
theorem ly_or_out {T b j : Nat} (h : (T ||| 2 ^ b).testBit j = false) : T.testBit j = false ∧ b ≠ j := by
  rw [ly_or_bit] at h
  simpa using h
theorem ly_sub_f {T Tc j : Nat} (h : ∀ j, T.testBit j = true → Tc.testBit j = true) (hj : Tc.testBit j = false) : T.testBit j = false := by
  cases q : T.testBit j with
  | false => rfl
  | true => rw [h j q] at hj; exact absurd hj (by decide)
/-- fewer are left -/
theorem ly_unt_lt {T T2 b : Nat} (h : ∀ j, T.testBit j = true → T2.testBit j = true) (hb : b < 10) (h1 : T.testBit b = false) (h2 : T2.testBit b = true) : ly_unt T2 + 1 ≤ ly_unt T := by
  unfold ly_unt
  have e := fb_ct_upd (fun j => !T2.testBit j) true (i := b) (n := 10) hb
  simp only [h2, Bool.not_true, Bool.false_eq_true, ↓reduceIte, Nat.add_zero] at e
  have e2 : fb_ct (fun k => if k = b then true else !T2.testBit k) 10 ≤ fb_ct (fun j => !T.testBit j) 10 := by
    apply fb_ct_sub
    intro k _ hk
    by_cases q : k = b
    · rw [q, h1]; rfl
    · rw [if_neg q] at hk
      have := ly_sub_f h (j := k) (by simpa using hk)
      rw [this]; rfl
  omega
theorem ly_ct_put {L : Nat → Option Nat} {b a : Nat} (hb : b < 10) (h : L b = none) : ly_ct (ly_u L b (some a)) = ly_ct L + 1 := by
  unfold ly_ct
  have e := fb_ct_upd (fun j => (L j).isSome) true (i := b) (n := 10) hb
  simp only [h, Option.isSome_none, Bool.false_eq_true, ↓reduceIte, Nat.add_zero] at e
  have e2 : fb_ct (fun j => (ly_u L b (some a) j).isSome) 10 = fb_ct (fun k => if k = b then true else (L k).isSome) 10 := by
    apply fb_ct_cong
    intro k _
    by_cases q : k = b
    · rw [q, ly_us, if_pos rfl]; rfl
    · rw [ly_un q, if_neg q]
  rw [e2]
  omega
theorem ly_ct_put2 {L : Nat → Option Nat} {b a x : Nat} (h : L b = some x) : ly_ct (ly_u L b (some a)) = ly_ct L := by
  unfold ly_ct
  apply fb_ct_cong
  intro k _
  by_cases q : k = b
  · rw [q, ly_us, h]; rfl
  · rw [ly_un q]
/-- b has no partner yet -/
theorem ly_take {Ab : Nat → Nat} {L : Nat → Option Nat} {T a b Tc : Nat} (hp : ly_PA Ab L T a) (h : ly_inv Ab L T a b Tc) (hb : b < 10) (h1 : (Ab a).testBit b = true) (h2 : Tc.testBit b = false) (hL : L b = none) : ly_PB Ab L T a (nI 1) (ly_u L b (some a), Tc ||| 2 ^ b) := by
  obtain ⟨ha, hT, hV, hI, hN⟩ := hp
  have hTb := ly_sub_f h.2.1 h2
  refine ⟨ly_or1024 h.1 hb, fun j hj => ly_or_mono (h.2.1 j hj), Or.inr ⟨rfl, ?_⟩⟩
  show ly_succ Ab L T a (ly_u L b (some a))
  refine ⟨?_, ?_, ?_, ?_, ly_ct_put hb hL⟩
  · intro j x hj hx
    by_cases q : j = b
    · subst q
      rw [ly_us] at hx
      cases hx
      exact ⟨ha, h1⟩
    · rw [ly_un q] at hx
      exact hV j x hj hx
  · intro j hj
    apply ly_un
    rintro rfl
    rw [hTb] at hj
    exact absurd hj (by decide)
  · intro j j' x hj hj' t1 t2 e1 e2
    by_cases q : j = b
    · by_cases q' : j' = b
      · rw [q, q']
      · rw [q, ly_us] at e1
        rw [ly_un q'] at e2
        cases e1
        exact absurd e2 (hN j' hj' t2)
    · by_cases q' : j' = b
      · rw [q', ly_us] at e2
        rw [ly_un q] at e1
        cases e2
        exact absurd e1 (hN j hj t1)
      · rw [ly_un q] at e1
        rw [ly_un q'] at e2
        exact hI j j' x hj hj' t1 t2 e1 e2
  · intro j x hj t1 e1
    by_cases q : j = b
    · rw [q, ly_us] at e1
      cases e1
      exact Or.inl rfl
    · rw [ly_un q] at e1
      exact Or.inr ⟨j, hj, t1, e1⟩
/-- the call for b's present one is in order -/
theorem ly_ask {Ab : Nat → Nat} {L : Nat → Option Nat} {T a b x Tc : Nat} (hp : ly_PA Ab L T a) (h : ly_inv Ab L T a b Tc) (hb : b < 10) (h2 : Tc.testBit b = false) (hL : L b = some x) : ly_PA Ab L (Tc ||| 2 ^ b) x ∧ ly_unt (Tc ||| 2 ^ b) + 1 ≤ ly_unt T := by
  obtain ⟨ha, hT, hV, hI, hN⟩ := hp
  have hTb := ly_sub_f h.2.1 h2
  refine ⟨⟨(hV b x hb hL).1, ly_or1024 h.1 hb, hV, ?_, ?_⟩, ly_unt_lt (fun j hj => ly_or_mono (h.2.1 j hj)) hb hTb (ly_or_self Tc b)⟩
  · intro j j' y hj hj' t1 t2
    exact hI j j' y hj hj' (ly_sub_f h.2.1 (ly_or_out t1).1) (ly_sub_f h.2.1 (ly_or_out t2).1)
  · intro j hj t1 e1
    exact (ly_or_out t1).2 (hI b j x hb hj hTb (ly_sub_f h.2.1 (ly_or_out t1).1) hL e1)
/-- it failed: go on -/
theorem ly_goon {Ab : Nat → Nat} {L : Nat → Option Nat} {T a b x Tc T2 : Nat} (h : ly_inv Ab L T a b Tc) (hL : L b = some x) (hT2 : T2 < 1024) (hm : ∀ j, (Tc ||| 2 ^ b).testBit j = true → T2.testBit j = true) (hf : ly_fail Ab L (Tc ||| 2 ^ b) x T2) : ly_inv Ab L T a (b + 1) T2 := by
  refine ⟨hT2, fun j hj => hm j (ly_or_mono (h.2.1 j hj)), fun j hj hb => ?_, fun j hj t1 t2 => ?_⟩
  · rcases Nat.lt_or_eq_of_le (Nat.le_of_lt_succ hj) with q | q
    · exact hm j (ly_or_mono (h.2.2.1 j q hb))
    · subst q; exact hm j (ly_or_self Tc j)
  · cases q : (Tc ||| 2 ^ b).testBit j with
    | false => exact hf.2 j hj t1 q
    | true =>
      rw [ly_or_bit] at q
      rcases Bool.or_eq_true_iff.mp q with q | q
      · obtain ⟨y, e1, e2⟩ := h.2.2.2 j hj q t2
        exact ⟨y, e1, fun j' hj' t => hm j' (ly_or_mono (e2 j' hj' t))⟩
      · have q := of_decide_eq_true q
        subst q
        exact ⟨x, hL, hf.1⟩
/-- it succeeded: b is free for a -/
theorem ly_swap {Ab : Nat → Nat} {L L2 : Nat → Option Nat} {T a b x Tc T2 : Nat} (hp : ly_PA Ab L T a) (h : ly_inv Ab L T a b Tc) (hb : b < 10) (h1 : (Ab a).testBit b = true) (h2 : Tc.testBit b = false) (hL : L b = some x) (hT2 : T2 < 1024) (hm : ∀ j, (Tc ||| 2 ^ b).testBit j = true → T2.testBit j = true) (hs : ly_succ Ab L (Tc ||| 2 ^ b) x L2) : ly_PB Ab L T a (nI 1) (ly_u L2 b (some a), T2) := by
  obtain ⟨ha, hT, hV, hI, hN⟩ := hp
  obtain ⟨sV, sK, sI, sR, sC⟩ := hs
  have hTb := ly_sub_f h.2.1 h2
  have hL2b : L2 b = some x := by rw [sK b (ly_or_self Tc b)]; exact hL
  -- a value outside T stood outside T before, or is a
  have key : ∀ j y, j < 10 → T.testBit j = false → j ≠ b → L2 j = some y → ∃ j2, j2 < 10 ∧ T.testBit j2 = false ∧ L j2 = some y := by
    intro j y hj t1 hjb e1
    cases q : (Tc ||| 2 ^ b).testBit j with
    | true => exact ⟨j, hj, t1, by rw [← sK j q]; exact e1⟩
    | false =>
      rcases sR j y hj q e1 with e | ⟨j2, g1, g2, g3⟩
      · subst e; exact ⟨b, hb, hTb, hL⟩
      · exact ⟨j2, g1, ly_sub_f h.2.1 (ly_or_out g2).1, g3⟩
  have keyx : ∀ j, j < 10 → T.testBit j = false → j ≠ b → (Tc ||| 2 ^ b).testBit j = true → L2 j ≠ some x := by
    intro j hj t1 hjb q e1
    rw [sK j q] at e1
    exact hjb (hI j b x hj hb t1 hTb e1 hL)
  refine ⟨hT2, fun j hj => hm j (ly_or_mono (h.2.1 j hj)), Or.inr ⟨rfl, ?_⟩⟩
  show ly_succ Ab L T a (ly_u L2 b (some a))
  refine ⟨?_, ?_, ?_, ?_, ?_⟩
  · intro j y hj hx
    by_cases q : j = b
    · subst q
      rw [ly_us] at hx
      cases hx
      exact ⟨ha, h1⟩
    · rw [ly_un q] at hx
      exact sV j y hj hx
  · intro j hj
    have hjb : j ≠ b := by
      rintro rfl
      rw [hTb] at hj
      exact absurd hj (by decide)
    show ly_u L2 b (some a) j = L j
    rw [ly_un hjb]
    exact sK j (ly_or_mono (h.2.1 j hj))
  · intro j j' y hj hj' t1 t2 e1 e2
    by_cases q : j = b
    · by_cases q' : j' = b
      · rw [q, q']
      · rw [q, ly_us] at e1
        rw [ly_un q'] at e2
        cases e1
        obtain ⟨j2, g1, g2, g3⟩ := key j' a hj' t2 q' e2
        exact absurd g3 (hN j2 g1 g2)
    · by_cases q' : j' = b
      · rw [q', ly_us] at e2
        rw [ly_un q] at e1
        cases e2
        obtain ⟨j2, g1, g2, g3⟩ := key j a hj t1 q e1
        exact absurd g3 (hN j2 g1 g2)
      · rw [ly_un q] at e1
        rw [ly_un q'] at e2
        cases z : (Tc ||| 2 ^ b).testBit j with
        | true =>
          cases z' : (Tc ||| 2 ^ b).testBit j' with
          | true =>
            rw [sK j z] at e1
            rw [sK j' z'] at e2
            exact hI j j' y hj hj' t1 t2 e1 e2
          | false =>
            rcases sR j' y hj' z' e2 with e | ⟨j2, g1, g2, g3⟩
            · subst e
              exact absurd e1 (keyx j hj t1 q z)
            · rw [sK j z] at e1
              have := hI j j2 y hj g1 t1 (ly_sub_f h.2.1 (ly_or_out g2).1) e1 g3
              subst this
              rw [g2] at z
              exact absurd z (by decide)
        | false =>
          cases z' : (Tc ||| 2 ^ b).testBit j' with
          | true =>
            rcases sR j y hj z e1 with e | ⟨j2, g1, g2, g3⟩
            · subst e
              exact absurd e2 (keyx j' hj' t2 q' z')
            · rw [sK j' z'] at e2
              have := hI j' j2 y hj' g1 t2 (ly_sub_f h.2.1 (ly_or_out g2).1) e2 g3
              subst this
              rw [g2] at z'
              exact absurd z' (by decide)
          | false => exact sI j j' y hj hj' z z' e1 e2
  · intro j y hj t1 e1
    by_cases q : j = b
    · rw [q, ly_us] at e1
      cases e1
      exact Or.inl rfl
    · rw [ly_un q] at e1
      exact Or.inr (key j y hj t1 q e1)
  · show ly_ct (ly_u L2 b (some a)) = ly_ct L + 1
    rw [ly_ct_put2 hL2b, sC]
end
section
/-! ===== a pairing and a cover of the same number ===== -/
theorem ly_ct_inj {m : Nat} (f : Nat → Nat) : ∀ {n : Nat} {p q : Nat → Bool}, (∀ i, i < n → p i = true → f i < m ∧ q (f i) = true) → (∀ i j, i < n → j < n → p i = true → p j = true → f i = f j → i = j) → fb_ct p n ≤ fb_ct q m
  | 0, _, _, _, _ => Nat.zero_le _
  | n + 1, p, q, h1, h2 => by
    rw [fb_ct_succ]
    by_cases hp : p n = true
    · rw [if_pos hp]
      obtain ⟨g1, g2⟩ := h1 n (Nat.lt_succ_self n) hp
      have e := fb_ct_upd q false (i := f n) (n := m) g1
      rw [g2, if_pos rfl, if_neg (by decide)] at e
      have r := ly_ct_inj f (n := n) (p := p) (q := fun k => if k = f n then false else q k) (fun i hi pi => by
        obtain ⟨a1, a2⟩ := h1 i (by omega) pi
        refine ⟨a1, ?_⟩
        show (if f i = f n then false else q (f i)) = true
        rw [if_neg]
        · exact a2
        · intro z
          have := h2 i n (by omega) (by omega) pi hp z
          omega) (fun i j hi hj => h2 i j (by omega) (by omega))
      omega
    · rw [if_neg hp]
      exact ly_ct_inj f (fun i hi => h1 i (by omega)) (fun i j hi hj => h2 i j (by omega) (by omega))
/-- the state between two searches: a things are done -/
def ly_PI (Ab : Nat → Nat) (a : Nat) (L : Nat → Option Nat) (p : Nat) : Prop := ly_Vd Ab L ∧ ly_In L 0 ∧ (∀ b x, b < 10 → L b = some x → x < a) ∧ ly_ct L = p ∧ ∃ cl cr : Nat → Bool, (∀ x b, x < a → b < 10 → (Ab x).testBit b = true → cl x = true ∨ cr b = true) ∧ fb_ct cl 10 + fb_ct cr 10 ≤ p
theorem ly_PI_0 {Ab : Nat → Nat} {L : Nat → Option Nat} (h : ∀ j, j < 10 → L j = none) : ly_PI Ab 0 L 0 := by
  refine ⟨fun b x hb e => ?_, fun b b' x hb _ _ _ e => ?_, fun b x hb e => ?_, ?_, fun _ => false, fun _ => false, fun x b hx => absurd hx (by omega), by decide⟩
  · rw [h b hb] at e; cases e
  · rw [h b hb] at e; cases e
  · rw [h b hb] at e; cases e
  · unfold ly_ct
    exact fb_ct_zero.mpr (fun k hk => by rw [h k hk]; rfl)
theorem ly_PI_pre {Ab : Nat → Nat} {a p : Nat} {L : Nat → Option Nat} (h : ly_PI Ab a L p) (ha : a < 10) : ly_PA Ab L 0 a :=
  ⟨ha, by decide, h.1, h.2.1, fun b hb _ e => absurd (h.2.2.1 b a hb e) (by omega)⟩
theorem ly_PI_succ {Ab : Nat → Nat} {a p : Nat} {L L2 : Nat → Option Nat} (h : ly_PI Ab a L p) (ha : a < 10) (hs : ly_succ Ab L 0 a L2) : ly_PI Ab (a + 1) L2 (p + 1) := by
  obtain ⟨h1, h2, h3, h4, cl, cr, h5, h6⟩ := h
  obtain ⟨s1, s2, s3, s4, s5⟩ := hs
  refine ⟨s1, s3, fun b x hb e => ?_, by rw [s5, h4], fun k => if k = a then true else cl k, cr, fun x b hx hb e => ?_, ?_⟩
  · rcases s4 b x hb (Nat.zero_testBit b) e with q | ⟨b2, g1, g2, g3⟩
    · omega
    · have := h3 b2 x g1 g3
      omega
  · by_cases q : x = a
    · left
      show (if x = a then true else cl x) = true
      rw [if_pos q]
    · rcases h5 x b (by omega) hb e with z | z
      · left
        show (if x = a then true else cl x) = true
        rw [if_neg q]
        exact z
      · right; exact z
  · have e := fb_ct_upd cl true (i := a) (n := 10) ha
    rw [if_pos rfl] at e
    omega
theorem ly_PI_fail {Ab : Nat → Nat} {a p T2 : Nat} {L : Nat → Option Nat} (h : ly_PI Ab a L p) (hf : ly_fail Ab L 0 a T2) : ly_PI Ab (a + 1) L p := by
  obtain ⟨h1, h2, h3, h4, cl, cr, h5, h6⟩ := h
  obtain ⟨f1, f2⟩ := hf
  -- the things whose partners were all tried
  obtain ⟨S, hS⟩ : ∃ S : Nat → Bool, ∀ x, S x = true ↔ x = a ∨ ∃ b, b < 10 ∧ T2.testBit b = true ∧ L b = some x := by
    refine ⟨fun x => @decide _ (Classical.propDecidable (x = a ∨ ∃ b, b < 10 ∧ T2.testBit b = true ∧ L b = some x)), fun x => ?_⟩
    exact @decide_eq_true_iff _ (Classical.propDecidable _)
  refine ⟨h1, h2, fun b x hb e => Nat.lt_succ_of_lt (h3 b x hb e), h4, fun x => cl x && !S x, fun b => cr b || (T2.testBit b && !cr b), fun x b hx hb e => ?_, ?_⟩
  · by_cases q : S x = true
    · right
      have hT : T2.testBit b = true := by
        rcases (hS x).mp q with z | ⟨b', g1, g2, g3⟩
        · subst z; exact f1 b hb e
        · obtain ⟨y, e1, e2⟩ := f2 b' g1 g2 (Nat.zero_testBit b')
          rw [g3] at e1
          cases e1
          exact e2 b hb e
      show (cr b || (T2.testBit b && !cr b)) = true
      rw [hT]
      cases cr b <;> rfl
    · have hxa : x < a := by
        rcases Nat.lt_or_ge x a with z | z
        · exact z
        · exact absurd ((hS x).mpr (Or.inl (by omega))) q
      have q : S x = false := by simpa using q
      rcases h5 x b hxa hb e with z | z
      · left
        show (cl x && !S x) = true
        rw [z, q]; rfl
      · right
        show (cr b || (T2.testBit b && !cr b)) = true
        rw [z]; rfl
  · have e1 : fb_ct (fun b => cr b || (T2.testBit b && !cr b)) 10 = fb_ct cr 10 + fb_ct (fun b => T2.testBit b && !cr b) 10 := by
      refine fb_ct_or (fun k _ hk => ?_)
      obtain ⟨z1, z2⟩ := hk
      rw [z1] at z2
      simp at z2
    have e2 : fb_ct cl 10 = fb_ct (fun x => cl x && !S x) 10 + fb_ct (fun x => cl x && S x) 10 := by
      rw [← fb_ct_or]
      · apply fb_ct_cong
        intro k _
        cases cl k <;> cases S k <;> rfl
      · intro k _ hk
        obtain ⟨z1, z2⟩ := hk
        revert z1 z2
        cases cl k <;> cases S k <;> simp
    have e3 : fb_ct (fun b => T2.testBit b && !cr b) 10 ≤ fb_ct (fun x => cl x && S x) 10 := by
      refine ly_ct_inj (fun b => (L b).getD 0) (fun b hb hp => ?_) (fun b b' hb hb' hp hp' he => ?_)
      · have hp : T2.testBit b = true ∧ cr b = false := by simpa using hp
        obtain ⟨x, g1, -⟩ := f2 b hb hp.1 (Nat.zero_testBit b)
        have hx := h3 b x hb g1
        have hv := h1 b x hb g1
        rw [g1]
        refine ⟨hv.1, ?_⟩
        show (cl x && S x) = true
        rcases h5 x b hx hb hv.2 with z | z
        · rw [z, (hS x).mpr (Or.inr ⟨b, hb, hp.1, g1⟩)]; rfl
        · rw [hp.2] at z; exact absurd z (by decide)
      · have hp : T2.testBit b = true ∧ cr b = false := by simpa using hp
        have hp' : T2.testBit b' = true ∧ cr b' = false := by simpa using hp'
        obtain ⟨x, g1, -⟩ := f2 b hb hp.1 (Nat.zero_testBit b)
        obtain ⟨x', g1', -⟩ := f2 b' hb' hp'.1 (Nat.zero_testBit b')
        rw [g1, g1'] at he
        have he : x = x' := he
        subst he
        exact h2 b b' x hb hb' (Nat.zero_testBit b) (Nat.zero_testBit b') g1 g1'
    omega
theorem ly_PI_end {Ab U : Nat → Nat} {n p : Nat} {L : Nat → Option Nat} (h : ly_PI Ab n L p) (hn : n ≤ 10) (hA : ∀ j, j < n → Ab j = U j) : ly_pair n U p := by
  obtain ⟨h1, h2, h3, h4, cl, cr, h5, h6⟩ := h
  refine ⟨⟨L, fun b x hb e => ⟨h3 b x hb e, ?_⟩, fun b b' x hb hb' e e' => h2 b b' x hb hb' (Nat.zero_testBit b) (Nat.zero_testBit b') e e', h4⟩, cl, cr, fun x b hx hb e => h5 x b hx hb (by rw [hA x hx]; exact e), h6⟩
  rw [← hA x (h3 b x hb e)]
  exact (h1 b x hb e).2
end
section
/-! Pairing: partner (rows printed by gen) -/
set_option maxHeartbeats 4000000 in
set_option maxRecDepth 100000 in
/-- the loop of partner, its own calls by ih -/
theorem lp_partner {p : Program} {l : Launch} {e : Env} {s : State} {m : MethodId} {args : Array Value} {below : List Frame} {meth : Method} {c : Code} {dC : Nat → ClassId} {dI : Nat → Nat → Nat} {cI cJ cZ : ClassId} {A : Nat → Prop} {h dn up wy pr ab lo : Nat} {n a T d : Nat} {Dn Up Ab : Nat → Nat} {L : Nat → Option Nat} {Wy : Nat → Nat} (C : ly_C p m meth c cX1_partner 3 s args RX1 (dC, dI) (ly_tys cI cJ cZ) A) (hr : meth.sig.returnType = some .boolean) (hAb : ∀ j, j < 10 → Ab j < 1024) (hp : ly_PA Ab L T a) (hd : ly_unt T ≤ d) (ih : ∀ (L2 : Nat → Option Nat) (T2 x : Nat), ly_PA Ab L2 T2 x → ly_unt T2 + 1 ≤ d → ly_Mi (S := (Nat → Option Nat) × Nat) l yX1_partner (ws_ yX1_partner cX1_partner 3 (some .boolean)) ({ frames := d - 1, cells := 0, slots := 0, locals := 22 * (d - 1) } : Room) [.ref pr, .int (nI x)] (dC, dI) (ly_tys cI cJ cZ) (ly_WD h dn up wy pr ab lo cI cJ n T2 Dn Up Ab L2 Wy) (ly_PB Ab L2 T2 x) (fun u => (ly_WD h dn up wy pr ab lo cI cJ n (u.2) Dn Up Ab (u.1) Wy))) :
    ∀ (k b Tc : Nat) (H : Heap) (locs : List Loc) (ls : Array Slot), b + k = 10 → ly_inv Ab L T a b Tc → ly_w (dC, dI) A s.heap (ly_WD h dn up wy pr ab lo cI cJ n Tc Dn Up Ab L Wy) H locs → lv_has ls 3 [(2, .int (nI b)), (0, .ref pr), (1, .int (nI a))] → W p l e ({ frames := d, cells := 0, slots := 0, locals := 22 * (d) } : Room) s m args below meth c H locs 0 0 (MQ below (va_Qi (ly_PB Ab L T a) (ly_Bo (dC, dI) (ly_tys cI cJ cZ) A (fun u : (Nat → Option Nat) × Nat => (ly_WD h dn up wy pr ab lo cI cJ n (u.2) Dn Up Ab (u.1) Wy))) A) args s 0 0 A) (F0 m 2 ls []) := by
  intro k
  induction k with
  | zero =>
    intro b Tc H locs ls hi hv hw hl
    have hi : b = 10 := hi
    refine lv_iload_n C.1.1 C.1.2.1 dX1_partner_2 rfl (lv_at hl 0 rfl) ?_
    refine lv_bipush (v := nI 10) C.1.1 C.1.2.1 dX1_partner_3 (by decide) ?_
    refine lv_icmp_ge (tgt := 89) C.1.1 C.1.2.1 dX1_partner_5 (by decide) (fun c5 => ?_) (fun c5 => ?_)
    · rw [hi] at hv
      refine lv_iconst (v := nI 0) C.1.1 C.1.2.1 dX1_partner_89 (by decide) ?_
      exact ly_zret (u := (L, Tc)) C hr (by decide) hw (ly_inv_end hv) dX1_partner_90
    · exact absurd (nI_le (by omega) (by omega)) c5
  | succ k ih2 =>
    intro b Tc H locs ls hi hv hw hl
    have hb : b < 10 := by omega
    refine lv_iload_n C.1.1 C.1.2.1 dX1_partner_2 rfl (lv_at hl 0 rfl) ?_
    refine lv_bipush (v := nI 10) C.1.1 C.1.2.1 dX1_partner_3 (by decide) ?_
    refine lv_icmp_ge (tgt := 89) C.1.1 C.1.2.1 dX1_partner_5 (by decide) (fun c5 => ?_) (fun c5 => ?_)
    · exact absurd c5 (nI_ge (by omega) (by omega))
    · have ha := hp.1
      have hAa := hAb a ha
      have hTc := hv.1
      refine lv_aload_n C.1.1 C.1.2.1 dX1_partner_8 rfl (lv_at hl 1 rfl) ?_
      refine ly_gf in_X1 C hw 4 rfl rfl 0 (by decide) q23 rfl dX1_partner_9 ?_
      refine lv_iload_n C.1.1 C.1.2.1 dX1_partner_12 rfl (lv_at hl 2 rfl) ?_
      refine ly_iald C hw 5 0 rfl rfl (by omega) (by decide) rfl dX1_partner_13 ?_
      refine lv_iload_n C.1.1 C.1.2.1 dX1_partner_14 rfl (lv_at hl 0 rfl) ?_
      refine lv_ishr C.1.1 C.1.2.1 dX1_partner_15 ?_
      refine lv_iconst (v := nI 1) C.1.1 C.1.2.1 dX1_partner_16 (by decide) ?_
      refine lv_iand C.1.1 C.1.2.1 dX1_partner_17 ?_
      refine ly_top (ly_bit (by omega) (by omega)) ?_
      refine lv_if_eq (tgt := 83) C.1.1 C.1.2.1 dX1_partner_18 (by decide) (fun c18 => ?_) (fun c18 => ?_)
      · have c18 := ly_bit0 c18
        refine lv_iinc (v := nI (b + 1)) (lv' := [(2, .int (nI (b + 1))), (0, .ref pr), (1, .int (nI a))]) C.1.1 C.1.2.1 dX1_partner_83 hl (k := 0) rfl (nI_add b 1) (by decide) rfl (fun ls hl => ?_)
        refine lv_goto (tgt := 2) C.1.1 C.1.2.1 dX1_partner_86 (by decide) ?_
        exact ih2 (b + 1) Tc H locs ls (by omega) (ly_inv_skip hv (fun q => by rw [c18] at q; exact absurd q (by decide))) hw hl
      · have c18 := ly_bitn0 c18
        refine lv_aload_n C.1.1 C.1.2.1 dX1_partner_21 rfl (lv_at hl 1 rfl) ?_
        refine ly_gf in_X1 C hw 4 rfl rfl 2 (by decide) q25 rfl dX1_partner_22 ?_
        refine lv_iload_n C.1.1 C.1.2.1 dX1_partner_25 rfl (lv_at hl 0 rfl) ?_
        refine lv_ishr C.1.1 C.1.2.1 dX1_partner_26 ?_
        refine lv_iconst (v := nI 1) C.1.1 C.1.2.1 dX1_partner_27 (by decide) ?_
        refine lv_iand C.1.1 C.1.2.1 dX1_partner_28 ?_
        refine ly_top (ly_bit (by omega) (by omega)) ?_
        refine lv_iconst (v := nI 1) C.1.1 C.1.2.1 dX1_partner_29 (by decide) ?_
        refine lv_icmp_ne (tgt := 36) C.1.1 C.1.2.1 dX1_partner_30 (by decide) (fun c30 => ?_) (fun c30 => ?_)
        · have c30 := ly_bitn1 c30
          refine lv_aload_n C.1.1 C.1.2.1 dX1_partner_36 rfl (lv_at hl 1 rfl) ?_
          refine lv_dup C.1.1 C.1.2.1 dX1_partner_37 rfl ?_
          refine ly_gf in_X1 C hw 4 rfl rfl 2 (by decide) q25 rfl dX1_partner_38 ?_
          refine lv_iconst (v := nI 1) C.1.1 C.1.2.1 dX1_partner_41 (by decide) ?_
          refine lv_iload_n C.1.1 C.1.2.1 dX1_partner_42 rfl (lv_at hl 0 rfl) ?_
          refine lv_ishl C.1.1 C.1.2.1 dX1_partner_43 ?_
          refine ly_top (ly_shl (by omega)) ?_
          refine lv_ior C.1.1 C.1.2.1 dX1_partner_44 ?_
          refine ly_top (fa_or Tc (2 ^ b)) ?_
          refine ly_pf in_X1 tyX1 tyX1_ok nmX1 C hw 4 rfl rfl 2 (by decide) q25 rfl rfl rfl (Nat.le_of_ble_eq_true rfl) dX1_partner_45 (fun H locs hw => ?_)
          have hw : ly_w (dC, dI) A s.heap (ly_WD h dn up wy pr ab lo cI cJ n (Tc ||| (2 ^ b)) Dn Up Ab L Wy) H locs := hw
          refine lv_aload_n C.1.1 C.1.2.1 dX1_partner_48 rfl (lv_at hl 1 rfl) ?_
          refine ly_gf in_X1 C hw 4 rfl rfl 1 (by decide) q24 rfl dX1_partner_49 ?_
          refine lv_iload_n C.1.1 C.1.2.1 dX1_partner_52 rfl (lv_at hl 0 rfl) ?_
          refine ly_iald C hw 6 0 rfl rfl (by omega) (by decide) rfl dX1_partner_53 ?_
          rcases hLb : L b with _ | x
          · refine ly_top (show ly_o none = -1 from rfl) ?_
            refine lv_iconst (v := -1) C.1.1 C.1.2.1 dX1_partner_54 (by decide) ?_
            refine lv_icmp_eq (tgt := 74) C.1.1 C.1.2.1 dX1_partner_55 (by decide) (fun c55 => ?_) (fun c55 => ?_)
            · skip
              refine lv_aload_n C.1.1 C.1.2.1 dX1_partner_74 rfl (lv_at hl 1 rfl) ?_
              refine ly_gf in_X1 C hw 4 rfl rfl 1 (by decide) q24 rfl dX1_partner_75 ?_
              refine lv_iload_n C.1.1 C.1.2.1 dX1_partner_78 rfl (lv_at hl 0 rfl) ?_
              refine lv_iload_n C.1.1 C.1.2.1 dX1_partner_79 rfl (lv_at hl 2 rfl) ?_
              refine ly_iastO C hw 6 0 rfl rfl (some a) rfl (by omega) (by decide) dX1_partner_80 (fun H locs hw => ?_)
              have hw : ly_w (dC, dI) A s.heap (ly_WD h dn up wy pr ab lo cI cJ n (Tc ||| (2 ^ b)) Dn Up Ab (ly_u L b ((some a))) Wy) H locs := hw
              refine lv_iconst (v := nI 1) C.1.1 C.1.2.1 dX1_partner_81 (by decide) ?_
              exact ly_zret (u := (_, _)) C hr (by decide) hw (ly_take hp hv hb c18 c30 hLb) dX1_partner_82
            · exact absurd rfl c55
          · have hx := (hp.2.2.1 b x hb hLb).1
            refine ly_top (show ly_o (some x) = nI x from rfl) ?_
            refine lv_iconst (v := -1) C.1.1 C.1.2.1 dX1_partner_54 (by decide) ?_
            refine lv_icmp_eq (tgt := 74) C.1.1 C.1.2.1 dX1_partner_55 (by decide) (fun c55 => ?_) (fun c55 => ?_)
            · exact absurd c55 (by intro q; have := nI_pos (n := x) (by omega); rw [q] at this; exact this (by decide))
            · obtain ⟨hpx, hun⟩ := ly_ask hp hv hb c30 hLb
              refine lv_aload_n C.1.1 C.1.2.1 dX1_partner_58 rfl (lv_at hl 1 rfl) ?_
              refine lv_aload_n C.1.1 C.1.2.1 dX1_partner_59 rfl (lv_at hl 1 rfl) ?_
              refine ly_gf in_X1 C hw 4 rfl rfl 1 (by decide) q24 rfl dX1_partner_60 ?_
              refine lv_iload_n C.1.1 C.1.2.1 dX1_partner_63 rfl (lv_at hl 0 rfl) ?_
              refine ly_iald C hw 6 0 rfl rfl (by omega) (by decide) rfl dX1_partner_64 ?_
              refine ly_top (show ly_o (L b) = nI x by rw [hLb]; rfl) ?_
              refine ly_calli (wr := []) (rest := []) (ih L (Tc ||| 2 ^ b) x hpx (by omega)) C (cwV 1 C.1.2.2.2.2 (lw_V q76 q78 qs1 q7 q79) rfl rfl rfl (by decide +kernel) ⟨by show d - 1 + 1 ≤ d; omega, by show 8 + (3 + 11) + 22 * (d - 1) ≤ 22 * d; omega⟩) hw [0, 1, 2, 3, 4, 5, 6] [] rfl rfl (by decide) (by decide) (by decide) 4 rfl rfl rfl hl.1 (Nat.le_of_ble_eq_true rfl) dX1_partner_65 (Nat.zero_le _) (Nat.zero_le _) (fun r u H locs hq hw => ?_)
              obtain ⟨L2, T2⟩ := u
              obtain ⟨hq1, hq2, hq3⟩ := hq
              have hw : ly_w (dC, dI) A s.heap (ly_WD h dn up wy pr ab lo cI cJ n T2 Dn Up Ab L2 Wy) H locs := hw
              rcases hq3 with ⟨hr0, hLL, hff⟩ | ⟨hr1, hss⟩
              · subst hr0
                have hLL : L2 = L := hLL
                rw [hLL] at hw
                refine lv_if_ne (tgt := 74) C.1.1 C.1.2.1 dX1_partner_68 (by decide) (fun c68 => ?_) (fun c68 => ?_)
                · exact absurd rfl c68
                · skip
                  refine lv_goto (tgt := 83) C.1.1 C.1.2.1 dX1_partner_71 (by decide) ?_
                  refine lv_iinc (v := nI (b + 1)) (lv' := [(2, .int (nI (b + 1))), (0, .ref pr), (1, .int (nI a))]) C.1.1 C.1.2.1 dX1_partner_83 hl (k := 0) rfl (nI_add b 1) (by decide) rfl (fun ls hl => ?_)
                  refine lv_goto (tgt := 2) C.1.1 C.1.2.1 dX1_partner_86 (by decide) ?_
                  exact ih2 (b + 1) T2 H locs ls (by omega) (ly_goon hv hLb hq1 hq2 hff) hw hl
              · subst hr1
                refine lv_if_ne (tgt := 74) C.1.1 C.1.2.1 dX1_partner_68 (by decide) (fun c68 => ?_) (fun c68 => ?_)
                · skip
                  refine lv_aload_n C.1.1 C.1.2.1 dX1_partner_74 rfl (lv_at hl 1 rfl) ?_
                  refine ly_gf in_X1 C hw 4 rfl rfl 1 (by decide) q24 rfl dX1_partner_75 ?_
                  refine lv_iload_n C.1.1 C.1.2.1 dX1_partner_78 rfl (lv_at hl 0 rfl) ?_
                  refine lv_iload_n C.1.1 C.1.2.1 dX1_partner_79 rfl (lv_at hl 2 rfl) ?_
                  refine ly_iastO C hw 6 0 rfl rfl (some a) rfl (by omega) (by decide) dX1_partner_80 (fun H locs hw => ?_)
                  have hw : ly_w (dC, dI) A s.heap (ly_WD h dn up wy pr ab lo cI cJ n T2 Dn Up Ab (ly_u L2 b ((some a))) Wy) H locs := hw
                  refine lv_iconst (v := nI 1) C.1.1 C.1.2.1 dX1_partner_81 (by decide) ?_
                  exact ly_zret (u := (_, _)) C hr (by decide) hw (ly_swap hp hv hb c18 c30 hLb hq1 hq2 hss) dX1_partner_82
                · exact absurd c68 (by decide)
        · have c30 := ly_bit1 c30
          refine lv_goto (tgt := 83) C.1.1 C.1.2.1 dX1_partner_33 (by decide) ?_
          refine lv_iinc (v := nI (b + 1)) (lv' := [(2, .int (nI (b + 1))), (0, .ref pr), (1, .int (nI a))]) C.1.1 C.1.2.1 dX1_partner_83 hl (k := 0) rfl (nI_add b 1) (by decide) rfl (fun ls hl => ?_)
          refine lv_goto (tgt := 2) C.1.1 C.1.2.1 dX1_partner_86 (by decide) ?_
          exact ih2 (b + 1) Tc H locs ls (by omega) (ly_inv_skip hv (fun _ => c30)) hw hl
set_option maxHeartbeats 4000000 in
set_option maxRecDepth 100000 in
/-- partner(a) -/
theorem mt_partner (l : Launch) {dC : Nat → ClassId} {dI : Nat → Nat → Nat} {cI cJ cZ : ClassId} {h dn up wy pr ab lo : Nat} {n : Nat} {Dn Up Ab : Nat → Nat} {Wy : Nat → Nat} (hAb : ∀ j, j < 10 → Ab j < 1024) : ∀ (d : Nat) (L : Nat → Option Nat) (T a : Nat), ly_PA Ab L T a → ly_unt T ≤ d → ly_Mi (S := (Nat → Option Nat) × Nat) l yX1_partner (ws_ yX1_partner cX1_partner 3 (some .boolean)) ({ frames := d, cells := 0, slots := 0, locals := 22 * (d) } : Room) [.ref pr, .int (nI a)] (dC, dI) (ly_tys cI cJ cZ) (ly_WD h dn up wy pr ab lo cI cJ n T Dn Up Ab L Wy) (ly_PB Ab L T a) (fun u => (ly_WD h dn up wy pr ab lo cI cJ n (u.2) Dn Up Ab (u.1) Wy)) := by
  intro d
  induction d with
  | zero =>
    intro L T a hp hd
    refine ly_ofi (by decide) (Nat.le_of_ble_eq_true rfl) ?_
    intro p e s m below meth c A ls C hr hw hl
    have C : ly_C p m meth c cX1_partner 3 s _ RX1 (dC, dI) (ly_tys cI cJ cZ) A := C
    have hl : lv_has ls 3 [(0, .ref pr), (1, .int (nI a))] := hl
    refine lv_iconst (v := nI 0) C.1.1 C.1.2.1 dX1_partner_0 (by decide) ?_
    refine lv_istore_n (lv' := [(2, .int (nI 0)), (0, .ref pr), (1, .int (nI a))]) C.1.1 C.1.2.1 dX1_partner_1 rfl hl (by decide) rfl (fun ls hl => ?_)
    exact lp_partner (d := 0) C hr hAb hp hd (fun L2 T2 x hx hu => absurd hu (by omega)) 10 0 T _ _ ls (by omega) (ly_inv_0 hp.2.1) hw hl
  | succ d ih =>
    intro L T a hp hd
    refine ly_ofi (by decide) (Nat.le_of_ble_eq_true rfl) ?_
    intro p e s m below meth c A ls C hr hw hl
    have C : ly_C p m meth c cX1_partner 3 s _ RX1 (dC, dI) (ly_tys cI cJ cZ) A := C
    have hl : lv_has ls 3 [(0, .ref pr), (1, .int (nI a))] := hl
    refine lv_iconst (v := nI 0) C.1.1 C.1.2.1 dX1_partner_0 (by decide) ?_
    refine lv_istore_n (lv' := [(2, .int (nI 0)), (0, .ref pr), (1, .int (nI a))]) C.1.1 C.1.2.1 dX1_partner_1 rfl hl (by decide) rfl (fun ls hl => ?_)
    exact lp_partner C hr hAb hp hd (fun L2 T2 x hx hu => ih L2 T2 x hx (by omega)) 10 0 T _ _ ls (by omega) (ly_inv_0 hp.2.1) hw hl
end
section
/-! Pairing: most; LayersDesk: cover, width (rows printed by gen) -/
theorem ly_pair_le {n p : Nat} {U : Nat → Nat} (h : ly_pair n U p) : p ≤ n := by
  obtain ⟨⟨f, h1, h2, h3⟩, -⟩ := h
  have e : fb_ct (fun _ => true) n = n := fb_ct_all.mpr (fun _ _ => rfl)
  rw [← h3, ← e]
  refine ly_ct_inj (fun b => (f b).getD 0) (fun b hb hp => ?_) (fun b b' hb hb' hp hp' he => ?_)
  · obtain ⟨x, hx⟩ := Option.isSome_iff_exists.mp hp
    rw [hx]
    exact ⟨(h1 b x hb hx).1, rfl⟩
  · obtain ⟨x, hx⟩ := Option.isSome_iff_exists.mp hp
    obtain ⟨x', hx'⟩ := Option.isSome_iff_exists.mp hp'
    rw [hx, hx'] at he
    have he : x = x' := he
    subst he
    exact h2 b b' x hb hb' hx hx'
set_option maxHeartbeats 4000000 in
set_option maxRecDepth 100000 in
/-- the first loop of most -/
theorem lp_most1 {p : Program} {l : Launch} {e : Env} {R : Room} {s : State} {m : MethodId} {args : Array Value} {below : List Frame} {meth : Method} {c : Code} {Q : State → Prop} {dC : Nat → ClassId} {dI : Nat → Nat → Nat} {cI cJ cZ : ClassId} {A : Nat → Prop} {h dn up wy pr ab lo : Nat} {n tr : Nat} {Dn Up : Nat → Nat} {Wy : Nat → Nat} (C : ly_C p m meth c cX1_most 5 s args RX1 (dC, dI) (ly_tys cI cJ cZ) A) (hn2 : n ≤ 10) (kk : ∀ (B : Nat → Nat) (L : Nat → Option Nat) (H : Heap) (locs : List Loc) (ls : Array Slot), (∀ j, j < 10 → B j = (if j < n then Up j else 0) ∧ L j = none) → ly_w (dC, dI) A s.heap (ly_WD h dn up wy pr ab lo cI cJ n tr Dn Up B L Wy) H locs → lv_has ls 5 [(0, .ref pr), (1, .ref up), (2, .int (nI n))] → W p l e R s m args below meth c H locs 0 0 Q (F0 m 39 ls [])) :
    ∀ (k i : Nat) (B : Nat → Nat) (L : Nat → Option Nat) (H : Heap) (locs : List Loc) (ls : Array Slot), i + k = 10 → (∀ j, j < i → B j = (if j < n then Up j else 0) ∧ L j = none) → ly_w (dC, dI) A s.heap (ly_WD h dn up wy pr ab lo cI cJ n tr Dn Up B L Wy) H locs → lv_has ls 5 [(3, .int (nI i)), (0, .ref pr), (1, .ref up), (2, .int (nI n))] → W p l e R s m args below meth c H locs 0 0 Q (F0 m 2 ls []) := by
  intro k
  induction k with
  | zero =>
    intro i B L H locs ls hi hz hw hl
    have hi : i = 10 := hi
    subst hi
    refine lv_iload_n C.1.1 C.1.2.1 dX1_most_2 rfl (lv_at hl 0 rfl) ?_
    refine lv_bipush (v := nI 10) C.1.1 C.1.2.1 dX1_most_3 (by decide) ?_
    refine lv_icmp_ge (tgt := 39) C.1.1 C.1.2.1 dX1_most_5 (by decide) (fun c5 => ?_) (fun c5 => ?_)
    · exact kk B L H locs ls hz hw (lv_sub hl [1, 2, 3] rfl)
    · exact absurd (nI_le (by omega) (by omega)) c5
  | succ k ih =>
    intro i B L H locs ls hi hz hw hl
    refine lv_iload_n C.1.1 C.1.2.1 dX1_most_2 rfl (lv_at hl 0 rfl) ?_
    refine lv_bipush (v := nI 10) C.1.1 C.1.2.1 dX1_most_3 (by decide) ?_
    refine lv_icmp_ge (tgt := 39) C.1.1 C.1.2.1 dX1_most_5 (by decide) (fun c5 => ?_) (fun c5 => ?_)
    · exact absurd c5 (nI_ge (by omega) (by omega))
    · skip
      refine lv_aload_n C.1.1 C.1.2.1 dX1_most_8 rfl (lv_at hl 1 rfl) ?_
      refine ly_gf in_X1 C hw 4 rfl rfl 0 (by decide) q23 rfl dX1_most_9 ?_
      refine lv_iload_n C.1.1 C.1.2.1 dX1_most_12 rfl (lv_at hl 0 rfl) ?_
      refine lv_iload_n C.1.1 C.1.2.1 dX1_most_13 rfl (lv_at hl 0 rfl) ?_
      refine lv_iload_n C.1.1 C.1.2.1 dX1_most_14 rfl (lv_at hl 3 rfl) ?_
      refine lv_icmp_ge (tgt := 24) C.1.1 C.1.2.1 dX1_most_15 (by decide) (fun c15 => ?_) (fun c15 => ?_)
      · have c15 : ¬ i < n := fun q => (nI_ge q (by omega)) c15
        refine lv_iconst (v := nI 0) C.1.1 C.1.2.1 dX1_most_24 (by decide) ?_
        refine ly_iastN C hw 5 0 rfl rfl (by omega) (by decide) dX1_most_25 (fun H locs hw => ?_)
        have hw : ly_w (dC, dI) A s.heap (ly_WD h dn up wy pr ab lo cI cJ n tr Dn Up (ly_u B i 0) L Wy) H locs := hw
        refine lv_aload_n C.1.1 C.1.2.1 dX1_most_26 rfl (lv_at hl 1 rfl) ?_
        refine ly_gf in_X1 C hw 4 rfl rfl 1 (by decide) q24 rfl dX1_most_27 ?_
        refine lv_iload_n C.1.1 C.1.2.1 dX1_most_30 rfl (lv_at hl 0 rfl) ?_
        refine lv_iconst (v := -1) C.1.1 C.1.2.1 dX1_most_31 (by decide) ?_
        refine ly_iastO C hw 6 0 rfl rfl none rfl (by omega) (by decide) dX1_most_32 (fun H locs hw => ?_)
        have hw : ly_w (dC, dI) A s.heap (ly_WD h dn up wy pr ab lo cI cJ n tr Dn Up (ly_u B i 0) (ly_u L i none) Wy) H locs := hw
        refine lv_iinc (v := nI (i + 1)) (lv' := [(3, .int (nI (i + 1))), (0, .ref pr), (1, .ref up), (2, .int (nI n))]) C.1.1 C.1.2.1 dX1_most_33 hl (k := 0) rfl (nI_add i 1) (by decide) rfl (fun ls hl => ?_)
        refine lv_goto (tgt := 2) C.1.1 C.1.2.1 dX1_most_36 (by decide) ?_
        refine ih (i + 1) _ _ H locs ls (by omega) (fun j hj => ?_) hw hl
        rcases Nat.lt_or_eq_of_le (Nat.le_of_lt_succ hj) with q | q
        · rw [ly_un (by omega), ly_un (by omega)]; exact hz j q
        · rw [q, ly_us, ly_us, if_neg c15]; exact ⟨rfl, rfl⟩
      · have c15 : i < n := by rcases Nat.lt_or_ge i n with q | q; exact q; exact absurd (nI_le q (by omega)) c15
        refine lv_aload_n C.1.1 C.1.2.1 dX1_most_18 rfl (lv_at hl 2 rfl) ?_
        refine lv_iload_n C.1.1 C.1.2.1 dX1_most_19 rfl (lv_at hl 0 rfl) ?_
        refine ly_iald C hw 2 0 rfl rfl (by omega) (by decide) rfl dX1_most_20 ?_
        refine lv_goto (tgt := 25) C.1.1 C.1.2.1 dX1_most_21 (by decide) ?_
        refine ly_iastN C hw 5 0 rfl rfl (by omega) (by decide) dX1_most_25 (fun H locs hw => ?_)
        have hw : ly_w (dC, dI) A s.heap (ly_WD h dn up wy pr ab lo cI cJ n tr Dn Up (ly_u B i (Up i)) L Wy) H locs := hw
        refine lv_aload_n C.1.1 C.1.2.1 dX1_most_26 rfl (lv_at hl 1 rfl) ?_
        refine ly_gf in_X1 C hw 4 rfl rfl 1 (by decide) q24 rfl dX1_most_27 ?_
        refine lv_iload_n C.1.1 C.1.2.1 dX1_most_30 rfl (lv_at hl 0 rfl) ?_
        refine lv_iconst (v := -1) C.1.1 C.1.2.1 dX1_most_31 (by decide) ?_
        refine ly_iastO C hw 6 0 rfl rfl none rfl (by omega) (by decide) dX1_most_32 (fun H locs hw => ?_)
        have hw : ly_w (dC, dI) A s.heap (ly_WD h dn up wy pr ab lo cI cJ n tr Dn Up (ly_u B i (Up i)) (ly_u L i none) Wy) H locs := hw
        refine lv_iinc (v := nI (i + 1)) (lv' := [(3, .int (nI (i + 1))), (0, .ref pr), (1, .ref up), (2, .int (nI n))]) C.1.1 C.1.2.1 dX1_most_33 hl (k := 0) rfl (nI_add i 1) (by decide) rfl (fun ls hl => ?_)
        refine lv_goto (tgt := 2) C.1.1 C.1.2.1 dX1_most_36 (by decide) ?_
        refine ih (i + 1) _ _ H locs ls (by omega) (fun j hj => ?_) hw hl
        rcases Nat.lt_or_eq_of_le (Nat.le_of_lt_succ hj) with q | q
        · rw [ly_un (by omega), ly_un (by omega)]; exact hz j q
        · rw [q, ly_us, ly_us, if_pos c15]; exact ⟨rfl, rfl⟩
set_option maxHeartbeats 4000000 in
set_option maxRecDepth 100000 in
/-- the second loop of most -/
theorem lp_most2 {p : Program} {l : Launch} {e : Env} {R : Room} {s : State} {m : MethodId} {args : Array Value} {below : List Frame} {meth : Method} {c : Code} {Q : State → Prop} {dC : Nat → ClassId} {dI : Nat → Nat → Nat} {cI cJ cZ : ClassId} {A : Nat → Prop} {h dn up wy pr ab lo : Nat} {n : Nat} {Dn Up B : Nat → Nat} {Wy : Nat → Nat} (C : ly_C p m meth c cX1_most 5 s args RX1 (dC, dI) (ly_tys cI cJ cZ) A) (hn2 : n ≤ 10) (hB : ∀ j, j < 10 → B j < 1024) (hRf : 11 ≤ R.frames) (hRl : 242 ≤ R.locals) (kk : ∀ (q : Nat) (L : Nat → Option Nat) (T : Nat) (H : Heap) (locs : List Loc) (ls : Array Slot), ly_PI B n L q → ly_w (dC, dI) A s.heap (ly_WD h dn up wy pr ab lo cI cJ n T Dn Up B L Wy) H locs → lv_has ls 5 [(4, .int (nI n)), (3, .int (nI q)), (0, .ref pr), (1, .ref up), (2, .int (nI n))] → W p l e R s m args below meth c H locs 0 0 Q (F0 m 73 ls [])) :
    ∀ (k a q : Nat) (L : Nat → Option Nat) (T : Nat) (H : Heap) (locs : List Loc) (ls : Array Slot), a + k = n → ly_PI B a L q → ly_w (dC, dI) A s.heap (ly_WD h dn up wy pr ab lo cI cJ n T Dn Up B L Wy) H locs → lv_has ls 5 [(4, .int (nI a)), (3, .int (nI q)), (0, .ref pr), (1, .ref up), (2, .int (nI n))] → W p l e R s m args below meth c H locs 0 0 Q (F0 m 44 ls []) := by
  intro k
  induction k with
  | zero =>
    intro a q L T H locs ls hi hv hw hl
    have hi : a = n := hi
    subst hi
    refine lv_iload C.1.1 C.1.2.1 dX1_most_44 (lv_at hl 0 rfl) ?_
    refine lv_iload_n C.1.1 C.1.2.1 dX1_most_46 rfl (lv_at hl 4 rfl) ?_
    refine lv_icmp_ge (tgt := 73) C.1.1 C.1.2.1 dX1_most_47 (by decide) (fun c47 => ?_) (fun c47 => ?_)
    · exact kk q L T H locs ls hv hw hl
    · exact absurd (nI_le (by omega) (by omega)) c47
  | succ k ih =>
    intro a q L T H locs ls hi hv hw hl
    refine lv_iload C.1.1 C.1.2.1 dX1_most_44 (lv_at hl 0 rfl) ?_
    refine lv_iload_n C.1.1 C.1.2.1 dX1_most_46 rfl (lv_at hl 4 rfl) ?_
    refine lv_icmp_ge (tgt := 73) C.1.1 C.1.2.1 dX1_most_47 (by decide) (fun c47 => ?_) (fun c47 => ?_)
    · exact absurd c47 (nI_ge (by omega) (by omega))
    · have ha : a < 10 := by omega
      refine lv_aload_n C.1.1 C.1.2.1 dX1_most_50 rfl (lv_at hl 2 rfl) ?_
      refine lv_iconst (v := nI 0) C.1.1 C.1.2.1 dX1_most_51 (by decide) ?_
      refine ly_pf in_X1 tyX1 tyX1_ok nmX1 C hw 4 rfl rfl 2 (by decide) q25 rfl rfl rfl (Nat.le_of_ble_eq_true rfl) dX1_most_52 (fun H locs hw => ?_)
      have hw : ly_w (dC, dI) A s.heap (ly_WD h dn up wy pr ab lo cI cJ n 0 Dn Up B L Wy) H locs := hw
      refine lv_aload_n C.1.1 C.1.2.1 dX1_most_55 rfl (lv_at hl 2 rfl) ?_
      refine lv_iload C.1.1 C.1.2.1 dX1_most_56 (lv_at hl 0 rfl) ?_
      refine ly_calli (wr := []) (rest := []) (mt_partner l hB 10 L 0 a (ly_PI_pre hv ha) (by decide)) C (cwV 1 C.1.2.2.2.2 (lw_V q76 q78 qs1 q7 q79) rfl rfl rfl (by decide +kernel) ⟨hRf, hRl⟩) hw [0, 1, 2, 3, 4, 5, 6] [] rfl rfl (by decide) (by decide) (by decide) 4 rfl rfl rfl hl.1 (Nat.le_of_ble_eq_true rfl) dX1_most_58 (Nat.zero_le _) (Nat.zero_le _) (fun r u H locs hq hw => ?_)
      obtain ⟨L2, T2⟩ := u
      obtain ⟨hq1, hq2, hq3⟩ := hq
      have hw : ly_w (dC, dI) A s.heap (ly_WD h dn up wy pr ab lo cI cJ n T2 Dn Up B L2 Wy) H locs := hw
      rcases hq3 with ⟨hr0, hLL, hff⟩ | ⟨hr1, hss⟩
      · subst hr0
        have hLL : L2 = L := hLL
        rw [hLL] at hw
        refine lv_if_eq (tgt := 67) C.1.1 C.1.2.1 dX1_most_61 (by decide) (fun c61 => ?_) (fun c61 => ?_)
        · skip
          refine lv_iinc (v := nI (a + 1)) (lv' := [(4, .int (nI (a + 1))), (3, .int (nI q)), (0, .ref pr), (1, .ref up), (2, .int (nI n))]) C.1.1 C.1.2.1 dX1_most_67 hl (k := 0) rfl (nI_add a 1) (by decide) rfl (fun ls hl => ?_)
          refine lv_goto (tgt := 44) C.1.1 C.1.2.1 dX1_most_70 (by decide) ?_
          exact ih (a + 1) q L T2 H locs ls (by omega) (ly_PI_fail hv hff) hw hl
        · exact absurd rfl c61
      · subst hr1
        refine lv_if_eq (tgt := 67) C.1.1 C.1.2.1 dX1_most_61 (by decide) (fun c61 => ?_) (fun c61 => ?_)
        · exact absurd c61 (by decide)
        · skip
          refine lv_iinc (v := nI (q + 1)) (lv' := [(3, .int (nI (q + 1))), (4, .int (nI a)), (0, .ref pr), (1, .ref up), (2, .int (nI n))]) C.1.1 C.1.2.1 dX1_most_64 hl (k := 1) rfl (nI_add q 1) (by decide) rfl (fun ls hl => ?_)
          refine lv_iinc (v := nI (a + 1)) (lv' := [(4, .int (nI (a + 1))), (3, .int (nI (q + 1))), (0, .ref pr), (1, .ref up), (2, .int (nI n))]) C.1.1 C.1.2.1 dX1_most_67 hl (k := 1) rfl (nI_add a 1) (by decide) rfl (fun ls hl => ?_)
          refine lv_goto (tgt := 44) C.1.1 C.1.2.1 dX1_most_70 (by decide) ?_
          exact ih (a + 1) (q + 1) L2 T2 H locs ls (by omega) (ly_PI_succ hv ha hss) hw hl
set_option maxHeartbeats 4000000 in
set_option maxRecDepth 100000 in
/-- most(up, n) -/
theorem mt_most (l : Launch) {dC : Nat → ClassId} {dI : Nat → Nat → Nat} {cI cJ cZ : ClassId} {h dn up wy pr ab lo : Nat} {n tr : Nat} {Dn Up Ab : Nat → Nat} {Lo : Nat → Option Nat} {Wy : Nat → Nat} (hn2 : n ≤ 10) (hU : ∀ j, j < n → Up j < 1024) : ly_Mi (S := (Nat → Nat) × (Nat → Option Nat) × Nat) l yX1_most (ws_ yX1_most cX1_most 5 (some .int)) ({ frames := 11, cells := 0, slots := 0, locals := 242 } : Room) [.ref pr, .ref up, .int (nI n)] (dC, dI) (ly_tys cI cJ cZ) (ly_WD h dn up wy pr ab lo cI cJ n tr Dn Up Ab Lo Wy) (fun r _ => ∃ q, r = nI q ∧ ly_pair n Up q) (fun u => (ly_WD h dn up wy pr ab lo cI cJ n (u.2.2) Dn Up (u.1) (u.2.1) Wy)) := by
  refine ly_ofi (by decide) (Nat.le_of_ble_eq_true rfl) ?_
  intro p e s m below meth c A ls C hr hw hl
  have C : ly_C p m meth c cX1_most 5 s _ RX1 (dC, dI) (ly_tys cI cJ cZ) A := C
  have hl : lv_has ls 5 [(0, .ref pr), (1, .ref up), (2, .int (nI n))] := hl
  refine lv_iconst (v := nI 0) C.1.1 C.1.2.1 dX1_most_0 (by decide) ?_
  refine lv_istore_n (lv' := [(3, .int (nI 0)), (0, .ref pr), (1, .ref up), (2, .int (nI n))]) C.1.1 C.1.2.1 dX1_most_1 rfl hl (by decide) rfl (fun ls hl => ?_)
  refine lp_most1 C hn2 (fun B L H locs ls hz hw hl => ?_) 10 0 Ab Lo _ _ ls (by omega) (fun j hj => absurd hj (by omega)) hw hl
  have hB : ∀ j, j < 10 → B j < 1024 := by
    intro j hj
    rw [(hz j hj).1]
    by_cases q : j < n
    · rw [if_pos q]; exact hU j q
    · rw [if_neg q]; decide
  refine lv_iconst (v := nI 0) C.1.1 C.1.2.1 dX1_most_39 (by decide) ?_
  refine lv_istore_n (lv' := [(3, .int (nI 0)), (0, .ref pr), (1, .ref up), (2, .int (nI n))]) C.1.1 C.1.2.1 dX1_most_40 rfl hl (by decide) rfl (fun ls hl => ?_)
  refine lv_iconst (v := nI 0) C.1.1 C.1.2.1 dX1_most_41 (by decide) ?_
  refine lv_istore (lv' := [(4, .int (nI 0)), (3, .int (nI 0)), (0, .ref pr), (1, .ref up), (2, .int (nI n))]) C.1.1 C.1.2.1 dX1_most_42 hl (by decide) rfl (fun ls hl => ?_)
  refine lp_most2 C hn2 hB (Nat.le_refl _) (Nat.le_refl _) (fun q L2 T2 H locs ls hv hw hl => ?_) n 0 0 L tr H locs ls (by omega) (ly_PI_0 (fun j hj => (hz j hj).2)) hw hl
  refine lv_iload_n C.1.1 C.1.2.1 dX1_most_73 rfl (lv_at hl 1 rfl) ?_
  exact ly_iret (u := (B, L2, T2)) C hr hw ⟨q, rfl, ly_PI_end hv hn2 (fun j hj => by rw [(hz j (by omega)).1, if_pos hj])⟩ dX1_most_74
set_option maxHeartbeats 4000000 in
set_option maxRecDepth 100000 in
/-- cover() -/
theorem mt_cover0 (l : Launch) {dC : Nat → ClassId} {dI : Nat → Nat → Nat} {cI cJ cZ : ClassId} {h dn up wy pr ab lo : Nat} {n tr : Nat} {Dn Up Ab : Nat → Nat} {Lo : Nat → Option Nat} {Wy : Nat → Nat} (hn2 : n ≤ 10) (hU : ∀ j, j < n → Up j < 1024) : ly_Mi (S := (Nat → Nat) × (Nat → Option Nat) × Nat) l yX0_cover (ws_ yX0_cover cX0_cover 1 (some .int)) ({ frames := 12, cells := 0, slots := 0, locals := 266 } : Room) [.ref h] (dC, dI) (ly_tys cI cJ cZ) (ly_WD h dn up wy pr ab lo cI cJ n tr Dn Up Ab Lo Wy) (fun r _ => ∃ q, r = nI (n - q) ∧ ly_pair n Up q) (fun u => (ly_WD h dn up wy pr ab lo cI cJ n (u.2.2) Dn Up (u.1) (u.2.1) Wy)) := by
  refine ly_ofi (by decide) (Nat.le_of_ble_eq_true rfl) ?_
  intro p e s m below meth c A ls C hr hw hl
  have C : ly_C p m meth c cX0_cover 1 s _ RX0 (dC, dI) (ly_tys cI cJ cZ) A := C
  have hl : lv_has ls 1 [(0, .ref h)] := hl
  refine lv_aload_n C.1.1 C.1.2.1 dX0_cover_0 rfl (lv_at hl 0 rfl) ?_
  refine ly_gf in_X0 C hw 0 rfl rfl 4 (by decide) q39 rfl dX0_cover_1 ?_
  refine lv_aload_n C.1.1 C.1.2.1 dX0_cover_4 rfl (lv_at hl 0 rfl) ?_
  refine ly_gf in_X0 C hw 0 rfl rfl 3 (by decide) q38 rfl dX0_cover_5 ?_
  refine lv_aload_n C.1.1 C.1.2.1 dX0_cover_8 rfl (lv_at hl 0 rfl) ?_
  refine ly_gf in_X0 C hw 0 rfl rfl 1 (by decide) q36 rfl dX0_cover_9 ?_
  refine lv_aload_n C.1.1 C.1.2.1 dX0_cover_12 rfl (lv_at hl 0 rfl) ?_
  refine ly_gf in_X0 C hw 0 rfl rfl 4 (by decide) q39 rfl dX0_cover_13 ?_
  refine ly_calli (wr := []) (rest := [.int (nI n)]) (mt_most l hn2 hU) C (cwV 2 C.1.2.2.2.2 (lw_V q72 q73 q74 q7 q75) rfl rfl rfl (by decide +kernel) ⟨Nat.le_of_ble_eq_true rfl, Nat.le_of_ble_eq_true rfl⟩) hw [0, 1, 2, 3, 4, 5, 6] [] rfl rfl (by decide) (by decide) (by decide) 4 rfl rfl rfl hl.1 (Nat.le_of_ble_eq_true rfl) dX0_cover_16 (Nat.zero_le _) (Nat.zero_le _) (fun r u H locs hq hw => ?_)
  obtain ⟨B, L, T⟩ := u
  obtain ⟨q, hr2, hq⟩ := hq
  subst hr2
  have hw : ly_w (dC, dI) A s.heap (ly_WD h dn up wy pr ab lo cI cJ n T Dn Up B L Wy) H locs := hw
  have hqn := ly_pair_le hq
  refine lv_isub C.1.1 C.1.2.1 dX0_cover_19 ?_
  refine ly_top (ly_sub (by omega)) ?_
  exact ly_iret (u := (B, L, T)) C hr hw ⟨q, rfl, hq⟩ dX0_cover_20
set_option maxHeartbeats 4000000 in
set_option maxRecDepth 100000 in
/-- width() -/
theorem mt_width0 (l : Launch) {dC : Nat → ClassId} {dI : Nat → Nat → Nat} {cI cJ cZ : ClassId} {h dn up wy pr ab lo : Nat} {n tr : Nat} {Dn Up Ab : Nat → Nat} {Lo : Nat → Option Nat} {Wy : Nat → Nat} (hn2 : n ≤ 10) (hU : ∀ j, j < n → Up j < 1024) : ly_Mi (S := (Nat → Nat) × (Nat → Option Nat) × Nat) l yX0_width (ws_ yX0_width cX0_width 1 (some .int)) ({ frames := 13, cells := 0, slots := 0, locals := 286 } : Room) [.ref h] (dC, dI) (ly_tys cI cJ cZ) (ly_WD h dn up wy pr ab lo cI cJ n tr Dn Up Ab Lo Wy) (fun r _ => ∃ q, r = nI (n - q) ∧ ly_pair n Up q) (fun u => (ly_WD h dn up wy pr ab lo cI cJ n (u.2.2) Dn Up (u.1) (u.2.1) Wy)) := by
  refine ly_ofi (by decide) (Nat.le_of_ble_eq_true rfl) ?_
  intro p e s m below meth c A ls C hr hw hl
  have C : ly_C p m meth c cX0_width 1 s _ RX0 (dC, dI) (ly_tys cI cJ cZ) A := C
  have hl : lv_has ls 1 [(0, .ref h)] := hl
  refine lv_aload_n C.1.1 C.1.2.1 dX0_width_0 rfl (lv_at hl 0 rfl) ?_
  refine ly_calli (wr := []) (rest := []) (mt_cover0 l hn2 hU) C (cwV 0 C.1.2.2.2.2 (lw_V q84 q69 q70 q6 q71) rfl rfl rfl (by decide +kernel) ⟨Nat.le_of_ble_eq_true rfl, Nat.le_of_ble_eq_true rfl⟩) hw [0, 1, 2, 3, 4, 5, 6] [] rfl rfl (by decide) (by decide) (by decide) 0 rfl rfl rfl hl.1 (Nat.le_of_ble_eq_true rfl) dX0_width_1 (Nat.zero_le _) (Nat.zero_le _) (fun r u H locs hq hw => ?_)
  exact ly_iret (u := u) C hr hw hq dX0_width_4
end
section
/-! ===== for the model: counts of bits, subsets in falling order, the least cover ===== -/
def ly_fB (U : Nat → Nat) (s a : Nat) : Bool := !s.testBit a || decide (s &&& U a = 0)
def ly_lB (n : Nat) (U : Nat → Nat) (s a : Nat) : Bool := !s.testBit a || decide (ly_sd s (ly_rel U s a n) = 0)
def ly_dB (U : Nat → Nat) (s a : Nat) : Bool := s.testBit a || decide (s &&& U a = 0)
theorem ly_free_eq (n : Nat) (U : Nat → Nat) (s : Nat) : ly_free n U s = ly_all (ly_fB U s) n := rfl
theorem ly_line_eq (n : Nat) (U : Nat → Nat) (s : Nat) : ly_line n U s = ly_all (ly_lB n U s) n := rfl
theorem ly_down_eq (n : Nat) (U : Nat → Nat) (s : Nat) : ly_down n U s = ly_all (ly_dB U s) n := rfl
theorem ly_pc_step : ∀ y, y < 1024 → y ≠ 0 → ly_pc (y &&& (y - 1)) + 1 = ly_pc y := by decide +kernel
theorem ly_pc_0 : ly_pc 0 = 0 := by decide
theorem ly_pc_le (s : Nat) : ly_pc s ≤ 10 := fb_ct_le _ 10
/-- the next smaller subset -/
theorem ly_prev : ∀ (s p q : Nat), p &&& s = p → q &&& s = q → q < p → q ≤ (p - 1) &&& s := by
  intro s
  induction s using Nat.strongRecOn with
  | _ s ih =>
    intro p q hp hq hlt
    by_cases hs : s = 0
    · subst hs
      rw [Nat.and_zero] at hp hq
      omega
    · have d1 : p / 2 &&& s / 2 = p / 2 := by rw [← Nat.and_div_two, hp]
      have d2 : q / 2 &&& s / 2 = q / 2 := by rw [← Nat.and_div_two, hq]
      have m1 : p % 2 = 1 → s % 2 = 1 := by
        intro h
        rw [← hp] at h
        exact (Nat.and_mod_two_eq_one.mp h).2
      have m2 : q % 2 = 1 → s % 2 = 1 := by
        intro h
        rw [← hq] at h
        exact (Nat.and_mod_two_eq_one.mp h).2
      have dx : ((p - 1) &&& s) / 2 = (p - 1) / 2 &&& s / 2 := Nat.and_div_two
      rcases Nat.mod_two_eq_zero_or_one p with h | h
      · have e1 : (p - 1) / 2 = p / 2 - 1 := by omega
        have e2 : (p - 1) % 2 = 1 := by omega
        have r := ih (s / 2) (by omega) (p / 2) (q / 2) d1 d2 (by omega)
        rw [e1] at dx
        have mx : s % 2 = 1 → ((p - 1) &&& s) % 2 = 1 := fun z => Nat.and_mod_two_eq_one.mpr ⟨e2, z⟩
        rcases Nat.mod_two_eq_zero_or_one q with z | z
        · omega
        · have := mx (m2 z)
          omega
      · have e1 : (p - 1) / 2 = p / 2 := by omega
        rw [e1, d1] at dx
        omega
theorem ly_and_sub {p s : Nat} (h : ∀ i, p.testBit i = true → s.testBit i = true) : p &&& s = p := by
  apply Nat.eq_of_testBit_eq
  intro i
  rw [Nat.testBit_and]
  cases q : p.testBit i with
  | false => rfl
  | true => rw [h i q]; rfl
theorem ly_sub_le {p s : Nat} (h : ∀ i, p.testBit i = true → s.testBit i = true) : p ≤ s := by
  rw [← ly_and_sub h]
  exact Nat.and_le_right
/-- a set without a part that isn't empty -/
theorem ly_pc_sd {t q : Nat} (ht : t < 1024) (hq : q ≠ 0) (hs : ∀ i, q.testBit i = true → t.testBit i = true) : ly_pc (ly_sd t q) + 1 ≤ ly_pc t := by
  obtain ⟨i, hi⟩ := Nat.exists_testBit_of_ne_zero hq
  have hi10 : i < 10 := ly_lt_bit (n := 10) ht (hs i hi)
  unfold ly_pc
  have e := fb_ct_upd (fun j => (ly_sd t q).testBit j) true (i := i) (n := 10) hi10
  rw [show (ly_sd t q).testBit i = false by rw [ly_sd_bit, hi]; simp, if_neg (by decide), if_pos rfl] at e
  have e2 : fb_ct (fun k => if k = i then true else (ly_sd t q).testBit k) 10 ≤ fb_ct (fun j => t.testBit j) 10 := by
    apply fb_ct_sub
    intro k _ hk
    by_cases z : k = i
    · rw [z]; exact hs i hi
    · rw [if_neg z, ly_sd_bit] at hk
      exact (Bool.and_eq_true_iff.mp hk).1
  omega
theorem ly_CP_le {p : Nat → Bool} : ∀ {k t : Nat}, t < 1024 → ly_CP p k t → k ≤ ly_pc t
  | 0, _, _, _ => Nat.zero_le _
  | k + 1, t, ht, h => by
    obtain ⟨q, h1, h2, h3, h4⟩ := h
    have := ly_CP_le (Nat.lt_of_le_of_lt (ly_sd_le t q) ht) h4
    have := ly_pc_sd ht h1 h2
    omega
theorem ly_M_le {p : Nat → Bool} {t v : Nat} (ht : t < 1024) (h : ly_M p t v) : v ≤ 10 := Nat.le_trans (ly_CP_le ht h.1) (ly_pc_le t)
theorem ly_M_0 (p : Nat → Bool) : ly_M p 0 0 := ⟨rfl, fun k _ => Nat.zero_le k⟩
/-- the search over the subsets of s: those above q are done -/
def ly_R (p : Nat → Bool) (s q : Nat) (Le : Nat → Nat) : Prop :=
  (∀ t, t < s → ly_M p t (Le t)) ∧ (∀ i, q.testBit i = true → s.testBit i = true) ∧ (Le s = 99 ∨ ∃ x, x ≠ 0 ∧ (∀ i, x.testBit i = true → s.testBit i = true) ∧ p x = true ∧ Le s = Le (ly_sd s x) + 1) ∧
  ∀ x, (∀ i, x.testBit i = true → s.testBit i = true) → q < x → p x = true → Le s ≤ Le (ly_sd s x) + 1
theorem ly_R_start {p : Nat → Bool} {s : Nat} {Le : Nat → Nat} (h : ∀ t, t < s → ly_M p t (Le t)) : ly_R p s s (ly_u Le s 99) := by
  refine ⟨fun t ht => by rw [ly_un (by omega)]; exact h t ht, fun _ z => z, Or.inl ly_us, fun x hx hlt => ?_⟩
  have := ly_sub_le hx
  omega
theorem ly_sd_lt0 {s q : Nat} (h0 : q ≠ 0) (hs : ∀ i, q.testBit i = true → s.testBit i = true) : ly_sd s q < s := by
  obtain ⟨i, hi⟩ := Nat.exists_testBit_of_ne_zero h0
  exact ly_sd_lt (hs i hi) hi
theorem ly_R_next {p : Nat → Bool} {s q : Nat} {Le : Nat → Nat} (h : ly_R p s q Le) (h0 : q ≠ 0) (hc : p q = true → Le s ≤ Le (ly_sd s q) + 1) : ly_R p s ((q - 1) &&& s) Le := by
  refine ⟨h.1, fun i hi => ?_, h.2.2.1, fun x hx hlt hp => ?_⟩
  · rw [Nat.testBit_and] at hi
    exact (Bool.and_eq_true_iff.mp hi).2
  · rcases Nat.lt_or_ge x q with z | z
    · have := ly_prev s q x (ly_and_sub h.2.1) (ly_and_sub hx) z
      omega
    · rcases Nat.lt_or_eq_of_le z with z | z
      · exact h.2.2.2 x hx z hp
      · subst z; exact hc hp
theorem ly_R_take {p : Nat → Bool} {s q : Nat} {Le : Nat → Nat} (h : ly_R p s q Le) (h0 : q ≠ 0) (hp : p q = true) (hc : Le (ly_sd s q) + 1 < Le s) : ly_R p s ((q - 1) &&& s) (ly_u Le s (Le (ly_sd s q) + 1)) := by
  have hlt := ly_sd_lt0 h0 h.2.1
  refine ly_R_next ⟨fun t ht => by rw [ly_un (by omega)]; exact h.1 t ht, h.2.1, Or.inr ⟨q, h0, h.2.1, hp, ?_⟩, fun x hx hxq hpx => ?_⟩ h0 (fun _ => ?_)
  · rw [ly_us, ly_un (by omega)]
  · have := ly_sd_lt0 (q := x) (by omega) hx
    rw [ly_us, ly_un (by omega)]
    have := h.2.2.2 x hx hxq hpx
    omega
  · rw [ly_us, ly_un (by omega)]
    exact Nat.le_refl _
theorem ly_R_end {p : Nat → Bool} {s : Nat} {Le : Nat → Nat} (hs : 0 < s) (hs2 : s < 1024) (h1 : ∀ i, i < 10 → p (2 ^ i) = true) (h : ly_R p s 0 Le) : ∀ t, t < s + 1 → ly_M p t (Le t) := by
  intro t ht
  rcases Nat.lt_or_eq_of_le (Nat.le_of_lt_succ ht) with z | z
  · exact h.1 t z
  · subst z
    obtain ⟨i, hi⟩ := Nat.exists_testBit_of_ne_zero (show t ≠ 0 by omega)
    have hi10 : i < 10 := ly_lt_bit (n := 10) hs2 hi
    have hsub : ∀ j, (2 ^ i).testBit j = true → t.testBit j = true := by
      intro j hj
      rw [Nat.testBit_two_pow] at hj
      rw [← of_decide_eq_true hj]
      exact hi
    have h2 := h.2.2.2 (2 ^ i) hsub (Nat.two_pow_pos i) (h1 i hi10)
    have hlt := ly_sd_lt0 (show 2 ^ i ≠ 0 from Nat.ne_of_gt (Nat.two_pow_pos i)) hsub
    have h3 := ly_M_le (by omega) (h.1 _ hlt)
    rcases h.2.2.1 with e | ⟨x, x0, xs, px, e⟩
    · omega
    · refine ⟨?_, fun k hk => ?_⟩
      · rw [e]
        exact ⟨x, x0, xs, px, (h.1 _ (ly_sd_lt0 x0 xs)).1⟩
      · cases k with
        | zero =>
          have hk : t = 0 := hk
          omega
        | succ k =>
          obtain ⟨y, y0, ys, py, hy⟩ := hk
          have := h.2.2.2 y ys (by omega) py
          have := (h.1 _ (ly_sd_lt0 y0 ys)).2 k hy
          omega
/-- what the model knows once it has reckoned -/
def ly_kn (n : Nat) (U : Nat → Nat) (wi he cl : Nat) (Le Mw : Nat → Nat) : Prop :=
  wi = ly_mx (ly_free n U) (2 ^ n) ∧ he = ly_mx (ly_line n U) (2 ^ n) ∧ cl = fb_ct (ly_down n U) (2 ^ n) ∧ ly_M (ly_line n U) (2 ^ n - 1) (Le (2 ^ n - 1)) ∧ Mw (2 ^ n - 1) = ly_E n U (2 ^ n - 1)
end
section
/-! LayersDeskModel: at, places, below, put, count (rows printed by gen) -/
set_option maxHeartbeats 4000000 in
set_option maxRecDepth 100000 in
/-- at(x) -/
theorem mt_at (l : Launch) {dC : Nat → ClassId} {dI : Nat → Nat → Nat} {cI cJ cZ : ClassId} {mo mu le ch mw : Nat} {n kn wi he cl : Nat} {Up Le Ch Mw : Nat → Nat} (hn : 0 < n) (hn2 : n ≤ 10) (x : Int32) : ly_Mi (S := Unit) l yX2_at (ws_ yX2_at cX2_at 2 (some .int)) ({ frames := 0, cells := 0, slots := 0, locals := 0 } : Room) [.ref mo, .int x] (dC, dI) (ly_tys cI cJ cZ) (ly_WM mo mu le ch mw cI cJ cZ n kn wi he cl Up Le Ch Mw) (fun r _ => r = nI (ly_ix n x)) (fun _ => (ly_WM mo mu le ch mw cI cJ cZ n kn wi he cl Up Le Ch Mw)) := by
  refine ly_ofi (by decide) (Nat.le_of_ble_eq_true rfl) ?_
  intro p e s m below meth c A ls C hr hw hl
  have C : ly_C p m meth c cX2_at 2 s _ RX2 (dC, dI) (ly_tys cI cJ cZ) A := C
  have hl : lv_has ls 2 [(0, .ref mo), (1, .int x)] := hl
  refine lv_iload_n C.1.1 C.1.2.1 dX2_at_0 rfl (lv_at hl 1 rfl) ?_
  refine lv_ldc C.1.1 C.1.2.1 C.1.2.2.2.1 (C.1.2.2.2.2 _ q140) dX2_at_1 ?_
  refine lv_iand C.1.1 C.1.2.1 dX2_at_3 ?_
  refine ly_top (ly_ix_mask x) ?_
  refine lv_aload_n C.1.1 C.1.2.1 dX2_at_4 rfl (lv_at hl 0 rfl) ?_
  refine ly_gf in_X2 C hw 0 rfl rfl 1 (by decide) q108 rfl dX2_at_5 ?_
  refine lv_irem C.1.1 C.1.2.1 dX2_at_8 (nI_ne0 hn (by omega)) ?_
  refine ly_top (ly_ix_rem hn (by omega) x) ?_
  exact ly_iret (u := ()) C hr hw rfl dX2_at_9
set_option maxHeartbeats 4000000 in
set_option maxRecDepth 100000 in
/-- the loop of places -/
theorem lp_places2 {p : Program} {l : Launch} {e : Env} {R : Room} {s : State} {m : MethodId} {args : Array Value} {below : List Frame} {meth : Method} {c : Code} {Q : State → Prop} {dC : Nat → ClassId} {dI : Nat → Nat → Nat} {cI cJ cZ : ClassId} {A : Nat → Prop} {mo mu le ch mw : Nat} {n kn wi he cl : Nat} {Up Le Ch Mw : Nat → Nat} (C : ly_C p m meth c cX2_places 3 s args RX2 (dC, dI) (ly_tys cI cJ cZ) A) {y : Int32} (kk : ∀ (H : Heap) (locs : List Loc) (ls : Array Slot), ly_w (dC, dI) A s.heap (ly_WM mo mu le ch mw cI cJ cZ n kn wi he cl (ly_z 10 Up) Le Ch Mw) H locs → lv_has ls 3 [(0, .ref mo), (1, .int y)] → W p l e R s m args below meth c H locs 0 0 Q (F0 m 34 ls [])) :
    ∀ (k i : Nat) (H : Heap) (locs : List Loc) (ls : Array Slot), i + k = 10 → ly_w (dC, dI) A s.heap (ly_WM mo mu le ch mw cI cJ cZ n kn wi he cl (ly_z i Up) Le Ch Mw) H locs → lv_has ls 3 [(2, .int (nI i)), (0, .ref mo), (1, .int y)] → W p l e R s m args below meth c H locs 0 0 Q (F0 m 15 ls []) := by
  intro k
  induction k with
  | zero =>
    intro i H locs ls hi hw hl
    have hi : i = 10 := hi
    subst hi
    refine lv_iload_n C.1.1 C.1.2.1 dX2_places_15 rfl (lv_at hl 0 rfl) ?_
    refine lv_bipush (v := nI 10) C.1.1 C.1.2.1 dX2_places_16 (by decide) ?_
    refine lv_icmp_ge (tgt := 34) C.1.1 C.1.2.1 dX2_places_18 (by decide) (fun c18 => ?_) (fun c18 => ?_)
    · exact kk H locs ls hw (lv_sub hl [1, 2] rfl)
    · exact absurd (nI_le (by omega) (by omega)) c18
  | succ k ih =>
    intro i H locs ls hi hw hl
    refine lv_iload_n C.1.1 C.1.2.1 dX2_places_15 rfl (lv_at hl 0 rfl) ?_
    refine lv_bipush (v := nI 10) C.1.1 C.1.2.1 dX2_places_16 (by decide) ?_
    refine lv_icmp_ge (tgt := 34) C.1.1 C.1.2.1 dX2_places_18 (by decide) (fun c18 => ?_) (fun c18 => ?_)
    · exact absurd c18 (nI_ge (by omega) (by omega))
    · skip
      refine lv_aload_n C.1.1 C.1.2.1 dX2_places_21 rfl (lv_at hl 1 rfl) ?_
      refine ly_gf in_X2 C hw 0 rfl rfl 0 (by decide) q107 rfl dX2_places_22 ?_
      refine lv_iload_n C.1.1 C.1.2.1 dX2_places_25 rfl (lv_at hl 0 rfl) ?_
      refine lv_iconst (v := nI 0) C.1.1 C.1.2.1 dX2_places_26 (by decide) ?_
      refine ly_iastN C hw 1 0 rfl rfl (by omega) (by decide) dX2_places_27 (fun H locs hw => ?_)
      have hw : ly_w (dC, dI) A s.heap (ly_WM mo mu le ch mw cI cJ cZ n kn wi he cl (ly_u (ly_z i Up) i 0) Le Ch Mw) H locs := hw
      refine lv_iinc (v := nI (i + 1)) (lv' := [(2, .int (nI (i + 1))), (0, .ref mo), (1, .int y)]) C.1.1 C.1.2.1 dX2_places_28 hl (k := 0) rfl (nI_add i 1) (by decide) rfl (fun ls hl => ?_)
      refine lv_goto (tgt := 15) C.1.1 C.1.2.1 dX2_places_31 (by decide) ?_
      refine ih (i + 1) H locs ls (by omega) ?_ hl
      rw [← ly_z_s]
      exact hw
set_option maxHeartbeats 4000000 in
set_option maxRecDepth 100000 in
/-- places(x) -/
theorem mt_places2 (l : Launch) {dC : Nat → ClassId} {dI : Nat → Nat → Nat} {cI cJ cZ : ClassId} {mo mu le ch mw : Nat} {n kn wi he cl : Nat} {Up Le Ch Mw : Nat → Nat} (x : Int32) : ly_Mv (S := Unit) l yX2_places (ws_ yX2_places cX2_places 3 (none)) ({ frames := 0, cells := 0, slots := 0, locals := 0 } : Room) [.ref mo, .int x] (dC, dI) (ly_tys cI cJ cZ) (ly_WM mo mu le ch mw cI cJ cZ n kn wi he cl Up Le Ch Mw) (fun _ => True) (fun _ => (ly_WM mo mu le ch mw cI cJ cZ (1 + ly_ix 10 x) 0 wi he cl (ly_z 10 Up) Le Ch Mw)) := by
  refine ly_ofv (by decide) (Nat.le_of_ble_eq_true rfl) ?_
  intro p e s m below meth c A ls C hr hw hl
  have C : ly_C p m meth c cX2_places 3 s _ RX2 (dC, dI) (ly_tys cI cJ cZ) A := C
  have hl : lv_has ls 3 [(0, .ref mo), (1, .int x)] := hl
  refine lv_aload_n C.1.1 C.1.2.1 dX2_places_0 rfl (lv_at hl 0 rfl) ?_
  refine lv_iconst (v := nI 1) C.1.1 C.1.2.1 dX2_places_1 (by decide) ?_
  refine lv_iload_n C.1.1 C.1.2.1 dX2_places_2 rfl (lv_at hl 1 rfl) ?_
  refine lv_ldc C.1.1 C.1.2.1 C.1.2.2.2.1 (C.1.2.2.2.2 _ q140) dX2_places_3 ?_
  refine lv_iand C.1.1 C.1.2.1 dX2_places_5 ?_
  refine ly_top (ly_ix_mask x) ?_
  refine lv_bipush (v := nI 10) C.1.1 C.1.2.1 dX2_places_6 (by decide) ?_
  refine lv_irem C.1.1 C.1.2.1 dX2_places_8 (by decide) ?_
  refine ly_top (ly_ix_rem (n := 10) (by decide) (by decide) x) ?_
  refine lv_iadd C.1.1 C.1.2.1 dX2_places_9 ?_
  refine ly_top (nI_add 1 (ly_ix 10 x)) ?_
  refine ly_pf in_X2 tyX2 tyX2_ok nmX2 C hw 0 rfl rfl 1 (by decide) q108 rfl rfl rfl (Nat.le_of_ble_eq_true rfl) dX2_places_10 (fun H locs hw => ?_)
  have hw : ly_w (dC, dI) A s.heap (ly_WM mo mu le ch mw cI cJ cZ (1 + (ly_ix 10 x)) kn wi he cl Up Le Ch Mw) H locs := hw
  refine lv_iconst (v := nI 0) C.1.1 C.1.2.1 dX2_places_13 (by decide) ?_
  refine lv_istore_n (lv' := [(2, .int (nI 0)), (0, .ref mo), (1, .int x)]) C.1.1 C.1.2.1 dX2_places_14 rfl hl (by decide) rfl (fun ls hl => ?_)
  have hw : ly_w (dC, dI) A s.heap (ly_WM mo mu le ch mw cI cJ cZ (1 + ly_ix 10 x) kn wi he cl (ly_z 0 Up) Le Ch Mw) H locs := by rw [ly_z_0]; exact hw
  refine lp_places2 C (fun H locs ls hw hl => ?_) 10 0 H locs ls (by omega) hw hl
  refine lv_aload_n C.1.1 C.1.2.1 dX2_places_34 rfl (lv_at hl 0 rfl) ?_
  refine lv_iconst (v := nI 0) C.1.1 C.1.2.1 dX2_places_35 (by decide) ?_
  refine ly_pf in_X2 tyX2 tyX2_ok nmX2 C hw 0 rfl rfl 2 (by decide) q109 rfl rfl rfl (Nat.le_of_ble_eq_true rfl) dX2_places_36 (fun H locs hw => ?_)
  have hw : ly_w (dC, dI) A s.heap (ly_WM mo mu le ch mw cI cJ cZ (1 + (ly_ix 10 x)) 0 wi he cl (ly_z 10 Up) Le Ch Mw) H locs := hw
  exact ly_vret (u := ()) C hr hw trivial dX2_places_39
set_option maxHeartbeats 4000000 in
set_option maxRecDepth 100000 in
/-- below(x, y) -/
theorem mt_below2 (l : Launch) {dC : Nat → ClassId} {dI : Nat → Nat → Nat} {cI cJ cZ : ClassId} {mo mu le ch mw : Nat} {n kn wi he cl : Nat} {Up Le Ch Mw : Nat → Nat} (hn : 0 < n) (hn2 : n ≤ 10) (hU : ∀ j, j < n → Up j < 1024) (x y : Int32) : ly_Mi (S := Unit) l yX2_below (ws_ yX2_below cX2_below 3 (some .boolean)) ({ frames := 1, cells := 0, slots := 0, locals := 21 } : Room) [.ref mo, .int x, .int y] (dC, dI) (ly_tys cI cJ cZ) (ly_WM mo mu le ch mw cI cJ cZ n kn wi he cl Up Le Ch Mw) (fun r _ => r = nI (if (Up (ly_ix n x)).testBit (ly_ix n y) then 1 else 0)) (fun _ => (ly_WM mo mu le ch mw cI cJ cZ n kn wi he cl Up Le Ch Mw)) := by
  refine ly_ofi (by decide) (Nat.le_of_ble_eq_true rfl) ?_
  intro p e s m below meth c A ls C hr hw hl
  have C : ly_C p m meth c cX2_below 3 s _ RX2 (dC, dI) (ly_tys cI cJ cZ) A := C
  have hl : lv_has ls 3 [(0, .ref mo), (1, .int x), (2, .int y)] := hl
  have hix := ly_ix_lt hn x
  have hiy := ly_ix_lt hn y
  refine lv_aload_n C.1.1 C.1.2.1 dX2_below_0 rfl (lv_at hl 0 rfl) ?_
  refine ly_gf in_X2 C hw 0 rfl rfl 0 (by decide) q107 rfl dX2_below_1 ?_
  refine lv_aload_n C.1.1 C.1.2.1 dX2_below_4 rfl (lv_at hl 0 rfl) ?_
  refine lv_iload_n C.1.1 C.1.2.1 dX2_below_5 rfl (lv_at hl 1 rfl) ?_
  refine ly_calli (wr := []) (rest := [.ref mu]) (mt_at l hn hn2 x) C (cwV 1 C.1.2.2.2.2 (lw_V q145 q147 qs3 q8 q148) rfl rfl rfl (by decide +kernel) ⟨Nat.le_of_ble_eq_true rfl, Nat.le_of_ble_eq_true rfl⟩) hw [0, 1, 2, 3, 4] [] rfl rfl (by decide) (by decide) (by decide) 0 rfl rfl rfl hl.1 (Nat.le_of_ble_eq_true rfl) dX2_below_6 (Nat.zero_le _) (Nat.zero_le _) (fun r u H locs hp hw => ?_)
  subst hp
  refine ly_iald C hw 1 0 rfl rfl (by omega) (by decide) rfl dX2_below_9 ?_
  refine lv_aload_n C.1.1 C.1.2.1 dX2_below_10 rfl (lv_at hl 0 rfl) ?_
  refine lv_iload_n C.1.1 C.1.2.1 dX2_below_11 rfl (lv_at hl 2 rfl) ?_
  refine ly_calli (wr := []) (rest := [.int (nI (Up (ly_ix n x)))]) (mt_at l hn hn2 y) C (cwV 1 C.1.2.2.2.2 (lw_V q145 q147 qs3 q8 q148) rfl rfl rfl (by decide +kernel) ⟨Nat.le_of_ble_eq_true rfl, Nat.le_of_ble_eq_true rfl⟩) hw [0, 1, 2, 3, 4] [] rfl rfl (by decide) (by decide) (by decide) 0 rfl rfl rfl hl.1 (Nat.le_of_ble_eq_true rfl) dX2_below_12 (Nat.zero_le _) (Nat.zero_le _) (fun r u H locs hp hw => ?_)
  subst hp
  refine lv_ishr C.1.1 C.1.2.1 dX2_below_15 ?_
  refine lv_iconst (v := nI 1) C.1.1 C.1.2.1 dX2_below_16 (by decide) ?_
  refine lv_iand C.1.1 C.1.2.1 dX2_below_17 ?_
  refine ly_top (ly_bit (Nat.lt_trans (hU _ hix) (by decide)) (by omega)) ?_
  refine lv_if_eq (tgt := 25) C.1.1 C.1.2.1 dX2_below_18 (by decide) (fun c18 => ?_) (fun c18 => ?_)
  · have c18 := ly_bit0 c18
    refine lv_iconst (v := nI 0) C.1.1 C.1.2.1 dX2_below_25 (by decide) ?_
    exact ly_zret (u := ()) C hr (by decide) hw (by rw [c18]; rfl) dX2_below_26
  · have c18 := ly_bitn0 c18
    refine lv_iconst (v := nI 1) C.1.1 C.1.2.1 dX2_below_21 (by decide) ?_
    refine lv_goto (tgt := 26) C.1.1 C.1.2.1 dX2_below_22 (by decide) ?_
    exact ly_zret (u := ()) C hr (by decide) hw (by rw [c18]; rfl) dX2_below_26
set_option maxHeartbeats 4000000 in
set_option maxRecDepth 100000 in
/-- the loop of put -/
theorem lp_put2 {p : Program} {l : Launch} {e : Env} {R : Room} {s : State} {m : MethodId} {args : Array Value} {below : List Frame} {meth : Method} {c : Code} {Q : State → Prop} {dC : Nat → ClassId} {dI : Nat → Nat → Nat} {cI cJ cZ : ClassId} {A : Nat → Prop} {mo mu le ch mw : Nat} {n kn wi he cl va vb : Nat} {U Le Ch Mw : Nat → Nat} (C : ly_C p m meth c cX2_put 7 s args RX2 (dC, dI) (ly_tys cI cJ cZ) A) {x y : Int32} (hn2 : n ≤ 10) (hva : va < n) (hU : ∀ j, j < n → U j < 1024) (kk : ∀ (H : Heap) (locs : List Loc) (ls : Array Slot), ly_w (dC, dI) A s.heap (ly_WM mo mu le ch mw cI cJ cZ n kn wi he cl (ly_put n U va vb) Le Ch Mw) H locs → lv_has ls 7 [(0, .ref mo)] → W p l e R s m args below meth c H locs 0 0 Q (F0 m 104 ls [])) :
    ∀ (k i : Nat) (H : Heap) (locs : List Loc) (ls : Array Slot), i + k = n → ly_w (dC, dI) A s.heap (ly_WM mo mu le ch mw cI cJ cZ n kn wi he cl (ly_put i U va vb) Le Ch Mw) H locs → lv_has ls 7 [(6, .int (nI i)), (5, .int (nI (U vb ||| 2 ^ vb))), (4, .int (nI vb)), (3, .int (nI va)), (0, .ref mo), (1, .int x), (2, .int y)] → W p l e R s m args below meth c H locs 0 0 Q (F0 m 52 ls []) := by
  intro k
  induction k with
  | zero =>
    intro i H locs ls hi hw hl
    have hi : i = n := hi
    subst hi
    refine lv_iload C.1.1 C.1.2.1 dX2_put_52 (lv_at hl 0 rfl) ?_
    refine lv_aload_n C.1.1 C.1.2.1 dX2_put_54 rfl (lv_at hl 4 rfl) ?_
    refine ly_gf in_X2 C hw 0 rfl rfl 1 (by decide) q108 rfl dX2_put_55 ?_
    refine lv_icmp_ge (tgt := 104) C.1.1 C.1.2.1 dX2_put_58 (by decide) (fun c58 => ?_) (fun c58 => ?_)
    · exact kk H locs ls hw (lv_sub hl [4] rfl)
    · exact absurd (nI_le (Nat.le_refl _) (by omega)) c58
  | succ k ih =>
    intro i H locs ls hi hw hl
    have hin : i < n := by omega
    have hUi := hU i hin
    refine lv_iload C.1.1 C.1.2.1 dX2_put_52 (lv_at hl 0 rfl) ?_
    refine lv_aload_n C.1.1 C.1.2.1 dX2_put_54 rfl (lv_at hl 4 rfl) ?_
    refine ly_gf in_X2 C hw 0 rfl rfl 1 (by decide) q108 rfl dX2_put_55 ?_
    refine lv_icmp_ge (tgt := 104) C.1.1 C.1.2.1 dX2_put_58 (by decide) (fun c58 => ?_) (fun c58 => ?_)
    · exact absurd c58 (nI_ge (by omega) (by omega))
    · skip
      refine lv_iload C.1.1 C.1.2.1 dX2_put_61 (lv_at hl 0 rfl) ?_
      refine lv_iload_n C.1.1 C.1.2.1 dX2_put_63 rfl (lv_at hl 3 rfl) ?_
      refine lv_icmp_eq (tgt := 81) C.1.1 C.1.2.1 dX2_put_64 (by decide) (fun c64 => ?_) (fun c64 => ?_)
      · have c64 := (nI_eq (by omega) (by omega)).mp c64
        refine lv_aload_n C.1.1 C.1.2.1 dX2_put_81 rfl (lv_at hl 4 rfl) ?_
        refine ly_gf in_X2 C hw 0 rfl rfl 0 (by decide) q107 rfl dX2_put_82 ?_
        refine lv_iload C.1.1 C.1.2.1 dX2_put_85 (lv_at hl 0 rfl) ?_
        refine lv_aload_n C.1.1 C.1.2.1 dX2_put_87 rfl (lv_at hl 4 rfl) ?_
        refine ly_gf in_X2 C hw 0 rfl rfl 0 (by decide) q107 rfl dX2_put_88 ?_
        refine lv_iload C.1.1 C.1.2.1 dX2_put_91 (lv_at hl 0 rfl) ?_
        refine ly_iald C hw 1 0 rfl rfl (by omega) (by decide) rfl dX2_put_93 ?_
        refine lv_iload C.1.1 C.1.2.1 dX2_put_94 (lv_at hl 1 rfl) ?_
        refine lv_ior C.1.1 C.1.2.1 dX2_put_96 ?_
        refine ly_top (fa_or ((ly_put i U va vb) i) (U vb ||| 2 ^ vb)) ?_
        refine ly_iastN C hw 1 0 rfl rfl (by omega) (by decide) dX2_put_97 (fun H locs hw => ?_)
        have hw : ly_w (dC, dI) A s.heap (ly_WM mo mu le ch mw cI cJ cZ n kn wi he cl (ly_u (ly_put i U va vb) i (((ly_put i U va vb) i) ||| (U vb ||| 2 ^ vb))) Le Ch Mw) H locs := hw
        refine lv_iinc (v := nI (i + 1)) (lv' := [(6, .int (nI (i + 1))), (5, .int (nI (U vb ||| 2 ^ vb))), (4, .int (nI vb)), (3, .int (nI va)), (0, .ref mo), (1, .int x), (2, .int y)]) C.1.1 C.1.2.1 dX2_put_98 hl (k := 0) rfl (nI_add i 1) (by decide) rfl (fun ls hl => ?_)
        refine lv_goto (tgt := 52) C.1.1 C.1.2.1 dX2_put_101 (by decide) ?_
        refine ih (i + 1) H locs ls (by omega) ?_ hl
        rw [← ly_put_t (Or.inl c64)]
        exact hw
      · have c64 : i ≠ va := fun q => c64 (by rw [q])
        refine lv_aload_n C.1.1 C.1.2.1 dX2_put_67 rfl (lv_at hl 4 rfl) ?_
        refine ly_gf in_X2 C hw 0 rfl rfl 0 (by decide) q107 rfl dX2_put_68 ?_
        refine lv_iload C.1.1 C.1.2.1 dX2_put_71 (lv_at hl 0 rfl) ?_
        refine ly_iald C hw 1 0 rfl rfl (by omega) (by decide) rfl dX2_put_73 ?_
        refine lv_iload_n C.1.1 C.1.2.1 dX2_put_74 rfl (lv_at hl 3 rfl) ?_
        refine lv_ishr C.1.1 C.1.2.1 dX2_put_75 ?_
        refine lv_iconst (v := nI 1) C.1.1 C.1.2.1 dX2_put_76 (by decide) ?_
        refine lv_iand C.1.1 C.1.2.1 dX2_put_77 ?_
        refine ly_top (ly_bit (by rw [ly_put_at]; omega) (by omega)) ?_
        refine lv_if_eq (tgt := 98) C.1.1 C.1.2.1 dX2_put_78 (by decide) (fun c78 => ?_) (fun c78 => ?_)
        · have c78 := ly_bit0 c78
          rw [ly_put_at] at c78
          refine lv_iinc (v := nI (i + 1)) (lv' := [(6, .int (nI (i + 1))), (5, .int (nI (U vb ||| 2 ^ vb))), (4, .int (nI vb)), (3, .int (nI va)), (0, .ref mo), (1, .int x), (2, .int y)]) C.1.1 C.1.2.1 dX2_put_98 hl (k := 0) rfl (nI_add i 1) (by decide) rfl (fun ls hl => ?_)
          refine lv_goto (tgt := 52) C.1.1 C.1.2.1 dX2_put_101 (by decide) ?_
          refine ih (i + 1) H locs ls (by omega) ?_ hl
          rw [← ly_put_f c64 c78]
          exact hw
        · have c78 := ly_bitn0 c78
          rw [ly_put_at] at c78
          refine lv_aload_n C.1.1 C.1.2.1 dX2_put_81 rfl (lv_at hl 4 rfl) ?_
          refine ly_gf in_X2 C hw 0 rfl rfl 0 (by decide) q107 rfl dX2_put_82 ?_
          refine lv_iload C.1.1 C.1.2.1 dX2_put_85 (lv_at hl 0 rfl) ?_
          refine lv_aload_n C.1.1 C.1.2.1 dX2_put_87 rfl (lv_at hl 4 rfl) ?_
          refine ly_gf in_X2 C hw 0 rfl rfl 0 (by decide) q107 rfl dX2_put_88 ?_
          refine lv_iload C.1.1 C.1.2.1 dX2_put_91 (lv_at hl 0 rfl) ?_
          refine ly_iald C hw 1 0 rfl rfl (by omega) (by decide) rfl dX2_put_93 ?_
          refine lv_iload C.1.1 C.1.2.1 dX2_put_94 (lv_at hl 1 rfl) ?_
          refine lv_ior C.1.1 C.1.2.1 dX2_put_96 ?_
          refine ly_top (fa_or ((ly_put i U va vb) i) (U vb ||| 2 ^ vb)) ?_
          refine ly_iastN C hw 1 0 rfl rfl (by omega) (by decide) dX2_put_97 (fun H locs hw => ?_)
          have hw : ly_w (dC, dI) A s.heap (ly_WM mo mu le ch mw cI cJ cZ n kn wi he cl (ly_u (ly_put i U va vb) i (((ly_put i U va vb) i) ||| (U vb ||| 2 ^ vb))) Le Ch Mw) H locs := hw
          refine lv_iinc (v := nI (i + 1)) (lv' := [(6, .int (nI (i + 1))), (5, .int (nI (U vb ||| 2 ^ vb))), (4, .int (nI vb)), (3, .int (nI va)), (0, .ref mo), (1, .int x), (2, .int y)]) C.1.1 C.1.2.1 dX2_put_98 hl (k := 0) rfl (nI_add i 1) (by decide) rfl (fun ls hl => ?_)
          refine lv_goto (tgt := 52) C.1.1 C.1.2.1 dX2_put_101 (by decide) ?_
          refine ih (i + 1) H locs ls (by omega) ?_ hl
          rw [← ly_put_t (Or.inr c78)]
          exact hw
set_option maxHeartbeats 4000000 in
set_option maxRecDepth 100000 in
/-- put(x, y) -/
theorem mt_put2 (l : Launch) {dC : Nat → ClassId} {dI : Nat → Nat → Nat} {cI cJ cZ : ClassId} {mo mu le ch mw : Nat} {n kn wi he cl : Nat} {Up Le Ch Mw : Nat → Nat} (hn : 0 < n) (hn2 : n ≤ 10) (hU : ∀ j, j < n → Up j < 1024) (x y : Int32) : ly_Mi (S := (Nat → Nat) × Nat) l yX2_put (ws_ yX2_put cX2_put 7 (some .boolean)) ({ frames := 1, cells := 0, slots := 0, locals := 21 } : Room) [.ref mo, .int x, .int y] (dC, dI) (ly_tys cI cJ cZ) (ly_WM mo mu le ch mw cI cJ cZ n kn wi he cl Up Le Ch Mw) (fun r (u : (Nat → Nat) × Nat) => (ly_ix n x = ly_ix n y ∨ (Up (ly_ix n y)).testBit (ly_ix n x) = true) ∧ r = nI 0 ∧ u = (Up, kn) ∨ (ly_ix n x ≠ ly_ix n y ∧ (Up (ly_ix n y)).testBit (ly_ix n x) = false) ∧ r = nI 1 ∧ u = (ly_put n Up (ly_ix n x) (ly_ix n y), 0)) (fun u => (ly_WM mo mu le ch mw cI cJ cZ n (u.2) wi he cl (u.1) Le Ch Mw)) := by
  refine ly_ofi (by decide) (Nat.le_of_ble_eq_true rfl) ?_
  intro p e s m below meth c A ls C hr hw hl
  have C : ly_C p m meth c cX2_put 7 s _ RX2 (dC, dI) (ly_tys cI cJ cZ) A := C
  have hl : lv_has ls 7 [(0, .ref mo), (1, .int x), (2, .int y)] := hl
  have hix := ly_ix_lt hn x
  have hiy := ly_ix_lt hn y
  refine lv_aload_n C.1.1 C.1.2.1 dX2_put_0 rfl (lv_at hl 0 rfl) ?_
  refine lv_iload_n C.1.1 C.1.2.1 dX2_put_1 rfl (lv_at hl 1 rfl) ?_
  refine ly_calli (wr := []) (rest := []) (mt_at l hn hn2 x) C (cwV 1 C.1.2.2.2.2 (lw_V q145 q147 qs3 q8 q148) rfl rfl rfl (by decide +kernel) ⟨Nat.le_of_ble_eq_true rfl, Nat.le_of_ble_eq_true rfl⟩) hw [0, 1, 2, 3, 4] [] rfl rfl (by decide) (by decide) (by decide) 0 rfl rfl rfl hl.1 (Nat.le_of_ble_eq_true rfl) dX2_put_2 (Nat.zero_le _) (Nat.zero_le _) (fun r u H locs hp hw => ?_)
  subst hp
  refine lv_istore_n (lv' := [(3, .int (nI (ly_ix n x))), (0, .ref mo), (1, .int x), (2, .int y)]) C.1.1 C.1.2.1 dX2_put_5 rfl hl (by decide) rfl (fun ls hl => ?_)
  refine lv_aload_n C.1.1 C.1.2.1 dX2_put_6 rfl (lv_at hl 1 rfl) ?_
  refine lv_iload_n C.1.1 C.1.2.1 dX2_put_7 rfl (lv_at hl 3 rfl) ?_
  refine ly_calli (wr := []) (rest := []) (mt_at l hn hn2 y) C (cwV 1 C.1.2.2.2.2 (lw_V q145 q147 qs3 q8 q148) rfl rfl rfl (by decide +kernel) ⟨Nat.le_of_ble_eq_true rfl, Nat.le_of_ble_eq_true rfl⟩) hw [0, 1, 2, 3, 4] [] rfl rfl (by decide) (by decide) (by decide) 0 rfl rfl rfl hl.1 (Nat.le_of_ble_eq_true rfl) dX2_put_8 (Nat.zero_le _) (Nat.zero_le _) (fun r u H locs hp hw => ?_)
  subst hp
  refine lv_istore (lv' := [(4, .int (nI (ly_ix n y))), (3, .int (nI (ly_ix n x))), (0, .ref mo), (1, .int x), (2, .int y)]) C.1.1 C.1.2.1 dX2_put_11 hl (by decide) rfl (fun ls hl => ?_)
  refine lv_iload_n C.1.1 C.1.2.1 dX2_put_13 rfl (lv_at hl 1 rfl) ?_
  refine lv_iload C.1.1 C.1.2.1 dX2_put_14 (lv_at hl 0 rfl) ?_
  refine lv_icmp_eq (tgt := 33) C.1.1 C.1.2.1 dX2_put_16 (by decide) (fun c16 => ?_) (fun c16 => ?_)
  · have c16 := (nI_eq (by omega) (by omega)).mp c16
    refine lv_iconst (v := nI 0) C.1.1 C.1.2.1 dX2_put_33 (by decide) ?_
    exact ly_zret (u := (Up, kn)) C hr (by decide) hw (Or.inl ⟨Or.inl c16, rfl, rfl⟩) dX2_put_34
  · have c16 : ly_ix n x ≠ ly_ix n y := fun q => c16 (by rw [q])
    refine lv_aload_n C.1.1 C.1.2.1 dX2_put_19 rfl (lv_at hl 2 rfl) ?_
    refine ly_gf in_X2 C hw 0 rfl rfl 0 (by decide) q107 rfl dX2_put_20 ?_
    refine lv_iload C.1.1 C.1.2.1 dX2_put_23 (lv_at hl 0 rfl) ?_
    refine ly_iald C hw 1 0 rfl rfl (by omega) (by decide) rfl dX2_put_25 ?_
    refine lv_iload_n C.1.1 C.1.2.1 dX2_put_26 rfl (lv_at hl 1 rfl) ?_
    refine lv_ishr C.1.1 C.1.2.1 dX2_put_27 ?_
    refine lv_iconst (v := nI 1) C.1.1 C.1.2.1 dX2_put_28 (by decide) ?_
    refine lv_iand C.1.1 C.1.2.1 dX2_put_29 ?_
    refine ly_top (ly_bit (Nat.lt_trans (hU _ hiy) (by decide)) (by omega)) ?_
    refine lv_if_eq (tgt := 35) C.1.1 C.1.2.1 dX2_put_30 (by decide) (fun c30 => ?_) (fun c30 => ?_)
    · have c30 := ly_bit0 c30
      refine lv_aload_n C.1.1 C.1.2.1 dX2_put_35 rfl (lv_at hl 2 rfl) ?_
      refine ly_gf in_X2 C hw 0 rfl rfl 0 (by decide) q107 rfl dX2_put_36 ?_
      refine lv_iload C.1.1 C.1.2.1 dX2_put_39 (lv_at hl 0 rfl) ?_
      refine ly_iald C hw 1 0 rfl rfl (by omega) (by decide) rfl dX2_put_41 ?_
      refine lv_iconst (v := nI 1) C.1.1 C.1.2.1 dX2_put_42 (by decide) ?_
      refine lv_iload C.1.1 C.1.2.1 dX2_put_43 (lv_at hl 0 rfl) ?_
      refine lv_ishl C.1.1 C.1.2.1 dX2_put_45 ?_
      refine ly_top (ly_shl (by omega)) ?_
      refine lv_ior C.1.1 C.1.2.1 dX2_put_46 ?_
      refine ly_top (fa_or (Up (ly_ix n y)) (2 ^ (ly_ix n y))) ?_
      refine lv_istore (lv' := [(5, .int (nI ((Up (ly_ix n y)) ||| (2 ^ (ly_ix n y))))), (4, .int (nI (ly_ix n y))), (3, .int (nI (ly_ix n x))), (0, .ref mo), (1, .int x), (2, .int y)]) C.1.1 C.1.2.1 dX2_put_47 hl (by decide) rfl (fun ls hl => ?_)
      refine lv_iconst (v := nI 0) C.1.1 C.1.2.1 dX2_put_49 (by decide) ?_
      refine lv_istore (lv' := [(6, .int (nI 0)), (5, .int (nI ((Up (ly_ix n y)) ||| (2 ^ (ly_ix n y))))), (4, .int (nI (ly_ix n y))), (3, .int (nI (ly_ix n x))), (0, .ref mo), (1, .int x), (2, .int y)]) C.1.1 C.1.2.1 dX2_put_50 hl (by decide) rfl (fun ls hl => ?_)
      refine lp_put2 C hn2 hix hU (fun H locs ls hw hl => ?_) n 0 H locs ls (by omega) (by rw [ly_put_0]; exact hw) hl
      refine lv_aload_n C.1.1 C.1.2.1 dX2_put_104 rfl (lv_at hl 0 rfl) ?_
      refine lv_iconst (v := nI 0) C.1.1 C.1.2.1 dX2_put_105 (by decide) ?_
      refine ly_pf in_X2 tyX2 tyX2_ok nmX2 C hw 0 rfl rfl 2 (by decide) q109 rfl rfl rfl (Nat.le_of_ble_eq_true rfl) dX2_put_106 (fun H locs hw => ?_)
      have hw : ly_w (dC, dI) A s.heap (ly_WM mo mu le ch mw cI cJ cZ n 0 wi he cl (ly_put n Up (ly_ix n x) (ly_ix n y)) Le Ch Mw) H locs := hw
      refine lv_iconst (v := nI 1) C.1.1 C.1.2.1 dX2_put_109 (by decide) ?_
      exact ly_zret (u := (_, 0)) C hr (by decide) hw (Or.inr ⟨⟨c16, c30⟩, rfl, rfl⟩) dX2_put_110
    · have c30 := ly_bitn0 c30
      refine lv_iconst (v := nI 0) C.1.1 C.1.2.1 dX2_put_33 (by decide) ?_
      exact ly_zret (u := (Up, kn)) C hr (by decide) hw (Or.inl ⟨Or.inr c30, rfl, rfl⟩) dX2_put_34
set_option maxHeartbeats 4000000 in
set_option maxRecDepth 100000 in
/-- the loop of count -/
theorem lp_mcount {p : Program} {l : Launch} {e : Env} {R : Room} {s : State} {m : MethodId} {args : Array Value} {below : List Frame} {meth : Method} {c : Code} {Q : State → Prop} {dC : Nat → ClassId} {dI : Nat → Nat → Nat} {cI cJ cZ : ClassId} {A : Nat → Prop} {x : Nat} (C : ly_C p m meth c cX2_count 3 s args RX2 (dC, dI) (ly_tys cI cJ cZ) A) {H : Heap} {locs : List Loc} (kk : ∀ (ls : Array Slot), lv_has ls 3 [(1, .int (nI (ly_pc x)))] → W p l e R s m args below meth c H locs 0 0 Q (F0 m 21 ls [])) :
    ∀ (k y cn : Nat) (ls : Array Slot), y ≤ k → y < 1024 → cn + ly_pc y = ly_pc x → lv_has ls 3 [(2, .int (nI y)), (1, .int (nI cn)), (0, .int (nI x))] → W p l e R s m args below meth c H locs 0 0 Q (F0 m 4 ls []) := by
  intro k
  induction k with
  | zero =>
    intro y cn ls hk hy hc hl
    refine lv_iload_n C.1.1 C.1.2.1 dX2_count_4 rfl (lv_at hl 0 rfl) ?_
    refine lv_if_eq (tgt := 21) C.1.1 C.1.2.1 dX2_count_5 (by decide) (fun c5 => ?_) (fun c5 => ?_)
    · have c5 := (ly_eq0 (by omega)).mp c5
      have hc : cn = ly_pc x := by rw [← hc, c5, ly_pc_0]; rfl
      rw [hc] at hl
      exact kk ls (lv_sub hl [1] rfl)
    · exact absurd (by rw [show y = 0 by omega]; rfl) c5
  | succ k ih =>
    intro y cn ls hk hy hc hl
    refine lv_iload_n C.1.1 C.1.2.1 dX2_count_4 rfl (lv_at hl 0 rfl) ?_
    refine lv_if_eq (tgt := 21) C.1.1 C.1.2.1 dX2_count_5 (by decide) (fun c5 => ?_) (fun c5 => ?_)
    · have c5 := (ly_eq0 (by omega)).mp c5
      have hc : cn = ly_pc x := by rw [← hc, c5, ly_pc_0]; rfl
      rw [hc] at hl
      exact kk ls (lv_sub hl [1] rfl)
    · have c5 : y ≠ 0 := fun q => c5 (by rw [q]; rfl)
      have hst := ly_pc_step y hy c5
      have hle : y &&& (y - 1) ≤ y - 1 := Nat.and_le_right
      refine lv_iload_n C.1.1 C.1.2.1 dX2_count_8 rfl (lv_at hl 0 rfl) ?_
      refine lv_iload_n C.1.1 C.1.2.1 dX2_count_9 rfl (lv_at hl 0 rfl) ?_
      refine lv_iconst (v := nI 1) C.1.1 C.1.2.1 dX2_count_10 (by decide) ?_
      refine lv_isub C.1.1 C.1.2.1 dX2_count_11 ?_
      refine ly_top (ly_sub (by omega)) ?_
      refine lv_iand C.1.1 C.1.2.1 dX2_count_12 ?_
      refine ly_top (fa_and y (y - 1)) ?_
      refine lv_istore_n (lv' := [(2, .int (nI (y &&& (y - 1)))), (1, .int (nI cn)), (0, .int (nI x))]) C.1.1 C.1.2.1 dX2_count_13 rfl hl (by decide) rfl (fun ls hl => ?_)
      refine lv_iload_n C.1.1 C.1.2.1 dX2_count_14 rfl (lv_at hl 1 rfl) ?_
      refine lv_iconst (v := nI 1) C.1.1 C.1.2.1 dX2_count_15 (by decide) ?_
      refine lv_iadd C.1.1 C.1.2.1 dX2_count_16 ?_
      refine ly_top (nI_add cn 1) ?_
      refine lv_istore_n (lv' := [(1, .int (nI (cn + 1))), (2, .int (nI (y &&& (y - 1)))), (0, .int (nI x))]) C.1.1 C.1.2.1 dX2_count_17 rfl hl (by decide) rfl (fun ls hl => ?_)
      refine lv_goto (tgt := 4) C.1.1 C.1.2.1 dX2_count_18 (by decide) ?_
      exact ih _ (cn + 1) ls (by omega) (by omega) (by omega) (lv_sub hl [1, 0, 2] rfl)
set_option maxHeartbeats 4000000 in
set_option maxRecDepth 100000 in
/-- count(x) -/
theorem mt_mcount (l : Launch) {dC : Nat → ClassId} {dI : Nat → Nat → Nat} {cI cJ cZ : ClassId} {mo mu le ch mw : Nat} {n kn wi he cl : Nat} {Up Le Ch Mw : Nat → Nat} {x : Nat} (hx : x < 1024) : ly_Mi (S := Unit) l yX2_count (ws_ yX2_count cX2_count 3 (some .int)) ({ frames := 0, cells := 0, slots := 0, locals := 0 } : Room) [.int (nI x)] (dC, dI) (ly_tys cI cJ cZ) (ly_WM mo mu le ch mw cI cJ cZ n kn wi he cl Up Le Ch Mw) (fun r _ => r = nI (ly_pc x)) (fun _ => (ly_WM mo mu le ch mw cI cJ cZ n kn wi he cl Up Le Ch Mw)) := by
  refine ly_ofi (by decide) (Nat.le_of_ble_eq_true rfl) ?_
  intro p e s m below meth c A ls C hr hw hl
  have C : ly_C p m meth c cX2_count 3 s _ RX2 (dC, dI) (ly_tys cI cJ cZ) A := C
  have hl : lv_has ls 3 [(0, .int (nI x))] := hl
  refine lv_iconst (v := nI 0) C.1.1 C.1.2.1 dX2_count_0 (by decide) ?_
  refine lv_istore_n (lv' := [(1, .int (nI 0)), (0, .int (nI x))]) C.1.1 C.1.2.1 dX2_count_1 rfl hl (by decide) rfl (fun ls hl => ?_)
  refine lv_iload_n C.1.1 C.1.2.1 dX2_count_2 rfl (lv_at hl 1 rfl) ?_
  refine lv_istore_n (lv' := [(2, .int (nI x)), (1, .int (nI 0)), (0, .int (nI x))]) C.1.1 C.1.2.1 dX2_count_3 rfl hl (by decide) rfl (fun ls hl => ?_)
  refine lp_mcount C (fun ls hl => ?_) x x 0 ls (Nat.le_refl _) hx (Nat.zero_add _) (lv_sub hl [0, 1, 2] rfl)
  refine lv_iload_n C.1.1 C.1.2.1 dX2_count_21 rfl (lv_at hl 0 rfl) ?_
  exact ly_iret (u := ()) C hr hw rfl dX2_count_22
end
section
/-! LayersDeskModel: reckon, its inner loops (rows printed by gen) -/
set_option maxHeartbeats 4000000 in
set_option maxRecDepth 100000 in
/-- free -/
theorem sg_free {p : Program} {l : Launch} {e : Env} {R : Room} {s : State} {m : MethodId} {args : Array Value} {below : List Frame} {meth : Method} {c : Code} {Q : State → Prop} {dC : Nat → ClassId} {dI : Nat → Nat → Nat} {cI cJ cZ : ClassId} {A : Nat → Prop} {H : Heap} {locs : List Loc} {mo mu le ch mw : Nat} {n kn wi he cl : Nat} {Up Le Ch Mw : Nat → Nat} {a t r : Nat} {ff : Bool} {ls : Array Slot} (C : ly_C p m meth c cX2_reckon 10 s args RX2 (dC, dI) (ly_tys cI cJ cZ) A) (hn2 : n ≤ 10) (ha : a < n) (ht : t < 1024)  (hw : ly_w (dC, dI) A s.heap (ly_WM mo mu le ch mw cI cJ cZ n kn wi he cl Up Le Ch Mw) H locs) (hl : lv_has ls 10 [(7, .int (nI a)), (2, .int (nI (if ff then 1 else 0))), (1, .int (nI t)), (0, .ref mo)]) (kk : W p l e R s m args below meth c H locs 0 0 Q (F0 m 100 ls [.int (nI (if ff && decide (t &&& Up a = 0) then 1 else 0))])) : W p l e R s m args below meth c H locs 0 0 Q (F0 m 79 ls []) := by
  have hnw := (Nat.and_le_left : t &&& Up a ≤ t)
  refine lv_iload_n C.1.1 C.1.2.1 dX2_reckon_79 rfl (lv_at hl 1 rfl) ?_
  refine lv_if_eq (tgt := 99) C.1.1 C.1.2.1 dX2_reckon_80 (by decide) (fun c80 => ?_) (fun c80 => ?_)
  · have c := ly_bit0 c80
    refine lv_iconst (v := nI 0) C.1.1 C.1.2.1 dX2_reckon_99 (by decide) ?_
    rw [c] at kk
    exact kk
  · have c := ly_bitn0 c80
    refine lv_iload_n C.1.1 C.1.2.1 dX2_reckon_83 rfl (lv_at hl 2 rfl) ?_
    refine lv_aload_n C.1.1 C.1.2.1 dX2_reckon_84 rfl (lv_at hl 3 rfl) ?_
    refine ly_gf in_X2 C hw 0 rfl rfl 0 (by decide) q107 rfl dX2_reckon_85 ?_
    refine lv_iload C.1.1 C.1.2.1 dX2_reckon_88 (lv_at hl 0 rfl) ?_
    refine ly_iald C hw 1 0 rfl rfl (by omega) (by decide) rfl dX2_reckon_90 ?_
    refine lv_iand C.1.1 C.1.2.1 dX2_reckon_91 ?_
    refine ly_top (fa_and t (Up a)) ?_
    refine lv_if_ne (tgt := 99) C.1.1 C.1.2.1 dX2_reckon_92 (by decide) (fun c92 => ?_) (fun c92 => ?_)
    · have d : ¬ t &&& Up a = 0 := fun q => c92 (by rw [q]; rfl)
      refine lv_iconst (v := nI 0) C.1.1 C.1.2.1 dX2_reckon_99 (by decide) ?_
      rw [c, decide_eq_false d] at kk
      exact kk
    · have d : t &&& Up a = 0 := (ly_eq0 (by omega)).mp c92
      refine lv_iconst (v := nI 1) C.1.1 C.1.2.1 dX2_reckon_95 (by decide) ?_
      refine lv_goto (tgt := 100) C.1.1 C.1.2.1 dX2_reckon_96 (by decide) ?_
      rw [c, decide_eq_true d] at kk
      exact kk
set_option maxHeartbeats 4000000 in
set_option maxRecDepth 100000 in
/-- line -/
theorem sg_line {p : Program} {l : Launch} {e : Env} {R : Room} {s : State} {m : MethodId} {args : Array Value} {below : List Frame} {meth : Method} {c : Code} {Q : State → Prop} {dC : Nat → ClassId} {dI : Nat → Nat → Nat} {cI cJ cZ : ClassId} {A : Nat → Prop} {H : Heap} {locs : List Loc} {mo mu le ch mw : Nat} {n kn wi he cl : Nat} {Up Le Ch Mw : Nat → Nat} {a t r : Nat} {ff : Bool} {ls : Array Slot} (C : ly_C p m meth c cX2_reckon 10 s args RX2 (dC, dI) (ly_tys cI cJ cZ) A) (hn2 : n ≤ 10) (ha : a < n) (ht : t < 1024)  (hw : ly_w (dC, dI) A s.heap (ly_WM mo mu le ch mw cI cJ cZ n kn wi he cl Up Le Ch Mw) H locs) (hl : lv_has ls 10 [(8, .int (nI r)), (3, .int (nI (if ff then 1 else 0))), (1, .int (nI t)), (0, .ref mo)]) (kk : W p l e R s m args below meth c H locs 0 0 Q (F0 m 184 ls [.int (nI (if ff && decide (ly_sd t r = 0) then 1 else 0))])) : W p l e R s m args below meth c H locs 0 0 Q (F0 m 166 ls []) := by
  have hnw := ly_sd_le t r
  refine lv_iload_n C.1.1 C.1.2.1 dX2_reckon_166 rfl (lv_at hl 1 rfl) ?_
  refine lv_if_eq (tgt := 183) C.1.1 C.1.2.1 dX2_reckon_167 (by decide) (fun c167 => ?_) (fun c167 => ?_)
  · have c := ly_bit0 c167
    refine lv_iconst (v := nI 0) C.1.1 C.1.2.1 dX2_reckon_183 (by decide) ?_
    rw [c] at kk
    exact kk
  · have c := ly_bitn0 c167
    refine lv_iload_n C.1.1 C.1.2.1 dX2_reckon_170 rfl (lv_at hl 2 rfl) ?_
    refine lv_iload C.1.1 C.1.2.1 dX2_reckon_171 (lv_at hl 0 rfl) ?_
    refine lv_iconst (v := -1) C.1.1 C.1.2.1 dX2_reckon_173 (by decide) ?_
    refine lv_ixor C.1.1 C.1.2.1 dX2_reckon_174 ?_
    refine lv_iand C.1.1 C.1.2.1 dX2_reckon_175 ?_
    refine ly_top (ly_not (Nat.lt_trans (show _ < 2 ^ 31 from (by omega)) (by decide))) ?_
    refine lv_if_ne (tgt := 183) C.1.1 C.1.2.1 dX2_reckon_176 (by decide) (fun c176 => ?_) (fun c176 => ?_)
    · have d : ¬ ly_sd t r = 0 := fun q => c176 (by rw [q]; rfl)
      refine lv_iconst (v := nI 0) C.1.1 C.1.2.1 dX2_reckon_183 (by decide) ?_
      rw [c, decide_eq_false d] at kk
      exact kk
    · have d : ly_sd t r = 0 := (ly_eq0 (by omega)).mp c176
      refine lv_iconst (v := nI 1) C.1.1 C.1.2.1 dX2_reckon_179 (by decide) ?_
      refine lv_goto (tgt := 184) C.1.1 C.1.2.1 dX2_reckon_180 (by decide) ?_
      rw [c, decide_eq_true d] at kk
      exact kk
set_option maxHeartbeats 4000000 in
set_option maxRecDepth 100000 in
/-- down -/
theorem sg_down {p : Program} {l : Launch} {e : Env} {R : Room} {s : State} {m : MethodId} {args : Array Value} {below : List Frame} {meth : Method} {c : Code} {Q : State → Prop} {dC : Nat → ClassId} {dI : Nat → Nat → Nat} {cI cJ cZ : ClassId} {A : Nat → Prop} {H : Heap} {locs : List Loc} {mo mu le ch mw : Nat} {n kn wi he cl : Nat} {Up Le Ch Mw : Nat → Nat} {a t r : Nat} {ff : Bool} {ls : Array Slot} (C : ly_C p m meth c cX2_reckon 10 s args RX2 (dC, dI) (ly_tys cI cJ cZ) A) (hn2 : n ≤ 10) (ha : a < n) (ht : t < 1024)  (hw : ly_w (dC, dI) A s.heap (ly_WM mo mu le ch mw cI cJ cZ n kn wi he cl Up Le Ch Mw) H locs) (hl : lv_has ls 10 [(7, .int (nI a)), (4, .int (nI (if ff then 1 else 0))), (1, .int (nI t)), (0, .ref mo)]) (kk : W p l e R s m args below meth c H locs 0 0 Q (F0 m 240 ls [.int (nI (if ff && decide (t &&& Up a = 0) then 1 else 0))])) : W p l e R s m args below meth c H locs 0 0 Q (F0 m 218 ls []) := by
  have hnw := (Nat.and_le_left : t &&& Up a ≤ t)
  refine lv_iload C.1.1 C.1.2.1 dX2_reckon_218 (lv_at hl 1 rfl) ?_
  refine lv_if_eq (tgt := 239) C.1.1 C.1.2.1 dX2_reckon_220 (by decide) (fun c220 => ?_) (fun c220 => ?_)
  · have c := ly_bit0 c220
    refine lv_iconst (v := nI 0) C.1.1 C.1.2.1 dX2_reckon_239 (by decide) ?_
    rw [c] at kk
    exact kk
  · have c := ly_bitn0 c220
    refine lv_iload_n C.1.1 C.1.2.1 dX2_reckon_223 rfl (lv_at hl 2 rfl) ?_
    refine lv_aload_n C.1.1 C.1.2.1 dX2_reckon_224 rfl (lv_at hl 3 rfl) ?_
    refine ly_gf in_X2 C hw 0 rfl rfl 0 (by decide) q107 rfl dX2_reckon_225 ?_
    refine lv_iload C.1.1 C.1.2.1 dX2_reckon_228 (lv_at hl 0 rfl) ?_
    refine ly_iald C hw 1 0 rfl rfl (by omega) (by decide) rfl dX2_reckon_230 ?_
    refine lv_iand C.1.1 C.1.2.1 dX2_reckon_231 ?_
    refine ly_top (fa_and t (Up a)) ?_
    refine lv_if_ne (tgt := 239) C.1.1 C.1.2.1 dX2_reckon_232 (by decide) (fun c232 => ?_) (fun c232 => ?_)
    · have d : ¬ t &&& Up a = 0 := fun q => c232 (by rw [q]; rfl)
      refine lv_iconst (v := nI 0) C.1.1 C.1.2.1 dX2_reckon_239 (by decide) ?_
      rw [c, decide_eq_false d] at kk
      exact kk
    · have d : t &&& Up a = 0 := (ly_eq0 (by omega)).mp c232
      refine lv_iconst (v := nI 1) C.1.1 C.1.2.1 dX2_reckon_235 (by decide) ?_
      refine lv_goto (tgt := 240) C.1.1 C.1.2.1 dX2_reckon_236 (by decide) ?_
      rw [c, decide_eq_true d] at kk
      exact kk
set_option maxHeartbeats 4000000 in
set_option maxRecDepth 100000 in
/-- the loop over b -/
theorem lp_reck3 {p : Program} {l : Launch} {e : Env} {R : Room} {s : State} {m : MethodId} {args : Array Value} {below : List Frame} {meth : Method} {c : Code} {Q : State → Prop} {dC : Nat → ClassId} {dI : Nat → Nat → Nat} {cI cJ cZ : ClassId} {A : Nat → Prop} {H : Heap} {locs : List Loc} {mo mu le ch mw : Nat} {n kn wi he cl : Nat} {Up Le Ch Mw : Nat → Nat} {a t rw : Nat} {dd ll ff : Bool} (C : ly_C p m meth c cX2_reckon 10 s args RX2 (dC, dI) (ly_tys cI cJ cZ) A) (hn2 : n ≤ 10) (ht : t < 1024) (ha : a < n) (hU : ∀ j, j < n → Up j < 1024) (hw : ly_w (dC, dI) A s.heap (ly_WM mo mu le ch mw cI cJ cZ n kn wi he cl Up Le Ch Mw) H locs) (kk : ∀ (ls : Array Slot), lv_has ls 10 [(9, .int (nI n)), (8, .int (nI (ly_rel Up t a n))), (7, .int (nI a)), (5, .long (lN rw)), (4, .int (nI (if dd then 1 else 0))), (3, .int (nI (if ll then 1 else 0))), (2, .int (nI (if ff then 1 else 0))), (1, .int (nI t)), (0, .ref mo)] → W p l e R s m args below meth c H locs 0 0 Q (F0 m 166 ls [])) :
    ∀ (k b : Nat) (ls : Array Slot), b + k = n → lv_has ls 10 [(9, .int (nI b)), (8, .int (nI (ly_rel Up t a b))), (7, .int (nI a)), (5, .long (lN rw)), (4, .int (nI (if dd then 1 else 0))), (3, .int (nI (if ll then 1 else 0))), (2, .int (nI (if ff then 1 else 0))), (1, .int (nI t)), (0, .ref mo)] → W p l e R s m args below meth c H locs 0 0 Q (F0 m 118 ls []) := by
  intro k
  induction k with
  | zero =>
    intro b ls hi hl
    have hi : b = n := hi
    subst hi
    refine lv_iload C.1.1 C.1.2.1 dX2_reckon_118 (lv_at hl 0 rfl) ?_
    refine lv_aload_n C.1.1 C.1.2.1 dX2_reckon_120 rfl (lv_at hl 8 rfl) ?_
    refine ly_gf in_X2 C hw 0 rfl rfl 1 (by decide) q108 rfl dX2_reckon_121 ?_
    refine lv_icmp_ge (tgt := 166) C.1.1 C.1.2.1 dX2_reckon_124 (by decide) (fun c124 => ?_) (fun c124 => ?_)
    · exact kk ls hl
    · exact absurd (nI_le (Nat.le_refl _) (by omega)) c124
  | succ k ih =>
    intro b ls hi hl
    have hbn : b < n := by omega
    have hUb := hU b hbn
    refine lv_iload C.1.1 C.1.2.1 dX2_reckon_118 (lv_at hl 0 rfl) ?_
    refine lv_aload_n C.1.1 C.1.2.1 dX2_reckon_120 rfl (lv_at hl 8 rfl) ?_
    refine ly_gf in_X2 C hw 0 rfl rfl 1 (by decide) q108 rfl dX2_reckon_121 ?_
    refine lv_icmp_ge (tgt := 166) C.1.1 C.1.2.1 dX2_reckon_124 (by decide) (fun c124 => ?_) (fun c124 => ?_)
    · exact absurd c124 (nI_ge (by omega) (by omega))
    · skip
      refine lv_iload_n C.1.1 C.1.2.1 dX2_reckon_127 rfl (lv_at hl 7 rfl) ?_
      refine lv_iload C.1.1 C.1.2.1 dX2_reckon_128 (lv_at hl 0 rfl) ?_
      refine lv_ishr C.1.1 C.1.2.1 dX2_reckon_130 ?_
      refine lv_iconst (v := nI 1) C.1.1 C.1.2.1 dX2_reckon_131 (by decide) ?_
      refine lv_iand C.1.1 C.1.2.1 dX2_reckon_132 ?_
      refine ly_top (ly_bit (by omega) (by omega)) ?_
      refine lv_if_eq (tgt := 160) C.1.1 C.1.2.1 dX2_reckon_133 (by decide) (fun c133 => ?_) (fun c133 => ?_)
      · have c133 := ly_bit0 c133
        refine lv_iinc (v := nI (b + 1)) (lv' := [(9, .int (nI (b + 1))), (8, .int (nI (ly_rel Up t a b))), (7, .int (nI a)), (5, .long (lN rw)), (4, .int (nI (if dd then 1 else 0))), (3, .int (nI (if ll then 1 else 0))), (2, .int (nI (if ff then 1 else 0))), (1, .int (nI t)), (0, .ref mo)]) C.1.1 C.1.2.1 dX2_reckon_160 hl (k := 0) rfl (nI_add b 1) (by decide) rfl (fun ls hl => ?_)
        refine lv_goto (tgt := 118) C.1.1 C.1.2.1 dX2_reckon_163 (by decide) ?_
        exact ih (b + 1) ls (by omega) (by rw [ly_rel, if_neg (by simp [c133])]; exact hl)
      · have c133 := ly_bitn0 c133
        refine lv_aload_n C.1.1 C.1.2.1 dX2_reckon_136 rfl (lv_at hl 8 rfl) ?_
        refine ly_gf in_X2 C hw 0 rfl rfl 0 (by decide) q107 rfl dX2_reckon_137 ?_
        refine lv_iload C.1.1 C.1.2.1 dX2_reckon_140 (lv_at hl 0 rfl) ?_
        refine ly_iald C hw 1 0 rfl rfl (by omega) (by decide) rfl dX2_reckon_142 ?_
        refine lv_iload C.1.1 C.1.2.1 dX2_reckon_143 (lv_at hl 2 rfl) ?_
        refine lv_ishr C.1.1 C.1.2.1 dX2_reckon_145 ?_
        refine lv_iconst (v := nI 1) C.1.1 C.1.2.1 dX2_reckon_146 (by decide) ?_
        refine lv_iand C.1.1 C.1.2.1 dX2_reckon_147 ?_
        refine ly_top (ly_bit (by omega) (by omega)) ?_
        refine lv_if_eq (tgt := 160) C.1.1 C.1.2.1 dX2_reckon_148 (by decide) (fun c148 => ?_) (fun c148 => ?_)
        · have c148 := ly_bit0 c148
          refine lv_iinc (v := nI (b + 1)) (lv' := [(9, .int (nI (b + 1))), (8, .int (nI (ly_rel Up t a b))), (7, .int (nI a)), (5, .long (lN rw)), (4, .int (nI (if dd then 1 else 0))), (3, .int (nI (if ll then 1 else 0))), (2, .int (nI (if ff then 1 else 0))), (1, .int (nI t)), (0, .ref mo)]) C.1.1 C.1.2.1 dX2_reckon_160 hl (k := 0) rfl (nI_add b 1) (by decide) rfl (fun ls hl => ?_)
          refine lv_goto (tgt := 118) C.1.1 C.1.2.1 dX2_reckon_163 (by decide) ?_
          exact ih (b + 1) ls (by omega) (by rw [ly_rel, if_neg (by simp [c148])]; exact hl)
        · have c148 := ly_bitn0 c148
          refine lv_iload C.1.1 C.1.2.1 dX2_reckon_151 (lv_at hl 1 rfl) ?_
          refine lv_iconst (v := nI 1) C.1.1 C.1.2.1 dX2_reckon_153 (by decide) ?_
          refine lv_iload C.1.1 C.1.2.1 dX2_reckon_154 (lv_at hl 0 rfl) ?_
          refine lv_ishl C.1.1 C.1.2.1 dX2_reckon_156 ?_
          refine ly_top (ly_shl (by omega)) ?_
          refine lv_ior C.1.1 C.1.2.1 dX2_reckon_157 ?_
          refine ly_top (fa_or (ly_rel Up t a b) (2 ^ b)) ?_
          refine lv_istore (lv' := [(8, .int (nI ((ly_rel Up t a b) ||| (2 ^ b)))), (9, .int (nI b)), (7, .int (nI a)), (5, .long (lN rw)), (4, .int (nI (if dd then 1 else 0))), (3, .int (nI (if ll then 1 else 0))), (2, .int (nI (if ff then 1 else 0))), (1, .int (nI t)), (0, .ref mo)]) C.1.1 C.1.2.1 dX2_reckon_158 hl (by decide) rfl (fun ls hl => ?_)
          refine lv_iinc (v := nI (b + 1)) (lv' := [(9, .int (nI (b + 1))), (8, .int (nI ((ly_rel Up t a b) ||| (2 ^ b)))), (7, .int (nI a)), (5, .long (lN rw)), (4, .int (nI (if dd then 1 else 0))), (3, .int (nI (if ll then 1 else 0))), (2, .int (nI (if ff then 1 else 0))), (1, .int (nI t)), (0, .ref mo)]) C.1.1 C.1.2.1 dX2_reckon_160 hl (k := 1) rfl (nI_add b 1) (by decide) rfl (fun ls hl => ?_)
          refine lv_goto (tgt := 118) C.1.1 C.1.2.1 dX2_reckon_163 (by decide) ?_
          exact ih (b + 1) ls (by omega) (by rw [ly_rel, if_pos (by simp [c133, c148])]; exact hl)
set_option maxHeartbeats 4000000 in
set_option maxRecDepth 100000 in
/-- rows grows -/
theorem sg_rows {p : Program} {l : Launch} {e : Env} {R : Room} {s : State} {m : MethodId} {args : Array Value} {below : List Frame} {meth : Method} {c : Code} {Q : State → Prop} {dC : Nat → ClassId} {dI : Nat → Nat → Nat} {cI cJ cZ : ClassId} {A : Nat → Prop} {H : Heap} {locs : List Loc} {mo mu le ch mw : Nat} {n kn wi he cl : Nat} {Up Le Ch Mw : Nat → Nat} {a t rw : Nat} {dd ll ff : Bool} {ls : Array Slot} (C : ly_C p m meth c cX2_reckon 10 s args RX2 (dC, dI) (ly_tys cI cJ cZ) A) (hn2 : n ≤ 10) (ha : a < n) (ht : t < 1024) (hw : ly_w (dC, dI) A s.heap (ly_WM mo mu le ch mw cI cJ cZ n kn wi he cl Up Le Ch Mw) H locs) (hl : lv_has ls 10 [(7, .int (nI a)), (5, .long (lN rw)), (4, .int (nI (if dd then 1 else 0))), (3, .int (nI (if ll then 1 else 0))), (2, .int (nI (if ff then 1 else 0))), (1, .int (nI t)), (0, .ref mo)]) (kk : ∀ (ls : Array Slot), lv_has ls 10 [(7, .int (nI a)), (5, .long (lN (rw + (if t &&& Up a = 0 then Mw (ly_sd t (2 ^ a)) else 0)))), (4, .int (nI (if dd then 1 else 0))), (3, .int (nI (if ll then 1 else 0))), (2, .int (nI (if ff then 1 else 0))), (1, .int (nI t)), (0, .ref mo)] → W p l e R s m args below meth c H locs 0 0 Q (F0 m 215 ls [])) : W p l e R s m args below meth c H locs 0 0 Q (F0 m 185 ls []) := by
  have hnw : t &&& Up a ≤ t := Nat.and_le_left
  have hnx := ly_sd_le t (2 ^ a)
  refine lv_iload_n C.1.1 C.1.2.1 dX2_reckon_185 rfl (lv_at hl 5 rfl) ?_
  refine lv_aload_n C.1.1 C.1.2.1 dX2_reckon_186 rfl (lv_at hl 6 rfl) ?_
  refine ly_gf in_X2 C hw 0 rfl rfl 0 (by decide) q107 rfl dX2_reckon_187 ?_
  refine lv_iload C.1.1 C.1.2.1 dX2_reckon_190 (lv_at hl 0 rfl) ?_
  refine ly_iald C hw 1 0 rfl rfl (by omega) (by decide) rfl dX2_reckon_192 ?_
  refine lv_iand C.1.1 C.1.2.1 dX2_reckon_193 ?_
  refine ly_top (fa_and t (Up a)) ?_
  refine lv_if_ne (tgt := 215) C.1.1 C.1.2.1 dX2_reckon_194 (by decide) (fun c194 => ?_) (fun c194 => ?_)
  · have d : ¬ t &&& Up a = 0 := fun q => c194 (by rw [q]; rfl)
    rw [if_neg d] at kk
    exact kk ls hl
  · have d : t &&& Up a = 0 := (ly_eq0 (by omega)).mp c194
    rw [if_pos d] at kk
    refine lv_lload C.1.1 C.1.2.1 dX2_reckon_197 (lv_at hl 1 rfl) ?_
    refine lv_aload_n C.1.1 C.1.2.1 dX2_reckon_199 rfl (lv_at hl 6 rfl) ?_
    refine ly_gf in_X2 C hw 0 rfl rfl 8 (by decide) q115 rfl dX2_reckon_200 ?_
    refine lv_iload_n C.1.1 C.1.2.1 dX2_reckon_203 rfl (lv_at hl 5 rfl) ?_
    refine lv_iconst (v := nI 1) C.1.1 C.1.2.1 dX2_reckon_204 (by decide) ?_
    refine lv_iload C.1.1 C.1.2.1 dX2_reckon_205 (lv_at hl 0 rfl) ?_
    refine lv_ishl C.1.1 C.1.2.1 dX2_reckon_207 ?_
    refine ly_top (ly_shl (by omega)) ?_
    refine lv_iconst (v := -1) C.1.1 C.1.2.1 dX2_reckon_208 (by decide) ?_
    refine lv_ixor C.1.1 C.1.2.1 dX2_reckon_209 ?_
    refine lv_iand C.1.1 C.1.2.1 dX2_reckon_210 ?_
    refine ly_top (ly_not (Nat.lt_trans (show _ < 2 ^ 31 from (by omega)) (by decide))) ?_
    refine ly_lald C hw 4 1 rfl rfl (by omega) (by decide) rfl dX2_reckon_211 ?_
    refine lv_ladd C.1.1 C.1.2.1 dX2_reckon_212 ?_
    refine ly_topl (lN_add rw (Mw (ly_sd t (2 ^ a)))) ?_
    refine lv_lstore (lv' := [(5, .long (lN (rw + (Mw (ly_sd t (2 ^ a)))))), (7, .int (nI a)), (4, .int (nI (if dd then 1 else 0))), (3, .int (nI (if ll then 1 else 0))), (2, .int (nI (if ff then 1 else 0))), (1, .int (nI t)), (0, .ref mo)]) C.1.1 C.1.2.1 dX2_reckon_213 hl (by decide) rfl (fun ls hl => ?_)
    exact kk ls (lv_sub hl [1, 0, 2, 3, 4, 5, 6] rfl)
theorem ly_all_succ (p : Nat → Bool) (k : Nat) : ly_all p (k + 1) = (ly_all p k && p k) := rfl
theorem ly_fB_t {U : Nat → Nat} {t a : Nat} (h : t.testBit a = true) : ly_fB U t a = decide (t &&& U a = 0) := by unfold ly_fB; rw [h]; rfl
theorem ly_fB_f {U : Nat → Nat} {t a : Nat} (h : t.testBit a = false) : ly_fB U t a = true := by unfold ly_fB; rw [h]; rfl
theorem ly_lB_t {n : Nat} {U : Nat → Nat} {t a : Nat} (h : t.testBit a = true) : ly_lB n U t a = decide (ly_sd t (ly_rel U t a n) = 0) := by unfold ly_lB; rw [h]; rfl
theorem ly_lB_f {n : Nat} {U : Nat → Nat} {t a : Nat} (h : t.testBit a = false) : ly_lB n U t a = true := by unfold ly_lB; rw [h]; rfl
theorem ly_dB_t {U : Nat → Nat} {t a : Nat} (h : t.testBit a = true) : ly_dB U t a = true := by unfold ly_dB; rw [h]; rfl
theorem ly_dB_f {U : Nat → Nat} {t a : Nat} (h : t.testBit a = false) : ly_dB U t a = decide (t &&& U a = 0) := by unfold ly_dB; rw [h]; rfl
theorem ly_Et_t {n : Nat} {U Mw : Nat → Nat} {t a : Nat} (h : t.testBit a = true) (hM : Mw (ly_sd t (2 ^ a)) = ly_E n U (ly_sd t (2 ^ a))) : ly_Et n U t a = if t &&& U a = 0 then Mw (ly_sd t (2 ^ a)) else 0 := by
  unfold ly_Et
  rw [hM, h]
  by_cases q : t &&& U a = 0
  · rw [if_pos q, if_pos (by simp [q])]
  · rw [if_neg q, if_neg (by simp [q])]
theorem ly_Et_f {n : Nat} {U : Nat → Nat} {t a : Nat} (h : t.testBit a = false) : ly_Et n U t a = 0 := by
  unfold ly_Et
  rw [if_neg (by simp [h])]
set_option maxHeartbeats 4000000 in
set_option maxRecDepth 100000 in
/-- the loop over a -/
theorem lp_reck2 {p : Program} {l : Launch} {e : Env} {R : Room} {s : State} {m : MethodId} {args : Array Value} {below : List Frame} {meth : Method} {c : Code} {Q : State → Prop} {dC : Nat → ClassId} {dI : Nat → Nat → Nat} {cI cJ cZ : ClassId} {A : Nat → Prop} {H : Heap} {locs : List Loc} {mo mu le ch mw : Nat} {n kn wi he cl : Nat} {Up Le Ch Mw : Nat → Nat} {t : Nat} (C : ly_C p m meth c cX2_reckon 10 s args RX2 (dC, dI) (ly_tys cI cJ cZ) A) (hn2 : n ≤ 10) (ht : t < 1024) (hU : ∀ j, j < n → Up j < 1024) (hM : ∀ j, j < t → Mw j = ly_E n Up j) (hw : ly_w (dC, dI) A s.heap (ly_WM mo mu le ch mw cI cJ cZ n kn wi he cl Up Le Ch Mw) H locs) (kk : ∀ (ls : Array Slot), lv_has ls 10 [(7, .int (nI n)), (5, .long (lN ((if t = 0 then 1 else 0) + fb_sm (ly_Et n Up t) n))), (4, .int (nI (if ly_all (ly_dB Up t) n then 1 else 0))), (3, .int (nI (if ly_all (ly_lB n Up t) n then 1 else 0))), (2, .int (nI (if ly_all (ly_fB Up t) n then 1 else 0))), (1, .int (nI t)), (0, .ref mo)] → W p l e R s m args below meth c H locs 0 0 Q (F0 m 248 ls [])) :
    ∀ (k a : Nat) (ls : Array Slot), a + k = n → lv_has ls 10 [(7, .int (nI a)), (5, .long (lN ((if t = 0 then 1 else 0) + fb_sm (ly_Et n Up t) a))), (4, .int (nI (if ly_all (ly_dB Up t) a then 1 else 0))), (3, .int (nI (if ly_all (ly_lB n Up t) a then 1 else 0))), (2, .int (nI (if ly_all (ly_fB Up t) a then 1 else 0))), (1, .int (nI t)), (0, .ref mo)] → W p l e R s m args below meth c H locs 0 0 Q (F0 m 61 ls []) := by
  intro k
  induction k with
  | zero =>
    intro a ls hi hl
    have hi : a = n := hi
    subst hi
    refine lv_iload C.1.1 C.1.2.1 dX2_reckon_61 (lv_at hl 0 rfl) ?_
    refine lv_aload_n C.1.1 C.1.2.1 dX2_reckon_63 rfl (lv_at hl 6 rfl) ?_
    refine ly_gf in_X2 C hw 0 rfl rfl 1 (by decide) q108 rfl dX2_reckon_64 ?_
    refine lv_icmp_ge (tgt := 248) C.1.1 C.1.2.1 dX2_reckon_67 (by decide) (fun c67 => ?_) (fun c67 => ?_)
    · exact kk ls hl
    · exact absurd (nI_le (Nat.le_refl _) (by omega)) c67
  | succ k ih =>
    intro a ls hi hl
    have han : a < n := by omega
    have hUa := hU a han
    refine lv_iload C.1.1 C.1.2.1 dX2_reckon_61 (lv_at hl 0 rfl) ?_
    refine lv_aload_n C.1.1 C.1.2.1 dX2_reckon_63 rfl (lv_at hl 6 rfl) ?_
    refine ly_gf in_X2 C hw 0 rfl rfl 1 (by decide) q108 rfl dX2_reckon_64 ?_
    refine lv_icmp_ge (tgt := 248) C.1.1 C.1.2.1 dX2_reckon_67 (by decide) (fun c67 => ?_) (fun c67 => ?_)
    · exact absurd c67 (nI_ge (by omega) (by omega))
    · skip
      refine lv_iload_n C.1.1 C.1.2.1 dX2_reckon_70 rfl (lv_at hl 5 rfl) ?_
      refine lv_iload C.1.1 C.1.2.1 dX2_reckon_71 (lv_at hl 0 rfl) ?_
      refine lv_ishr C.1.1 C.1.2.1 dX2_reckon_73 ?_
      refine lv_iconst (v := nI 1) C.1.1 C.1.2.1 dX2_reckon_74 (by decide) ?_
      refine lv_iand C.1.1 C.1.2.1 dX2_reckon_75 ?_
      refine ly_top (ly_bit (by omega) (by omega)) ?_
      refine lv_if_eq (tgt := 218) C.1.1 C.1.2.1 dX2_reckon_76 (by decide) (fun c76 => ?_) (fun c76 => ?_)
      · have c76 := ly_bit0 c76
        refine sg_down (r := 0) C hn2 han ht hw (lv_sub hl [0, 2, 5, 6] rfl) ?_
        refine lv_istore (lv' := [(4, .int (nI (if ly_all (ly_dB Up t) a && decide (t &&& Up a = 0) then 1 else 0))), (7, .int (nI a)), (5, .long (lN ((if t = 0 then 1 else 0) + fb_sm (ly_Et n Up t) a))), (3, .int (nI (if ly_all (ly_lB n Up t) a then 1 else 0))), (2, .int (nI (if ly_all (ly_fB Up t) a then 1 else 0))), (1, .int (nI t)), (0, .ref mo)]) C.1.1 C.1.2.1 dX2_reckon_240 hl (by decide) rfl (fun ls hl => ?_)
        refine lv_iinc (v := nI (a + 1)) (lv' := [(7, .int (nI (a + 1))), (4, .int (nI (if ly_all (ly_dB Up t) a && decide (t &&& Up a = 0) then 1 else 0))), (5, .long (lN ((if t = 0 then 1 else 0) + fb_sm (ly_Et n Up t) a))), (3, .int (nI (if ly_all (ly_lB n Up t) a then 1 else 0))), (2, .int (nI (if ly_all (ly_fB Up t) a then 1 else 0))), (1, .int (nI t)), (0, .ref mo)]) C.1.1 C.1.2.1 dX2_reckon_242 hl (k := 1) rfl (nI_add a 1) (by decide) rfl (fun ls hl => ?_)
        refine lv_goto (tgt := 61) C.1.1 C.1.2.1 dX2_reckon_245 (by decide) ?_
        refine ih (a + 1) ls (by omega) ?_
        rw [ly_all_succ, ly_all_succ, ly_all_succ, fb_sm_succ, ly_fB_f c76, ly_lB_f c76, ly_dB_f c76, ly_Et_f c76, Bool.and_true, Bool.and_true, Nat.add_zero]
        exact (lv_sub hl [0, 2, 1, 3, 4, 5, 6] rfl)
      · have c76 := ly_bitn0 c76
        refine sg_free (r := 0) C hn2 han ht hw (lv_sub hl [0, 4, 5, 6] rfl) ?_
        refine lv_istore_n (lv' := [(2, .int (nI (if ly_all (ly_fB Up t) a && decide (t &&& Up a = 0) then 1 else 0))), (7, .int (nI a)), (5, .long (lN ((if t = 0 then 1 else 0) + fb_sm (ly_Et n Up t) a))), (4, .int (nI (if ly_all (ly_dB Up t) a then 1 else 0))), (3, .int (nI (if ly_all (ly_lB n Up t) a then 1 else 0))), (1, .int (nI t)), (0, .ref mo)]) C.1.1 C.1.2.1 dX2_reckon_100 rfl hl (by decide) rfl (fun ls hl => ?_)
        refine lv_aload_n C.1.1 C.1.2.1 dX2_reckon_101 rfl (lv_at hl 6 rfl) ?_
        refine ly_gf in_X2 C hw 0 rfl rfl 0 (by decide) q107 rfl dX2_reckon_102 ?_
        refine lv_iload C.1.1 C.1.2.1 dX2_reckon_105 (lv_at hl 1 rfl) ?_
        refine ly_iald C hw 1 0 rfl rfl (by omega) (by decide) rfl dX2_reckon_107 ?_
        refine lv_iconst (v := nI 1) C.1.1 C.1.2.1 dX2_reckon_108 (by decide) ?_
        refine lv_iload C.1.1 C.1.2.1 dX2_reckon_109 (lv_at hl 1 rfl) ?_
        refine lv_ishl C.1.1 C.1.2.1 dX2_reckon_111 ?_
        refine ly_top (ly_shl (by omega)) ?_
        refine lv_ior C.1.1 C.1.2.1 dX2_reckon_112 ?_
        refine ly_top (fa_or (Up a) (2 ^ a)) ?_
        refine lv_istore (lv' := [(8, .int (nI ((Up a) ||| (2 ^ a)))), (2, .int (nI (if ly_all (ly_fB Up t) a && decide (t &&& Up a = 0) then 1 else 0))), (7, .int (nI a)), (5, .long (lN ((if t = 0 then 1 else 0) + fb_sm (ly_Et n Up t) a))), (4, .int (nI (if ly_all (ly_dB Up t) a then 1 else 0))), (3, .int (nI (if ly_all (ly_lB n Up t) a then 1 else 0))), (1, .int (nI t)), (0, .ref mo)]) C.1.1 C.1.2.1 dX2_reckon_113 hl (by decide) rfl (fun ls hl => ?_)
        refine lv_iconst (v := nI 0) C.1.1 C.1.2.1 dX2_reckon_115 (by decide) ?_
        refine lv_istore (lv' := [(9, .int (nI 0)), (8, .int (nI ((Up a) ||| (2 ^ a)))), (2, .int (nI (if ly_all (ly_fB Up t) a && decide (t &&& Up a = 0) then 1 else 0))), (7, .int (nI a)), (5, .long (lN ((if t = 0 then 1 else 0) + fb_sm (ly_Et n Up t) a))), (4, .int (nI (if ly_all (ly_dB Up t) a then 1 else 0))), (3, .int (nI (if ly_all (ly_lB n Up t) a then 1 else 0))), (1, .int (nI t)), (0, .ref mo)]) C.1.1 C.1.2.1 dX2_reckon_116 hl (by decide) rfl (fun ls hl => ?_)
        refine lp_reck3 C hn2 ht han hU hw (fun ls hl => ?_) n 0 ls (by omega) (lv_sub hl [0, 1, 3, 4, 5, 6, 2, 7, 8] rfl)
        refine sg_line C hn2 han ht hw (lv_sub hl [1, 5, 7, 8] rfl) ?_
        refine lv_istore_n (lv' := [(3, .int (nI (if ly_all (ly_lB n Up t) a && decide (ly_sd t (ly_rel Up t a n) = 0) then 1 else 0))), (9, .int (nI n)), (8, .int (nI (ly_rel Up t a n))), (7, .int (nI a)), (5, .long (lN ((if t = 0 then 1 else 0) + fb_sm (ly_Et n Up t) a))), (4, .int (nI (if ly_all (ly_dB Up t) a then 1 else 0))), (2, .int (nI (if ly_all (ly_fB Up t) a && decide (t &&& Up a = 0) then 1 else 0))), (1, .int (nI t)), (0, .ref mo)]) C.1.1 C.1.2.1 dX2_reckon_184 rfl hl (by decide) rfl (fun ls hl => ?_)
        refine sg_rows C hn2 han ht hw (lv_sub hl [3, 4, 5, 0, 6, 7, 8] rfl) (fun ls hl => ?_)
        refine lv_goto (tgt := 242) C.1.1 C.1.2.1 dX2_reckon_215 (by decide) ?_
        refine lv_iinc (v := nI (a + 1)) (lv' := [(7, .int (nI (a + 1))), (5, .long (lN (((if t = 0 then 1 else 0) + fb_sm (ly_Et n Up t) a) + (if t &&& Up a = 0 then Mw (ly_sd t (2 ^ a)) else 0)))), (4, .int (nI (if ly_all (ly_dB Up t) a then 1 else 0))), (3, .int (nI (if ly_all (ly_lB n Up t) a && decide (ly_sd t (ly_rel Up t a n) = 0) then 1 else 0))), (2, .int (nI (if ly_all (ly_fB Up t) a && decide (t &&& Up a = 0) then 1 else 0))), (1, .int (nI t)), (0, .ref mo)]) C.1.1 C.1.2.1 dX2_reckon_242 hl (k := 0) rfl (nI_add a 1) (by decide) rfl (fun ls hl => ?_)
        refine lv_goto (tgt := 61) C.1.1 C.1.2.1 dX2_reckon_245 (by decide) ?_
        refine ih (a + 1) ls (by omega) ?_
        rw [ly_all_succ, ly_all_succ, ly_all_succ, fb_sm_succ, ly_fB_t c76, ly_lB_t c76, ly_dB_t c76, ly_Et_t c76 (hM _ (ly_sd_lt c76 Nat.testBit_two_pow_self)), Bool.and_true, ← Nat.add_assoc]
        exact (lv_sub hl [0, 1, 2, 3, 4, 5, 6] rfl)
end
section
/-! LayersDeskModel: reckon and the five questions (rows printed by gen) -/
theorem ly_mx_le (p : Nat → Bool) : ∀ k, ly_mx p k ≤ 10
  | 0 => Nat.zero_le _
  | k + 1 => by
    rw [ly_mx]
    split
    · exact ly_pc_le k
    · exact ly_mx_le p k
theorem ly_R_bd {p : Nat → Bool} {s q : Nat} {Le : Nat → Nat} (h : ly_R p s q Le) (hs : s < 1024) : Le s ≤ 99 := by
  rcases h.2.2.1 with e | ⟨x, x0, xs, px, e⟩
  · omega
  · have h1 := ly_sd_lt0 x0 xs
    have := ly_M_le (by omega) (h.1 _ h1)
    omega
theorem ly_R_bd2 {p : Nat → Bool} {s q : Nat} {Le : Nat → Nat} (h : ly_R p s q Le) (hs : s < 1024) (h0 : q ≠ 0) : ly_sd s q < s ∧ Le (ly_sd s q) ≤ 10 := by
  have h1 := ly_sd_lt0 h0 h.2.1
  exact ⟨h1, ly_M_le (by omega) (h.1 _ h1)⟩
set_option maxHeartbeats 4000000 in
set_option maxRecDepth 100000 in
/-- the width so far -/
theorem sg_width {p : Program} {l : Launch} {e : Env} {R : Room} {s : State} {m : MethodId} {args : Array Value} {below : List Frame} {meth : Method} {c : Code} {Q : State → Prop} {dC : Nat → ClassId} {dI : Nat → Nat → Nat} {cI cJ cZ : ClassId} {A : Nat → Prop} {H : Heap} {locs : List Loc} {mo mu le ch mw : Nat} {n kn wi he cl : Nat} {Up Le Ch Mw : Nat → Nat} {cn : Nat} {ff : Bool} {ls : Array Slot} (C : ly_C p m meth c cX2_reckon 10 s args RX2 (dC, dI) (ly_tys cI cJ cZ) A) (hcn : cn < 2 ^ 31) (hpr : wi < 2 ^ 31) (hw : ly_w (dC, dI) A s.heap (ly_WM mo mu le ch mw cI cJ cZ n kn wi he cl Up Le Ch Mw) H locs) (hl : lv_has ls 10 [(7, .int (nI cn)), (2, .int (nI (if ff then 1 else 0))), (0, .ref mo)]) (kk : ∀ (H : Heap) (locs : List Loc), ly_w (dC, dI) A s.heap (ly_WM mo mu le ch mw cI cJ cZ n kn (if ff && decide (wi < cn) then cn else wi) he cl Up Le Ch Mw) H locs → W p l e R s m args below meth c H locs 0 0 Q (F0 m 288 ls [])) : W p l e R s m args below meth c H locs 0 0 Q (F0 m 269 ls []) := by
  refine lv_iload_n C.1.1 C.1.2.1 dX2_reckon_269 rfl (lv_at hl 1 rfl) ?_
  refine lv_if_eq (tgt := 288) C.1.1 C.1.2.1 dX2_reckon_270 (by decide) (fun c270 => ?_) (fun c270 => ?_)
  · have c := ly_bit0 c270
    rw [c] at kk
    exact kk H locs hw
  · have c := ly_bitn0 c270
    rw [c] at kk
    refine lv_iload C.1.1 C.1.2.1 dX2_reckon_273 (lv_at hl 0 rfl) ?_
    refine lv_aload_n C.1.1 C.1.2.1 dX2_reckon_275 rfl (lv_at hl 2 rfl) ?_
    refine ly_gf in_X2 C hw 0 rfl rfl 3 (by decide) q110 rfl dX2_reckon_276 ?_
    refine lv_icmp_le (tgt := 288) C.1.1 C.1.2.1 dX2_reckon_279 (by decide) (fun c279 => ?_) (fun c279 => ?_)
    · have d : ¬ wi < cn := fun q => absurd c279 (nI_ge q (by omega))
      rw [decide_eq_false d] at kk
      exact kk H locs hw
    · have d : wi < cn := by rcases Nat.lt_or_ge wi cn with q | q; exact q; exact absurd (nI_le q (by omega)) c279
      rw [decide_eq_true d] at kk
      refine lv_aload_n C.1.1 C.1.2.1 dX2_reckon_282 rfl (lv_at hl 2 rfl) ?_
      refine lv_iload C.1.1 C.1.2.1 dX2_reckon_283 (lv_at hl 0 rfl) ?_
      refine ly_pf in_X2 tyX2 tyX2_ok nmX2 C hw 0 rfl rfl 3 (by decide) q110 rfl rfl rfl (Nat.le_of_ble_eq_true rfl) dX2_reckon_285 (fun H locs hw => ?_)
      have hw : ly_w (dC, dI) A s.heap (ly_WM mo mu le ch mw cI cJ cZ n kn cn he cl Up Le Ch Mw) H locs := hw
      exact kk H locs hw
set_option maxHeartbeats 4000000 in
set_option maxRecDepth 100000 in
/-- the height so far -/
theorem sg_height {p : Program} {l : Launch} {e : Env} {R : Room} {s : State} {m : MethodId} {args : Array Value} {below : List Frame} {meth : Method} {c : Code} {Q : State → Prop} {dC : Nat → ClassId} {dI : Nat → Nat → Nat} {cI cJ cZ : ClassId} {A : Nat → Prop} {H : Heap} {locs : List Loc} {mo mu le ch mw : Nat} {n kn wi he cl : Nat} {Up Le Ch Mw : Nat → Nat} {cn : Nat} {ff : Bool} {ls : Array Slot} (C : ly_C p m meth c cX2_reckon 10 s args RX2 (dC, dI) (ly_tys cI cJ cZ) A) (hcn : cn < 2 ^ 31) (hpr : he < 2 ^ 31) (hw : ly_w (dC, dI) A s.heap (ly_WM mo mu le ch mw cI cJ cZ n kn wi he cl Up Le Ch Mw) H locs) (hl : lv_has ls 10 [(7, .int (nI cn)), (3, .int (nI (if ff then 1 else 0))), (0, .ref mo)]) (kk : ∀ (H : Heap) (locs : List Loc), ly_w (dC, dI) A s.heap (ly_WM mo mu le ch mw cI cJ cZ n kn wi (if ff && decide (he < cn) then cn else he) cl Up Le Ch Mw) H locs → W p l e R s m args below meth c H locs 0 0 Q (F0 m 307 ls [])) : W p l e R s m args below meth c H locs 0 0 Q (F0 m 288 ls []) := by
  refine lv_iload_n C.1.1 C.1.2.1 dX2_reckon_288 rfl (lv_at hl 1 rfl) ?_
  refine lv_if_eq (tgt := 307) C.1.1 C.1.2.1 dX2_reckon_289 (by decide) (fun c289 => ?_) (fun c289 => ?_)
  · have c := ly_bit0 c289
    rw [c] at kk
    exact kk H locs hw
  · have c := ly_bitn0 c289
    rw [c] at kk
    refine lv_iload C.1.1 C.1.2.1 dX2_reckon_292 (lv_at hl 0 rfl) ?_
    refine lv_aload_n C.1.1 C.1.2.1 dX2_reckon_294 rfl (lv_at hl 2 rfl) ?_
    refine ly_gf in_X2 C hw 0 rfl rfl 4 (by decide) q111 rfl dX2_reckon_295 ?_
    refine lv_icmp_le (tgt := 307) C.1.1 C.1.2.1 dX2_reckon_298 (by decide) (fun c298 => ?_) (fun c298 => ?_)
    · have d : ¬ he < cn := fun q => absurd c298 (nI_ge q (by omega))
      rw [decide_eq_false d] at kk
      exact kk H locs hw
    · have d : he < cn := by rcases Nat.lt_or_ge he cn with q | q; exact q; exact absurd (nI_le q (by omega)) c298
      rw [decide_eq_true d] at kk
      refine lv_aload_n C.1.1 C.1.2.1 dX2_reckon_301 rfl (lv_at hl 2 rfl) ?_
      refine lv_iload C.1.1 C.1.2.1 dX2_reckon_302 (lv_at hl 0 rfl) ?_
      refine ly_pf in_X2 tyX2 tyX2_ok nmX2 C hw 0 rfl rfl 4 (by decide) q111 rfl rfl rfl (Nat.le_of_ble_eq_true rfl) dX2_reckon_304 (fun H locs hw => ?_)
      have hw : ly_w (dC, dI) A s.heap (ly_WM mo mu le ch mw cI cJ cZ n kn wi cn cl Up Le Ch Mw) H locs := hw
      exact kk H locs hw
set_option maxHeartbeats 4000000 in
set_option maxRecDepth 100000 in
/-- the closed ones so far -/
theorem sg_closed {p : Program} {l : Launch} {e : Env} {R : Room} {s : State} {m : MethodId} {args : Array Value} {below : List Frame} {meth : Method} {c : Code} {Q : State → Prop} {dC : Nat → ClassId} {dI : Nat → Nat → Nat} {cI cJ cZ : ClassId} {A : Nat → Prop} {H : Heap} {locs : List Loc} {mo mu le ch mw : Nat} {n kn wi he cl : Nat} {Up Le Ch Mw : Nat → Nat} {ff : Bool} {ls : Array Slot} (C : ly_C p m meth c cX2_reckon 10 s args RX2 (dC, dI) (ly_tys cI cJ cZ) A) (hw : ly_w (dC, dI) A s.heap (ly_WM mo mu le ch mw cI cJ cZ n kn wi he cl Up Le Ch Mw) H locs) (hl : lv_has ls 10 [(4, .int (nI (if ff then 1 else 0))), (0, .ref mo)]) (kk : ∀ (H : Heap) (locs : List Loc), ly_w (dC, dI) A s.heap (ly_WM mo mu le ch mw cI cJ cZ n kn wi he (cl + (if ff then 1 else 0)) Up Le Ch Mw) H locs → W p l e R s m args below meth c H locs 0 0 Q (F0 m 322 ls [])) : W p l e R s m args below meth c H locs 0 0 Q (F0 m 307 ls []) := by
  refine lv_iload C.1.1 C.1.2.1 dX2_reckon_307 (lv_at hl 0 rfl) ?_
  refine lv_if_eq (tgt := 322) C.1.1 C.1.2.1 dX2_reckon_309 (by decide) (fun c309 => ?_) (fun c309 => ?_)
  · have c := ly_bit0 c309
    rw [c] at kk
    exact kk H locs hw
  · have c := ly_bitn0 c309
    rw [c] at kk
    refine lv_aload_n C.1.1 C.1.2.1 dX2_reckon_312 rfl (lv_at hl 1 rfl) ?_
    refine lv_aload_n C.1.1 C.1.2.1 dX2_reckon_313 rfl (lv_at hl 1 rfl) ?_
    refine ly_gf in_X2 C hw 0 rfl rfl 5 (by decide) q112 rfl dX2_reckon_314 ?_
    refine lv_iconst (v := nI 1) C.1.1 C.1.2.1 dX2_reckon_317 (by decide) ?_
    refine lv_iadd C.1.1 C.1.2.1 dX2_reckon_318 ?_
    refine ly_top (nI_add cl 1) ?_
    refine ly_pf in_X2 tyX2 tyX2_ok nmX2 C hw 0 rfl rfl 5 (by decide) q112 rfl rfl rfl (Nat.le_of_ble_eq_true rfl) dX2_reckon_319 (fun H locs hw => ?_)
    have hw : ly_w (dC, dI) A s.heap (ly_WM mo mu le ch mw cI cJ cZ n kn wi he (cl + 1) Up Le Ch Mw) H locs := hw
    exact kk H locs hw
set_option maxHeartbeats 4000000 in
set_option maxRecDepth 100000 in
/-- the loop over all sets -/
theorem lp_reck1 {p : Program} {l : Launch} {e : Env} {R : Room} {s : State} {m : MethodId} {args : Array Value} {below : List Frame} {meth : Method} {c : Code} {Q : State → Prop} {dC : Nat → ClassId} {dI : Nat → Nat → Nat} {cI cJ cZ : ClassId} {A : Nat → Prop} {mo mu le ch mw : Nat} {n : Nat} {Up Le : Nat → Nat} (C : ly_C p m meth c cX2_reckon 10 s args RX2 (dC, dI) (ly_tys cI cJ cZ) A) (hn2 : n ≤ 10) (hU : ∀ j, j < n → Up j < 1024) (hRf : 1 ≤ R.frames) (hRl : 22 ≤ R.locals) (kk : ∀ (Cf Mf : Nat → Nat) (H : Heap) (locs : List Loc) (ls : Array Slot), (∀ j, j < 2 ^ n → Cf j = (if ly_line n Up j then 1 else 0) ∧ Mf j = ly_E n Up j) → ly_w (dC, dI) A s.heap (ly_WM mo mu le ch mw cI cJ cZ n 1 (ly_mx (ly_free n Up) (2 ^ n)) (ly_mx (ly_line n Up) (2 ^ n)) (fb_ct (ly_down n Up) (2 ^ n)) Up Le Cf Mf) H locs → lv_has ls 10 [(0, .ref mo)] → W p l e R s m args below meth c H locs 0 0 Q (F0 m 328 ls [])) :
    ∀ (k t : Nat) (Cf Mf : Nat → Nat) (H : Heap) (locs : List Loc) (ls : Array Slot), t + k = 2 ^ n → (∀ j, j < t → Cf j = (if ly_line n Up j then 1 else 0) ∧ Mf j = ly_E n Up j) → ly_w (dC, dI) A s.heap (ly_WM mo mu le ch mw cI cJ cZ n 1 (ly_mx (ly_free n Up) t) (ly_mx (ly_line n Up) t) (fb_ct (ly_down n Up) t) Up Le Cf Mf) H locs → lv_has ls 10 [(1, .int (nI t)), (0, .ref mo)] → W p l e R s m args below meth c H locs 0 0 Q (F0 m 30 ls []) := by
  have hp := ly_p10 hn2
  intro k
  induction k with
  | zero =>
    intro t Cf Mf H locs ls hi hv hw hl
    have hi : t = 2 ^ n := hi
    refine lv_iload_n C.1.1 C.1.2.1 dX2_reckon_30 rfl (lv_at hl 0 rfl) ?_
    refine lv_iconst (v := nI 1) C.1.1 C.1.2.1 dX2_reckon_31 (by decide) ?_
    refine lv_aload_n C.1.1 C.1.2.1 dX2_reckon_32 rfl (lv_at hl 1 rfl) ?_
    refine ly_gf in_X2 C hw 0 rfl rfl 1 (by decide) q108 rfl dX2_reckon_33 ?_
    refine lv_ishl C.1.1 C.1.2.1 dX2_reckon_36 ?_
    refine ly_top (ly_shl (by omega)) ?_
    refine lv_icmp_ge (tgt := 328) C.1.1 C.1.2.1 dX2_reckon_37 (by decide) (fun c37 => ?_) (fun c37 => ?_)
    · rw [hi] at hv hw
      exact kk Cf Mf H locs ls hv hw (lv_sub hl [1] rfl)
    · exact absurd (nI_le (by omega) (by omega)) c37
  | succ k ih =>
    intro t Cf Mf H locs ls hi hv hw hl
    have htn : t < 2 ^ n := by omega
    refine lv_iload_n C.1.1 C.1.2.1 dX2_reckon_30 rfl (lv_at hl 0 rfl) ?_
    refine lv_iconst (v := nI 1) C.1.1 C.1.2.1 dX2_reckon_31 (by decide) ?_
    refine lv_aload_n C.1.1 C.1.2.1 dX2_reckon_32 rfl (lv_at hl 1 rfl) ?_
    refine ly_gf in_X2 C hw 0 rfl rfl 1 (by decide) q108 rfl dX2_reckon_33 ?_
    refine lv_ishl C.1.1 C.1.2.1 dX2_reckon_36 ?_
    refine ly_top (ly_shl (by omega)) ?_
    refine lv_icmp_ge (tgt := 328) C.1.1 C.1.2.1 dX2_reckon_37 (by decide) (fun c37 => ?_) (fun c37 => ?_)
    · exact absurd c37 (nI_ge (by omega) (by omega))
    · skip
      refine lv_iconst (v := nI 1) C.1.1 C.1.2.1 dX2_reckon_40 (by decide) ?_
      refine lv_istore_n (lv' := [(2, .int (nI 1)), (1, .int (nI t)), (0, .ref mo)]) C.1.1 C.1.2.1 dX2_reckon_41 rfl hl (by decide) rfl (fun ls hl => ?_)
      refine lv_iconst (v := nI 1) C.1.1 C.1.2.1 dX2_reckon_42 (by decide) ?_
      refine lv_istore_n (lv' := [(3, .int (nI 1)), (2, .int (nI 1)), (1, .int (nI t)), (0, .ref mo)]) C.1.1 C.1.2.1 dX2_reckon_43 rfl hl (by decide) rfl (fun ls hl => ?_)
      refine lv_iconst (v := nI 1) C.1.1 C.1.2.1 dX2_reckon_44 (by decide) ?_
      refine lv_istore (lv' := [(4, .int (nI 1)), (3, .int (nI 1)), (2, .int (nI 1)), (1, .int (nI t)), (0, .ref mo)]) C.1.1 C.1.2.1 dX2_reckon_45 hl (by decide) rfl (fun ls hl => ?_)
      have km : ∀ ls : Array Slot, lv_has ls 10 [(7, .int (nI 0)), (5, .long (lN (if t = 0 then 1 else 0))), (4, .int (nI 1)), (3, .int (nI 1)), (2, .int (nI 1)), (1, .int (nI t)), (0, .ref mo)] → W p l e R s m args below meth c H locs 0 0 Q (F0 m 61 ls []) := by
        intro ls hl
        refine lp_reck2 C hn2 (by omega) hU (fun j hj => (hv j hj).2) hw (fun ls hl => ?_) n 0 ls (by omega) hl
        refine lv_aload_n C.1.1 C.1.2.1 dX2_reckon_248 rfl (lv_at hl 6 rfl) ?_
        refine ly_gf in_X2 C hw 0 rfl rfl 8 (by decide) q115 rfl dX2_reckon_249 ?_
        refine lv_iload_n C.1.1 C.1.2.1 dX2_reckon_252 rfl (lv_at hl 5 rfl) ?_
        refine lv_lload C.1.1 C.1.2.1 dX2_reckon_253 (lv_at hl 1 rfl) ?_
        refine ly_lastN C hw 4 1 rfl rfl (by omega) (by decide) dX2_reckon_255 (fun H locs hw => ?_)
        have hw : ly_w (dC, dI) A s.heap (ly_WM mo mu le ch mw cI cJ cZ n 1 (ly_mx (ly_free n Up) t) (ly_mx (ly_line n Up) t) (fb_ct (ly_down n Up) t) Up Le Cf (ly_u Mf t ((if t = 0 then 1 else 0) + fb_sm (ly_Et n Up t) n))) H locs := hw
        refine lv_aload_n C.1.1 C.1.2.1 dX2_reckon_256 rfl (lv_at hl 6 rfl) ?_
        refine ly_gf in_X2 C hw 0 rfl rfl 7 (by decide) q114 rfl dX2_reckon_257 ?_
        refine lv_iload_n C.1.1 C.1.2.1 dX2_reckon_260 rfl (lv_at hl 5 rfl) ?_
        refine lv_iload_n C.1.1 C.1.2.1 dX2_reckon_261 rfl (lv_at hl 3 rfl) ?_
        refine ly_zastN C hw 3 2 rfl rfl (by omega) (by decide) dX2_reckon_262 (fun H locs hw => ?_)
        have hw : ly_w (dC, dI) A s.heap (ly_WM mo mu le ch mw cI cJ cZ n 1 (ly_mx (ly_free n Up) t) (ly_mx (ly_line n Up) t) (fb_ct (ly_down n Up) t) Up Le (ly_u Cf t (if ly_all (ly_lB n Up t) n then 1 else 0)) (ly_u Mf t ((if t = 0 then 1 else 0) + fb_sm (ly_Et n Up t) n))) H locs := hw
        refine lv_iload_n C.1.1 C.1.2.1 dX2_reckon_263 rfl (lv_at hl 5 rfl) ?_
        refine ly_calls (wr := []) (rest := []) (mt_mcount l (x := t) (by omega)) C (va_cwS 1 C.1.2.2.2.2 (lw_S q161 q162 q8 q163) rfl rfl rfl (by decide +kernel) ⟨hRf, hRl⟩) hw [0, 1, 2, 3, 4] [] rfl rfl (by decide) (by decide) (by decide) rfl hl.1 (Nat.le_of_ble_eq_true rfl) dX2_reckon_264 (Nat.zero_le _) (Nat.zero_le _) (fun r u H locs hq hw => ?_)
        subst hq
        refine lv_istore (lv' := [(7, .int (nI (ly_pc t))), (5, .long (lN ((if t = 0 then 1 else 0) + fb_sm (ly_Et n Up t) n))), (4, .int (nI (if ly_all (ly_dB Up t) n then 1 else 0))), (3, .int (nI (if ly_all (ly_lB n Up t) n then 1 else 0))), (2, .int (nI (if ly_all (ly_fB Up t) n then 1 else 0))), (1, .int (nI t)), (0, .ref mo)]) C.1.1 C.1.2.1 dX2_reckon_267 hl (by decide) rfl (fun ls hl => ?_)
        have hpc := ly_pc_le t
        refine sg_width C (by omega) (Nat.lt_of_le_of_lt (ly_mx_le _ _) (by decide)) hw (lv_sub hl [0, 4, 6] rfl) (fun H locs hw => ?_)
        refine sg_height C (by omega) (Nat.lt_of_le_of_lt (ly_mx_le _ _) (by decide)) hw (lv_sub hl [0, 3, 6] rfl) (fun H locs hw => ?_)
        refine sg_closed C hw (lv_sub hl [2, 6] rfl) (fun H locs hw => ?_)
        refine lv_iinc (v := nI (t + 1)) (lv' := [(1, .int (nI (t + 1))), (7, .int (nI (ly_pc t))), (5, .long (lN ((if t = 0 then 1 else 0) + fb_sm (ly_Et n Up t) n))), (4, .int (nI (if ly_all (ly_dB Up t) n then 1 else 0))), (3, .int (nI (if ly_all (ly_lB n Up t) n then 1 else 0))), (2, .int (nI (if ly_all (ly_fB Up t) n then 1 else 0))), (0, .ref mo)]) C.1.1 C.1.2.1 dX2_reckon_322 hl (k := 5) rfl (nI_add t 1) (by decide) rfl (fun ls hl => ?_)
        refine lv_goto (tgt := 30) C.1.1 C.1.2.1 dX2_reckon_325 (by decide) ?_
        refine ih (t + 1) (ly_u Cf t (if ly_all (ly_lB n Up t) n then 1 else 0)) (ly_u Mf t ((if t = 0 then 1 else 0) + fb_sm (ly_Et n Up t) n)) H locs ls (by omega) (fun j hj => ?_) hw (lv_sub hl [0, 6] rfl)
        rcases Nat.lt_or_eq_of_le (Nat.le_of_lt_succ hj) with q | q
        · rw [ly_un (by omega), ly_un (by omega)]; exact hv j q
        · rw [q, ly_us, ly_us]; exact ⟨rfl, (ly_E_eq n Up t).symm⟩
      refine lv_iload_n C.1.1 C.1.2.1 dX2_reckon_47 rfl (lv_at hl 3 rfl) ?_
      refine lv_if_ne (tgt := 55) C.1.1 C.1.2.1 dX2_reckon_48 (by decide) (fun c48 => ?_) (fun c48 => ?_)
      · have d : ¬ t = 0 := fun q => c48 (by rw [q]; rfl)
        refine lv_lconst (v := lN 0) C.1.1 C.1.2.1 dX2_reckon_55 (by decide) ?_
        refine ly_topl (show lN 0 = lN (if t = 0 then 1 else 0) by rw [if_neg d]) ?_
        refine lv_lstore (lv' := [(5, .long (lN (if t = 0 then 1 else 0))), (4, .int (nI 1)), (3, .int (nI 1)), (2, .int (nI 1)), (1, .int (nI t)), (0, .ref mo)]) C.1.1 C.1.2.1 dX2_reckon_56 hl (by decide) rfl (fun ls hl => ?_)
        refine lv_iconst (v := nI 0) C.1.1 C.1.2.1 dX2_reckon_58 (by decide) ?_
        refine lv_istore (lv' := [(7, .int (nI 0)), (5, .long (lN (if t = 0 then 1 else 0))), (4, .int (nI 1)), (3, .int (nI 1)), (2, .int (nI 1)), (1, .int (nI t)), (0, .ref mo)]) C.1.1 C.1.2.1 dX2_reckon_59 hl (by decide) rfl (fun ls hl => ?_)
        exact km ls (lv_sub hl [0, 1, 2, 3, 4, 5, 6] rfl)
      · have d : t = 0 := (ly_eq0 (by omega)).mp c48
        refine lv_lconst (v := lN 1) C.1.1 C.1.2.1 dX2_reckon_51 (by decide) ?_
        refine lv_goto (tgt := 56) C.1.1 C.1.2.1 dX2_reckon_52 (by decide) ?_
        refine ly_topl (show lN 1 = lN (if t = 0 then 1 else 0) by rw [if_pos d]) ?_
        refine lv_lstore (lv' := [(5, .long (lN (if t = 0 then 1 else 0))), (4, .int (nI 1)), (3, .int (nI 1)), (2, .int (nI 1)), (1, .int (nI t)), (0, .ref mo)]) C.1.1 C.1.2.1 dX2_reckon_56 hl (by decide) rfl (fun ls hl => ?_)
        refine lv_iconst (v := nI 0) C.1.1 C.1.2.1 dX2_reckon_58 (by decide) ?_
        refine lv_istore (lv' := [(7, .int (nI 0)), (5, .long (lN (if t = 0 then 1 else 0))), (4, .int (nI 1)), (3, .int (nI 1)), (2, .int (nI 1)), (1, .int (nI t)), (0, .ref mo)]) C.1.1 C.1.2.1 dX2_reckon_59 hl (by decide) rfl (fun ls hl => ?_)
        exact km ls (lv_sub hl [0, 1, 2, 3, 4, 5, 6] rfl)
set_option maxHeartbeats 4000000 in
set_option maxRecDepth 100000 in
/-- the loop over the parts of a set -/
theorem lp_reck5 {p : Program} {l : Launch} {e : Env} {R : Room} {s : State} {m : MethodId} {args : Array Value} {below : List Frame} {meth : Method} {c : Code} {Q : State → Prop} {dC : Nat → ClassId} {dI : Nat → Nat → Nat} {cI cJ cZ : ClassId} {A : Nat → Prop} {mo mu le ch mw : Nat} {n kn wi he cl : Nat} {Up Ch Mw : Nat → Nat} {t : Nat} (C : ly_C p m meth c cX2_reckon 10 s args RX2 (dC, dI) (ly_tys cI cJ cZ) A) (hn2 : n ≤ 10) (hCh : ∀ j, j < 2 ^ n → Ch j = (if ly_line n Up j then 1 else 0)) (ht : t < 2 ^ n) (kk : ∀ (Lf : Nat → Nat) (H : Heap) (locs : List Loc) (ls : Array Slot), ly_R (ly_line n Up) t 0 Lf → ly_w (dC, dI) A s.heap (ly_WM mo mu le ch mw cI cJ cZ n kn wi he cl Up Lf Ch Mw) H locs → lv_has ls 10 [(1, .int (nI t)), (0, .ref mo)] → W p l e R s m args below meth c H locs 0 0 Q (F0 m 418 ls [])) :
    ∀ (k q : Nat) (Lf : Nat → Nat) (H : Heap) (locs : List Loc) (ls : Array Slot), q ≤ k → ly_R (ly_line n Up) t q Lf → ly_w (dC, dI) A s.heap (ly_WM mo mu le ch mw cI cJ cZ n kn wi he cl Up Lf Ch Mw) H locs → lv_has ls 10 [(2, .int (nI q)), (1, .int (nI t)), (0, .ref mo)] → W p l e R s m args below meth c H locs 0 0 Q (F0 m 357 ls []) := by
  have hp := ly_p10 hn2
  intro k
  induction k with
  | zero =>
    intro q Lf H locs ls hk hv hw hl
    have hk : q = 0 := by omega
    subst hk
    refine lv_iload_n C.1.1 C.1.2.1 dX2_reckon_357 rfl (lv_at hl 0 rfl) ?_
    refine lv_if_le (tgt := 418) C.1.1 C.1.2.1 dX2_reckon_358 (by decide) (fun c358 => ?_) (fun c358 => ?_)
    · exact kk Lf H locs ls hv hw (lv_sub hl [1, 2] rfl)
    · exact absurd (by decide) c358
  | succ k ih =>
    intro q Lf H locs ls hk hv hw hl
    have hqt := ly_sub_le hv.2.1
    refine lv_iload_n C.1.1 C.1.2.1 dX2_reckon_357 rfl (lv_at hl 0 rfl) ?_
    refine lv_if_le (tgt := 418) C.1.1 C.1.2.1 dX2_reckon_358 (by decide) (fun c358 => ?_) (fun c358 => ?_)
    · have d : q = 0 := by rcases Nat.eq_zero_or_pos q with z | z; exact z; exact absurd c358 (nI_nle z (by omega))
      subst d
      exact kk Lf H locs ls hv hw (lv_sub hl [1, 2] rfl)
    · have d : q ≠ 0 := fun z => c358 (by rw [z]; decide)
      obtain ⟨hb1, hb2⟩ := ly_R_bd2 hv (by omega) d
      have hb3 := ly_R_bd hv (by omega)
      have hle : (q - 1) &&& t ≤ q - 1 := Nat.and_le_left
      refine lv_aload_n C.1.1 C.1.2.1 dX2_reckon_361 rfl (lv_at hl 2 rfl) ?_
      refine ly_gf in_X2 C hw 0 rfl rfl 7 (by decide) q114 rfl dX2_reckon_362 ?_
      refine lv_iload_n C.1.1 C.1.2.1 dX2_reckon_365 rfl (lv_at hl 0 rfl) ?_
      refine ly_zald C hw 3 2 rfl rfl (by omega) (by decide) rfl dX2_reckon_366 ?_
      refine ly_top (show nI (Ch q) = nI (if ly_line n Up q then 1 else 0) by rw [hCh q (by omega)]) ?_
      refine lv_if_eq (tgt := 409) C.1.1 C.1.2.1 dX2_reckon_367 (by decide) (fun c367 => ?_) (fun c367 => ?_)
      · have c := ly_bit0 c367
        refine lv_iload_n C.1.1 C.1.2.1 dX2_reckon_409 rfl (lv_at hl 0 rfl) ?_
        refine lv_iconst (v := nI 1) C.1.1 C.1.2.1 dX2_reckon_410 (by decide) ?_
        refine lv_isub C.1.1 C.1.2.1 dX2_reckon_411 ?_
        refine ly_top (ly_sub (by omega)) ?_
        refine lv_iload_n C.1.1 C.1.2.1 dX2_reckon_412 rfl (lv_at hl 1 rfl) ?_
        refine lv_iand C.1.1 C.1.2.1 dX2_reckon_413 ?_
        refine ly_top (fa_and (q - 1) t) ?_
        refine lv_istore_n (lv' := [(2, .int (nI ((q - 1) &&& t))), (1, .int (nI t)), (0, .ref mo)]) C.1.1 C.1.2.1 dX2_reckon_414 rfl hl (by decide) rfl (fun ls hl => ?_)
        refine lv_goto (tgt := 357) C.1.1 C.1.2.1 dX2_reckon_415 (by decide) ?_
        exact ih _ _ H locs ls (by omega) (ly_R_next hv d (fun z => by rw [c] at z; exact absurd z (by decide))) hw (lv_sub hl [0, 1, 2] rfl)
      · have c := ly_bitn0 c367
        refine lv_aload_n C.1.1 C.1.2.1 dX2_reckon_370 rfl (lv_at hl 2 rfl) ?_
        refine ly_gf in_X2 C hw 0 rfl rfl 6 (by decide) q113 rfl dX2_reckon_371 ?_
        refine lv_iload_n C.1.1 C.1.2.1 dX2_reckon_374 rfl (lv_at hl 1 rfl) ?_
        refine lv_iload_n C.1.1 C.1.2.1 dX2_reckon_375 rfl (lv_at hl 0 rfl) ?_
        refine lv_iconst (v := -1) C.1.1 C.1.2.1 dX2_reckon_376 (by decide) ?_
        refine lv_ixor C.1.1 C.1.2.1 dX2_reckon_377 ?_
        refine lv_iand C.1.1 C.1.2.1 dX2_reckon_378 ?_
        refine ly_top (ly_not (Nat.lt_trans (show _ < 2 ^ 31 from (by omega)) (by decide))) ?_
        refine ly_iald C hw 2 0 rfl rfl (by omega) (by decide) rfl dX2_reckon_379 ?_
        refine lv_iconst (v := nI 1) C.1.1 C.1.2.1 dX2_reckon_380 (by decide) ?_
        refine lv_iadd C.1.1 C.1.2.1 dX2_reckon_381 ?_
        refine ly_top (nI_add (Lf (ly_sd t q)) 1) ?_
        refine lv_aload_n C.1.1 C.1.2.1 dX2_reckon_382 rfl (lv_at hl 2 rfl) ?_
        refine ly_gf in_X2 C hw 0 rfl rfl 6 (by decide) q113 rfl dX2_reckon_383 ?_
        refine lv_iload_n C.1.1 C.1.2.1 dX2_reckon_386 rfl (lv_at hl 1 rfl) ?_
        refine ly_iald C hw 2 0 rfl rfl (by omega) (by decide) rfl dX2_reckon_387 ?_
        refine lv_icmp_ge (tgt := 409) C.1.1 C.1.2.1 dX2_reckon_388 (by decide) (fun c388 => ?_) (fun c388 => ?_)
        · have z : Lf t ≤ Lf (ly_sd t q) + 1 := by rcases Nat.lt_or_ge (Lf (ly_sd t q) + 1) (Lf t) with z | z; exact absurd c388 (nI_ge z (by omega)); exact z
          refine lv_iload_n C.1.1 C.1.2.1 dX2_reckon_409 rfl (lv_at hl 0 rfl) ?_
          refine lv_iconst (v := nI 1) C.1.1 C.1.2.1 dX2_reckon_410 (by decide) ?_
          refine lv_isub C.1.1 C.1.2.1 dX2_reckon_411 ?_
          refine ly_top (ly_sub (by omega)) ?_
          refine lv_iload_n C.1.1 C.1.2.1 dX2_reckon_412 rfl (lv_at hl 1 rfl) ?_
          refine lv_iand C.1.1 C.1.2.1 dX2_reckon_413 ?_
          refine ly_top (fa_and (q - 1) t) ?_
          refine lv_istore_n (lv' := [(2, .int (nI ((q - 1) &&& t))), (1, .int (nI t)), (0, .ref mo)]) C.1.1 C.1.2.1 dX2_reckon_414 rfl hl (by decide) rfl (fun ls hl => ?_)
          refine lv_goto (tgt := 357) C.1.1 C.1.2.1 dX2_reckon_415 (by decide) ?_
          exact ih _ _ H locs ls (by omega) (ly_R_next hv d (fun _ => z)) hw (lv_sub hl [0, 1, 2] rfl)
        · have z : Lf (ly_sd t q) + 1 < Lf t := by rcases Nat.lt_or_ge (Lf (ly_sd t q) + 1) (Lf t) with z | z; exact z; exact absurd (nI_le z (by omega)) c388
          refine lv_aload_n C.1.1 C.1.2.1 dX2_reckon_391 rfl (lv_at hl 2 rfl) ?_
          refine ly_gf in_X2 C hw 0 rfl rfl 6 (by decide) q113 rfl dX2_reckon_392 ?_
          refine lv_iload_n C.1.1 C.1.2.1 dX2_reckon_395 rfl (lv_at hl 1 rfl) ?_
          refine lv_aload_n C.1.1 C.1.2.1 dX2_reckon_396 rfl (lv_at hl 2 rfl) ?_
          refine ly_gf in_X2 C hw 0 rfl rfl 6 (by decide) q113 rfl dX2_reckon_397 ?_
          refine lv_iload_n C.1.1 C.1.2.1 dX2_reckon_400 rfl (lv_at hl 1 rfl) ?_
          refine lv_iload_n C.1.1 C.1.2.1 dX2_reckon_401 rfl (lv_at hl 0 rfl) ?_
          refine lv_iconst (v := -1) C.1.1 C.1.2.1 dX2_reckon_402 (by decide) ?_
          refine lv_ixor C.1.1 C.1.2.1 dX2_reckon_403 ?_
          refine lv_iand C.1.1 C.1.2.1 dX2_reckon_404 ?_
          refine ly_top (ly_not (Nat.lt_trans (show _ < 2 ^ 31 from (by omega)) (by decide))) ?_
          refine ly_iald C hw 2 0 rfl rfl (by omega) (by decide) rfl dX2_reckon_405 ?_
          refine lv_iconst (v := nI 1) C.1.1 C.1.2.1 dX2_reckon_406 (by decide) ?_
          refine lv_iadd C.1.1 C.1.2.1 dX2_reckon_407 ?_
          refine ly_top (nI_add (Lf (ly_sd t q)) 1) ?_
          refine ly_iastN C hw 2 0 rfl rfl (by omega) (by decide) dX2_reckon_408 (fun H locs hw => ?_)
          have hw : ly_w (dC, dI) A s.heap (ly_WM mo mu le ch mw cI cJ cZ n kn wi he cl Up (ly_u Lf t ((Lf (ly_sd t q)) + 1)) Ch Mw) H locs := hw
          refine lv_iload_n C.1.1 C.1.2.1 dX2_reckon_409 rfl (lv_at hl 0 rfl) ?_
          refine lv_iconst (v := nI 1) C.1.1 C.1.2.1 dX2_reckon_410 (by decide) ?_
          refine lv_isub C.1.1 C.1.2.1 dX2_reckon_411 ?_
          refine ly_top (ly_sub (by omega)) ?_
          refine lv_iload_n C.1.1 C.1.2.1 dX2_reckon_412 rfl (lv_at hl 1 rfl) ?_
          refine lv_iand C.1.1 C.1.2.1 dX2_reckon_413 ?_
          refine ly_top (fa_and (q - 1) t) ?_
          refine lv_istore_n (lv' := [(2, .int (nI ((q - 1) &&& t))), (1, .int (nI t)), (0, .ref mo)]) C.1.1 C.1.2.1 dX2_reckon_414 rfl hl (by decide) rfl (fun ls hl => ?_)
          refine lv_goto (tgt := 357) C.1.1 C.1.2.1 dX2_reckon_415 (by decide) ?_
          exact ih _ _ H locs ls (by omega) (ly_R_take hv d c z) hw (lv_sub hl [0, 1, 2] rfl)
set_option maxHeartbeats 4000000 in
set_option maxRecDepth 100000 in
/-- the loop of the least covers -/
theorem lp_reck4 {p : Program} {l : Launch} {e : Env} {R : Room} {s : State} {m : MethodId} {args : Array Value} {below : List Frame} {meth : Method} {c : Code} {Q : State → Prop} {dC : Nat → ClassId} {dI : Nat → Nat → Nat} {cI cJ cZ : ClassId} {A : Nat → Prop} {mo mu le ch mw : Nat} {n kn wi he cl : Nat} {Up Ch Mw : Nat → Nat} (C : ly_C p m meth c cX2_reckon 10 s args RX2 (dC, dI) (ly_tys cI cJ cZ) A) (hn2 : n ≤ 10) (hCh : ∀ j, j < 2 ^ n → Ch j = (if ly_line n Up j then 1 else 0)) (hone : ∀ i, i < 10 → ly_line n Up (2 ^ i) = true) (kk : ∀ (Lf : Nat → Nat) (H : Heap) (locs : List Loc) (ls : Array Slot), (∀ j, j < 2 ^ n → ly_M (ly_line n Up) j (Lf j)) → ly_w (dC, dI) A s.heap (ly_WM mo mu le ch mw cI cJ cZ n kn wi he cl Up Lf Ch Mw) H locs → W p l e R s m args below meth c H locs 0 0 Q (F0 m 424 ls [])) :
    ∀ (k t : Nat) (Lf : Nat → Nat) (H : Heap) (locs : List Loc) (ls : Array Slot), t + k = 2 ^ n → 0 < t → (∀ j, j < t → ly_M (ly_line n Up) j (Lf j)) → ly_w (dC, dI) A s.heap (ly_WM mo mu le ch mw cI cJ cZ n kn wi he cl Up Lf Ch Mw) H locs → lv_has ls 10 [(1, .int (nI t)), (0, .ref mo)] → W p l e R s m args below meth c H locs 0 0 Q (F0 m 337 ls []) := by
  have hp := ly_p10 hn2
  intro k
  induction k with
  | zero =>
    intro t Lf H locs ls hi h0 hv hw hl
    have hi : t = 2 ^ n := hi
    refine lv_iload_n C.1.1 C.1.2.1 dX2_reckon_337 rfl (lv_at hl 0 rfl) ?_
    refine lv_iconst (v := nI 1) C.1.1 C.1.2.1 dX2_reckon_338 (by decide) ?_
    refine lv_aload_n C.1.1 C.1.2.1 dX2_reckon_339 rfl (lv_at hl 1 rfl) ?_
    refine ly_gf in_X2 C hw 0 rfl rfl 1 (by decide) q108 rfl dX2_reckon_340 ?_
    refine lv_ishl C.1.1 C.1.2.1 dX2_reckon_343 ?_
    refine ly_top (ly_shl (by omega)) ?_
    refine lv_icmp_ge (tgt := 424) C.1.1 C.1.2.1 dX2_reckon_344 (by decide) (fun c344 => ?_) (fun c344 => ?_)
    · exact kk Lf H locs ls (fun j hj => hv j (by omega)) hw
    · exact absurd (nI_le (by omega) (by omega)) c344
  | succ k ih =>
    intro t Lf H locs ls hi h0 hv hw hl
    have htn : t < 2 ^ n := by omega
    refine lv_iload_n C.1.1 C.1.2.1 dX2_reckon_337 rfl (lv_at hl 0 rfl) ?_
    refine lv_iconst (v := nI 1) C.1.1 C.1.2.1 dX2_reckon_338 (by decide) ?_
    refine lv_aload_n C.1.1 C.1.2.1 dX2_reckon_339 rfl (lv_at hl 1 rfl) ?_
    refine ly_gf in_X2 C hw 0 rfl rfl 1 (by decide) q108 rfl dX2_reckon_340 ?_
    refine lv_ishl C.1.1 C.1.2.1 dX2_reckon_343 ?_
    refine ly_top (ly_shl (by omega)) ?_
    refine lv_icmp_ge (tgt := 424) C.1.1 C.1.2.1 dX2_reckon_344 (by decide) (fun c344 => ?_) (fun c344 => ?_)
    · exact absurd c344 (nI_ge (by omega) (by omega))
    · skip
      refine lv_aload_n C.1.1 C.1.2.1 dX2_reckon_347 rfl (lv_at hl 1 rfl) ?_
      refine ly_gf in_X2 C hw 0 rfl rfl 6 (by decide) q113 rfl dX2_reckon_348 ?_
      refine lv_iload_n C.1.1 C.1.2.1 dX2_reckon_351 rfl (lv_at hl 0 rfl) ?_
      refine lv_bipush (v := nI 99) C.1.1 C.1.2.1 dX2_reckon_352 (by decide) ?_
      refine ly_iastN C hw 2 0 rfl rfl (by omega) (by decide) dX2_reckon_354 (fun H locs hw => ?_)
      have hw : ly_w (dC, dI) A s.heap (ly_WM mo mu le ch mw cI cJ cZ n kn wi he cl Up (ly_u Lf t 99) Ch Mw) H locs := hw
      refine lv_iload_n C.1.1 C.1.2.1 dX2_reckon_355 rfl (lv_at hl 0 rfl) ?_
      refine lv_istore_n (lv' := [(2, .int (nI t)), (1, .int (nI t)), (0, .ref mo)]) C.1.1 C.1.2.1 dX2_reckon_356 rfl hl (by decide) rfl (fun ls hl => ?_)
      refine lp_reck5 C hn2 hCh htn (fun Lf H locs ls hv hw hl => ?_) t t _ H locs ls (Nat.le_refl _) (ly_R_start hv) hw (lv_sub hl [0, 1, 2] rfl)
      refine lv_iinc (v := nI (t + 1)) (lv' := [(1, .int (nI (t + 1))), (0, .ref mo)]) C.1.1 C.1.2.1 dX2_reckon_418 hl (k := 0) rfl (nI_add t 1) (by decide) rfl (fun ls hl => ?_)
      refine lv_goto (tgt := 337) C.1.1 C.1.2.1 dX2_reckon_421 (by decide) ?_
      exact ih (t + 1) Lf H locs ls (by omega) (by omega) (ly_R_end h0 (by omega) hone hv) hw (lv_sub hl [0, 1] rfl)
set_option maxHeartbeats 4000000 in
set_option maxRecDepth 100000 in
/-- reckon() -/
theorem mt_reckon (l : Launch) {dC : Nat → ClassId} {dI : Nat → Nat → Nat} {cI cJ cZ : ClassId} {mo mu le ch mw : Nat} {n kn wi he cl : Nat} {Up Le Ch Mw : Nat → Nat} (hn2 : n ≤ 10) (hU : ∀ j, j < n → Up j < 1024) (hone : ∀ i, i < 10 → ly_line n Up (2 ^ i) = true) (hk : kn = 0 ∨ kn = 1 ∧ ly_kn n Up wi he cl Le Mw) : ly_Mv (S := Nat × Nat × Nat × (Nat → Nat) × (Nat → Nat) × (Nat → Nat)) l yX2_reckon (ws_ yX2_reckon cX2_reckon 10 (none)) ({ frames := 1, cells := 0, slots := 0, locals := 22 } : Room) [.ref mo] (dC, dI) (ly_tys cI cJ cZ) (ly_WM mo mu le ch mw cI cJ cZ n kn wi he cl Up Le Ch Mw) (fun u => ly_kn n Up u.1 u.2.1 u.2.2.1 u.2.2.2.1 u.2.2.2.2.2) (fun u => (ly_WM mo mu le ch mw cI cJ cZ n 1 (u.1) (u.2.1) (u.2.2.1) Up (u.2.2.2.1) (u.2.2.2.2.1) (u.2.2.2.2.2))) := by
  refine ly_ofv (by decide) (Nat.le_of_ble_eq_true rfl) ?_
  intro p e s m below meth c A ls C hr hw hl
  have C : ly_C p m meth c cX2_reckon 10 s _ RX2 (dC, dI) (ly_tys cI cJ cZ) A := C
  have hl : lv_has ls 10 [(0, .ref mo)] := hl
  have hp := ly_p10 hn2
  have hp0 := Nat.two_pow_pos n
  refine lv_aload_n C.1.1 C.1.2.1 dX2_reckon_0 rfl (lv_at hl 0 rfl) ?_
  refine ly_gf in_X2 C hw 0 rfl rfl 2 (by decide) q109 rfl dX2_reckon_1 ?_
  refine lv_if_eq (tgt := 8) C.1.1 C.1.2.1 dX2_reckon_4 (by decide) (fun c4 => ?_) (fun c4 => ?_)
  · skip
    refine lv_aload_n C.1.1 C.1.2.1 dX2_reckon_8 rfl (lv_at hl 0 rfl) ?_
    refine lv_iconst (v := nI 1) C.1.1 C.1.2.1 dX2_reckon_9 (by decide) ?_
    refine ly_pf in_X2 tyX2 tyX2_ok nmX2 C hw 0 rfl rfl 2 (by decide) q109 rfl rfl rfl (Nat.le_of_ble_eq_true rfl) dX2_reckon_10 (fun H locs hw => ?_)
    have hw : ly_w (dC, dI) A s.heap (ly_WM mo mu le ch mw cI cJ cZ n 1 wi he cl Up Le Ch Mw) H locs := hw
    refine lv_aload_n C.1.1 C.1.2.1 dX2_reckon_13 rfl (lv_at hl 0 rfl) ?_
    refine lv_iconst (v := nI 0) C.1.1 C.1.2.1 dX2_reckon_14 (by decide) ?_
    refine ly_pf in_X2 tyX2 tyX2_ok nmX2 C hw 0 rfl rfl 3 (by decide) q110 rfl rfl rfl (Nat.le_of_ble_eq_true rfl) dX2_reckon_15 (fun H locs hw => ?_)
    have hw : ly_w (dC, dI) A s.heap (ly_WM mo mu le ch mw cI cJ cZ n 1 0 he cl Up Le Ch Mw) H locs := hw
    refine lv_aload_n C.1.1 C.1.2.1 dX2_reckon_18 rfl (lv_at hl 0 rfl) ?_
    refine lv_iconst (v := nI 0) C.1.1 C.1.2.1 dX2_reckon_19 (by decide) ?_
    refine ly_pf in_X2 tyX2 tyX2_ok nmX2 C hw 0 rfl rfl 4 (by decide) q111 rfl rfl rfl (Nat.le_of_ble_eq_true rfl) dX2_reckon_20 (fun H locs hw => ?_)
    have hw : ly_w (dC, dI) A s.heap (ly_WM mo mu le ch mw cI cJ cZ n 1 0 0 cl Up Le Ch Mw) H locs := hw
    refine lv_aload_n C.1.1 C.1.2.1 dX2_reckon_23 rfl (lv_at hl 0 rfl) ?_
    refine lv_iconst (v := nI 0) C.1.1 C.1.2.1 dX2_reckon_24 (by decide) ?_
    refine ly_pf in_X2 tyX2 tyX2_ok nmX2 C hw 0 rfl rfl 5 (by decide) q112 rfl rfl rfl (Nat.le_of_ble_eq_true rfl) dX2_reckon_25 (fun H locs hw => ?_)
    have hw : ly_w (dC, dI) A s.heap (ly_WM mo mu le ch mw cI cJ cZ n 1 0 0 0 Up Le Ch Mw) H locs := hw
    refine lv_iconst (v := nI 0) C.1.1 C.1.2.1 dX2_reckon_28 (by decide) ?_
    refine lv_istore_n (lv' := [(1, .int (nI 0)), (0, .ref mo)]) C.1.1 C.1.2.1 dX2_reckon_29 rfl hl (by decide) rfl (fun ls hl => ?_)
    refine lp_reck1 C hn2 hU (Nat.le_refl _) (Nat.le_refl _) (fun Cf Mf H locs ls hv hw hl => ?_) (2 ^ n) 0 Ch Mw H locs ls (by omega) (fun j hj => absurd hj (by omega)) hw (lv_sub hl [0, 1] rfl)
    refine lv_aload_n C.1.1 C.1.2.1 dX2_reckon_328 rfl (lv_at hl 0 rfl) ?_
    refine ly_gf in_X2 C hw 0 rfl rfl 6 (by decide) q113 rfl dX2_reckon_329 ?_
    refine lv_iconst (v := nI 0) C.1.1 C.1.2.1 dX2_reckon_332 (by decide) ?_
    refine lv_iconst (v := nI 0) C.1.1 C.1.2.1 dX2_reckon_333 (by decide) ?_
    refine ly_iastN C hw 2 0 rfl rfl (by omega) (by decide) dX2_reckon_334 (fun H locs hw => ?_)
    have hw : ly_w (dC, dI) A s.heap (ly_WM mo mu le ch mw cI cJ cZ n 1 (ly_mx (ly_free n Up) (2 ^ n)) (ly_mx (ly_line n Up) (2 ^ n)) (fb_ct (ly_down n Up) (2 ^ n)) Up (ly_u Le 0 0) Cf Mf) H locs := hw
    refine lv_iconst (v := nI 1) C.1.1 C.1.2.1 dX2_reckon_335 (by decide) ?_
    refine lv_istore_n (lv' := [(1, .int (nI 1)), (0, .ref mo)]) C.1.1 C.1.2.1 dX2_reckon_336 rfl hl (by decide) rfl (fun ls hl => ?_)
    refine lp_reck4 C hn2 (fun j hj => (hv j hj).1) hone (fun Lf H locs ls hm hw => ?_) (2 ^ n - 1) 1 _ H locs ls (by omega) (by omega) (fun j hj => ?_) hw (lv_sub hl [0, 1] rfl)
    · exact ly_vret (u := (_, _, _, Lf, Cf, Mf)) C hr hw ⟨rfl, rfl, rfl, hm _ (by omega), (hv _ (by omega)).2⟩ dX2_reckon_424
    · rw [show j = 0 by omega, ly_us]; exact ly_M_0 _
  · have d : kn = 1 ∧ ly_kn n Up wi he cl Le Mw := by rcases hk with z | z; exact absurd (by rw [z]; rfl) c4; exact z
    obtain ⟨d1, d2⟩ := d
    subst d1
    exact ly_vret (u := (wi, he, cl, Le, Ch, Mw)) C hr hw d2 dX2_reckon_7
set_option maxHeartbeats 4000000 in
set_option maxRecDepth 100000 in
/-- width() -/
theorem mt_width2 (l : Launch) {dC : Nat → ClassId} {dI : Nat → Nat → Nat} {cI cJ cZ : ClassId} {mo mu le ch mw : Nat} {n kn wi he cl : Nat} {Up Le Ch Mw : Nat → Nat} (hn2 : n ≤ 10) (hU : ∀ j, j < n → Up j < 1024) (hone : ∀ i, i < 10 → ly_line n Up (2 ^ i) = true) (hk : kn = 0 ∨ kn = 1 ∧ ly_kn n Up wi he cl Le Mw) : ly_Mi (S := Nat × Nat × Nat × (Nat → Nat) × (Nat → Nat) × (Nat → Nat)) l yX2_width (ws_ yX2_width cX2_width 1 (some .int)) ({ frames := 2, cells := 0, slots := 0, locals := 51 } : Room) [.ref mo] (dC, dI) (ly_tys cI cJ cZ) (ly_WM mo mu le ch mw cI cJ cZ n kn wi he cl Up Le Ch Mw) (fun r u => ly_kn n Up u.1 u.2.1 u.2.2.1 u.2.2.2.1 u.2.2.2.2.2 ∧ r = nI u.1) (fun u => (ly_WM mo mu le ch mw cI cJ cZ n 1 (u.1) (u.2.1) (u.2.2.1) Up (u.2.2.2.1) (u.2.2.2.2.1) (u.2.2.2.2.2))) := by
  refine ly_ofi (by decide) (Nat.le_of_ble_eq_true rfl) ?_
  intro p e s m below meth c A ls C hr hw hl
  have C : ly_C p m meth c cX2_width 1 s _ RX2 (dC, dI) (ly_tys cI cJ cZ) A := C
  have hl : lv_has ls 1 [(0, .ref mo)] := hl
  have hp := ly_p10 hn2
  have hp0 := Nat.two_pow_pos n
  refine lv_aload_n C.1.1 C.1.2.1 dX2_width_0 rfl (lv_at hl 0 rfl) ?_
  refine ly_callv (wr := []) (rest := []) (mt_reckon l hn2 hU hone hk) C (cwV 0 C.1.2.2.2.2 (lw_V q157 q159 qs4 q8 q160) rfl rfl rfl (by decide +kernel) ⟨Nat.le_of_ble_eq_true rfl, Nat.le_of_ble_eq_true rfl⟩) hw [0, 1, 2, 3, 4] [] rfl rfl (by decide) (by decide) (by decide) 0 rfl rfl rfl hl.1 (Nat.le_of_ble_eq_true rfl) dX2_width_1 (Nat.zero_le _) (Nat.zero_le _) (fun u H locs hq hw => ?_)
  obtain ⟨a1, a2, a3, a4, a5, a6⟩ := u
  have hw : ly_w (dC, dI) A s.heap (ly_WM mo mu le ch mw cI cJ cZ n 1 a1 a2 a3 Up a4 a5 a6) H locs := hw
  refine lv_aload_n C.1.1 C.1.2.1 dX2_width_4 rfl (lv_at hl 0 rfl) ?_
  refine ly_gf in_X2 C hw 0 rfl rfl 3 (by decide) q110 rfl dX2_width_5 ?_
  exact ly_iret (u := (a1, a2, a3, a4, a5, a6)) C hr hw ⟨hq, rfl⟩ dX2_width_8
set_option maxHeartbeats 4000000 in
set_option maxRecDepth 100000 in
/-- height() -/
theorem mt_height2 (l : Launch) {dC : Nat → ClassId} {dI : Nat → Nat → Nat} {cI cJ cZ : ClassId} {mo mu le ch mw : Nat} {n kn wi he cl : Nat} {Up Le Ch Mw : Nat → Nat} (hn2 : n ≤ 10) (hU : ∀ j, j < n → Up j < 1024) (hone : ∀ i, i < 10 → ly_line n Up (2 ^ i) = true) (hk : kn = 0 ∨ kn = 1 ∧ ly_kn n Up wi he cl Le Mw) : ly_Mi (S := Nat × Nat × Nat × (Nat → Nat) × (Nat → Nat) × (Nat → Nat)) l yX2_height (ws_ yX2_height cX2_height 1 (some .int)) ({ frames := 2, cells := 0, slots := 0, locals := 51 } : Room) [.ref mo] (dC, dI) (ly_tys cI cJ cZ) (ly_WM mo mu le ch mw cI cJ cZ n kn wi he cl Up Le Ch Mw) (fun r u => ly_kn n Up u.1 u.2.1 u.2.2.1 u.2.2.2.1 u.2.2.2.2.2 ∧ r = nI u.2.1) (fun u => (ly_WM mo mu le ch mw cI cJ cZ n 1 (u.1) (u.2.1) (u.2.2.1) Up (u.2.2.2.1) (u.2.2.2.2.1) (u.2.2.2.2.2))) := by
  refine ly_ofi (by decide) (Nat.le_of_ble_eq_true rfl) ?_
  intro p e s m below meth c A ls C hr hw hl
  have C : ly_C p m meth c cX2_height 1 s _ RX2 (dC, dI) (ly_tys cI cJ cZ) A := C
  have hl : lv_has ls 1 [(0, .ref mo)] := hl
  have hp := ly_p10 hn2
  have hp0 := Nat.two_pow_pos n
  refine lv_aload_n C.1.1 C.1.2.1 dX2_height_0 rfl (lv_at hl 0 rfl) ?_
  refine ly_callv (wr := []) (rest := []) (mt_reckon l hn2 hU hone hk) C (cwV 0 C.1.2.2.2.2 (lw_V q157 q159 qs4 q8 q160) rfl rfl rfl (by decide +kernel) ⟨Nat.le_of_ble_eq_true rfl, Nat.le_of_ble_eq_true rfl⟩) hw [0, 1, 2, 3, 4] [] rfl rfl (by decide) (by decide) (by decide) 0 rfl rfl rfl hl.1 (Nat.le_of_ble_eq_true rfl) dX2_height_1 (Nat.zero_le _) (Nat.zero_le _) (fun u H locs hq hw => ?_)
  obtain ⟨a1, a2, a3, a4, a5, a6⟩ := u
  have hw : ly_w (dC, dI) A s.heap (ly_WM mo mu le ch mw cI cJ cZ n 1 a1 a2 a3 Up a4 a5 a6) H locs := hw
  refine lv_aload_n C.1.1 C.1.2.1 dX2_height_4 rfl (lv_at hl 0 rfl) ?_
  refine ly_gf in_X2 C hw 0 rfl rfl 4 (by decide) q111 rfl dX2_height_5 ?_
  exact ly_iret (u := (a1, a2, a3, a4, a5, a6)) C hr hw ⟨hq, rfl⟩ dX2_height_8
set_option maxHeartbeats 4000000 in
set_option maxRecDepth 100000 in
/-- closed() -/
theorem mt_closed2 (l : Launch) {dC : Nat → ClassId} {dI : Nat → Nat → Nat} {cI cJ cZ : ClassId} {mo mu le ch mw : Nat} {n kn wi he cl : Nat} {Up Le Ch Mw : Nat → Nat} (hn2 : n ≤ 10) (hU : ∀ j, j < n → Up j < 1024) (hone : ∀ i, i < 10 → ly_line n Up (2 ^ i) = true) (hk : kn = 0 ∨ kn = 1 ∧ ly_kn n Up wi he cl Le Mw) : ly_Mi (S := Nat × Nat × Nat × (Nat → Nat) × (Nat → Nat) × (Nat → Nat)) l yX2_closed (ws_ yX2_closed cX2_closed 1 (some .int)) ({ frames := 2, cells := 0, slots := 0, locals := 51 } : Room) [.ref mo] (dC, dI) (ly_tys cI cJ cZ) (ly_WM mo mu le ch mw cI cJ cZ n kn wi he cl Up Le Ch Mw) (fun r u => ly_kn n Up u.1 u.2.1 u.2.2.1 u.2.2.2.1 u.2.2.2.2.2 ∧ r = nI u.2.2.1) (fun u => (ly_WM mo mu le ch mw cI cJ cZ n 1 (u.1) (u.2.1) (u.2.2.1) Up (u.2.2.2.1) (u.2.2.2.2.1) (u.2.2.2.2.2))) := by
  refine ly_ofi (by decide) (Nat.le_of_ble_eq_true rfl) ?_
  intro p e s m below meth c A ls C hr hw hl
  have C : ly_C p m meth c cX2_closed 1 s _ RX2 (dC, dI) (ly_tys cI cJ cZ) A := C
  have hl : lv_has ls 1 [(0, .ref mo)] := hl
  have hp := ly_p10 hn2
  have hp0 := Nat.two_pow_pos n
  refine lv_aload_n C.1.1 C.1.2.1 dX2_closed_0 rfl (lv_at hl 0 rfl) ?_
  refine ly_callv (wr := []) (rest := []) (mt_reckon l hn2 hU hone hk) C (cwV 0 C.1.2.2.2.2 (lw_V q157 q159 qs4 q8 q160) rfl rfl rfl (by decide +kernel) ⟨Nat.le_of_ble_eq_true rfl, Nat.le_of_ble_eq_true rfl⟩) hw [0, 1, 2, 3, 4] [] rfl rfl (by decide) (by decide) (by decide) 0 rfl rfl rfl hl.1 (Nat.le_of_ble_eq_true rfl) dX2_closed_1 (Nat.zero_le _) (Nat.zero_le _) (fun u H locs hq hw => ?_)
  obtain ⟨a1, a2, a3, a4, a5, a6⟩ := u
  have hw : ly_w (dC, dI) A s.heap (ly_WM mo mu le ch mw cI cJ cZ n 1 a1 a2 a3 Up a4 a5 a6) H locs := hw
  refine lv_aload_n C.1.1 C.1.2.1 dX2_closed_4 rfl (lv_at hl 0 rfl) ?_
  refine ly_gf in_X2 C hw 0 rfl rfl 5 (by decide) q112 rfl dX2_closed_5 ?_
  exact ly_iret (u := (a1, a2, a3, a4, a5, a6)) C hr hw ⟨hq, rfl⟩ dX2_closed_8
set_option maxHeartbeats 4000000 in
set_option maxRecDepth 100000 in
/-- cover() -/
theorem mt_cover2 (l : Launch) {dC : Nat → ClassId} {dI : Nat → Nat → Nat} {cI cJ cZ : ClassId} {mo mu le ch mw : Nat} {n kn wi he cl : Nat} {Up Le Ch Mw : Nat → Nat} (hn2 : n ≤ 10) (hU : ∀ j, j < n → Up j < 1024) (hone : ∀ i, i < 10 → ly_line n Up (2 ^ i) = true) (hk : kn = 0 ∨ kn = 1 ∧ ly_kn n Up wi he cl Le Mw) : ly_Mi (S := Nat × Nat × Nat × (Nat → Nat) × (Nat → Nat) × (Nat → Nat)) l yX2_cover (ws_ yX2_cover cX2_cover 1 (some .int)) ({ frames := 2, cells := 0, slots := 0, locals := 51 } : Room) [.ref mo] (dC, dI) (ly_tys cI cJ cZ) (ly_WM mo mu le ch mw cI cJ cZ n kn wi he cl Up Le Ch Mw) (fun r u => ly_kn n Up u.1 u.2.1 u.2.2.1 u.2.2.2.1 u.2.2.2.2.2 ∧ r = nI (u.2.2.2.1 (2 ^ n - 1))) (fun u => (ly_WM mo mu le ch mw cI cJ cZ n 1 (u.1) (u.2.1) (u.2.2.1) Up (u.2.2.2.1) (u.2.2.2.2.1) (u.2.2.2.2.2))) := by
  refine ly_ofi (by decide) (Nat.le_of_ble_eq_true rfl) ?_
  intro p e s m below meth c A ls C hr hw hl
  have C : ly_C p m meth c cX2_cover 1 s _ RX2 (dC, dI) (ly_tys cI cJ cZ) A := C
  have hl : lv_has ls 1 [(0, .ref mo)] := hl
  have hp := ly_p10 hn2
  have hp0 := Nat.two_pow_pos n
  refine lv_aload_n C.1.1 C.1.2.1 dX2_cover_0 rfl (lv_at hl 0 rfl) ?_
  refine ly_callv (wr := []) (rest := []) (mt_reckon l hn2 hU hone hk) C (cwV 0 C.1.2.2.2.2 (lw_V q157 q159 qs4 q8 q160) rfl rfl rfl (by decide +kernel) ⟨Nat.le_of_ble_eq_true rfl, Nat.le_of_ble_eq_true rfl⟩) hw [0, 1, 2, 3, 4] [] rfl rfl (by decide) (by decide) (by decide) 0 rfl rfl rfl hl.1 (Nat.le_of_ble_eq_true rfl) dX2_cover_1 (Nat.zero_le _) (Nat.zero_le _) (fun u H locs hq hw => ?_)
  obtain ⟨a1, a2, a3, a4, a5, a6⟩ := u
  have hw : ly_w (dC, dI) A s.heap (ly_WM mo mu le ch mw cI cJ cZ n 1 a1 a2 a3 Up a4 a5 a6) H locs := hw
  refine lv_aload_n C.1.1 C.1.2.1 dX2_cover_4 rfl (lv_at hl 0 rfl) ?_
  refine ly_gf in_X2 C hw 0 rfl rfl 6 (by decide) q113 rfl dX2_cover_5 ?_
  refine lv_iconst (v := nI 1) C.1.1 C.1.2.1 dX2_cover_8 (by decide) ?_
  refine lv_aload_n C.1.1 C.1.2.1 dX2_cover_9 rfl (lv_at hl 0 rfl) ?_
  refine ly_gf in_X2 C hw 0 rfl rfl 1 (by decide) q108 rfl dX2_cover_10 ?_
  refine lv_ishl C.1.1 C.1.2.1 dX2_cover_13 ?_
  refine ly_top (ly_shl (by omega)) ?_
  refine lv_iconst (v := nI 1) C.1.1 C.1.2.1 dX2_cover_14 (by decide) ?_
  refine lv_isub C.1.1 C.1.2.1 dX2_cover_15 ?_
  refine ly_top (ly_sub (by omega)) ?_
  refine ly_iald C hw 2 0 rfl rfl (by omega) (by decide) rfl dX2_cover_16 ?_
  exact ly_iret (u := (a1, a2, a3, a4, a5, a6)) C hr hw ⟨hq, rfl⟩ dX2_cover_17
set_option maxHeartbeats 4000000 in
set_option maxRecDepth 100000 in
/-- rows() -/
theorem mt_rows2 (l : Launch) {dC : Nat → ClassId} {dI : Nat → Nat → Nat} {cI cJ cZ : ClassId} {mo mu le ch mw : Nat} {n kn wi he cl : Nat} {Up Le Ch Mw : Nat → Nat} (hn2 : n ≤ 10) (hU : ∀ j, j < n → Up j < 1024) (hone : ∀ i, i < 10 → ly_line n Up (2 ^ i) = true) (hk : kn = 0 ∨ kn = 1 ∧ ly_kn n Up wi he cl Le Mw) : ly_Ml (S := Nat × Nat × Nat × (Nat → Nat) × (Nat → Nat) × (Nat → Nat)) l yX2_rows (ws_ yX2_rows cX2_rows 1 (some .long)) ({ frames := 2, cells := 0, slots := 0, locals := 51 } : Room) [.ref mo] (dC, dI) (ly_tys cI cJ cZ) (ly_WM mo mu le ch mw cI cJ cZ n kn wi he cl Up Le Ch Mw) (fun r u => ly_kn n Up u.1 u.2.1 u.2.2.1 u.2.2.2.1 u.2.2.2.2.2 ∧ r = lN (u.2.2.2.2.2 (2 ^ n - 1))) (fun u => (ly_WM mo mu le ch mw cI cJ cZ n 1 (u.1) (u.2.1) (u.2.2.1) Up (u.2.2.2.1) (u.2.2.2.2.1) (u.2.2.2.2.2))) := by
  refine ly_ofl (by decide) (Nat.le_of_ble_eq_true rfl) ?_
  intro p e s m below meth c A ls C hr hw hl
  have C : ly_C p m meth c cX2_rows 1 s _ RX2 (dC, dI) (ly_tys cI cJ cZ) A := C
  have hl : lv_has ls 1 [(0, .ref mo)] := hl
  have hp := ly_p10 hn2
  have hp0 := Nat.two_pow_pos n
  refine lv_aload_n C.1.1 C.1.2.1 dX2_rows_0 rfl (lv_at hl 0 rfl) ?_
  refine ly_callv (wr := []) (rest := []) (mt_reckon l hn2 hU hone hk) C (cwV 0 C.1.2.2.2.2 (lw_V q157 q159 qs4 q8 q160) rfl rfl rfl (by decide +kernel) ⟨Nat.le_of_ble_eq_true rfl, Nat.le_of_ble_eq_true rfl⟩) hw [0, 1, 2, 3, 4] [] rfl rfl (by decide) (by decide) (by decide) 0 rfl rfl rfl hl.1 (Nat.le_of_ble_eq_true rfl) dX2_rows_1 (Nat.zero_le _) (Nat.zero_le _) (fun u H locs hq hw => ?_)
  obtain ⟨a1, a2, a3, a4, a5, a6⟩ := u
  have hw : ly_w (dC, dI) A s.heap (ly_WM mo mu le ch mw cI cJ cZ n 1 a1 a2 a3 Up a4 a5 a6) H locs := hw
  refine lv_aload_n C.1.1 C.1.2.1 dX2_rows_4 rfl (lv_at hl 0 rfl) ?_
  refine ly_gf in_X2 C hw 0 rfl rfl 8 (by decide) q115 rfl dX2_rows_5 ?_
  refine lv_iconst (v := nI 1) C.1.1 C.1.2.1 dX2_rows_8 (by decide) ?_
  refine lv_aload_n C.1.1 C.1.2.1 dX2_rows_9 rfl (lv_at hl 0 rfl) ?_
  refine ly_gf in_X2 C hw 0 rfl rfl 1 (by decide) q108 rfl dX2_rows_10 ?_
  refine lv_ishl C.1.1 C.1.2.1 dX2_rows_13 ?_
  refine ly_top (ly_shl (by omega)) ?_
  refine lv_iconst (v := nI 1) C.1.1 C.1.2.1 dX2_rows_14 (by decide) ?_
  refine lv_isub C.1.1 C.1.2.1 dX2_rows_15 ?_
  refine ly_top (ly_sub (by omega)) ?_
  refine ly_lald C hw 4 1 rfl rfl (by omega) (by decide) rfl dX2_rows_16 ?_
  exact ly_lret (u := (a1, a2, a3, a4, a5, a6)) C hr hw ⟨hq, rfl⟩ dX2_rows_17
end
section
/-! the three constructors (rows printed by gen) -/
theorem ly_sameI {D : va_G} {cl : List vw_C} {tys : List (ClassId × FieldType)} {U : State} (hK : va_K D cl tys U) (i j : Nat) {a b : ClassId} (hi : tys[i]? = some (a, .int)) (hj : tys[j]? = some (b, .int)) : a = b := by
  have h1 : U.vm.findClass ("[" ++ FieldType.int.toString) = some a := (hK.2 i _ hi).2
  have h2 : U.vm.findClass ("[" ++ FieldType.int.toString) = some b := (hK.2 j _ hj).2
  exact Option.some.inj (h1.symm.trans h2)
theorem ly_sameL {D : va_G} {cl : List vw_C} {tys : List (ClassId × FieldType)} {U : State} (hK : va_K D cl tys U) (i j : Nat) {a b : ClassId} (hi : tys[i]? = some (a, .long)) (hj : tys[j]? = some (b, .long)) : a = b := by
  have h1 : U.vm.findClass ("[" ++ FieldType.long.toString) = some a := (hK.2 i _ hi).2
  have h2 : U.vm.findClass ("[" ++ FieldType.long.toString) = some b := (hK.2 j _ hj).2
  exact Option.some.inj (h1.symm.trans h2)
set_option maxHeartbeats 4000000 in
set_option maxRecDepth 100000 in
/-- Pairing() -/
theorem mt_initP (l : Launch) {dC : Nat → ClassId} {dI : Nat → Nat → Nat} {pr : Nat} (sz : Nat) : Met l yX1_init (ws_ yX1_init cX1_init 1 none) ({ frames := 1, cells := 2, slots := 20, locals := 12 } : Room) (va_Pc [.ref pr] (ly_Pre (dC, dI) [] sz [(pr, .inr (1, [.null, .null, .int (nI 0)]))])) (va_Qv (fun _ : Nat × Nat × ClassId × ClassId => True) (fun u t => va_P (dC, dI) vwCl [(pr, .inr (1, [.ref u.1, .ref u.2.1, .int (nI 0)])), (u.1, .inl (u.2.2.1, 10, .inl (fun _ => nI 0))), (u.2.1, .inl (u.2.2.2, 10, .inl (fun _ => nI 0)))] t.heap ∧ va_K (dC, dI) vwCl [(u.2.2.1, .int), (u.2.2.2, .int)] t ∧ va_D (va_A [(pr, .inr (1, [.null, .null, .int (nI 0)]))] sz) [(pr, .inr (1, [.ref u.1, .ref u.2.1, .int (nI 0)])), (u.1, .inl (u.2.2.1, 10, .inl (fun _ => nI 0))), (u.2.1, .inl (u.2.2.2, 10, .inl (fun _ => nI 0)))]) (va_A [(pr, .inr (1, [.null, .null, .int (nI 0)]))] sz)) 2 20 (va_A [(pr, .inr (1, [.null, .null, .int (nI 0)]))] sz) := by
  refine Met.ofW (cc := cX1_init) (maxL := 1) (ret := none) (by decide) rfl ?_
  intro p e s m args below meth c s₁ B hml hv
  obtain ⟨rfl, hv⟩ := hv
  obtain ⟨hsz, hP, hK, hD0⟩ := hv
  have hts := atoms_spec (ws := ws_ yX1_init cX1_init 1 none) B.pre
  have hts : ∀ w ∈ lw_all, w.before _ s = true := fun w h => hts w (List.mem_cons_of_mem _ h)
  have hin : meth.name = "<init>" := (name_of_methodNamed B.named B.method).1
  have hr := B.returns
  subst hsz
  rw [lg_entry_eq]
  have hl := lv_entry ([.ref pr]) (n := 1) (Nat.le_of_ble_eq_true rfl)
  generalize (lg_sl ([.ref pr]) ++ List.replicate (1 - (lg_sl ([.ref pr])).length) Slot.unset).toArray = ls at hl ⊢
  have hl : lv_has ls 1 [(0, .ref pr)] := hl
  have C : ly_C p m meth c cX1_init 1 s _ RX1 (dC, dI) [] (va_A [(pr, .inr (1, [.null, .null, .int (nI 0)]))] s.heap.size) := ⟨⟨B.exec, B.bytes, hml, findClass_of_methodNamed B.named, hts⟩, hK, fun q h => Or.inr h, B.notSynchronized⟩
  have hw : ly_w (dC, dI) (va_A [(pr, .inr (1, [.null, .null, .int (nI 0)]))] s.heap.size) s.heap [(pr, .inr (1, [.null, .null, .int (nI 0)]))] s.heap [] := ⟨hP, hD0.self, va_S.rf⟩
  generalize va_A [(pr, .inr (1, [.null, .null, .int (nI 0)]))] s.heap.size = A at C hw ⊢
  refine lv_aload_n C.1.1 C.1.2.1 dX1_init_0 rfl (lv_at hl 0 rfl) ?_
  refine W.objInit C.1.1 C.1.2.1 C.1.2.2.2.1 (C.1.2.2.2.2 _ q22) (C.1.2.2.2.2 _ q15) (C.1.2.2.2.2 _ q16) rfl (by rw [C.1.2.2.1]; exact hl.1) rfl dX1_init_1 (Nat.le_of_ble_eq_true rfl) (Nat.le_of_ble_eq_true rfl) ?_
  refine W.eq (g2 := F0 m 4 ls []) rfl ?_
  refine lv_aload_n C.1.1 C.1.2.1 dX1_init_4 rfl (lv_at hl 0 rfl) ?_
  refine lv_bipush (v := nI 10) C.1.1 C.1.2.1 dX1_init_5 (by decide) ?_
  refine va_newa (atype := .int) (ty := .int) (n := nI 10) (N' := 10) (a0 := (10, .inl (fun _ => nI 0))) C.1.1 C.1.2.1 (C.1.2.2.2.2 _ q33) rfl C.2.1 hw.1 hw.2.1 hw.2.2 C.2.2.1 (fun _ => rfl) (by decide) (by decide) (by decide) (Nat.le_of_ble_eq_true rfl) (Nat.le_of_ble_eq_true rfl) dX1_init_7 (fun ab c1 H hK hP hD hS => ?_)
  refine W.widen (k := 1) (n := 10) (Nat.le_of_ble_eq_true rfl) (Nat.le_of_ble_eq_true rfl) ?_
  have hw : ly_w (dC, dI) A s.heap [(pr, .inr (1, [.null, .null, .int (nI 0)])), (ab, .inl (c1, 10, .inl (fun _ => nI 0)))] H _ := ⟨hP, hD, hS⟩
  have C : ly_C p m meth c cX1_init 1 s _ RX1 (dC, dI) [(c1, .int)] A := ⟨C.1, hK, C.2.2⟩
  refine ly_pfF in_X1 tyX1 tyX1_ok nmX1 C C.2.1 hw 0 rfl rfl 0 (by decide) q23 rfl hin rfl rfl rfl (Nat.le_of_ble_eq_true rfl) dX1_init_9 (fun H locs hw => ?_)
  have hw : ly_w (dC, dI) A s.heap [(pr, .inr (1, [.ref ab, .null, .int (nI 0)])), (ab, .inl (c1, 10, .inl (fun _ => nI 0)))] H locs := hw
  refine lv_aload_n C.1.1 C.1.2.1 dX1_init_12 rfl (lv_at hl 0 rfl) ?_
  refine lv_bipush (v := nI 10) C.1.1 C.1.2.1 dX1_init_13 (by decide) ?_
  refine va_newa (atype := .int) (ty := .int) (n := nI 10) (N' := 10) (a0 := (10, .inl (fun _ => nI 0))) C.1.1 C.1.2.1 (C.1.2.2.2.2 _ q33) rfl C.2.1 hw.1 hw.2.1 hw.2.2 C.2.2.1 (fun _ => rfl) (by decide) (by decide) (by decide) (Nat.le_of_ble_eq_true rfl) (Nat.le_of_ble_eq_true rfl) dX1_init_15 (fun lo c2 H hK hP hD hS => ?_)
  refine W.widen (k := 2) (n := 20) (Nat.le_of_ble_eq_true rfl) (Nat.le_of_ble_eq_true rfl) ?_
  have hw : ly_w (dC, dI) A s.heap [(pr, .inr (1, [.ref ab, .null, .int (nI 0)])), (ab, .inl (c1, 10, .inl (fun _ => nI 0))), (lo, .inl (c2, 10, .inl (fun _ => nI 0)))] H _ := ⟨hP, hD, hS⟩
  have C : ly_C p m meth c cX1_init 1 s _ RX1 (dC, dI) [(c1, .int), (c2, .int)] A := ⟨C.1, hK, C.2.2⟩
  refine ly_pfF in_X1 tyX1 tyX1_ok nmX1 C C.2.1 hw 0 rfl rfl 1 (by decide) q24 rfl hin rfl rfl rfl (Nat.le_of_ble_eq_true rfl) dX1_init_17 (fun H locs hw => ?_)
  have hw : ly_w (dC, dI) A s.heap [(pr, .inr (1, [.ref ab, .ref lo, .int (nI 0)])), (ab, .inl (c1, 10, .inl (fun _ => nI 0))), (lo, .inl (c2, 10, .inl (fun _ => nI 0)))] H locs := hw
  exact W.vret C.1.1 C.1.2.1 hr (fun t ht hW => ⟨⟨(ab, lo, c1, c2), rfl, trivial, by rw [ht]; exact hw.1, va_K.moved hW.alike C.2.1, hw.2.1⟩, hw.2.2.F ht⟩) hw.2.2.2.2 dX1_init_20 C.2.2.2
set_option maxHeartbeats 4000000 in
set_option maxRecDepth 100000 in
/-- LayersDesk() -/
theorem mt_initD (l : Launch) {dC : Nat → ClassId} {dI : Nat → Nat → Nat} {h : Nat} (sz : Nat) : Met l yX0_init (ws_ yX0_init cX0_init 1 none) ({ frames := 2, cells := 6, slots := 1067, locals := 32 } : Room) (va_Pc [.ref h] (fun U => ly_Pre (dC, dI) [] sz [(h, .inr (0, [.null, .null, .null, .null, .int (nI 0)]))] U ∧ va_Nw (.methodLinkNest "LayersDesk" (22 : Nat) yX1_init "LayersDesk") U)) (va_Qv (fun _ : Nat × Nat × Nat × Nat × Nat × Nat × ClassId × ClassId => True) (fun u t => va_P (dC, dI) vwCl (ly_WD h u.1 u.2.1 u.2.2.1 u.2.2.2.1 u.2.2.2.2.1 u.2.2.2.2.2.1 u.2.2.2.2.2.2.1 u.2.2.2.2.2.2.2 4 0 (fun _ => 0) (fun _ => 0) (fun _ => 0) (fun _ => some 0) (fun _ => 0)) t.heap ∧ va_K (dC, dI) vwCl [(u.2.2.2.2.2.2.1, .int), (u.2.2.2.2.2.2.2, .long)] t ∧ va_D (va_A [(h, .inr (0, [.null, .null, .null, .null, .int (nI 0)]))] sz) (ly_WD h u.1 u.2.1 u.2.2.1 u.2.2.2.1 u.2.2.2.2.1 u.2.2.2.2.2.1 u.2.2.2.2.2.2.1 u.2.2.2.2.2.2.2 4 0 (fun _ => 0) (fun _ => 0) (fun _ => 0) (fun _ => some 0) (fun _ => 0))) (va_A [(h, .inr (0, [.null, .null, .null, .null, .int (nI 0)]))] sz)) 6 1067 (va_A [(h, .inr (0, [.null, .null, .null, .null, .int (nI 0)]))] sz) := by
  refine Met.ofW (cc := cX0_init) (maxL := 1) (ret := none) (by decide) rfl ?_
  intro p e s m args below meth c s₁ B hml hv
  obtain ⟨rfl, hv⟩ := hv
  obtain ⟨hv, hN⟩ := hv
  obtain ⟨hsz, hP, hK, hD0⟩ := hv
  have hts := atoms_spec (ws := ws_ yX0_init cX0_init 1 none) B.pre
  have hts : ∀ w ∈ lw_all, w.before _ s = true := fun w h => hts w (List.mem_cons_of_mem _ h)
  have hin : meth.name = "<init>" := (name_of_methodNamed B.named B.method).1
  have hr := B.returns
  subst hsz
  rw [lg_entry_eq]
  have hl := lv_entry ([.ref h]) (n := 1) (Nat.le_of_ble_eq_true rfl)
  generalize (lg_sl ([.ref h]) ++ List.replicate (1 - (lg_sl ([.ref h])).length) Slot.unset).toArray = ls at hl ⊢
  have hl : lv_has ls 1 [(0, .ref h)] := hl
  have C : ly_C p m meth c cX0_init 1 s _ RX0 (dC, dI) [] (va_A [(h, .inr (0, [.null, .null, .null, .null, .int (nI 0)]))] s.heap.size) := ⟨⟨B.exec, B.bytes, hml, findClass_of_methodNamed B.named, hts⟩, hK, fun q h => Or.inr h, B.notSynchronized⟩
  have hw : ly_w (dC, dI) (va_A [(h, .inr (0, [.null, .null, .null, .null, .int (nI 0)]))] s.heap.size) s.heap [(h, .inr (0, [.null, .null, .null, .null, .int (nI 0)]))] s.heap [] := ⟨hP, hD0.self, va_S.rf⟩
  generalize va_A [(h, .inr (0, [.null, .null, .null, .null, .int (nI 0)]))] s.heap.size = A at C hw ⊢
  refine lv_aload_n C.1.1 C.1.2.1 dX0_init_0 rfl (lv_at hl 0 rfl) ?_
  refine W.objInit C.1.1 C.1.2.1 C.1.2.2.2.1 (C.1.2.2.2.2 _ q14) (C.1.2.2.2.2 _ q15) (C.1.2.2.2.2 _ q16) rfl (by rw [C.1.2.2.1]; exact hl.1) rfl dX0_init_1 (Nat.le_of_ble_eq_true rfl) (Nat.le_of_ble_eq_true rfl) ?_
  refine W.eq (g2 := F0 m 4 ls []) rfl ?_
  refine lv_aload_n C.1.1 C.1.2.1 dX0_init_4 rfl (lv_at hl 0 rfl) ?_
  refine lv_bipush (v := nI 10) C.1.1 C.1.2.1 dX0_init_5 (by decide) ?_
  refine va_newa (atype := .int) (ty := .int) (n := nI 10) (N' := 10) (a0 := (10, .inl (fun _ => nI 0))) C.1.1 C.1.2.1 (C.1.2.2.2.2 _ q33) rfl C.2.1 hw.1 hw.2.1 hw.2.2 C.2.2.1 (fun _ => rfl) (by decide) (by decide) (by decide) (Nat.le_of_ble_eq_true rfl) (Nat.le_of_ble_eq_true rfl) dX0_init_7 (fun dn c1 H hK hP hD hS => ?_)
  refine W.widen (k := 1) (n := 10) (Nat.le_of_ble_eq_true rfl) (Nat.le_of_ble_eq_true rfl) ?_
  have hw : ly_w (dC, dI) A s.heap [(h, .inr (0, [.null, .null, .null, .null, .int (nI 0)])), (dn, .inl (c1, 10, .inl (fun _ => nI 0)))] H _ := ⟨hP, hD, hS⟩
  have C : ly_C p m meth c cX0_init 1 s _ RX0 (dC, dI) [(c1, .int)] A := ⟨C.1, hK, C.2.2⟩
  refine ly_pfF in_X0 tyX0 tyX0_ok nmX0 C C.2.1 hw 0 rfl rfl 0 (by decide) q35 rfl hin rfl rfl rfl (Nat.le_of_ble_eq_true rfl) dX0_init_9 (fun H locs hw => ?_)
  have hw : ly_w (dC, dI) A s.heap [(h, .inr (0, [.ref dn, .null, .null, .null, .int (nI 0)])), (dn, .inl (c1, 10, .inl (fun _ => nI 0)))] H locs := hw
  refine lv_aload_n C.1.1 C.1.2.1 dX0_init_12 rfl (lv_at hl 0 rfl) ?_
  refine lv_bipush (v := nI 10) C.1.1 C.1.2.1 dX0_init_13 (by decide) ?_
  refine va_newa (atype := .int) (ty := .int) (n := nI 10) (N' := 10) (a0 := (10, .inl (fun _ => nI 0))) C.1.1 C.1.2.1 (C.1.2.2.2.2 _ q33) rfl C.2.1 hw.1 hw.2.1 hw.2.2 C.2.2.1 (fun _ => rfl) (by decide) (by decide) (by decide) (Nat.le_of_ble_eq_true rfl) (Nat.le_of_ble_eq_true rfl) dX0_init_15 (fun up c2 H hK hP hD hS => ?_)
  refine W.widen (k := 2) (n := 20) (Nat.le_of_ble_eq_true rfl) (Nat.le_of_ble_eq_true rfl) ?_
  have hw : ly_w (dC, dI) A s.heap [(h, .inr (0, [.ref dn, .null, .null, .null, .int (nI 0)])), (dn, .inl (c1, 10, .inl (fun _ => nI 0))), (up, .inl (c2, 10, .inl (fun _ => nI 0)))] H _ := ⟨hP, hD, hS⟩
  have C : ly_C p m meth c cX0_init 1 s _ RX0 (dC, dI) [(c1, .int), (c2, .int)] A := ⟨C.1, hK, C.2.2⟩
  refine ly_pfF in_X0 tyX0 tyX0_ok nmX0 C C.2.1 hw 0 rfl rfl 1 (by decide) q36 rfl hin rfl rfl rfl (Nat.le_of_ble_eq_true rfl) dX0_init_17 (fun H locs hw => ?_)
  have hw : ly_w (dC, dI) A s.heap [(h, .inr (0, [.ref dn, .ref up, .null, .null, .int (nI 0)])), (dn, .inl (c1, 10, .inl (fun _ => nI 0))), (up, .inl (c2, 10, .inl (fun _ => nI 0)))] H locs := hw
  refine lv_aload_n C.1.1 C.1.2.1 dX0_init_20 rfl (lv_at hl 0 rfl) ?_
  refine lv_sipush (v := nI 1024) C.1.1 C.1.2.1 dX0_init_21 (by decide) ?_
  refine va_newa (atype := .long) (ty := .long) (n := nI 1024) (N' := 1024) (a0 := (1024, .inr (.inl (fun _ => lN 0)))) C.1.1 C.1.2.1 (C.1.2.2.2.2 _ q34) rfl C.2.1 hw.1 hw.2.1 hw.2.2 C.2.2.1 (fun _ => rfl) (by decide) (by decide) (by decide) (Nat.le_of_ble_eq_true rfl) (Nat.le_of_ble_eq_true rfl) dX0_init_24 (fun wy c3 H hK hP hD hS => ?_)
  refine W.widen (k := 3) (n := 1044) (Nat.le_of_ble_eq_true rfl) (Nat.le_of_ble_eq_true rfl) ?_
  have hw : ly_w (dC, dI) A s.heap [(h, .inr (0, [.ref dn, .ref up, .null, .null, .int (nI 0)])), (dn, .inl (c1, 10, .inl (fun _ => nI 0))), (up, .inl (c2, 10, .inl (fun _ => nI 0))), (wy, .inl (c3, 1024, .inr (.inl (fun _ => lN 0))))] H _ := ⟨hP, hD, hS⟩
  have C : ly_C p m meth c cX0_init 1 s _ RX0 (dC, dI) [(c1, .int), (c2, .int), (c3, .long)] A := ⟨C.1, hK, C.2.2⟩
  refine ly_pfF in_X0 tyX0 tyX0_ok nmX0 C C.2.1 hw 0 rfl rfl 2 (by decide) q37 rfl hin rfl rfl rfl (Nat.le_of_ble_eq_true rfl) dX0_init_26 (fun H locs hw => ?_)
  have hw : ly_w (dC, dI) A s.heap [(h, .inr (0, [.ref dn, .ref up, .ref wy, .null, .int (nI 0)])), (dn, .inl (c1, 10, .inl (fun _ => nI 0))), (up, .inl (c2, 10, .inl (fun _ => nI 0))), (wy, .inl (c3, 1024, .inr (.inl (fun _ => lN 0))))] H locs := hw
  refine lv_aload_n C.1.1 C.1.2.1 dX0_init_29 rfl (lv_at hl 0 rfl) ?_
  refine va_new (ci := 1) (fs := [.null, .null, .int (nI 0)]) (C := RX1) (T := TX1) (N := 3) C.1.1 C.1.2.1 C.1.2.2.2.2 in_X1 tyX1 tyX1_ok C.1.2.2.2.1 (C.1.2.2.2.2 _ q17) (C.1.2.2.2.2 _ q18) (C.1.2.2.2.2 _ q7) C.2.1 hw.1 hw.2.1 hw.2.2 C.2.2.1 rfl (fun j hj => by rcases (show j = 0 ∨ j = 1 ∨ j = 2 by omega) with rfl | rfl | rfl <;> rfl) (Nat.le_of_ble_eq_true rfl) (Nat.le_of_ble_eq_true rfl) dX0_init_30 (fun pr H hP hD hS => ?_)
  refine W.widen (k := 4) (n := 1047) (Nat.le_of_ble_eq_true rfl) (Nat.le_of_ble_eq_true rfl) ?_
  have hw : ly_w (dC, dI) A s.heap [(h, .inr (0, [.ref dn, .ref up, .ref wy, .null, .int (nI 0)])), (dn, .inl (c1, 10, .inl (fun _ => nI 0))), (up, .inl (c2, 10, .inl (fun _ => nI 0))), (wy, .inl (c3, 1024, .inr (.inl (fun _ => lN 0)))), (pr, .inr (1, [.null, .null, .int (nI 0)]))] H _ := ⟨hP, hD, hS⟩
  refine lv_dup C.1.1 C.1.2.1 dX0_init_33 rfl ?_
  obtain ⟨hPc, hDc⟩ := ly_subw (wc := [(pr, .inr (1, [.null, .null, .int (nI 0)]))]) hw [4] (by decide) rfl
  have hF := va_free (wc := [(pr, .inr (1, [.null, .null, .int (nI 0)]))]) hw.2.1 hw.2.2 C.2.2.1 [4] rfl
  have hK0 : va_K (dC, dI) vwCl [] s := C.2.1.sub [] rfl
  refine va_callv (va_runIN (As := []) (rest := [.ref pr, .ref h]) C.1 (mt_initP l H.size) ⟨va_cnB 0 C.1.2.2.2.2 (lw_meth q21) rfl rfl rfl hN (C.1.2.2.2.2 _ q7) (by decide +kernel) ⟨Nat.le_of_ble_eq_true rfl, Nat.le_of_ble_eq_true rfl⟩, rfl, C.1.2.2.2.2 _ q20⟩ ⟨ly_blind, fun U hU hW => ⟨rfl, by rw [hU], by rw [hU]; exact hPc, va_K.moved hW.alike hK0, hDc⟩⟩ rfl rfl hl.1 rfl (lv_room (Nat.le_of_ble_eq_true rfl)) dX0_init_34 ⟨Nat.le_of_ble_eq_true rfl, Nat.le_of_ble_eq_true rfl⟩) hw.2.2 (fun q _ h => hF q h) hF (fun u t H1 locs1 ht hvm hp hB hz hk hS => ?_)
  obtain ⟨ab, lo, c4, c5⟩ := u
  have hw := ly_after (wr := [(h, .inr (0, [.ref dn, .ref up, .ref wy, .null, .int (nI 0)])), (dn, .inl (c1, 10, .inl (fun _ => nI 0))), (up, .inl (c2, 10, .inl (fun _ => nI 0))), (wy, .inl (c3, 1024, .inr (.inl (fun _ => lN 0))))]) hw C.2.2.1 [4] [0, 1, 2, 3] rfl rfl (by decide) (by decide) ht hk hB.1 hB.2.2 hS
  have hK := C.2.1.app (va_K.moved hvm.symm hB.2.1)
  refine W.widen (k := 6) (n := 1067) (Nat.le_of_ble_eq_true rfl) (Nat.le_of_ble_eq_true rfl) ?_
  generalize H1 = H at hw ⊢
  generalize locs1 = locs at hw ⊢
  have hw : ly_w (dC, dI) A s.heap [(h, .inr (0, [.ref dn, .ref up, .ref wy, .null, .int (nI 0)])), (dn, .inl (c1, 10, .inl (fun _ => nI 0))), (up, .inl (c2, 10, .inl (fun _ => nI 0))), (wy, .inl (c3, 1024, .inr (.inl (fun _ => lN 0)))), (pr, .inr (1, [.ref ab, .ref lo, .int (nI 0)])), (ab, .inl (c4, 10, .inl (fun _ => nI 0))), (lo, .inl (c5, 10, .inl (fun _ => nI 0)))] H locs := hw
  have C : ly_C p m meth c cX0_init 1 s _ RX0 (dC, dI) [(c1, .int), (c2, .int), (c3, .long), (c4, .int), (c5, .int)] A := ⟨C.1, hK, C.2.2⟩
  refine ly_pfF in_X0 tyX0 tyX0_ok nmX0 C C.2.1 hw 0 rfl rfl 3 (by decide) q38 rfl hin rfl rfl rfl (Nat.le_of_ble_eq_true rfl) dX0_init_37 (fun H locs hw => ?_)
  have hw : ly_w (dC, dI) A s.heap [(h, .inr (0, [.ref dn, .ref up, .ref wy, .ref pr, .int (nI 0)])), (dn, .inl (c1, 10, .inl (fun _ => nI 0))), (up, .inl (c2, 10, .inl (fun _ => nI 0))), (wy, .inl (c3, 1024, .inr (.inl (fun _ => lN 0)))), (pr, .inr (1, [.ref ab, .ref lo, .int (nI 0)])), (ab, .inl (c4, 10, .inl (fun _ => nI 0))), (lo, .inl (c5, 10, .inl (fun _ => nI 0)))] H locs := hw
  refine lv_aload_n C.1.1 C.1.2.1 dX0_init_40 rfl (lv_at hl 0 rfl) ?_
  refine lv_iconst (v := nI 4) C.1.1 C.1.2.1 dX0_init_41 (by decide) ?_
  refine ly_pf in_X0 tyX0 tyX0_ok nmX0 C hw 0 rfl rfl 4 (by decide) q39 rfl rfl rfl (Nat.le_of_ble_eq_true rfl) dX0_init_42 (fun H locs hw => ?_)
  have hw : ly_w (dC, dI) A s.heap [(h, .inr (0, [.ref dn, .ref up, .ref wy, .ref pr, .int (nI 4)])), (dn, .inl (c1, 10, .inl (fun _ => nI 0))), (up, .inl (c2, 10, .inl (fun _ => nI 0))), (wy, .inl (c3, 1024, .inr (.inl (fun _ => lN 0)))), (pr, .inr (1, [.ref ab, .ref lo, .int (nI 0)])), (ab, .inl (c4, 10, .inl (fun _ => nI 0))), (lo, .inl (c5, 10, .inl (fun _ => nI 0)))] H locs := hw
  have e2 := ly_sameI C.2.1 0 1 rfl rfl
  have e4 := ly_sameI C.2.1 0 3 rfl rfl
  have e5 := ly_sameI C.2.1 0 4 rfl rfl
  subst e2 e4 e5
  have hK9 : va_K (dC, dI) vwCl [(c1, .int), (c3, .long)] s := C.2.1.sub [0, 2] rfl
  exact W.vret C.1.1 C.1.2.1 hr (fun t ht hW => ⟨⟨(dn, up, wy, pr, ab, lo, c1, c3), rfl, trivial, by rw [ht]; exact hw.1, va_K.moved hW.alike hK9, hw.2.1⟩, hw.2.2.F ht⟩) hw.2.2.2.2 dX0_init_45 C.2.2.2
set_option maxHeartbeats 4000000 in
set_option maxRecDepth 100000 in
/-- LayersDeskModel() -/
theorem mt_initM (l : Launch) {dC : Nat → ClassId} {dI : Nat → Nat → Nat} {mo : Nat} (sz : Nat) : Met l yX2_init (ws_ yX2_init cX2_init 1 none) ({ frames := 1, cells := 4, slots := 3082, locals := 12 } : Room) (va_Pc [.ref mo] (ly_Pre (dC, dI) [] sz [(mo, .inr (2, [.null, .int (nI 0), .int (nI 0), .int (nI 0), .int (nI 0), .int (nI 0), .null, .null, .null]))])) (va_Qv (fun _ : Nat × Nat × Nat × Nat × ClassId × ClassId × ClassId => True) (fun u t => va_P (dC, dI) vwCl (ly_WM mo u.1 u.2.1 u.2.2.1 u.2.2.2.1 u.2.2.2.2.1 u.2.2.2.2.2.1 u.2.2.2.2.2.2 4 0 0 0 0 (fun _ => 0) (fun _ => 0) (fun _ => 0) (fun _ => 0)) t.heap ∧ va_K (dC, dI) vwCl (ly_tys u.2.2.2.2.1 u.2.2.2.2.2.1 u.2.2.2.2.2.2) t ∧ va_D (va_A [(mo, .inr (2, [.null, .int (nI 0), .int (nI 0), .int (nI 0), .int (nI 0), .int (nI 0), .null, .null, .null]))] sz) (ly_WM mo u.1 u.2.1 u.2.2.1 u.2.2.2.1 u.2.2.2.2.1 u.2.2.2.2.2.1 u.2.2.2.2.2.2 4 0 0 0 0 (fun _ => 0) (fun _ => 0) (fun _ => 0) (fun _ => 0))) (va_A [(mo, .inr (2, [.null, .int (nI 0), .int (nI 0), .int (nI 0), .int (nI 0), .int (nI 0), .null, .null, .null]))] sz)) 4 3082 (va_A [(mo, .inr (2, [.null, .int (nI 0), .int (nI 0), .int (nI 0), .int (nI 0), .int (nI 0), .null, .null, .null]))] sz) := by
  refine Met.ofW (cc := cX2_init) (maxL := 1) (ret := none) (by decide) rfl ?_
  intro p e s m args below meth c s₁ B hml hv
  obtain ⟨rfl, hv⟩ := hv
  obtain ⟨hsz, hP, hK, hD0⟩ := hv
  have hts := atoms_spec (ws := ws_ yX2_init cX2_init 1 none) B.pre
  have hts : ∀ w ∈ lw_all, w.before _ s = true := fun w h => hts w (List.mem_cons_of_mem _ h)
  have hin : meth.name = "<init>" := (name_of_methodNamed B.named B.method).1
  have hr := B.returns
  subst hsz
  rw [lg_entry_eq]
  have hl := lv_entry ([.ref mo]) (n := 1) (Nat.le_of_ble_eq_true rfl)
  generalize (lg_sl ([.ref mo]) ++ List.replicate (1 - (lg_sl ([.ref mo])).length) Slot.unset).toArray = ls at hl ⊢
  have hl : lv_has ls 1 [(0, .ref mo)] := hl
  have C : ly_C p m meth c cX2_init 1 s _ RX2 (dC, dI) [] (va_A [(mo, .inr (2, [.null, .int (nI 0), .int (nI 0), .int (nI 0), .int (nI 0), .int (nI 0), .null, .null, .null]))] s.heap.size) := ⟨⟨B.exec, B.bytes, hml, findClass_of_methodNamed B.named, hts⟩, hK, fun q h => Or.inr h, B.notSynchronized⟩
  have hw : ly_w (dC, dI) (va_A [(mo, .inr (2, [.null, .int (nI 0), .int (nI 0), .int (nI 0), .int (nI 0), .int (nI 0), .null, .null, .null]))] s.heap.size) s.heap [(mo, .inr (2, [.null, .int (nI 0), .int (nI 0), .int (nI 0), .int (nI 0), .int (nI 0), .null, .null, .null]))] s.heap [] := ⟨hP, hD0.self, va_S.rf⟩
  generalize va_A [(mo, .inr (2, [.null, .int (nI 0), .int (nI 0), .int (nI 0), .int (nI 0), .int (nI 0), .null, .null, .null]))] s.heap.size = A at C hw ⊢
  refine lv_aload_n C.1.1 C.1.2.1 dX2_init_0 rfl (lv_at hl 0 rfl) ?_
  refine W.objInit C.1.1 C.1.2.1 C.1.2.2.2.1 (C.1.2.2.2.2 _ q106) (C.1.2.2.2.2 _ q15) (C.1.2.2.2.2 _ q16) rfl (by rw [C.1.2.2.1]; exact hl.1) rfl dX2_init_1 (Nat.le_of_ble_eq_true rfl) (Nat.le_of_ble_eq_true rfl) ?_
  refine W.eq (g2 := F0 m 4 ls []) rfl ?_
  refine lv_aload_n C.1.1 C.1.2.1 dX2_init_4 rfl (lv_at hl 0 rfl) ?_
  refine lv_bipush (v := nI 10) C.1.1 C.1.2.1 dX2_init_5 (by decide) ?_
  refine va_newa (atype := .int) (ty := .int) (n := nI 10) (N' := 10) (a0 := (10, .inl (fun _ => nI 0))) C.1.1 C.1.2.1 (C.1.2.2.2.2 _ q33) rfl C.2.1 hw.1 hw.2.1 hw.2.2 C.2.2.1 (fun _ => rfl) (by decide) (by decide) (by decide) (Nat.le_of_ble_eq_true rfl) (Nat.le_of_ble_eq_true rfl) dX2_init_7 (fun mu c1 H hK hP hD hS => ?_)
  refine W.widen (k := 1) (n := 10) (Nat.le_of_ble_eq_true rfl) (Nat.le_of_ble_eq_true rfl) ?_
  have hw : ly_w (dC, dI) A s.heap [(mo, .inr (2, [.null, .int (nI 0), .int (nI 0), .int (nI 0), .int (nI 0), .int (nI 0), .null, .null, .null])), (mu, .inl (c1, 10, .inl (fun _ => nI 0)))] H _ := ⟨hP, hD, hS⟩
  have C : ly_C p m meth c cX2_init 1 s _ RX2 (dC, dI) [(c1, .int)] A := ⟨C.1, hK, C.2.2⟩
  refine ly_pfF in_X2 tyX2 tyX2_ok nmX2 C C.2.1 hw 0 rfl rfl 0 (by decide) q107 rfl hin rfl rfl rfl (Nat.le_of_ble_eq_true rfl) dX2_init_9 (fun H locs hw => ?_)
  have hw : ly_w (dC, dI) A s.heap [(mo, .inr (2, [.ref mu, .int (nI 0), .int (nI 0), .int (nI 0), .int (nI 0), .int (nI 0), .null, .null, .null])), (mu, .inl (c1, 10, .inl (fun _ => nI 0)))] H locs := hw
  refine lv_aload_n C.1.1 C.1.2.1 dX2_init_12 rfl (lv_at hl 0 rfl) ?_
  refine lv_iconst (v := nI 4) C.1.1 C.1.2.1 dX2_init_13 (by decide) ?_
  refine ly_pf in_X2 tyX2 tyX2_ok nmX2 C hw 0 rfl rfl 1 (by decide) q108 rfl rfl rfl (Nat.le_of_ble_eq_true rfl) dX2_init_14 (fun H locs hw => ?_)
  have hw : ly_w (dC, dI) A s.heap [(mo, .inr (2, [.ref mu, .int (nI 4), .int (nI 0), .int (nI 0), .int (nI 0), .int (nI 0), .null, .null, .null])), (mu, .inl (c1, 10, .inl (fun _ => nI 0)))] H locs := hw
  refine lv_aload_n C.1.1 C.1.2.1 dX2_init_17 rfl (lv_at hl 0 rfl) ?_
  refine lv_sipush (v := nI 1024) C.1.1 C.1.2.1 dX2_init_18 (by decide) ?_
  refine va_newa (atype := .int) (ty := .int) (n := nI 1024) (N' := 1024) (a0 := (1024, .inl (fun _ => nI 0))) C.1.1 C.1.2.1 (C.1.2.2.2.2 _ q33) rfl C.2.1 hw.1 hw.2.1 hw.2.2 C.2.2.1 (fun _ => rfl) (by decide) (by decide) (by decide) (Nat.le_of_ble_eq_true rfl) (Nat.le_of_ble_eq_true rfl) dX2_init_21 (fun le c2 H hK hP hD hS => ?_)
  refine W.widen (k := 2) (n := 1034) (Nat.le_of_ble_eq_true rfl) (Nat.le_of_ble_eq_true rfl) ?_
  have hw : ly_w (dC, dI) A s.heap [(mo, .inr (2, [.ref mu, .int (nI 4), .int (nI 0), .int (nI 0), .int (nI 0), .int (nI 0), .null, .null, .null])), (mu, .inl (c1, 10, .inl (fun _ => nI 0))), (le, .inl (c2, 1024, .inl (fun _ => nI 0)))] H _ := ⟨hP, hD, hS⟩
  have C : ly_C p m meth c cX2_init 1 s _ RX2 (dC, dI) [(c1, .int), (c2, .int)] A := ⟨C.1, hK, C.2.2⟩
  refine ly_pfF in_X2 tyX2 tyX2_ok nmX2 C C.2.1 hw 0 rfl rfl 6 (by decide) q113 rfl hin rfl rfl rfl (Nat.le_of_ble_eq_true rfl) dX2_init_23 (fun H locs hw => ?_)
  have hw : ly_w (dC, dI) A s.heap [(mo, .inr (2, [.ref mu, .int (nI 4), .int (nI 0), .int (nI 0), .int (nI 0), .int (nI 0), .ref le, .null, .null])), (mu, .inl (c1, 10, .inl (fun _ => nI 0))), (le, .inl (c2, 1024, .inl (fun _ => nI 0)))] H locs := hw
  refine lv_aload_n C.1.1 C.1.2.1 dX2_init_26 rfl (lv_at hl 0 rfl) ?_
  refine lv_sipush (v := nI 1024) C.1.1 C.1.2.1 dX2_init_27 (by decide) ?_
  refine va_newa (atype := .boolean) (ty := .boolean) (n := nI 1024) (N' := 1024) (a0 := (1024, .inl (fun _ => nI 0))) C.1.1 C.1.2.1 (C.1.2.2.2.2 _ q135) rfl C.2.1 hw.1 hw.2.1 hw.2.2 C.2.2.1 (fun _ => rfl) (by decide) (by decide) (by decide) (Nat.le_of_ble_eq_true rfl) (Nat.le_of_ble_eq_true rfl) dX2_init_30 (fun ch c3 H hK hP hD hS => ?_)
  refine W.widen (k := 3) (n := 2058) (Nat.le_of_ble_eq_true rfl) (Nat.le_of_ble_eq_true rfl) ?_
  have hw : ly_w (dC, dI) A s.heap [(mo, .inr (2, [.ref mu, .int (nI 4), .int (nI 0), .int (nI 0), .int (nI 0), .int (nI 0), .ref le, .null, .null])), (mu, .inl (c1, 10, .inl (fun _ => nI 0))), (le, .inl (c2, 1024, .inl (fun _ => nI 0))), (ch, .inl (c3, 1024, .inl (fun _ => nI 0)))] H _ := ⟨hP, hD, hS⟩
  have C : ly_C p m meth c cX2_init 1 s _ RX2 (dC, dI) [(c1, .int), (c2, .int), (c3, .boolean)] A := ⟨C.1, hK, C.2.2⟩
  refine ly_pfF in_X2 tyX2 tyX2_ok nmX2 C C.2.1 hw 0 rfl rfl 7 (by decide) q114 rfl hin rfl rfl rfl (Nat.le_of_ble_eq_true rfl) dX2_init_32 (fun H locs hw => ?_)
  have hw : ly_w (dC, dI) A s.heap [(mo, .inr (2, [.ref mu, .int (nI 4), .int (nI 0), .int (nI 0), .int (nI 0), .int (nI 0), .ref le, .ref ch, .null])), (mu, .inl (c1, 10, .inl (fun _ => nI 0))), (le, .inl (c2, 1024, .inl (fun _ => nI 0))), (ch, .inl (c3, 1024, .inl (fun _ => nI 0)))] H locs := hw
  refine lv_aload_n C.1.1 C.1.2.1 dX2_init_35 rfl (lv_at hl 0 rfl) ?_
  refine lv_sipush (v := nI 1024) C.1.1 C.1.2.1 dX2_init_36 (by decide) ?_
  refine va_newa (atype := .long) (ty := .long) (n := nI 1024) (N' := 1024) (a0 := (1024, .inr (.inl (fun _ => lN 0)))) C.1.1 C.1.2.1 (C.1.2.2.2.2 _ q34) rfl C.2.1 hw.1 hw.2.1 hw.2.2 C.2.2.1 (fun _ => rfl) (by decide) (by decide) (by decide) (Nat.le_of_ble_eq_true rfl) (Nat.le_of_ble_eq_true rfl) dX2_init_39 (fun mw c4 H hK hP hD hS => ?_)
  refine W.widen (k := 4) (n := 3082) (Nat.le_of_ble_eq_true rfl) (Nat.le_of_ble_eq_true rfl) ?_
  have hw : ly_w (dC, dI) A s.heap [(mo, .inr (2, [.ref mu, .int (nI 4), .int (nI 0), .int (nI 0), .int (nI 0), .int (nI 0), .ref le, .ref ch, .null])), (mu, .inl (c1, 10, .inl (fun _ => nI 0))), (le, .inl (c2, 1024, .inl (fun _ => nI 0))), (ch, .inl (c3, 1024, .inl (fun _ => nI 0))), (mw, .inl (c4, 1024, .inr (.inl (fun _ => lN 0))))] H _ := ⟨hP, hD, hS⟩
  have C : ly_C p m meth c cX2_init 1 s _ RX2 (dC, dI) [(c1, .int), (c2, .int), (c3, .boolean), (c4, .long)] A := ⟨C.1, hK, C.2.2⟩
  refine ly_pfF in_X2 tyX2 tyX2_ok nmX2 C C.2.1 hw 0 rfl rfl 8 (by decide) q115 rfl hin rfl rfl rfl (Nat.le_of_ble_eq_true rfl) dX2_init_41 (fun H locs hw => ?_)
  have hw : ly_w (dC, dI) A s.heap [(mo, .inr (2, [.ref mu, .int (nI 4), .int (nI 0), .int (nI 0), .int (nI 0), .int (nI 0), .ref le, .ref ch, .ref mw])), (mu, .inl (c1, 10, .inl (fun _ => nI 0))), (le, .inl (c2, 1024, .inl (fun _ => nI 0))), (ch, .inl (c3, 1024, .inl (fun _ => nI 0))), (mw, .inl (c4, 1024, .inr (.inl (fun _ => lN 0))))] H locs := hw
  have e2 := ly_sameI C.2.1 0 1 rfl rfl
  subst e2
  have hK9 : va_K (dC, dI) vwCl (ly_tys c1 c4 c3) s := C.2.1.sub [0, 3, 2] rfl
  exact W.vret C.1.1 C.1.2.1 hr (fun t ht hW => ⟨⟨(mu, le, ch, mw, c1, c4, c3), rfl, trivial, by rw [ht]; exact hw.1, va_K.moved hW.alike hK9, hw.2.1⟩, hw.2.2.F ht⟩) hw.2.2.2.2 dX2_init_44 C.2.2.2
end
section
/-! ===== what the flags mean; a pair put into the order ===== -/
theorem ly_full_bit (n i : Nat) : (2 ^ n - 1).testBit i = decide (i < n) := Nat.testBit_two_pow_sub_one n i
theorem ly_free_iff {n : Nat} {U : Nat → Nat} {t : Nat} (ht : t < 2 ^ n) : ly_free n U t = true ↔ ∀ a b, t.testBit a = true → t.testBit b = true → (U a).testBit b = false := by
  unfold ly_free
  rw [ly_all_iff]
  constructor
  · intro h a b ha hb
    have h1 := h a (ly_lt_bit ht ha)
    rw [ha] at h1
    have h2 : t &&& U a = 0 := by simpa using h1
    exact ly_and0.mp h2 b hb
  · intro h a _
    cases q : t.testBit a with
    | false => rfl
    | true =>
      have : t &&& U a = 0 := ly_and0.mpr (fun b hb => h a b q hb)
      simp [this]
theorem ly_rel_bit {U : Nat → Nat} {s a : Nat} (i : Nat) : ∀ m, (ly_rel U s a m).testBit i = ((U a).testBit i || decide (a = i) || (decide (i < m) && (s.testBit i && (U i).testBit a)))
  | 0 => by
    rw [ly_rel, ly_or_bit]
    simp
  | m + 1 => by
    rw [ly_rel]
    split
    · rename_i h
      rw [ly_or_bit, ly_rel_bit i m]
      by_cases e : m = i
      · subst e
        rw [h]
        simp
      · have e2 : decide (i < m + 1) = decide (i < m) := by
          apply decide_eq_decide.mpr
          omega
        rw [e2]
        simp [e]
    · rename_i h
      rw [ly_rel_bit i m]
      by_cases e : m = i
      · subst e
        have h : (s.testBit m && (U m).testBit a) = false := by simpa using h
        rw [h]
        simp
      · have e2 : decide (i < m + 1) = decide (i < m) := by
          apply decide_eq_decide.mpr
          omega
        rw [e2]
theorem ly_line_iff {n : Nat} {U : Nat → Nat} {t : Nat} (ht : t < 2 ^ n) : ly_line n U t = true ↔ ∀ a b, t.testBit a = true → t.testBit b = true → a = b ∨ (U a).testBit b = true ∨ (U b).testBit a = true := by
  unfold ly_line
  rw [ly_all_iff]
  constructor
  · intro h a b ha hb
    have h1 := h a (ly_lt_bit ht ha)
    rw [ha] at h1
    have h2 : ly_sd t (ly_rel U t a n) = 0 := by simpa using h1
    have h3 := ly_sd0.mp h2 b hb
    rw [ly_rel_bit] at h3
    rcases Bool.or_eq_true_iff.mp h3 with h3 | h3
    · rcases Bool.or_eq_true_iff.mp h3 with h3 | h3
      · exact Or.inr (Or.inl h3)
      · exact Or.inl (of_decide_eq_true h3)
    · exact Or.inr (Or.inr (Bool.and_eq_true_iff.mp (Bool.and_eq_true_iff.mp h3).2).2)
  · intro h a _
    cases q : t.testBit a with
    | false => rfl
    | true =>
      have : ly_sd t (ly_rel U t a n) = 0 := by
        apply ly_sd0.mpr
        intro b hb
        rw [ly_rel_bit]
        rcases h a b q hb with z | z | z
        · simp [z]
        · simp [z]
        · simp [z, hb, ly_lt_bit ht hb]
      simp [this]
theorem ly_line_1 (n : Nat) (U : Nat → Nat) (i : Nat) : ly_line n U (2 ^ i) = true := by
  unfold ly_line
  rw [ly_all_iff]
  intro a _
  rw [Nat.testBit_two_pow]
  by_cases e : i = a
  · subst e
    have : ly_sd (2 ^ i) (ly_rel U (2 ^ i) i n) = 0 := by
      apply ly_sd0.mpr
      intro b hb
      rw [Nat.testBit_two_pow] at hb
      rw [ly_rel_bit, hb]
      simp
    simp [this]
  · simp [e]
theorem ly_down_iff {n : Nat} {U : Nat → Nat} {t : Nat} : ly_down n U t = true ↔ ∀ a b, a < n → t.testBit b = true → (U a).testBit b = true → t.testBit a = true := by
  unfold ly_down
  rw [ly_all_iff]
  constructor
  · intro h a b ha hb hab
    have h1 := h a ha
    rcases Bool.or_eq_true_iff.mp h1 with z | z
    · exact z
    · have := ly_and0.mp (of_decide_eq_true z) b hb
      rw [this] at hab
      exact absurd hab (by decide)
  · intro h a ha
    cases q : t.testBit a with
    | true => rfl
    | false =>
      have : t &&& U a = 0 := by
        apply ly_and0.mpr
        intro b hb
        cases z : (U a).testBit b with
        | false => rfl
        | true =>
          have := h a b ha hb z
          rw [q] at this
          exact absurd this (by decide)
      simp [this]
theorem ly_O_0 {n : Nat} {U : Nat → Nat} (h : ∀ j, j < n → U j = 0) : ly_O n U := by
  refine ⟨fun i hi => by rw [h i hi]; exact Nat.two_pow_pos n, fun i hi => by rw [h i hi]; exact Nat.zero_testBit i, fun i j k hi _ e => ?_⟩
  rw [h i hi, Nat.zero_testBit] at e
  exact absurd e (by decide)
theorem ly_V_0 {n : Nat} {U D : Nat → Nat} (h : ∀ j, j < n → U j = 0) (h2 : ∀ j, j < n → D j = 0) : ly_V n U D := by
  refine ⟨fun i hi => by rw [h2 i hi]; exact Nat.two_pow_pos n, fun i j hi hj => ?_⟩
  rw [h i hi, h2 j hj, Nat.zero_testBit, Nat.zero_testBit]
theorem ly_O_b {n : Nat} {U : Nat → Nat} (h : ly_O n U) (hn : n ≤ 10) : ∀ j, j < n → U j < 1024 := fun j hj => Nat.lt_of_lt_of_le (h.1 j hj) (ly_p10 hn)
theorem ly_V_b {n : Nat} {U D : Nat → Nat} (h : ly_V n U D) (hn : n ≤ 10) : ∀ j, j < n → D j < 1024 := fun j hj => Nat.lt_of_lt_of_le (h.1 j hj) (ly_p10 hn)
theorem ly_put_iff {n : Nat} {U : Nat → Nat} {x y i j : Nat} (hi : i < n) : (ly_put n U x y i).testBit j = true ↔ (U i).testBit j = true ∨ (i = x ∨ (U i).testBit x = true) ∧ (y = j ∨ (U y).testBit j = true) := by
  unfold ly_put
  by_cases h : i < n ∧ (i = x ∨ (U i).testBit x = true)
  · rw [if_pos h, Nat.testBit_or, ly_or_bit]
    simp only [Bool.or_eq_true, decide_eq_true_eq]
    constructor
    · rintro (q | q | q)
      · exact Or.inl q
      · exact Or.inr ⟨h.2, Or.inr q⟩
      · exact Or.inr ⟨h.2, Or.inl q⟩
    · rintro (q | ⟨-, q | q⟩)
      · exact Or.inl q
      · exact Or.inr (Or.inr q)
      · exact Or.inr (Or.inl q)
  · rw [if_neg h]
    constructor
    · exact Or.inl
    · rintro (q | ⟨q, -⟩)
      · exact q
      · exact absurd ⟨hi, q⟩ h
theorem ly_bf {b : Bool} (h : ¬ b = true) : b = false := by simpa using h
theorem ly_put_O {n : Nat} {U : Nat → Nat} {x y : Nat} (h : ly_O n U) (hx : x < n) (hy : y < n) (hne : x ≠ y) (hyx : (U y).testBit x = false) : ly_O n (ly_put n U x y) := by
  obtain ⟨h1, h2, h3⟩ := h
  have hyx' : ¬ (U y).testBit x = true := by rw [hyx]; decide
  have hb : ∀ i, i < n → ly_put n U x y i < 2 ^ n := by
    intro i hi
    unfold ly_put
    split
    · exact Nat.or_lt_two_pow (h1 i hi) (Nat.or_lt_two_pow (h1 y hy) (ly_pw hy))
    · exact h1 i hi
  refine ⟨hb, fun i hi => ?_, fun i j k hi hj e1 e2 => ?_⟩
  · apply ly_bf
    rw [ly_put_iff hi]
    rintro (q | ⟨q1, q2⟩)
    · rw [h2 i hi] at q; exact absurd q (by decide)
    · rcases q1 with q1 | q1 <;> rcases q2 with q2 | q2
      · exact hne (by rw [← q1, ← q2])
      · rw [q1] at q2; exact hyx' q2
      · rw [← q2] at q1; exact hyx' q1
      · exact hyx' (h3 y i x hy hi q2 q1)
  · rw [ly_put_iff hi] at e1 ⊢
    rw [ly_put_iff hj] at e2
    rcases e1 with e1 | ⟨a1, a2⟩
    · rcases e2 with e2 | ⟨b1, b2⟩
      · exact Or.inl (h3 i j k hi hj e1 e2)
      · right
        refine ⟨Or.inr ?_, b2⟩
        rcases b1 with b1 | b1
        · rw [← b1]; exact e1
        · exact h3 i j x hi hj e1 b1
    · rcases e2 with e2 | ⟨b1, b2⟩
      · right
        refine ⟨a1, Or.inr ?_⟩
        rcases a2 with a2 | a2
        · rw [a2]; exact e2
        · exact h3 y j k hy hj a2 e2
      · exact Or.inr ⟨a1, b2⟩
/-- the desk's way to put a pair is the model's -/
theorem ly_or_put {n : Nat} {U D : Nat → Nat} {x y : Nat} (hV : ly_V n U D) (hx : x < n) : ly_or n (D x ||| 2 ^ x) (U y ||| 2 ^ y) U = ly_put n U x y := by
  funext i
  unfold ly_or ly_put
  by_cases hi : i < n
  · have e : (D x ||| 2 ^ x).testBit i = true ↔ (i = x ∨ (U i).testBit x = true) := by
      rw [ly_or_bit, hV.2 i x hi hx]
      simp only [Bool.or_eq_true, decide_eq_true_eq]
      constructor
      · rintro (q | q)
        · exact Or.inr q
        · exact Or.inl q.symm
      · rintro (q | q)
        · exact Or.inr q.symm
        · exact Or.inl q
    by_cases q : i = x ∨ (U i).testBit x = true
    · rw [if_pos ⟨hi, e.mpr q⟩, if_pos ⟨hi, q⟩]
    · rw [if_neg (fun z => q (e.mp z.2)), if_neg (fun z => q z.2)]
  · rw [if_neg (fun z => hi z.1), if_neg (fun z => hi z.1)]
theorem ly_put_V {n : Nat} {U D : Nat → Nat} {x y : Nat} (h : ly_O n U) (hV : ly_V n U D) (hx : x < n) (hy : y < n) : ly_V n (ly_put n U x y) (ly_or n (U y ||| 2 ^ y) (D x ||| 2 ^ x) D) := by
  refine ⟨fun i hi => ?_, fun i j hi hj => ?_⟩
  · unfold ly_or
    split
    · exact Nat.or_lt_two_pow (hV.1 i hi) (Nat.or_lt_two_pow (hV.1 x hx) (ly_pw hx))
    · exact hV.1 i hi
  · apply Bool.eq_iff_iff.mpr
    rw [ly_put_iff hi]
    unfold ly_or
    have e1 : (U y ||| 2 ^ y).testBit j = true ↔ y = j ∨ (U y).testBit j = true := by
      rw [ly_or_bit]
      simp only [Bool.or_eq_true, decide_eq_true_eq]
      exact Or.comm
    have e2 : (D x ||| 2 ^ x).testBit i = true ↔ i = x ∨ (U i).testBit x = true := by
      rw [ly_or_bit, hV.2 i x hi hx]
      simp only [Bool.or_eq_true, decide_eq_true_eq]
      constructor
      · rintro (q | q)
        · exact Or.inr q
        · exact Or.inl q.symm
      · rintro (q | q)
        · exact Or.inr q.symm
        · exact Or.inl q
    by_cases q : j < n ∧ (U y ||| 2 ^ y).testBit j = true
    · rw [if_pos q, Nat.testBit_or, Bool.or_eq_true, e2, hV.2 i j hi hj]
      constructor
      · rintro (z | z)
        · exact Or.inl z
        · exact Or.inr ⟨z, e1.mp q.2⟩
      · rintro (z | z)
        · exact Or.inl z
        · exact Or.inr z.1
    · rw [if_neg q, hV.2 i j hi hj]
      constructor
      · exact Or.inl
      · rintro (z | z)
        · exact z
        · exact absurd ⟨hj, e1.mpr z.2⟩ q
/-- a set that isn't empty has a thing with nothing of it above, and one with nothing below -/
theorem ly_top_ex {n : Nat} {U : Nat → Nat} (h : ly_O n U) (hn : n ≤ 10) {t : Nat} (ht : t < 2 ^ n) : ∀ (k x : Nat), t.testBit x = true → ly_pc (U x) ≤ k → ∃ a, t.testBit a = true ∧ ∀ b, t.testBit b = true → (U a).testBit b = false := by
  intro k
  induction k with
  | zero =>
    intro x hx hk
    refine ⟨x, hx, fun b hb => ?_⟩
    have := fb_ct_zero.mp (Nat.le_zero.mp hk) b (Nat.lt_of_lt_of_le (ly_lt_bit ht hb) hn)
    exact this
  | succ k ih =>
    intro x hx hk
    by_cases q : ∃ b, t.testBit b = true ∧ (U x).testBit b = true
    · obtain ⟨b, hb1, hb2⟩ := q
      have hxn := ly_lt_bit ht hx
      have hbn := ly_lt_bit ht hb1
      refine ih b hb1 ?_
      have : ly_pc (U b) + 1 ≤ ly_pc (U x) := by
        unfold ly_pc
        have e := fb_ct_upd (fun j => (U b).testBit j) true (i := b) (n := 10) (by omega)
        rw [h.2.1 b hbn, if_neg (by decide), if_pos rfl] at e
        have e2 : fb_ct (fun k => if k = b then true else (U b).testBit k) 10 ≤ fb_ct (fun j => (U x).testBit j) 10 := by
          apply fb_ct_sub
          intro k _ hk
          by_cases z : k = b
          · rw [z]; exact hb2
          · rw [if_neg z] at hk
            exact h.2.2 x b k hxn hbn hb2 hk
        omega
      omega
    · refine ⟨x, hx, fun b hb => ?_⟩
      apply ly_bf
      exact fun z => q ⟨b, hb, z⟩
theorem ly_top_of {n : Nat} {U : Nat → Nat} (h : ly_O n U) (hn : n ≤ 10) {t : Nat} (ht : t < 2 ^ n) (h0 : t ≠ 0) : ∃ a, t.testBit a = true ∧ ∀ b, t.testBit b = true → (U a).testBit b = false := by
  obtain ⟨x, hx⟩ := Nat.exists_testBit_of_ne_zero h0
  exact ly_top_ex h hn ht _ x hx (Nat.le_refl _)
theorem ly_bot_ex {n : Nat} {U D : Nat → Nat} (h : ly_O n U) (hV : ly_V n U D) (hn : n ≤ 10) {t : Nat} (ht : t < 2 ^ n) : ∀ (k x : Nat), t.testBit x = true → ly_pc (D x) ≤ k → ∃ a, t.testBit a = true ∧ ∀ b, t.testBit b = true → (D a).testBit b = false := by
  intro k
  induction k with
  | zero =>
    intro x hx hk
    refine ⟨x, hx, fun b hb => ?_⟩
    have := fb_ct_zero.mp (Nat.le_zero.mp hk) b (Nat.lt_of_lt_of_le (ly_lt_bit ht hb) hn)
    exact this
  | succ k ih =>
    intro x hx hk
    by_cases q : ∃ b, t.testBit b = true ∧ (D x).testBit b = true
    · obtain ⟨b, hb1, hb2⟩ := q
      have hxn := ly_lt_bit ht hx
      have hbn := ly_lt_bit ht hb1
      refine ih b hb1 ?_
      have : ly_pc (D b) + 1 ≤ ly_pc (D x) := by
        unfold ly_pc
        have e := fb_ct_upd (fun j => (D b).testBit j) true (i := b) (n := 10) (by omega)
        rw [hV.2 b b hbn hbn, h.2.1 b hbn, if_neg (by decide), if_pos rfl] at e
        have e2 : fb_ct (fun k => if k = b then true else (D b).testBit k) 10 ≤ fb_ct (fun j => (D x).testBit j) 10 := by
          apply fb_ct_sub
          intro k _ hk
          by_cases z : k = b
          · rw [z]; exact hb2
          · rw [if_neg z] at hk
            have hkn : k < n := ly_lt_bit (hV.1 b hbn) hk
            rw [hV.2 k b hkn hbn] at hk
            rw [hV.2 b x hbn hxn] at hb2
            rw [hV.2 k x hkn hxn]
            exact h.2.2 k b x hkn hbn hk hb2
        omega
      omega
    · refine ⟨x, hx, fun b hb => ?_⟩
      apply ly_bf
      exact fun z => q ⟨b, hb, z⟩
theorem ly_bot_of {n : Nat} {U D : Nat → Nat} (h : ly_O n U) (hV : ly_V n U D) (hn : n ≤ 10) {t : Nat} (ht : t < 2 ^ n) (h0 : t ≠ 0) : ∃ a, t.testBit a = true ∧ ∀ b, t.testBit b = true → (D a).testBit b = false := by
  obtain ⟨x, hx⟩ := Nat.exists_testBit_of_ne_zero h0
  exact ly_bot_ex h hV hn ht _ x hx (Nat.le_refl _)
/-- the greatest number, by its two properties -/
theorem ly_mx_ge {p : Nat → Bool} : ∀ {N c : Nat}, c < N → p c = true → ly_pc c ≤ ly_mx p N
  | N + 1, c, hc, hp => by
    rw [ly_mx]
    rcases Nat.lt_or_eq_of_le (Nat.le_of_lt_succ hc) with q | q
    · have := ly_mx_ge q hp
      split
      · rename_i z
        have := of_decide_eq_true (Bool.and_eq_true_iff.mp z).2
        omega
      · exact this
    · subst q
      split
      · exact Nat.le_refl _
      · rename_i z
        rw [hp, Bool.true_and, decide_eq_true_eq] at z
        omega
theorem ly_mx_le' {p : Nat → Bool} {k : Nat} : ∀ {N : Nat}, (∀ c, c < N → p c = true → ly_pc c ≤ k) → ly_mx p N ≤ k
  | 0, _ => Nat.zero_le _
  | N + 1, h => by
    rw [ly_mx]
    split
    · rename_i z
      exact h N (Nat.lt_succ_self N) (Bool.and_eq_true_iff.mp z).1
    · exact ly_mx_le' (fun c hc => h c (by omega))
theorem ly_mx_eq {p : Nat → Bool} {N k : Nat} (h1 : ∀ c, c < N → p c = true → ly_pc c ≤ k) (h2 : ∃ c, c < N ∧ p c = true ∧ ly_pc c = k) : ly_mx p N = k := by
  obtain ⟨c, a, b, d⟩ := h2
  have := ly_mx_ge a b
  have := ly_mx_le' h1
  omega
end
section
/-! ===== layers and the longest line ===== -/
theorem ly_layer_bit {D : Nat → Nat} {left : Nat} (i : Nat) : ∀ m, (ly_layer D left m).testBit i = (decide (i < m) && (left.testBit i && decide (D i &&& left = 0)))
  | 0 => by
    rw [ly_layer, Nat.zero_testBit]
    simp
  | m + 1 => by
    rw [ly_layer]
    split
    · rename_i h
      rw [ly_or_bit, ly_layer_bit i m]
      by_cases e : m = i
      · subst e
        rw [h]
        simp
      · have e2 : decide (i < m + 1) = decide (i < m) := decide_eq_decide.mpr (by omega)
        rw [e2]
        simp [e]
    · rename_i h
      rw [ly_layer_bit i m]
      by_cases e : m = i
      · subst e
        have h : (left.testBit m && decide (D m &&& left = 0)) = false := by simpa using h
        rw [h]
        simp
      · have e2 : decide (i < m + 1) = decide (i < m) := decide_eq_decide.mpr (by omega)
        rw [e2]
/-- a set in two parts -/
theorem ly_pc_split (c a b : Nat) (h : ∀ i, i < 10 → c.testBit i = true → a.testBit i = true ∨ b.testBit i = true) : ly_pc c ≤ ly_pc a + ly_pc b := by
  unfold ly_pc
  have e1 : fb_ct (fun i => a.testBit i || (b.testBit i && !a.testBit i)) 10 = fb_ct (fun i => a.testBit i) 10 + fb_ct (fun i => b.testBit i && !a.testBit i) 10 := by
    refine fb_ct_or (fun k _ hk => ?_)
    obtain ⟨z1, z2⟩ := hk
    rw [z1] at z2
    simp at z2
  have e2 : fb_ct (fun i => b.testBit i && !a.testBit i) 10 ≤ fb_ct (fun i => b.testBit i) 10 := fb_ct_sub (fun k _ hk => (Bool.and_eq_true_iff.mp hk).1)
  have e3 : fb_ct (fun i => c.testBit i) 10 ≤ fb_ct (fun i => a.testBit i || (b.testBit i && !a.testBit i)) 10 := by
    refine fb_ct_sub (fun k hk hc => ?_)
    rcases h k hk hc with z | z
    · rw [z]; rfl
    · rw [z]; cases a.testBit k <;> rfl
  omega
/-- at most one -/
theorem ly_pc_one {c : Nat} (h : ∀ i j, c.testBit i = true → c.testBit j = true → i = j) : ly_pc c ≤ 1 := by
  by_cases q : ∃ i, i < 10 ∧ c.testBit i = true
  · obtain ⟨i, hi, hc⟩ := q
    unfold ly_pc
    have e := fb_ct_upd (fun j => c.testBit j) false (i := i) (n := 10) hi
    rw [hc, if_pos rfl, if_neg (by decide)] at e
    have e2 : fb_ct (fun k => if k = i then false else c.testBit k) 10 = 0 := by
      refine fb_ct_zero.mpr (fun k _ => ?_)
      by_cases z : k = i
      · rw [if_pos z]
      · rw [if_neg z]
        apply ly_bf
        intro z2
        exact z (h k i z2 hc)
    omega
  · have : ly_pc c = 0 := fb_ct_zero.mpr (fun k hk => ly_bf (fun z => q ⟨k, hk, z⟩))
    omega
theorem ly_pc_add {c x : Nat} (hx : x < 10) (h : c.testBit x = false) : ly_pc (c ||| 2 ^ x) = ly_pc c + 1 := by
  unfold ly_pc
  have e := fb_ct_upd (fun j => c.testBit j) true (i := x) (n := 10) hx
  rw [h, if_neg (by decide), if_pos rfl] at e
  have e2 : fb_ct (fun j => (c ||| 2 ^ x).testBit j) 10 = fb_ct (fun k => if k = x then true else c.testBit k) 10 := by
    refine fb_ct_cong (fun k _ => ?_)
    rw [ly_or_bit]
    by_cases z : k = x
    · rw [if_pos z]; simp [z]
    · rw [if_neg z]
      have : ¬ x = k := fun q => z q.symm
      simp [this]
  omega
/-- a line and one thing above all of it -/
theorem ly_line_add {n : Nat} {U : Nat → Nat} (hO : ly_O n U) {c x : Nat} (hc : c < 2 ^ n) (hl : ly_line n U c = true) (hx : x < n) (hb : ∀ y, c.testBit y = true → (U y).testBit x = true) : c ||| 2 ^ x < 2 ^ n ∧ ly_line n U (c ||| 2 ^ x) = true ∧ c.testBit x = false := by
  have hlt : c ||| 2 ^ x < 2 ^ n := Nat.or_lt_two_pow hc (ly_pw hx)
  refine ⟨hlt, ?_, ?_⟩
  · rw [ly_line_iff hlt]
    rw [ly_line_iff hc] at hl
    intro a b ha hb2
    rw [ly_or_bit] at ha hb2
    simp only [Bool.or_eq_true, decide_eq_true_eq] at ha hb2
    rcases ha with ha | ha <;> rcases hb2 with hb2 | hb2
    · exact hl a b ha hb2
    · rw [← hb2]; exact Or.inr (Or.inl (hb a ha))
    · rw [← ha]; exact Or.inr (Or.inr (hb b hb2))
    · left; omega
  · apply ly_bf
    intro z
    have := hb x z
    rw [hO.2.1 x hx] at this
    exact absurd this (by decide)
/-- the invariant of the layers -/
def ly_hI (n : Nat) (U : Nat → Nat) (k left : Nat) : Prop :=
  left < 2 ^ n ∧ (∀ c, c < 2 ^ n → ly_line n U c = true → ly_pc c ≤ k + ly_pc (c &&& left)) ∧ (∀ x, left.testBit x = true → ∃ c, c < 2 ^ n ∧ ly_line n U c = true ∧ ly_pc c = k ∧ ∀ y, c.testBit y = true → (U y).testBit x = true) ∧ ∃ c, c < 2 ^ n ∧ ly_line n U c = true ∧ ly_pc c = k
theorem ly_line_0 (n : Nat) (U : Nat → Nat) : ly_line n U 0 = true := by
  rw [ly_line_iff (Nat.two_pow_pos n)]
  intro a b ha
  rw [Nat.zero_testBit] at ha
  exact absurd ha (by decide)
theorem ly_hI_0 (n : Nat) (U : Nat → Nat) : ly_hI n U 0 (2 ^ n - 1) := by
  have hp := Nat.two_pow_pos n
  refine ⟨by omega, fun c hc _ => ?_, fun x _ => ⟨0, hp, ly_line_0 n U, ly_pc_0, fun y hy => ?_⟩, ⟨0, hp, ly_line_0 n U, ly_pc_0⟩⟩
  · have e : c &&& (2 ^ n - 1) = c := by
      apply ly_and_sub
      intro i hi
      rw [ly_full_bit]
      exact decide_eq_true (ly_lt_bit hc hi)
    rw [e]
    omega
  · rw [Nat.zero_testBit] at hy
    exact absurd hy (by decide)
theorem ly_hI_step {n : Nat} {U D : Nat → Nat} (hO : ly_O n U) (hV : ly_V n U D) (hn : n ≤ 10) : ∀ k left, ly_hI n U k left → left < 2 ^ n → left ≠ 0 → ly_sd left (ly_layer D left n) < left ∧ ly_hI n U (k + 1) (ly_sd left (ly_layer D left n)) := by
  intro k left h hlt h0
  obtain ⟨h1, h2, h3, h4⟩ := h
  obtain ⟨a, ha1, ha2⟩ := ly_bot_of hO hV hn hlt h0
  have han := ly_lt_bit hlt ha1
  have hla : (ly_layer D left n).testBit a = true := by
    rw [ly_layer_bit, ha1, decide_eq_true han]
    have : D a &&& left = 0 := by
      apply ly_and0.mpr
      intro i hi
      cases q : left.testBit i with
      | false => rfl
      | true => rw [ha2 i q] at hi; exact absurd hi (by decide)
    rw [decide_eq_true this]
    rfl
  have hdec := ly_sd_lt ha1 hla
  have hanti : ∀ i j, (ly_layer D left n).testBit i = true → (ly_layer D left n).testBit j = true → (U i).testBit j = false := by
    intro i j hi hj
    rw [ly_layer_bit] at hi hj
    obtain ⟨i1, i2⟩ := Bool.and_eq_true_iff.mp hi
    obtain ⟨i2, i3⟩ := Bool.and_eq_true_iff.mp i2
    obtain ⟨j1, j2⟩ := Bool.and_eq_true_iff.mp hj
    obtain ⟨j2, j3⟩ := Bool.and_eq_true_iff.mp j2
    rw [← hV.2 i j (of_decide_eq_true i1) (of_decide_eq_true j1)]
    apply ly_bf
    intro z
    have := ly_and0.mp (of_decide_eq_true j3) i z
    rw [i2] at this
    exact absurd this (by decide)
  refine ⟨hdec, by omega, fun c hc hl => ?_, fun x hx => ?_, ?_⟩
  · have e1 := h2 c hc hl
    have e2 : ly_pc (c &&& left) ≤ ly_pc (c &&& ly_sd left (ly_layer D left n)) + ly_pc (c &&& ly_layer D left n) := by
      apply ly_pc_split
      intro i _ hi
      rw [Nat.testBit_and] at hi
      obtain ⟨i1, i2⟩ := Bool.and_eq_true_iff.mp hi
      rw [Nat.testBit_and, Nat.testBit_and, ly_sd_bit, i1, i2]
      cases (ly_layer D left n).testBit i <;> simp
    have e3 : ly_pc (c &&& ly_layer D left n) ≤ 1 := by
      apply ly_pc_one
      intro i j hi hj
      rw [Nat.testBit_and] at hi hj
      obtain ⟨i1, i2⟩ := Bool.and_eq_true_iff.mp hi
      obtain ⟨j1, j2⟩ := Bool.and_eq_true_iff.mp hj
      rcases (ly_line_iff hc).mp hl i j i1 j1 with z | z | z
      · exact z
      · rw [hanti i j i2 j2] at z; exact absurd z (by decide)
      · rw [hanti j i j2 i2] at z; exact absurd z (by decide)
    omega
  · rw [ly_sd_bit] at hx
    obtain ⟨x1, x2⟩ := Bool.and_eq_true_iff.mp hx
    have hxn := ly_lt_bit hlt x1
    have x2 : (ly_layer D left n).testBit x = false := by simpa using x2
    rw [ly_layer_bit, x1, decide_eq_true hxn] at x2
    have x3 : ¬ D x &&& left = 0 := by simpa using x2
    obtain ⟨y, hy⟩ := Nat.exists_testBit_of_ne_zero x3
    rw [Nat.testBit_and] at hy
    obtain ⟨y1, y2⟩ := Bool.and_eq_true_iff.mp hy
    have hyn := ly_lt_bit hlt y2
    rw [hV.2 y x hyn hxn] at y1
    obtain ⟨c, c1, c2, c3, c4⟩ := h3 y y2
    obtain ⟨d1, d2, d3⟩ := ly_line_add hO c1 c2 hyn c4
    refine ⟨c ||| 2 ^ y, d1, d2, by rw [ly_pc_add (by omega) d3, c3], fun z hz => ?_⟩
    rw [ly_or_bit] at hz
    simp only [Bool.or_eq_true, decide_eq_true_eq] at hz
    rcases hz with hz | hz
    · exact hO.2.2 z y x (ly_lt_bit c1 hz) hyn (c4 z hz) y1
    · rw [← hz]; exact y1
  · obtain ⟨c, c1, c2, c3, c4⟩ := h3 a ha1
    obtain ⟨d1, d2, d3⟩ := ly_line_add hO c1 c2 han c4
    exact ⟨c ||| 2 ^ a, d1, d2, by rw [ly_pc_add (by omega) d3, c3]⟩
theorem ly_hI_end {n : Nat} {U : Nat → Nat} {k : Nat} (h : ly_hI n U k 0) : ly_mx (ly_line n U) (2 ^ n) = k := by
  obtain ⟨-, h2, -, h4⟩ := h
  refine ly_mx_eq (fun c hc hl => ?_) h4
  have := h2 c hc hl
  rw [Nat.and_zero, ly_pc_0] at this
  exact this
end
section
/-! ===== the widest free set, the least cover, the greatest pairing ===== -/
def ly_mk (p : Nat → Bool) : Nat → Nat
  | 0 => 0
  | k + 1 => if p k then ly_mk p k ||| 2 ^ k else ly_mk p k
theorem ly_mk_bit {p : Nat → Bool} (i : Nat) : ∀ m, (ly_mk p m).testBit i = (decide (i < m) && p i)
  | 0 => by
    rw [ly_mk, Nat.zero_testBit]
    simp
  | m + 1 => by
    rw [ly_mk]
    split
    · rename_i h
      rw [ly_or_bit, ly_mk_bit i m]
      by_cases e : m = i
      · subst e
        rw [h]
        simp
      · have e2 : decide (i < m + 1) = decide (i < m) := decide_eq_decide.mpr (by omega)
        rw [e2]
        simp [e]
    · rename_i h
      rw [ly_mk_bit i m]
      by_cases e : m = i
      · subst e
        have h : p m = false := by simpa using h
        rw [h]
        simp
      · have e2 : decide (i < m + 1) = decide (i < m) := decide_eq_decide.mpr (by omega)
        rw [e2]
theorem ly_mk_lt (p : Nat → Bool) (n : Nat) : ly_mk p n < 2 ^ n := by
  apply Nat.lt_pow_two_of_testBit
  intro i hi
  rw [ly_mk_bit, decide_eq_false (by omega)]
  rfl
theorem ly_ct_cut {p : Nat → Bool} {n : Nat} : ∀ {m : Nat}, n ≤ m → fb_ct (fun i => decide (i < n) && p i) m = fb_ct p n := by
  intro m h
  induction m with
  | zero =>
    have : n = 0 := by omega
    subst this
    rfl
  | succ m ih =>
    rcases Nat.lt_or_eq_of_le h with q | q
    · rw [fb_ct_succ, ih (by omega), if_neg]
      · rfl
      · rw [decide_eq_false (by omega), Bool.false_and]; decide
    · subst q
      exact fb_ct_cong (fun k hk => by rw [decide_eq_true hk]; rfl)
theorem ly_mk_pc {p : Nat → Bool} {n : Nat} (hn : n ≤ 10) : ly_pc (ly_mk p n) = fb_ct p n := by
  unfold ly_pc
  rw [← ly_ct_cut (p := p) hn]
  exact fb_ct_cong (fun k _ => ly_mk_bit k n)
/-- no free set has more things than a cover has lines -/
theorem ly_free_CP {n : Nat} {U : Nat → Nat} {a : Nat} (ha : a < 2 ^ n) (hf : ly_free n U a = true) : ∀ {k t : Nat}, t < 2 ^ n → ly_CP (ly_line n U) k t → ly_pc (a &&& t) ≤ k
  | 0, t, _, h => by
    have h : t = 0 := h
    rw [h, Nat.and_zero, ly_pc_0]
    exact Nat.le_refl 0
  | k + 1, t, ht, h => by
    obtain ⟨q, q0, qs, ql, qc⟩ := h
    have hq : q < 2 ^ n := Nat.lt_of_le_of_lt (ly_sub_le qs) ht
    have e1 := ly_free_CP ha hf (Nat.lt_of_le_of_lt (ly_sd_le t q) ht) qc
    have e2 : ly_pc (a &&& t) ≤ ly_pc (a &&& q) + ly_pc (a &&& ly_sd t q) := by
      apply ly_pc_split
      intro i _ hi
      rw [Nat.testBit_and] at hi
      obtain ⟨i1, i2⟩ := Bool.and_eq_true_iff.mp hi
      rw [Nat.testBit_and, Nat.testBit_and, ly_sd_bit, i1, i2]
      cases q.testBit i <;> simp
    have e3 : ly_pc (a &&& q) ≤ 1 := by
      apply ly_pc_one
      intro i j hi hj
      rw [Nat.testBit_and] at hi hj
      obtain ⟨i1, i2⟩ := Bool.and_eq_true_iff.mp hi
      obtain ⟨j1, j2⟩ := Bool.and_eq_true_iff.mp hj
      rcases (ly_line_iff hq).mp ql i j i2 j2 with z | z | z
      · exact z
      · rw [(ly_free_iff ha).mp hf i j i1 j1] at z; exact absurd z (by decide)
      · rw [(ly_free_iff ha).mp hf j i j1 i1] at z; exact absurd z (by decide)
    omega
/-- a free set out of a cover of the pairs -/
theorem ly_free_ex {n : Nat} {U : Nat → Nat} {q : Nat} (hO : ly_O n U) (hn : n ≤ 10) (h : ly_pair n U q) : ∃ a, a < 2 ^ n ∧ ly_free n U a = true ∧ n ≤ ly_pc a + q := by
  obtain ⟨-, cl, cr, h1, h2⟩ := h
  refine ⟨ly_mk (fun x => !cl x && !cr x) n, ly_mk_lt _ n, ?_, ?_⟩
  · rw [ly_free_iff (ly_mk_lt _ n)]
    intro a b ha hb
    rw [ly_mk_bit] at ha hb
    obtain ⟨a1, a2⟩ := Bool.and_eq_true_iff.mp ha
    obtain ⟨b1, b2⟩ := Bool.and_eq_true_iff.mp hb
    have a1 := of_decide_eq_true a1
    have b1 := of_decide_eq_true b1
    apply ly_bf
    intro z
    rcases h1 a b a1 (by omega) z with y | y
    · rw [y] at a2; simp at a2
    · rw [y] at b2; simp at b2
  · rw [ly_mk_pc hn]
    have e1 := fb_ct_mono cl hn
    have e2 := fb_ct_mono cr hn
    have e3 : n ≤ fb_ct (fun x => !cl x && !cr x) n + (fb_ct cl n + fb_ct cr n) := by
      have s1 := fb_ct_not (fun x => !cl x && !cr x) n
      have s2 : fb_ct (fun k => !(!cl k && !cr k)) n ≤ fb_ct (fun k => cl k || (cr k && !cl k)) n := by
        refine fb_ct_sub (fun k _ hk => ?_)
        revert hk
        cases cl k <;> cases cr k <;> simp
      have s3 : fb_ct (fun k => cl k || (cr k && !cl k)) n = fb_ct cl n + fb_ct (fun k => cr k && !cl k) n := by
        refine fb_ct_or (fun k _ hk => ?_)
        obtain ⟨z1, z2⟩ := hk
        rw [z1] at z2
        simp at z2
      have s4 : fb_ct (fun k => cr k && !cl k) n ≤ fb_ct cr n := fb_ct_sub (fun k _ hk => (Bool.and_eq_true_iff.mp hk).1)
      omega
    omega
/-- how many of s have their partner below in s -/
def ly_m (f : Nat → Option Nat) (s : Nat) : Nat := fb_ct (fun b => s.testBit b && (match f b with | some x => s.testBit x | none => false)) 10
/-- the lines that a pairing makes, by colours -/
theorem ly_colour {n : Nat} {U : Nat → Nat} (hO : ly_O n U) (hn : n ≤ 10) {f : Nat → Option Nat} (hf1 : ∀ b x, b < 10 → f b = some x → x < n ∧ (U x).testBit b = true) (hf2 : ∀ b b' x, b < 10 → b' < 10 → f b = some x → f b' = some x → b = b') :
    ∀ (k s : Nat), s < 2 ^ n → ly_pc s = k → ly_m f s ≤ ly_pc s ∧ ∃ col : Nat → Nat, (∀ x, s.testBit x = true → col x + ly_m f s < ly_pc s) ∧ (∀ x y, s.testBit x = true → s.testBit y = true → col x = col y → x = y ∨ (U x).testBit y = true ∨ (U y).testBit x = true) ∧ (∀ z, s.testBit z = true → (∀ b, s.testBit b = true → f b ≠ some z) → ∀ w, s.testBit w = true → col w = col z → w = z ∨ (U w).testBit z = true) := by
  intro k
  induction k with
  | zero =>
    intro s hs hk
    have h0 : ∀ x, ¬ s.testBit x = true := by
      intro x hx
      have := fb_ct_zero.mp hk x (Nat.lt_of_lt_of_le (ly_lt_bit hs hx) hn)
      rw [this] at hx
      exact absurd hx (by decide)
    have hm : ly_m f s = 0 := by
      refine fb_ct_zero.mpr (fun b _ => ?_)
      rw [ly_bf (h0 b)]
      rfl
    refine ⟨by omega, fun _ => 0, fun x hx => absurd hx (h0 x), fun x y hx => absurd hx (h0 x), fun z hz => absurd hz (h0 z)⟩
  | succ k ih =>
    intro s hs hk
    have hs0 : s ≠ 0 := by
      intro z
      rw [z, ly_pc_0] at hk
      omega
    obtain ⟨x, hx1, hx2⟩ := ly_top_of hO hn hs hs0
    have hxn := ly_lt_bit hs hx1
    -- s without x
    have hbit : ∀ i, (ly_sd s (2 ^ x)).testBit i = (s.testBit i && !decide (x = i)) := fun i => by rw [ly_sd_bit, Nat.testBit_two_pow]
    have hin : ∀ i, (ly_sd s (2 ^ x)).testBit i = true ↔ s.testBit i = true ∧ x ≠ i := by
      intro i
      rw [hbit]
      simp
    have hxx : (ly_sd s (2 ^ x)).testBit x = false := by rw [hbit]; simp
    have hback : ly_sd s (2 ^ x) ||| 2 ^ x = s := by
      apply Nat.eq_of_testBit_eq
      intro i
      rw [ly_or_bit, hbit]
      by_cases e : x = i
      · subst e; rw [hx1]; simp
      · simp [e]
    have hlt : ly_sd s (2 ^ x) < 2 ^ n := Nat.lt_of_le_of_lt (ly_sd_le _ _) hs
    have hpc : ly_pc s = ly_pc (ly_sd s (2 ^ x)) + 1 := by
      have := ly_pc_add (by omega) hxx
      rw [hback] at this
      exact this
    obtain ⟨hm1, col, hc1, hc2, hc3⟩ := ih (ly_sd s (2 ^ x)) hlt (by omega)
    -- nobody in s has x below it
    have hnox : ∀ b, s.testBit b = true → f b ≠ some x := by
      intro b hb e
      have hbn := ly_lt_bit hs hb
      have := (hf1 b x (by omega) e).2
      rw [hx2 b hb] at this
      exact absurd this (by decide)
    -- the count
    have hmx : ly_m f s = ly_m f (ly_sd s (2 ^ x)) + (if (match f x with | some y => s.testBit y | none => false) then 1 else 0) := by
      unfold ly_m
      have e := fb_ct_upd (fun b => (ly_sd s (2 ^ x)).testBit b && (match f b with | some y => (ly_sd s (2 ^ x)).testBit y | none => false)) (match f x with | some y => s.testBit y | none => false) (i := x) (n := 10) (by omega)
      rw [hxx, Bool.false_and, if_neg (by decide), Nat.add_zero] at e
      rw [← e]
      refine fb_ct_cong (fun b _ => ?_)
      by_cases z : b = x
      · subst z
        rw [if_pos rfl, hx1, Bool.true_and]
      · rw [if_neg z]
        cases q : s.testBit b with
        | false => rw [hbit, q]; rfl
        | true =>
          rw [(hin b).mpr ⟨q, fun w => z w.symm⟩]
          cases fe : f b with
          | none => rfl
          | some y =>
            show (true && s.testBit y) = (true && (ly_sd s (2 ^ x)).testBit y)
            have hyx : x ≠ y := by
              intro w
              rw [← w] at fe
              exact hnox b q fe
            rw [hbit]
            simp [hyx]
    by_cases hcase : ∃ y, f x = some y ∧ s.testBit y = true
    · obtain ⟨y, fy, hy⟩ := hcase
      have hyu := (hf1 x y (by omega) fy).2
      have hyn := (hf1 x y (by omega) fy).1
      have hxy : x ≠ y := by
        intro w
        rw [← w, hO.2.1 x hxn] at hyu
        exact absurd hyu (by decide)
      have hy' := (hin y).mpr ⟨hy, hxy⟩
      have hmx : ly_m f s = ly_m f (ly_sd s (2 ^ x)) + 1 := by
        rw [hmx, fy]
        show _ + (if s.testBit y = true then 1 else 0) = _
        rw [if_pos hy]
      have htop : ∀ w, (ly_sd s (2 ^ x)).testBit w = true → col w = col y → w = y ∨ (U w).testBit y = true := by
        refine hc3 y hy' (fun b hb e => ?_)
        have hb' := (hin b).mp hb
        exact hb'.2 (hf2 x b y (by omega) (Nat.lt_of_lt_of_le (ly_lt_bit hs hb'.1) hn) fy e)
      have habove : ∀ w, (ly_sd s (2 ^ x)).testBit w = true → col w = col y → (U w).testBit x = true := by
        intro w hw e
        rcases htop w hw e with z | z
        · rw [z]; exact hyu
        · exact hO.2.2 w y x (ly_lt_bit hlt hw) hyn z hyu
      refine ⟨by omega, fun i => if i = x then col y else col i, fun i hi => ?_, fun i j hi hj e => ?_, fun z hz hno w hw e => ?_⟩
      · show (if i = x then col y else col i) + _ < _
        by_cases q : i = x
        · rw [if_pos q]
          have := hc1 y hy'
          omega
        · rw [if_neg q]
          have := hc1 i ((hin i).mpr ⟨hi, fun w => q w.symm⟩)
          omega
      · dsimp only at e
        by_cases q : i = x
        · by_cases q' : j = x
          · left; omega
          · rw [if_pos q, if_neg q'] at e
            rw [q]
            exact Or.inr (Or.inr (habove j ((hin j).mpr ⟨hj, fun w => q' w.symm⟩) e.symm))
        · by_cases q' : j = x
          · rw [if_neg q, if_pos q'] at e
            rw [q']
            exact Or.inr (Or.inl (habove i ((hin i).mpr ⟨hi, fun w => q w.symm⟩) e))
          · rw [if_neg q, if_neg q'] at e
            exact hc2 i j ((hin i).mpr ⟨hi, fun w => q w.symm⟩) ((hin j).mpr ⟨hj, fun w => q' w.symm⟩) e
      · dsimp only at e
        by_cases q : z = x
        · by_cases q' : w = x
          · left; omega
          · rw [if_pos q, if_neg q'] at e
            right
            rw [q]
            exact habove w ((hin w).mpr ⟨hw, fun v => q' v.symm⟩) e
        · have hz' := (hin z).mpr ⟨hz, fun v => q v.symm⟩
          have hno' : ∀ b, (ly_sd s (2 ^ x)).testBit b = true → f b ≠ some z := fun b hb => hno b ((hin b).mp hb).1
          by_cases q' : w = x
          · rw [if_neg q, if_pos q'] at e
            have g1 := hc3 z hz' hno' y hy' e
            have g2 := htop z hz' e.symm
            rcases g1 with g1 | g1
            · rw [g1] at fy
              exact absurd fy (hno x hx1)
            · rcases g2 with g2 | g2
              · rw [← g2] at fy
                exact absurd fy (hno x hx1)
              · have := hO.2.2 y z y hyn (ly_lt_bit hs hz) g1 g2
                rw [hO.2.1 y hyn] at this
                exact absurd this (by decide)
          · rw [if_neg q, if_neg q'] at e
            exact hc3 z hz' hno' w ((hin w).mpr ⟨hw, fun v => q' v.symm⟩) e
    · have hmx : ly_m f s = ly_m f (ly_sd s (2 ^ x)) := by
        rw [hmx, if_neg]
        · rfl
        · cases fe : f x with
          | none => exact Bool.false_ne_true
          | some y =>
            intro z
            exact hcase ⟨y, fe, z⟩
      refine ⟨by omega, fun i => if i = x then ly_pc (ly_sd s (2 ^ x)) - ly_m f (ly_sd s (2 ^ x)) else col i, fun i hi => ?_, fun i j hi hj e => ?_, fun z hz hno w hw e => ?_⟩
      · show (if i = x then ly_pc (ly_sd s (2 ^ x)) - ly_m f (ly_sd s (2 ^ x)) else col i) + _ < _
        by_cases q : i = x
        · rw [if_pos q]
          omega
        · rw [if_neg q]
          have := hc1 i ((hin i).mpr ⟨hi, fun w => q w.symm⟩)
          omega
      · dsimp only at e
        by_cases q : i = x
        · by_cases q' : j = x
          · left; omega
          · rw [if_pos q, if_neg q'] at e
            have := hc1 j ((hin j).mpr ⟨hj, fun w => q' w.symm⟩)
            omega
        · by_cases q' : j = x
          · rw [if_neg q, if_pos q'] at e
            have := hc1 i ((hin i).mpr ⟨hi, fun w => q w.symm⟩)
            omega
          · rw [if_neg q, if_neg q'] at e
            exact hc2 i j ((hin i).mpr ⟨hi, fun w => q w.symm⟩) ((hin j).mpr ⟨hj, fun w => q' w.symm⟩) e
      · dsimp only at e
        by_cases q : z = x
        · by_cases q' : w = x
          · left; omega
          · rw [if_pos q, if_neg q'] at e
            have := hc1 w ((hin w).mpr ⟨hw, fun v => q' v.symm⟩)
            omega
        · have hz' := (hin z).mpr ⟨hz, fun v => q v.symm⟩
          by_cases q' : w = x
          · rw [if_neg q, if_pos q'] at e
            have := hc1 z hz'
            omega
          · rw [if_neg q, if_neg q'] at e
            exact hc3 z hz' (fun b hb => hno b ((hin b).mp hb).1) w ((hin w).mpr ⟨hw, fun v => q' v.symm⟩) e
/-- colours as a cover -/
theorem ly_CP_col {n : Nat} {U : Nat → Nat} {col : Nat → Nat} : ∀ {k s : Nat}, s < 2 ^ n → (∀ x, s.testBit x = true → col x < k) → (∀ x y, s.testBit x = true → s.testBit y = true → col x = col y → x = y ∨ (U x).testBit y = true ∨ (U y).testBit x = true) → ∃ j, j ≤ k ∧ ly_CP (ly_line n U) j s
  | 0, s, hs, h1, _ => by
    refine ⟨0, Nat.le_refl 0, ?_⟩
    show s = 0
    apply Nat.eq_of_testBit_eq
    intro i
    rw [Nat.zero_testBit]
    apply ly_bf
    intro z
    have := h1 i z
    omega
  | k + 1, s, hs, h1, h2 => by
    have hq : ∀ i, (ly_mk (fun x => s.testBit x && decide (col x = k)) n).testBit i = true ↔ s.testBit i = true ∧ col i = k := by
      intro i
      rw [ly_mk_bit]
      simp only [Bool.and_eq_true, decide_eq_true_eq]
      constructor
      · rintro ⟨-, z⟩; exact z
      · intro z; exact ⟨ly_lt_bit hs z.1, z⟩
    generalize ly_mk (fun x => s.testBit x && decide (col x = k)) n = q at hq
    have hrest : ∀ i, (ly_sd s q).testBit i = true → s.testBit i = true ∧ col i ≠ k := by
      intro i hi
      rw [ly_sd_bit] at hi
      obtain ⟨i1, i2⟩ := Bool.and_eq_true_iff.mp hi
      refine ⟨i1, fun z => ?_⟩
      rw [(hq i).mpr ⟨i1, z⟩] at i2
      exact absurd i2 (by decide)
    have hlt : ly_sd s q < 2 ^ n := Nat.lt_of_le_of_lt (ly_sd_le s q) hs
    obtain ⟨j, hj1, hj2⟩ := ly_CP_col (k := k) hlt (fun x hx => by
      have a := hrest x hx
      have b := h1 x a.1
      omega) (fun x y hx hy => h2 x y (hrest x hx).1 (hrest y hy).1)
    by_cases h0 : q = 0
    · have e : ly_sd s q = s := by
        apply Nat.eq_of_testBit_eq
        intro i
        rw [ly_sd_bit, h0, Nat.zero_testBit]
        simp
      rw [e] at hj2
      exact ⟨j, by omega, hj2⟩
    · have hqs : ∀ i, q.testBit i = true → s.testBit i = true := fun i hi => ((hq i).mp hi).1
      have hql : q < 2 ^ n := Nat.lt_of_le_of_lt (ly_sub_le hqs) hs
      refine ⟨j + 1, by omega, q, h0, hqs, ?_, hj2⟩
      rw [ly_line_iff hql]
      intro a b ha hb
      have a1 := (hq a).mp ha
      have b1 := (hq b).mp hb
      exact h2 a b a1.1 b1.1 (by omega)
/-- the three numbers are one -/
theorem ly_dilworth {n : Nat} {U : Nat → Nat} {q : Nat} (hO : ly_O n U) (hn : n ≤ 10) (h : ly_pair n U q) : ly_mx (ly_free n U) (2 ^ n) = n - q ∧ ∀ v, ly_M (ly_line n U) (2 ^ n - 1) v → v = n - q := by
  have hp := Nat.two_pow_pos n
  have hfl : 2 ^ n - 1 < 2 ^ n := by omega
  have hq := ly_pair_le h
  obtain ⟨a, a1, a2, a3⟩ := ly_free_ex hO hn h
  -- a cover of n - q lines at most
  obtain ⟨j, hj1, hj2⟩ : ∃ j, j ≤ n - q ∧ ly_CP (ly_line n U) j (2 ^ n - 1) := by
    obtain ⟨⟨f, f1, f2, f3⟩, -⟩ := h
    obtain ⟨m1, col, c1, c2, -⟩ := ly_colour hO hn f1 f2 _ (2 ^ n - 1) hfl rfl
    have e1 : ly_pc (2 ^ n - 1) = n := by
      unfold ly_pc
      have : fb_ct (fun i => (2 ^ n - 1).testBit i) 10 = fb_ct (fun i => decide (i < n) && true) 10 := fb_ct_cong (fun k _ => by rw [ly_full_bit, Bool.and_true])
      rw [this, ly_ct_cut (p := fun _ => true) hn]
      exact fb_ct_all.mpr (fun _ _ => rfl)
    have e2 : ly_m f (2 ^ n - 1) = q := by
      rw [← f3]
      unfold ly_m
      refine fb_ct_cong (fun b hb => ?_)
      cases fe : f b with
      | none => simp
      | some x =>
        have z := f1 b x hb fe
        have zb : b < n := ly_lt_bit (hO.1 x z.1) z.2
        show ((2 ^ n - 1).testBit b && (2 ^ n - 1).testBit x) = true
        rw [ly_full_bit, ly_full_bit, decide_eq_true zb, decide_eq_true z.1]
        rfl
    rw [e1, e2] at c1
    exact ly_CP_col (k := n - q) hfl (fun x hx => by
      have := c1 x hx
      omega) c2
  have key : ∀ b, b < 2 ^ n → ly_free n U b = true → ∀ k, ly_CP (ly_line n U) k (2 ^ n - 1) → ly_pc b ≤ k := by
    intro b hb hf k hk
    have e : b &&& (2 ^ n - 1) = b := by
      apply ly_and_sub
      intro i hi
      rw [ly_full_bit]
      exact decide_eq_true (ly_lt_bit hb hi)
    have := ly_free_CP hb hf hfl hk
    rw [e] at this
    exact this
  have h1 := key a a1 a2 j hj2
  have h2 : ly_mx (ly_free n U) (2 ^ n) = n - q := by
    refine ly_mx_eq (fun c hc hf => ?_) ⟨a, a1, a2, by omega⟩
    have := key c hc hf j hj2
    omega
  refine ⟨h2, fun v hv => ?_⟩
  have h3 := key a a1 a2 v hv.1
  have h4 := hv.2 j hj2
  omega
end
section
/-! ===== the ways to put a closed set into a row, counted from below ===== -/
/-- what the set t without a hands on to t -/
def ly_c (n : Nat) (U D : Nat → Nat) (t a : Nat) : Nat := if t.testBit a = true ∧ ly_down n U (ly_sd t (2 ^ a)) = true ∧ ly_sd (D a) (ly_sd t (2 ^ a)) = 0 then ly_E n U (ly_sd t (2 ^ a)) else 0
def ly_Wt (n : Nat) (U : Nat → Nat) (t : Nat) : Nat := if ly_down n U t = true then ly_E n U t else 0
theorem ly_sd1 (t a i : Nat) : (ly_sd t (2 ^ a)).testBit i = true ↔ t.testBit i = true ∧ a ≠ i := by
  rw [ly_sd_bit, Nat.testBit_two_pow]
  simp
theorem ly_down_0 (n : Nat) (U : Nat → Nat) : ly_down n U 0 = true := by
  rw [ly_down_iff]
  intro a b _ hb
  rw [Nat.zero_testBit] at hb
  exact absurd hb (by decide)
theorem ly_c_sum {n : Nat} {U D : Nat → Nat} (hO : ly_O n U) (hV : ly_V n U D) {t : Nat} (ht : t < 2 ^ n) : (if t = 0 then 1 else 0) + fb_sm (ly_c n U D t) n = ly_Wt n U t := by
  unfold ly_Wt
  by_cases hd : ly_down n U t = true
  · rw [if_pos hd, ly_E_eq]
    congr 1
    apply fb_sm_cong
    intro a ha
    rw [ly_down_iff] at hd
    unfold ly_c ly_Et
    cases q : t.testBit a with
    | false => rw [if_neg (by simp), if_neg (by simp)]
    | true =>
      have e1 : ly_sd (D a) (ly_sd t (2 ^ a)) = 0 := by
        apply ly_sd0.mpr
        intro i hi
        have hin := ly_lt_bit (hV.1 a ha) hi
        rw [hV.2 i a hin ha] at hi
        rw [ly_sd1]
        refine ⟨hd i a hin q hi, fun z => ?_⟩
        rw [← z, hO.2.1 a ha] at hi
        exact absurd hi (by decide)
      have e2 : ly_down n U (ly_sd t (2 ^ a)) = true ↔ t &&& U a = 0 := by
        rw [ly_down_iff, ly_and0]
        constructor
        · intro h b hb
          apply ly_bf
          intro z
          have hab : a ≠ b := by
            intro w
            rw [← w, hO.2.1 a ha] at z
            exact absurd z (by decide)
          have := h a b ha ((ly_sd1 t a b).mpr ⟨hb, hab⟩) z
          exact ((ly_sd1 t a a).mp this).2 rfl
        · intro h c b hc hb hcb
          rw [ly_sd1] at hb ⊢
          refine ⟨hd c b hc hb.1 hcb, fun z => ?_⟩
          rw [← z, h b hb.1] at hcb
          exact absurd hcb (by decide)
      by_cases z : t &&& U a = 0
      · rw [if_pos ⟨rfl, e2.mpr z, e1⟩, if_pos (by simp [z])]
      · rw [if_neg (fun w => z (e2.mp w.2.1)), if_neg (by simp [z])]
  · rw [if_neg hd]
    have h0 : t ≠ 0 := by
      intro z
      rw [z] at hd
      exact hd (ly_down_0 n U)
    rw [if_neg h0, Nat.zero_add]
    have : fb_sm (ly_c n U D t) n = fb_sm (fun _ => 0) n := by
      apply fb_sm_cong
      intro a ha
      unfold ly_c
      rw [if_neg]
      rintro ⟨h1, h2, h3⟩
      apply hd
      rw [ly_down_iff] at h2 ⊢
      intro c b hc hb hcb
      by_cases z : a = b
      · subst z
        have hi : (D a).testBit c = true := by
          rw [hV.2 c a hc ha]
          exact hcb
        exact ((ly_sd1 t a c).mp (ly_sd0.mp h3 c hi)).1
      · exact ((ly_sd1 t a c).mp (h2 c b hc ((ly_sd1 t a b).mpr ⟨hb, z⟩) hcb)).1
    rw [this, fb_sm_const, Nat.mul_zero]
/-- the table before s: what sets below s have handed on -/
def ly_J (n : Nat) (U D : Nat → Nat) (s : Nat) (V : Nat → Nat) : Prop := ∀ t, t < 2 ^ n → V t = (if t = 0 then 1 else 0) + fb_sm (fun a => if ly_sd t (2 ^ a) < s then ly_c n U D t a else 0) n
def ly_K (n : Nat) (U D : Nat → Nat) (s i : Nat) (V : Nat → Nat) : Prop := ly_down n U s = true ∧ V s = ly_E n U s ∧ ∀ t, t < 2 ^ n → V t = (if t = 0 then 1 else 0) + fb_sm (fun a => if ly_sd t (2 ^ a) < s ∨ ly_sd t (2 ^ a) = s ∧ a < i then ly_c n U D t a else 0) n
theorem ly_c_no {n : Nat} {U D : Nat → Nat} {t a : Nat} (h : t.testBit a = false) : ly_c n U D t a = 0 := by
  unfold ly_c
  rw [if_neg]
  rintro ⟨z, -⟩
  rw [h] at z
  exact absurd z (by decide)
theorem ly_J_at {n : Nat} {U D : Nat → Nat} (hO : ly_O n U) (hV : ly_V n U D) {s t : Nat} {V : Nat → Nat} (h : ly_J n U D s V) (ht : t < 2 ^ n) (hs : t ≤ s) : V t = ly_Wt n U t := by
  rw [h t ht, ← ly_c_sum hO hV ht]
  congr 1
  apply fb_sm_cong
  intro a _
  cases q : t.testBit a with
  | false => rw [ly_c_no q]; split <;> rfl
  | true =>
    have := ly_sd_lt q (Nat.testBit_two_pow_self (n := a))
    rw [if_pos (by omega)]
theorem ly_J_0 {n : Nat} {U D : Nat → Nat} (V : Nat → Nat) (h1 : V 0 = 1) (h2 : ∀ j, 0 < j → j < 2 ^ n → V j = 0) : ly_J n U D 0 V := by
  intro t ht
  have : fb_sm (fun a => if ly_sd t (2 ^ a) < 0 then ly_c n U D t a else 0) n = fb_sm (fun _ => 0) n := fb_sm_cong (fun a _ => if_neg (by omega))
  rw [this, fb_sm_const, Nat.mul_zero, Nat.add_zero]
  by_cases z : t = 0
  · rw [z, h1]; rfl
  · rw [if_neg z]; exact h2 t (by omega) ht
/-- a bound, and at least one way -/
theorem ly_E_le {n : Nat} {U : Nat → Nat} (hn : n ≤ 10) : ∀ (k t : Nat), t < 2 ^ n → ly_pc t ≤ k → ly_E n U t ≤ 10 ^ k := by
  intro k
  induction k with
  | zero =>
    intro t ht hk
    have h0 : t = 0 := by
      apply Nat.eq_of_testBit_eq
      intro i
      rw [Nat.zero_testBit]
      apply ly_bf
      intro z
      have := fb_ct_zero.mp (Nat.le_zero.mp hk) i (Nat.lt_of_lt_of_le (ly_lt_bit ht z) hn)
      rw [this] at z
      exact absurd z (by decide)
    subst h0
    rw [ly_E_eq]
    have : fb_sm (ly_Et n U 0) n = fb_sm (fun _ => 0) n := fb_sm_cong (fun a _ => by unfold ly_Et; rw [if_neg (by simp)])
    rw [this, fb_sm_const, Nat.mul_zero]
    decide
  | succ k ih =>
    intro t ht hk
    rw [ly_E_eq]
    have hb : fb_sm (ly_Et n U t) n ≤ n * 10 ^ k := by
      apply fb_sm_bound
      intro a _
      unfold ly_Et
      split
      · rename_i h
        have h1 := (Bool.and_eq_true_iff.mp h).1
        have hsub : ∀ i, (2 ^ a).testBit i = true → t.testBit i = true := by
          intro i hi
          rw [Nat.testBit_two_pow] at hi
          rw [← of_decide_eq_true hi]
          exact h1
        have := ly_pc_sd (Nat.lt_of_lt_of_le ht (ly_p10 hn)) (Nat.ne_of_gt (Nat.two_pow_pos a)) hsub
        exact ih _ (Nat.lt_of_le_of_lt (ly_sd_le _ _) ht) (by omega)
      · exact Nat.zero_le _
    by_cases z : t = 0
    · subst z
      have : fb_sm (ly_Et n U 0) n = fb_sm (fun _ => 0) n := fb_sm_cong (fun a _ => by unfold ly_Et; rw [if_neg (by simp)])
      rw [this, fb_sm_const, Nat.mul_zero]
      exact Nat.one_le_pow _ _ (by decide)
    · rw [if_neg z, Nat.zero_add, Nat.pow_succ]
      refine Nat.le_trans hb ?_
      rw [Nat.mul_comm]
      exact Nat.mul_le_mul_left _ hn
theorem ly_E_pos {n : Nat} {U : Nat → Nat} (hO : ly_O n U) (hn : n ≤ 10) : ∀ t, t < 2 ^ n → 0 < ly_E n U t := by
  intro t
  induction t using Nat.strongRecOn with
  | _ t ih =>
    intro ht
    rw [ly_E_eq]
    by_cases z : t = 0
    · rw [if_pos z]; omega
    · obtain ⟨a, ha1, ha2⟩ := ly_top_of hO hn ht z
      have han := ly_lt_bit ht ha1
      have hlt := ly_sd_lt ha1 (Nat.testBit_two_pow_self (n := a))
      have h1 := ih _ hlt (by omega)
      have h2 := fb_sm_part (ly_Et n U t) han
      have h3 : ly_Et n U t a = ly_E n U (ly_sd t (2 ^ a)) := by
        unfold ly_Et
        rw [if_pos]
        have : t &&& U a = 0 := ly_and0.mpr ha2
        simp [ha1, this]
      omega
theorem ly_Wt_b {n : Nat} {U : Nat → Nat} (hn : n ≤ 10) {t : Nat} (ht : t < 2 ^ n) : ly_Wt n U t < 2 ^ 63 := by
  unfold ly_Wt
  split
  · exact Nat.lt_of_le_of_lt (ly_E_le hn 10 t ht (ly_pc_le t)) (by decide)
  · decide
theorem ly_J_b {n : Nat} {U D : Nat → Nat} (hO : ly_O n U) (hV : ly_V n U D) (hn : n ≤ 10) : ∀ s V, ly_J n U D s V → s < 2 ^ n → V s < 2 ^ 63 := fun s V h hs => by
  rw [ly_J_at hO hV h hs (Nat.le_refl s)]
  exact ly_Wt_b hn hs
theorem ly_J_skip {n : Nat} {U D : Nat → Nat} (hO : ly_O n U) (hV : ly_V n U D) : ∀ s V, ly_J n U D s V → s < 2 ^ n → V s = 0 → ly_J n U D (s + 1) V := by
  intro s V h hs h0 t ht
  rw [h t ht]
  congr 1
  apply fb_sm_cong
  intro a _
  by_cases z : ly_sd t (2 ^ a) < s
  · rw [if_pos z, if_pos (by omega)]
  · rw [if_neg z]
    by_cases z2 : ly_sd t (2 ^ a) = s
    · rw [if_pos (by omega)]
      have hw := ly_J_at hO hV h hs (Nat.le_refl s)
      rw [h0] at hw
      unfold ly_c
      rw [z2]
      split
      · rename_i q
        unfold ly_Wt at hw
        rw [if_pos q.2.1] at hw
        exact hw
      · rfl
    · rw [if_neg (by omega)]
theorem ly_J_in {n : Nat} {U D : Nat → Nat} (hO : ly_O n U) (hV : ly_V n U D) : ∀ s V, ly_J n U D s V → s < 2 ^ n → V s ≠ 0 → ly_K n U D s 0 V := by
  intro s V h hs h0
  have hw := ly_J_at hO hV h hs (Nat.le_refl s)
  have hd : ly_down n U s = true := by
    apply Decidable.byContradiction
    intro z
    unfold ly_Wt at hw
    rw [if_neg z] at hw
    exact h0 hw
  refine ⟨hd, ?_, fun t ht => ?_⟩
  · rw [hw]
    unfold ly_Wt
    rw [if_pos hd]
  · rw [h t ht]
    congr 1
    apply fb_sm_cong
    intro a _
    by_cases z : ly_sd t (2 ^ a) < s
    · rw [if_pos z, if_pos (Or.inl z)]
    · rw [if_neg z, if_neg (by omega)]
theorem ly_K_next {n : Nat} {U D : Nat → Nat} : ∀ s V, ly_K n U D s n V → s < 2 ^ n → ly_J n U D (s + 1) V := by
  intro s V h _ t ht
  rw [h.2.2 t ht]
  congr 1
  apply fb_sm_cong
  intro a ha
  by_cases z : ly_sd t (2 ^ a) < s + 1
  · rw [if_pos z, if_pos (by omega)]
  · rw [if_neg z, if_neg (by omega)]
theorem ly_K_no {n : Nat} {U D : Nat → Nat} : ∀ s i V, ly_K n U D s i V → s < 2 ^ n → i < n → (s.testBit i = true ∨ ly_sd (D i) s ≠ 0) → ly_K n U D s (i + 1) V := by
  intro s i V h hs hi hno
  refine ⟨h.1, h.2.1, fun t ht => ?_⟩
  rw [h.2.2 t ht]
  congr 1
  apply fb_sm_cong
  intro a ha
  by_cases z : ly_sd t (2 ^ a) < s ∨ ly_sd t (2 ^ a) = s ∧ a < i
  · rw [if_pos z, if_pos (by omega)]
  · rw [if_neg z]
    by_cases z2 : ly_sd t (2 ^ a) < s ∨ ly_sd t (2 ^ a) = s ∧ a < i + 1
    · rw [if_pos z2]
      have e1 : ly_sd t (2 ^ a) = s ∧ a = i := by omega
      obtain ⟨e1, e2⟩ := e1
      subst e2
      unfold ly_c
      rw [if_neg]
      rintro ⟨q1, q2, q3⟩
      rcases hno with w | w
      · rw [← e1, ly_sd1] at w
        exact w.2 rfl
      · rw [e1] at q3
        exact w q3
    · rw [if_neg z2]
theorem ly_K_add {n : Nat} {U D : Nat → Nat} : ∀ s i V, ly_K n U D s i V → s < 2 ^ n → i < n → s.testBit i = false → ly_sd (D i) s = 0 → ly_K n U D s (i + 1) (ly_u V (s ||| 2 ^ i) (V (s ||| 2 ^ i) + V s)) := by
  intro s i V h hs hi hbit hD
  have hor : (s ||| 2 ^ i).testBit i = true := ly_or_self s i
  have hne : s ≠ s ||| 2 ^ i := by
    intro z
    rw [← z, hbit] at hor
    exact absurd hor (by decide)
  have hsd : ly_sd (s ||| 2 ^ i) (2 ^ i) = s := by
    apply Nat.eq_of_testBit_eq
    intro j
    rw [ly_sd_bit, ly_or_bit, Nat.testBit_two_pow]
    by_cases e : i = j
    · subst e; rw [hbit]; simp
    · simp [e]
  refine ⟨h.1, by rw [ly_un hne]; exact h.2.1, fun t ht => ?_⟩
  by_cases e : t = s ||| 2 ^ i
  · rw [e, ly_us, h.2.2 _ (by rw [← e]; exact ht), h.2.1, Nat.add_assoc]
    congr 1
    have r := fb_sm_upd (fun a => if ly_sd (s ||| 2 ^ i) (2 ^ a) < s ∨ ly_sd (s ||| 2 ^ i) (2 ^ a) = s ∧ a < i then ly_c n U D (s ||| 2 ^ i) a else 0) (ly_E n U s) (i := i) (n := n) hi
    have r0 : (if ly_sd (s ||| 2 ^ i) (2 ^ i) < s ∨ ly_sd (s ||| 2 ^ i) (2 ^ i) = s ∧ i < i then ly_c n U D (s ||| 2 ^ i) i else 0) = 0 := by
      rw [hsd]
      exact if_neg (by omega)
    rw [r0, Nat.add_zero] at r
    rw [← r]
    apply fb_sm_cong
    intro a _
    by_cases z : a = i
    · subst z
      rw [if_pos rfl, hsd, if_pos (by omega)]
      unfold ly_c
      rw [hsd, if_pos ⟨hor, h.1, hD⟩]
    · rw [if_neg z]
      by_cases z2 : ly_sd (s ||| 2 ^ i) (2 ^ a) < s ∨ ly_sd (s ||| 2 ^ i) (2 ^ a) = s ∧ a < i
      · rw [if_pos z2, if_pos (by omega)]
      · rw [if_neg z2, if_neg (by omega)]
  · rw [ly_un e, h.2.2 t ht]
    congr 1
    apply fb_sm_cong
    intro a _
    by_cases z : ly_sd t (2 ^ a) < s ∨ ly_sd t (2 ^ a) = s ∧ a < i
    · rw [if_pos z, if_pos (by omega)]
    · rw [if_neg z]
      by_cases z2 : ly_sd t (2 ^ a) < s ∨ ly_sd t (2 ^ a) = s ∧ a < i + 1
      · rw [if_pos z2]
        have e1 : ly_sd t (2 ^ a) = s ∧ a = i := by omega
        obtain ⟨e1, e2⟩ := e1
        subst e2
        refine (ly_c_no ?_).symm
        apply ly_bf
        intro w
        apply e
        apply Nat.eq_of_testBit_eq
        intro j
        rw [ly_or_bit, ← e1, ly_sd_bit, Nat.testBit_two_pow]
        by_cases q : a = j
        · subst q; rw [w]; simp
        · simp [q]
      · rw [if_neg z2]
/-- the whole table -/
theorem ly_J_end {n : Nat} {U D : Nat → Nat} (hO : ly_O n U) (hV : ly_V n U D) (hn : n ≤ 10) {V : Nat → Nat} (h : ly_J n U D (2 ^ n) V) : V (2 ^ n - 1) = ly_E n U (2 ^ n - 1) ∧ fb_ct (fun j => decide (V j ≠ 0)) (2 ^ n) = fb_ct (ly_down n U) (2 ^ n) ∧ ∀ j, j < 2 ^ n → V j < 2 ^ 63 := by
  have hp := Nat.two_pow_pos n
  have hat : ∀ t, t < 2 ^ n → V t = ly_Wt n U t := fun t ht => ly_J_at hO hV h ht (by omega)
  refine ⟨?_, ?_, fun j hj => by rw [hat j hj]; exact ly_Wt_b hn hj⟩
  · rw [hat _ (by omega)]
    unfold ly_Wt
    rw [if_pos]
    rw [ly_down_iff]
    intro a b ha _ _
    rw [ly_full_bit]
    exact decide_eq_true ha
  · apply fb_ct_cong
    intro t ht
    have hpos := ly_E_pos hO hn t ht
    rw [hat t ht]
    unfold ly_Wt
    cases q : ly_down n U t with
    | true => rw [if_pos rfl]; exact decide_eq_true (by omega)
    | false => rw [if_neg (by decide)]; rfl
end
section
/-! ===== what holds between two questions of the law, in plain words ===== -/
def ly_G (n : Nat) (D U : Nat → Nat) (kn wi he cl : Nat) (Le Mw : Nat → Nat) : Prop := 0 < n ∧ n ≤ 10 ∧ ly_O n U ∧ ly_V n U D ∧ (kn = 0 ∨ kn = 1 ∧ ly_kn n U wi he cl Le Mw)
theorem ly_G_start (wi he cl : Nat) (Le Mw : Nat → Nat) : ly_G 4 (fun _ => 0) (fun _ => 0) 0 wi he cl Le Mw :=
  ⟨by decide, by decide, ly_O_0 (fun _ _ => rfl), ly_V_0 (fun _ _ => rfl) (fun _ _ => rfl), Or.inl rfl⟩
theorem ly_z_in {i j : Nat} (h : j < i) (F : Nat → Nat) : ly_z i F j = 0 := if_pos h
theorem ly_G_places (x : Int32) (D U : Nat → Nat) (wi he cl : Nat) (Le Mw : Nat → Nat) : ly_G (1 + ly_ix 10 x) (ly_z 10 D) (ly_z 10 U) 0 wi he cl Le Mw := by
  have h := ly_ix_lt (n := 10) (by decide) x
  exact ⟨by omega, by omega, ly_O_0 (fun j hj => ly_z_in (by omega) U), ly_V_0 (fun j hj => ly_z_in (by omega) U) (fun j hj => ly_z_in (by omega) D), Or.inl rfl⟩
theorem ly_G_put {n : Nat} {D U : Nat → Nat} {kn wi he cl : Nat} {Le Mw : Nat → Nat} {va vb : Nat} {r1 r2 : Int32} {u1 : (Nat → Nat) × (Nat → Nat)} {u2 : (Nat → Nat) × Nat} (h : ly_G n D U kn wi he cl Le Mw) (ha : va < n) (hb : vb < n)
    (h1 : (va = vb ∨ (D va).testBit vb = true) ∧ r1 = nI 0 ∧ u1 = (D, U) ∨ (va ≠ vb ∧ (D va).testBit vb = false) ∧ r1 = nI 1 ∧ u1 = (ly_or n (U vb ||| 2 ^ vb) (D va ||| 2 ^ va) D, ly_or n (D va ||| 2 ^ va) (U vb ||| 2 ^ vb) U))
    (h2 : (va = vb ∨ (U vb).testBit va = true) ∧ r2 = nI 0 ∧ u2 = (U, kn) ∨ (va ≠ vb ∧ (U vb).testBit va = false) ∧ r2 = nI 1 ∧ u2 = (ly_put n U va vb, 0)) : r1 = r2 ∧ u1.2 = u2.1 ∧ ly_G n u1.1 u1.2 u2.2 wi he cl Le Mw := by
  obtain ⟨g1, g2, hO, hV, hk⟩ := h
  rw [hV.2 vb va hb ha] at h1
  rcases h1 with ⟨c1, e1, f1⟩ | ⟨c1, e1, f1⟩
  · rcases h2 with ⟨c2, e2, f2⟩ | ⟨c2, e2, f2⟩
    · subst e1 e2 f1 f2
      exact ⟨rfl, rfl, g1, g2, hO, hV, hk⟩
    · rcases c1 with z | z
      · exact absurd z c2.1
      · rw [c2.2] at z; exact absurd z (by decide)
  · rcases h2 with ⟨c2, e2, f2⟩ | ⟨c2, e2, f2⟩
    · rcases c2 with z | z
      · exact absurd z c1.1
      · rw [c1.2] at z; exact absurd z (by decide)
    · subst e1 e2 f1 f2
      refine ⟨rfl, ly_or_put hV ha, g1, g2, ?_, ?_, Or.inl rfl⟩
      · show ly_O n (ly_or n (D va ||| 2 ^ va) (U vb ||| 2 ^ vb) U)
        rw [ly_or_put hV ha]
        exact ly_put_O hO ha hb c1.1 c1.2
      · show ly_V n (ly_or n (D va ||| 2 ^ va) (U vb ||| 2 ^ vb) U) (ly_or n (U vb ||| 2 ^ vb) (D va ||| 2 ^ va) D)
        rw [ly_or_put hV ha]
        exact ly_put_V hO hV ha hb
theorem ly_G_kn {n : Nat} {D U : Nat → Nat} {kn wi he cl wi' he' cl' : Nat} {Le Mw Le' Mw' : Nat → Nat} (h : ly_G n D U kn wi he cl Le Mw) (hk : ly_kn n U wi' he' cl' Le' Mw') : ly_G n D U 1 wi' he' cl' Le' Mw' :=
  ⟨h.1, h.2.1, h.2.2.1, h.2.2.2.1, Or.inr ⟨rfl, hk⟩⟩
theorem ly_cmp_s (x : Int64) : lg_cmp x x = 0 := by simp [lg_cmp]
theorem ly_gt {L i : Nat} (hL : L ≤ 192) (hi : i ≤ L) : nI L - nI 3 < nI i ↔ L < i + 3 := by
  rw [Int32.lt_iff_toInt_lt, pk_sub_toInt (by omega) (by decide), nI_toInt (by omega)]
  omega
end
section
/-! THE CLAIM OUT OF ONE WALK OF THE LAW'S BODY. Your part is whole_start (and what it stands on); all else here is the same for every law, but numbers. -/
def R_law : String := "LayersDeskLaw"
def lw_P (b : Addr) (xs : List Int32) (args : Array Value) (s : State) : Prop := args = #[.ref b] ∧ s.IntsAt b xs ∧ xs.length ≤ 192 ∧ (Jvm.Cond.and given_1 narrow_1).before args s = true
def lw_Q (_ : Array Value) (s : State) (o : Outcome) (t : State) : Prop := o = .returned (some (.int 1)) ∧ Framed s o t [] 600000 7302250
def lw_Z (below : List Frame) (a : Array Value) (s : State) : State → Prop := fun t => ∃ o, t.status = .running ∧ Ended t below o ∧ lw_Q a s o t
/-- the law's own end, with 1 on the stack, nothing written that was there before, its room as the claim has it -/
theorem lw_ret {p : Program} {l : Launch} {e : Env} {s : State} {m : MethodId} {below : List Frame} {meth : Method} {c : Code} {b : Nat} (hx : p.tables.exec = Jvm.exec) (hb : c.code = code) (hr : meth.sig.returnType = ret) (hlocks : meth.locks = false) {pc : Nat} {H : Heap} {ls : Array Slot} (hdg : decode code pc = .ok (.ireturn, 1)) : W p l e room_1 s m #[Value.ref b] below meth c H [] 600000 7302250 (lw_Z below #[Value.ref b] s) (F0 m pc ls [.int 1]) := by
  intro T hT X
  obtain ⟨fs, hret, hrun, hended, hW, hframe⟩ := X.leave (v := some (.int 1)) (hlocks := hlocks) (fun h => by rw [hr] at h; cases h)
  have hmeth' : T.vm.method? m = some meth := X.method'
  refine ⟨T.setFrames fs, ?_, .returned (some (.int 1)), hrun, hended, rfl, ⟨_, rfl⟩, hW, hframe⟩
  jvm_step X.here [X.here.top, hx, hb, hdg, hmeth', hr, ret, narrow_b1]
  (try refine ⟨rfl, ?_⟩); (try refine ⟨rfl, ?_⟩)
  first | (intro acts; rw [hret _ acts rfl rfl rfl]) | rw [hret _ _ rfl rfl rfl]
  exact Steps.refl _
/-- what holds at the law's entry: the machine, the code, the tables' words (any of lw_tbl by 'hts w (by decide +kernel)'), the script of L ints xs at the cell b, what the Statement gives of the start (any of its parts by flat_of_before) -/
def lw_At (p : Program) (s : State) (m : MethodId) (meth : Method) (c : Code) (b L : Nat) (xs : Nat → Int32) : Prop :=
  p.tables.exec = Jvm.exec ∧ c.code = code ∧ meth.sig.returnType = ret ∧ c.maxLocals = 4 ∧ s.vm.findClass R_law = some m.cls ∧ (∀ w ∈ lw_tbl, w.before #[Value.ref b] s = true) ∧ va_X b L xs s s.heap ∧ b < s.heap.size ∧ meth.locks = false ∧ (Jvm.Cond.and given_1 narrow_1).before #[Value.ref b] s = true
end
section
/-! the law: its loop (rows printed by gen) -/
set_option maxHeartbeats 4000000 in
set_option maxRecDepth 100000 in
/-- the law, between two questions -/
theorem law_loop {p : Program} {l : Launch} {e : Env} {s : State} {m : MethodId} {below : List Frame} {meth : Method} {c : Code} {dC : Nat → ClassId} {dI : Nat → Nat → Nat} {cI cJ cZ : ClassId} {h dn up wy pr ab lo mo mu le ch mw b L : Nat} {xs : Nat → Int32} (hL : L ≤ 192) (C : ly_C p m meth c code 4 s #[Value.ref b] R_law (dC, dI) (ly_tys cI cJ cZ) (fun q : Nat => s.heap.size ≤ q)) (hr : meth.sig.returnType = ret) (hX : va_X b L xs s s.heap) (hbl : b < s.heap.size) :
    ∀ (k i : Nat) (n tr : Nat) (Dn Up Ab : Nat → Nat) (Lo : Nat → Option Nat) (Wy : Nat → Nat) (kn wi he cl : Nat) (Le Ch Mw : Nat → Nat) (H : Heap) (locs : List Loc) (ls : Array Slot), L ≤ i + k → i ≤ L → ly_G n Dn Up kn wi he cl Le Mw → ly_w (dC, dI) (fun q : Nat => s.heap.size ≤ q) s.heap ((ly_WD h dn up wy pr ab lo cI cJ n tr Dn Up Ab Lo Wy) ++ (ly_WM mo mu le ch mw cI cJ cZ n kn wi he cl Up Le Ch Mw)) H locs → lv_has ls 4 [(3, .int (nI i)), (2, .ref mo), (1, .ref h), (0, .ref b)] → W p l e room_1 s m #[Value.ref b] below meth c H locs 12 4163 (lw_Z below #[Value.ref b] s) (F0 m 18 ls []) := by
  have hbA : ¬ (fun q : Nat => s.heap.size ≤ q) b := Nat.not_le.mpr hbl
  intro k
  induction k with
  | zero =>
    intro i n tr Dn Up Ab Lo Wy kn wi he cl Le Ch Mw H locs ls hk hiL hG hw hl
    refine lv_iload_n C.1.1 C.1.2.1 dL_law_18 rfl (lv_at hl 0 rfl) ?_
    refine lv_aload_n C.1.1 C.1.2.1 dL_law_19 rfl (lv_at hl 3 rfl) ?_
    refine va_slen C.1.1 C.1.2.1 hX hbl hbA hw.2.2 dL_law_20 ?_
    refine lv_iconst (v := nI 3) C.1.1 C.1.2.1 dL_law_21 (by decide) ?_
    refine lv_isub C.1.1 C.1.2.1 dL_law_22 ?_
    refine lv_icmp_gt (tgt := 239) C.1.1 C.1.2.1 dL_law_23 (by decide) (fun c23 => ?_) (fun c23 => ?_)
    · refine lv_iconst (v := 1) C.1.1 C.1.2.1 dL_law_239 (by decide) ?_
      refine va_forget (fun q hq => hw.2.2.2.2 q hq) ?_
      refine W.widen (k := 600000) (n := 7302250) (by decide) (by decide) ?_
      exact lw_ret C.1.1 C.1.2.1 hr C.2.2.2 dL_law_240
    · exact absurd ((ly_gt hL hiL).mpr (by omega)) c23
  | succ k ih =>
    intro i n tr Dn Up Ab Lo Wy kn wi he cl Le Ch Mw H locs ls hk hiL hG hw hl
    refine lv_iload_n C.1.1 C.1.2.1 dL_law_18 rfl (lv_at hl 0 rfl) ?_
    refine lv_aload_n C.1.1 C.1.2.1 dL_law_19 rfl (lv_at hl 3 rfl) ?_
    refine va_slen C.1.1 C.1.2.1 hX hbl hbA hw.2.2 dL_law_20 ?_
    refine lv_iconst (v := nI 3) C.1.1 C.1.2.1 dL_law_21 (by decide) ?_
    refine lv_isub C.1.1 C.1.2.1 dL_law_22 ?_
    refine lv_icmp_gt (tgt := 239) C.1.1 C.1.2.1 dL_law_23 (by decide) (fun c23 => ?_) (fun c23 => ?_)
    · refine lv_iconst (v := 1) C.1.1 C.1.2.1 dL_law_239 (by decide) ?_
      refine va_forget (fun q hq => hw.2.2.2.2 q hq) ?_
      refine W.widen (k := 600000) (n := 7302250) (by decide) (by decide) ?_
      exact lw_ret C.1.1 C.1.2.1 hr C.2.2.2 dL_law_240
    · have hi3 : i + 3 ≤ L := by rcases Nat.lt_or_ge L (i + 3) with z | z; exact absurd ((ly_gt hL hiL).mpr z) c23; exact z
      have tail : ∀ (n tr : Nat) (Dn Up Ab : Nat → Nat) (Lo : Nat → Option Nat) (Wy : Nat → Nat) (kn wi he cl : Nat) (Le Ch Mw : Nat → Nat) (H : Heap) (locs : List Loc) (ls : Array Slot), ly_G n Dn Up kn wi he cl Le Mw → ly_w (dC, dI) (fun q : Nat => s.heap.size ≤ q) s.heap ((ly_WD h dn up wy pr ab lo cI cJ n tr Dn Up Ab Lo Wy) ++ (ly_WM mo mu le ch mw cI cJ cZ n kn wi he cl Up Le Ch Mw)) H locs → lv_has ls 4 [(3, .int (nI i)), (2, .ref mo), (1, .ref h), (0, .ref b)] → W p l e room_1 s m #[Value.ref b] below meth c H locs 12 4163 (lw_Z below #[Value.ref b] s) (F0 m 233 ls []) := by
        intro n tr Dn Up Ab Lo Wy kn wi he cl Le Ch Mw H locs ls hG hw hl
        refine lv_iinc (v := nI (i + 3)) (lv' := [(3, .int (nI (i + 3))), (2, .ref mo), (1, .ref h), (0, .ref b)]) C.1.1 C.1.2.1 dL_law_233 hl (k := 0) rfl (nI_add i 3) (by decide) rfl (fun ls hl => ?_)
        refine lv_goto (tgt := 18) C.1.1 C.1.2.1 dL_law_236 (by decide) ?_
        exact ih (i + 3) n tr Dn Up Ab Lo Wy kn wi he cl Le Ch Mw H locs ls (by omega) hi3 hG hw hl
      obtain ⟨hn, hn2, hO, hV, hkn⟩ := id hG
      have hU := ly_O_b hO hn2
      have hDb := ly_V_b hV hn2
      have hone : ∀ i, i < 10 → ly_line n Up (2 ^ i) = true := fun i _ => ly_line_1 n Up i
      refine lv_aload_n C.1.1 C.1.2.1 dL_law_26 rfl (lv_at hl 3 rfl) ?_
      refine lv_iload_n C.1.1 C.1.2.1 dL_law_27 rfl (lv_at hl 0 rfl) ?_
      refine va_sld C.1.1 C.1.2.1 hX hbl hbA hw.2.2 (vp_in_nI (by omega) (by omega)) dL_law_28 ?_
      refine ly_top (show xs (nI (i)).toNatClampNeg = xs (i) by rw [nI_clamp (by omega)]) ?_
      refine lv_bipush (v := nI 7) C.1.1 C.1.2.1 dL_law_29 (by decide) ?_
      refine lv_iand C.1.1 C.1.2.1 dL_law_31 ?_
      obtain ⟨j, hj, hje⟩ := pk_andE (xs i) (m := nI 7) 3 (by decide)
      refine ly_top hje ?_
      rcases (show j = 0 ∨ j = 1 ∨ j = 2 ∨ j = 3 ∨ j = 4 ∨ j = 5 ∨ j = 6 ∨ j = 7 by omega) with rfl | rfl | rfl | rfl | rfl | rfl | rfl | rfl
      · refine lv_tableIn (tgt := 80) (off := 48) C.1.1 C.1.2.1 dL_law_32 (by decide) (by decide) rfl (by decide) ?_
        refine lv_aload_n C.1.1 C.1.2.1 dL_law_80 rfl (lv_at hl 2 rfl) ?_
        refine lv_aload_n C.1.1 C.1.2.1 dL_law_81 rfl (lv_at hl 3 rfl) ?_
        refine lv_iload_n C.1.1 C.1.2.1 dL_law_82 rfl (lv_at hl 0 rfl) ?_
        refine lv_iconst (v := nI 1) C.1.1 C.1.2.1 dL_law_83 (by decide) ?_
        refine lv_iadd C.1.1 C.1.2.1 dL_law_84 ?_
        refine ly_top (nI_add i 1) ?_
        refine va_sld C.1.1 C.1.2.1 hX hbl hbA hw.2.2 (vp_in_nI (by omega) (by omega)) dL_law_85 ?_
        refine ly_top (show xs (nI (i + 1)).toNatClampNeg = xs (i + 1) by rw [nI_clamp (by omega)]) ?_
        refine ly_callv (wr := (ly_WM mo mu le ch mw cI cJ cZ n kn wi he cl Up Le Ch Mw)) (rest := []) (mt_places0 l (xs (i + 1))) C (cwV 1 C.1.2.2.2.2 (lw_V q51 q52 q53 q6 q54) rfl rfl rfl (by decide +kernel) ⟨Nat.le_of_ble_eq_true rfl, Nat.le_of_ble_eq_true rfl⟩) hw [0, 1, 2, 3, 4, 5, 6] [7, 8, 9, 10, 11] rfl rfl (by decide) (by decide) (by decide) 0 rfl rfl rfl hl.1 (Nat.le_of_ble_eq_true rfl) dL_law_86 (Nat.le_of_ble_eq_true rfl) (Nat.le_of_ble_eq_true rfl) (fun u H locs hq hw => ?_)
        refine lv_aload_n C.1.1 C.1.2.1 dL_law_89 rfl (lv_at hl 1 rfl) ?_
        refine lv_aload_n C.1.1 C.1.2.1 dL_law_90 rfl (lv_at hl 3 rfl) ?_
        refine lv_iload_n C.1.1 C.1.2.1 dL_law_91 rfl (lv_at hl 0 rfl) ?_
        refine lv_iconst (v := nI 1) C.1.1 C.1.2.1 dL_law_92 (by decide) ?_
        refine lv_iadd C.1.1 C.1.2.1 dL_law_93 ?_
        refine ly_top (nI_add i 1) ?_
        refine va_sld C.1.1 C.1.2.1 hX hbl hbA hw.2.2 (vp_in_nI (by omega) (by omega)) dL_law_94 ?_
        refine ly_top (show xs (nI (i + 1)).toNatClampNeg = xs (i + 1) by rw [nI_clamp (by omega)]) ?_
        refine ly_callv (wr := (ly_WD h dn up wy pr ab lo cI cJ (1 + ly_ix 10 (xs (i + 1))) tr (ly_z 10 Dn) (ly_z 10 Up) Ab Lo Wy)) (rest := []) (mt_places2 l (xs (i + 1))) C (cwV 1 C.1.2.2.2.2 (lw_V q136 q137 q138 q8 q139) rfl rfl rfl (by decide +kernel) ⟨Nat.le_of_ble_eq_true rfl, Nat.le_of_ble_eq_true rfl⟩) hw [0, 1, 2, 3, 4] [5, 6, 7, 8, 9, 10, 11] rfl rfl (by decide) (by decide) (by decide) 0 rfl rfl rfl hl.1 (Nat.le_of_ble_eq_true rfl) dL_law_95 (Nat.le_of_ble_eq_true rfl) (Nat.le_of_ble_eq_true rfl) (fun u H locs hq hw => ?_)
        refine lv_goto (tgt := 233) C.1.1 C.1.2.1 dL_law_98 (by decide) ?_
        exact tail _ _ _ _ _ _ _ _ _ _ _ _ _ _ H locs ls (ly_G_places _ _ _ _ _ _ _ _) hw hl
      · refine lv_tableIn (tgt := 101) (off := 69) C.1.1 C.1.2.1 dL_law_32 (by decide) (by decide) rfl (by decide) ?_
        refine lv_aload_n C.1.1 C.1.2.1 dL_law_101 rfl (lv_at hl 2 rfl) ?_
        refine lv_aload_n C.1.1 C.1.2.1 dL_law_102 rfl (lv_at hl 3 rfl) ?_
        refine lv_iload_n C.1.1 C.1.2.1 dL_law_103 rfl (lv_at hl 0 rfl) ?_
        refine lv_iconst (v := nI 1) C.1.1 C.1.2.1 dL_law_104 (by decide) ?_
        refine lv_iadd C.1.1 C.1.2.1 dL_law_105 ?_
        refine ly_top (nI_add i 1) ?_
        refine va_sld C.1.1 C.1.2.1 hX hbl hbA hw.2.2 (vp_in_nI (by omega) (by omega)) dL_law_106 ?_
        refine ly_top (show xs (nI (i + 1)).toNatClampNeg = xs (i + 1) by rw [nI_clamp (by omega)]) ?_
        refine lv_aload_n C.1.1 C.1.2.1 dL_law_107 rfl (lv_at hl 3 rfl) ?_
        refine lv_iload_n C.1.1 C.1.2.1 dL_law_108 rfl (lv_at hl 0 rfl) ?_
        refine lv_iconst (v := nI 2) C.1.1 C.1.2.1 dL_law_109 (by decide) ?_
        refine lv_iadd C.1.1 C.1.2.1 dL_law_110 ?_
        refine ly_top (nI_add i 2) ?_
        refine va_sld C.1.1 C.1.2.1 hX hbl hbA hw.2.2 (vp_in_nI (by omega) (by omega)) dL_law_111 ?_
        refine ly_top (show xs (nI (i + 2)).toNatClampNeg = xs (i + 2) by rw [nI_clamp (by omega)]) ?_
        refine ly_calli (wr := (ly_WM mo mu le ch mw cI cJ cZ n kn wi he cl Up Le Ch Mw)) (rest := []) (mt_put0 l hn hn2 hU hDb (xs (i + 1)) (xs (i + 2))) C (cwV 2 C.1.2.2.2.2 (lw_V q56 q57 q58 q6 q59) rfl rfl rfl (by decide +kernel) ⟨Nat.le_of_ble_eq_true rfl, Nat.le_of_ble_eq_true rfl⟩) hw [0, 1, 2, 3, 4, 5, 6] [7, 8, 9, 10, 11] rfl rfl (by decide) (by decide) (by decide) 0 rfl rfl rfl hl.1 (Nat.le_of_ble_eq_true rfl) dL_law_112 (Nat.le_of_ble_eq_true rfl) (Nat.le_of_ble_eq_true rfl) (fun r1 u1 H locs hq1 hw => ?_)
        refine lv_aload_n C.1.1 C.1.2.1 dL_law_115 rfl (lv_at hl 1 rfl) ?_
        refine lv_aload_n C.1.1 C.1.2.1 dL_law_116 rfl (lv_at hl 3 rfl) ?_
        refine lv_iload_n C.1.1 C.1.2.1 dL_law_117 rfl (lv_at hl 0 rfl) ?_
        refine lv_iconst (v := nI 1) C.1.1 C.1.2.1 dL_law_118 (by decide) ?_
        refine lv_iadd C.1.1 C.1.2.1 dL_law_119 ?_
        refine ly_top (nI_add i 1) ?_
        refine va_sld C.1.1 C.1.2.1 hX hbl hbA hw.2.2 (vp_in_nI (by omega) (by omega)) dL_law_120 ?_
        refine ly_top (show xs (nI (i + 1)).toNatClampNeg = xs (i + 1) by rw [nI_clamp (by omega)]) ?_
        refine lv_aload_n C.1.1 C.1.2.1 dL_law_121 rfl (lv_at hl 3 rfl) ?_
        refine lv_iload_n C.1.1 C.1.2.1 dL_law_122 rfl (lv_at hl 0 rfl) ?_
        refine lv_iconst (v := nI 2) C.1.1 C.1.2.1 dL_law_123 (by decide) ?_
        refine lv_iadd C.1.1 C.1.2.1 dL_law_124 ?_
        refine ly_top (nI_add i 2) ?_
        refine va_sld C.1.1 C.1.2.1 hX hbl hbA hw.2.2 (vp_in_nI (by omega) (by omega)) dL_law_125 ?_
        refine ly_top (show xs (nI (i + 2)).toNatClampNeg = xs (i + 2) by rw [nI_clamp (by omega)]) ?_
        refine ly_calli (wr := (ly_WD h dn up wy pr ab lo cI cJ n tr (u1.1) (u1.2) Ab Lo Wy)) (rest := [.int r1]) (mt_put2 l hn hn2 hU (xs (i + 1)) (xs (i + 2))) C (cwV 2 C.1.2.2.2.2 (lw_V q141 q142 q143 q8 q144) rfl rfl rfl (by decide +kernel) ⟨Nat.le_of_ble_eq_true rfl, Nat.le_of_ble_eq_true rfl⟩) hw [0, 1, 2, 3, 4] [5, 6, 7, 8, 9, 10, 11] rfl rfl (by decide) (by decide) (by decide) 0 rfl rfl rfl hl.1 (Nat.le_of_ble_eq_true rfl) dL_law_126 (Nat.le_of_ble_eq_true rfl) (Nat.le_of_ble_eq_true rfl) (fun r2 u2 H locs hq2 hw => ?_)
        obtain ⟨e1, e2, hG2⟩ := ly_G_put hG (ly_ix_lt hn _) (ly_ix_lt hn _) hq1 hq2
        refine lv_icmp_eq (tgt := 233) C.1.1 C.1.2.1 dL_law_129 (by decide) (fun c129 => ?_) (fun c129 => ?_)
        · have hw : ly_w (dC, dI) (fun q : Nat => s.heap.size ≤ q) s.heap ((ly_WD h dn up wy pr ab lo cI cJ n tr (u1.1) (u1.2) Ab Lo Wy) ++ (ly_WM mo mu le ch mw cI cJ cZ n (u2.2) wi he cl (u1.2) Le Ch Mw)) H locs := by rw [← e2] at hw; exact hw
          exact tail _ _ _ _ _ _ _ _ _ _ _ _ _ _ H locs ls hG2 hw hl
        · exact absurd e1 c129
      · refine lv_tableIn (tgt := 134) (off := 102) C.1.1 C.1.2.1 dL_law_32 (by decide) (by decide) rfl (by decide) ?_
        refine lv_aload_n C.1.1 C.1.2.1 dL_law_134 rfl (lv_at hl 2 rfl) ?_
        refine lv_aload_n C.1.1 C.1.2.1 dL_law_135 rfl (lv_at hl 3 rfl) ?_
        refine lv_iload_n C.1.1 C.1.2.1 dL_law_136 rfl (lv_at hl 0 rfl) ?_
        refine lv_iconst (v := nI 1) C.1.1 C.1.2.1 dL_law_137 (by decide) ?_
        refine lv_iadd C.1.1 C.1.2.1 dL_law_138 ?_
        refine ly_top (nI_add i 1) ?_
        refine va_sld C.1.1 C.1.2.1 hX hbl hbA hw.2.2 (vp_in_nI (by omega) (by omega)) dL_law_139 ?_
        refine ly_top (show xs (nI (i + 1)).toNatClampNeg = xs (i + 1) by rw [nI_clamp (by omega)]) ?_
        refine lv_aload_n C.1.1 C.1.2.1 dL_law_140 rfl (lv_at hl 3 rfl) ?_
        refine lv_iload_n C.1.1 C.1.2.1 dL_law_141 rfl (lv_at hl 0 rfl) ?_
        refine lv_iconst (v := nI 2) C.1.1 C.1.2.1 dL_law_142 (by decide) ?_
        refine lv_iadd C.1.1 C.1.2.1 dL_law_143 ?_
        refine ly_top (nI_add i 2) ?_
        refine va_sld C.1.1 C.1.2.1 hX hbl hbA hw.2.2 (vp_in_nI (by omega) (by omega)) dL_law_144 ?_
        refine ly_top (show xs (nI (i + 2)).toNatClampNeg = xs (i + 2) by rw [nI_clamp (by omega)]) ?_
        refine ly_calli (wr := (ly_WM mo mu le ch mw cI cJ cZ n kn wi he cl Up Le Ch Mw)) (rest := []) (mt_below0 l hn hn2 hU (xs (i + 1)) (xs (i + 2))) C (cwV 2 C.1.2.2.2.2 (lw_V q64 q65 q66 q6 q67) rfl rfl rfl (by decide +kernel) ⟨Nat.le_of_ble_eq_true rfl, Nat.le_of_ble_eq_true rfl⟩) hw [0, 1, 2, 3, 4, 5, 6] [7, 8, 9, 10, 11] rfl rfl (by decide) (by decide) (by decide) 0 rfl rfl rfl hl.1 (Nat.le_of_ble_eq_true rfl) dL_law_145 (Nat.le_of_ble_eq_true rfl) (Nat.le_of_ble_eq_true rfl) (fun r1 u1 H locs hq1 hw => ?_)
        refine lv_aload_n C.1.1 C.1.2.1 dL_law_148 rfl (lv_at hl 1 rfl) ?_
        refine lv_aload_n C.1.1 C.1.2.1 dL_law_149 rfl (lv_at hl 3 rfl) ?_
        refine lv_iload_n C.1.1 C.1.2.1 dL_law_150 rfl (lv_at hl 0 rfl) ?_
        refine lv_iconst (v := nI 1) C.1.1 C.1.2.1 dL_law_151 (by decide) ?_
        refine lv_iadd C.1.1 C.1.2.1 dL_law_152 ?_
        refine ly_top (nI_add i 1) ?_
        refine va_sld C.1.1 C.1.2.1 hX hbl hbA hw.2.2 (vp_in_nI (by omega) (by omega)) dL_law_153 ?_
        refine ly_top (show xs (nI (i + 1)).toNatClampNeg = xs (i + 1) by rw [nI_clamp (by omega)]) ?_
        refine lv_aload_n C.1.1 C.1.2.1 dL_law_154 rfl (lv_at hl 3 rfl) ?_
        refine lv_iload_n C.1.1 C.1.2.1 dL_law_155 rfl (lv_at hl 0 rfl) ?_
        refine lv_iconst (v := nI 2) C.1.1 C.1.2.1 dL_law_156 (by decide) ?_
        refine lv_iadd C.1.1 C.1.2.1 dL_law_157 ?_
        refine ly_top (nI_add i 2) ?_
        refine va_sld C.1.1 C.1.2.1 hX hbl hbA hw.2.2 (vp_in_nI (by omega) (by omega)) dL_law_158 ?_
        refine ly_top (show xs (nI (i + 2)).toNatClampNeg = xs (i + 2) by rw [nI_clamp (by omega)]) ?_
        refine ly_calli (wr := (ly_WD h dn up wy pr ab lo cI cJ n tr Dn Up Ab Lo Wy)) (rest := [.int r1]) (mt_below2 l hn hn2 hU (xs (i + 1)) (xs (i + 2))) C (cwV 2 C.1.2.2.2.2 (lw_V q149 q150 q151 q8 q152) rfl rfl rfl (by decide +kernel) ⟨Nat.le_of_ble_eq_true rfl, Nat.le_of_ble_eq_true rfl⟩) hw [0, 1, 2, 3, 4] [5, 6, 7, 8, 9, 10, 11] rfl rfl (by decide) (by decide) (by decide) 0 rfl rfl rfl hl.1 (Nat.le_of_ble_eq_true rfl) dL_law_159 (Nat.le_of_ble_eq_true rfl) (Nat.le_of_ble_eq_true rfl) (fun r2 u2 H locs hq2 hw => ?_)
        refine lv_icmp_eq (tgt := 233) C.1.1 C.1.2.1 dL_law_162 (by decide) (fun c162 => ?_) (fun c162 => ?_)
        · exact tail _ _ _ _ _ _ _ _ _ _ _ _ _ _ H locs ls hG hw hl
        · exact absurd (by rw [hq1, hq2]) c162
      · refine lv_tableIn (tgt := 167) (off := 135) C.1.1 C.1.2.1 dL_law_32 (by decide) (by decide) rfl (by decide) ?_
        refine lv_aload_n C.1.1 C.1.2.1 dL_law_167 rfl (lv_at hl 2 rfl) ?_
        refine ly_calli (wr := (ly_WM mo mu le ch mw cI cJ cZ n kn wi he cl Up Le Ch Mw)) (rest := []) (mt_width0 l hn2 hU) C (cwV 0 C.1.2.2.2.2 (lw_V q80 q81 q82 q6 q83) rfl rfl rfl (by decide +kernel) ⟨Nat.le_of_ble_eq_true rfl, Nat.le_of_ble_eq_true rfl⟩) hw [0, 1, 2, 3, 4, 5, 6] [7, 8, 9, 10, 11] rfl rfl (by decide) (by decide) (by decide) 0 rfl rfl rfl hl.1 (Nat.le_of_ble_eq_true rfl) dL_law_168 (Nat.le_of_ble_eq_true rfl) (Nat.le_of_ble_eq_true rfl) (fun r1 u1 H locs hq1 hw => ?_)
        refine lv_aload_n C.1.1 C.1.2.1 dL_law_171 rfl (lv_at hl 1 rfl) ?_
        refine ly_calli (wr := (ly_WD h dn up wy pr ab lo cI cJ n (u1.2.2) Dn Up (u1.1) (u1.2.1) Wy)) (rest := [.int r1]) (mt_width2 l hn2 hU hone hkn) C (cwV 0 C.1.2.2.2.2 (lw_V q153 q154 q155 q8 q156) rfl rfl rfl (by decide +kernel) ⟨Nat.le_of_ble_eq_true rfl, Nat.le_of_ble_eq_true rfl⟩) hw [0, 1, 2, 3, 4] [5, 6, 7, 8, 9, 10, 11] rfl rfl (by decide) (by decide) (by decide) 0 rfl rfl rfl hl.1 (Nat.le_of_ble_eq_true rfl) dL_law_172 (Nat.le_of_ble_eq_true rfl) (Nat.le_of_ble_eq_true rfl) (fun r2 u2 H locs hq2 hw => ?_)
        obtain ⟨hk2, hr2⟩ := hq2
        obtain ⟨q, hq, hpr⟩ := hq1
        have e1 : r1 = r2 := by rw [hq, hr2, hk2.1, (ly_dilworth hO hn2 hpr).1]
        refine lv_icmp_eq (tgt := 233) C.1.1 C.1.2.1 dL_law_175 (by decide) (fun c175 => ?_) (fun c175 => ?_)
        · exact tail _ _ _ _ _ _ _ _ _ _ _ _ _ _ H locs ls (ly_G_kn hG hk2) hw hl
        · exact absurd e1 c175
      · refine lv_tableIn (tgt := 180) (off := 148) C.1.1 C.1.2.1 dL_law_32 (by decide) (by decide) rfl (by decide) ?_
        refine lv_aload_n C.1.1 C.1.2.1 dL_law_180 rfl (lv_at hl 2 rfl) ?_
        refine ly_calli (wr := (ly_WM mo mu le ch mw cI cJ cZ n kn wi he cl Up Le Ch Mw)) (rest := []) (mt_height0 l (ly_hI n Up) hn2 (ly_hI_0 n Up) (ly_hI_step hO hV hn2)) C (cwV 0 C.1.2.2.2.2 (lw_V q85 q86 q87 q6 q88) rfl rfl rfl (by decide +kernel) ⟨Nat.le_of_ble_eq_true rfl, Nat.le_of_ble_eq_true rfl⟩) hw [0, 1, 2, 3, 4, 5, 6] [7, 8, 9, 10, 11] rfl rfl (by decide) (by decide) (by decide) 0 rfl rfl rfl hl.1 (Nat.le_of_ble_eq_true rfl) dL_law_181 (Nat.le_of_ble_eq_true rfl) (Nat.le_of_ble_eq_true rfl) (fun r1 u1 H locs hq1 hw => ?_)
        refine lv_aload_n C.1.1 C.1.2.1 dL_law_184 rfl (lv_at hl 1 rfl) ?_
        refine ly_calli (wr := (ly_WD h dn up wy pr ab lo cI cJ n tr Dn Up Ab Lo Wy)) (rest := [.int r1]) (mt_height2 l hn2 hU hone hkn) C (cwV 0 C.1.2.2.2.2 (lw_V q164 q165 q166 q8 q167) rfl rfl rfl (by decide +kernel) ⟨Nat.le_of_ble_eq_true rfl, Nat.le_of_ble_eq_true rfl⟩) hw [0, 1, 2, 3, 4] [5, 6, 7, 8, 9, 10, 11] rfl rfl (by decide) (by decide) (by decide) 0 rfl rfl rfl hl.1 (Nat.le_of_ble_eq_true rfl) dL_law_185 (Nat.le_of_ble_eq_true rfl) (Nat.le_of_ble_eq_true rfl) (fun r2 u2 H locs hq2 hw => ?_)
        obtain ⟨hk2, hr2⟩ := hq2
        obtain ⟨q, hq, hpr⟩ := hq1
        have e1 : r1 = r2 := by rw [hq, hr2, hk2.2.1, ly_hI_end hpr]
        refine lv_icmp_eq (tgt := 233) C.1.1 C.1.2.1 dL_law_188 (by decide) (fun c188 => ?_) (fun c188 => ?_)
        · exact tail _ _ _ _ _ _ _ _ _ _ _ _ _ _ H locs ls (ly_G_kn hG hk2) hw hl
        · exact absurd e1 c188
      · refine lv_tableIn (tgt := 193) (off := 161) C.1.1 C.1.2.1 dL_law_32 (by decide) (by decide) rfl (by decide) ?_
        refine lv_aload_n C.1.1 C.1.2.1 dL_law_193 rfl (lv_at hl 2 rfl) ?_
        refine ly_calli (wr := (ly_WM mo mu le ch mw cI cJ cZ n kn wi he cl Up Le Ch Mw)) (rest := []) (mt_cover0 l hn2 hU) C (cwV 0 C.1.2.2.2.2 (lw_V q68 q69 q70 q6 q71) rfl rfl rfl (by decide +kernel) ⟨Nat.le_of_ble_eq_true rfl, Nat.le_of_ble_eq_true rfl⟩) hw [0, 1, 2, 3, 4, 5, 6] [7, 8, 9, 10, 11] rfl rfl (by decide) (by decide) (by decide) 0 rfl rfl rfl hl.1 (Nat.le_of_ble_eq_true rfl) dL_law_194 (Nat.le_of_ble_eq_true rfl) (Nat.le_of_ble_eq_true rfl) (fun r1 u1 H locs hq1 hw => ?_)
        refine lv_aload_n C.1.1 C.1.2.1 dL_law_197 rfl (lv_at hl 1 rfl) ?_
        refine ly_calli (wr := (ly_WD h dn up wy pr ab lo cI cJ n (u1.2.2) Dn Up (u1.1) (u1.2.1) Wy)) (rest := [.int r1]) (mt_cover2 l hn2 hU hone hkn) C (cwV 0 C.1.2.2.2.2 (lw_V q168 q169 q170 q8 q171) rfl rfl rfl (by decide +kernel) ⟨Nat.le_of_ble_eq_true rfl, Nat.le_of_ble_eq_true rfl⟩) hw [0, 1, 2, 3, 4] [5, 6, 7, 8, 9, 10, 11] rfl rfl (by decide) (by decide) (by decide) 0 rfl rfl rfl hl.1 (Nat.le_of_ble_eq_true rfl) dL_law_198 (Nat.le_of_ble_eq_true rfl) (Nat.le_of_ble_eq_true rfl) (fun r2 u2 H locs hq2 hw => ?_)
        obtain ⟨hk2, hr2⟩ := hq2
        obtain ⟨q, hq, hpr⟩ := hq1
        have e1 : r1 = r2 := by rw [hq, hr2, (ly_dilworth hO hn2 hpr).2 _ hk2.2.2.2.1]
        refine lv_icmp_eq (tgt := 233) C.1.1 C.1.2.1 dL_law_201 (by decide) (fun c201 => ?_) (fun c201 => ?_)
        · exact tail _ _ _ _ _ _ _ _ _ _ _ _ _ _ H locs ls (ly_G_kn hG hk2) hw hl
        · exact absurd e1 c201
      · refine lv_tableIn (tgt := 206) (off := 174) C.1.1 C.1.2.1 dL_law_32 (by decide) (by decide) rfl (by decide) ?_
        refine lv_aload_n C.1.1 C.1.2.1 dL_law_206 rfl (lv_at hl 2 rfl) ?_
        refine ly_calll (wr := (ly_WM mo mu le ch mw cI cJ cZ n kn wi he cl Up Le Ch Mw)) (rest := []) (mt_rows0 l (ly_J n Up Dn) (ly_K n Up Dn) hn2 hDb ly_J_0 (ly_J_b hO hV hn2) (ly_J_skip hO hV) (ly_J_in hO hV) ly_K_next ly_K_add ly_K_no) C (cwV 0 C.1.2.2.2.2 (lw_V q89 q90 q91 q6 q92) rfl rfl rfl (by decide +kernel) ⟨Nat.le_of_ble_eq_true rfl, Nat.le_of_ble_eq_true rfl⟩) hw [0, 1, 2, 3, 4, 5, 6] [7, 8, 9, 10, 11] rfl rfl (by decide) (by decide) (by decide) 0 rfl rfl rfl hl.1 (Nat.le_of_ble_eq_true rfl) dL_law_207 (Nat.le_of_ble_eq_true rfl) (Nat.le_of_ble_eq_true rfl) (fun r1 u1 H locs hq1 hw => ?_)
        refine lv_aload_n C.1.1 C.1.2.1 dL_law_210 rfl (lv_at hl 1 rfl) ?_
        refine ly_calll (wr := (ly_WD h dn up wy pr ab lo cI cJ n tr Dn Up Ab Lo u1)) (rest := [.long r1]) (mt_rows2 l hn2 hU hone hkn) C (cwV 0 C.1.2.2.2.2 (lw_V q172 q173 q174 q8 q175) rfl rfl rfl (by decide +kernel) ⟨Nat.le_of_ble_eq_true rfl, Nat.le_of_ble_eq_true rfl⟩) hw [0, 1, 2, 3, 4] [5, 6, 7, 8, 9, 10, 11] rfl rfl (by decide) (by decide) (by decide) 0 rfl rfl rfl hl.1 (Nat.le_of_ble_eq_true rfl) dL_law_211 (Nat.le_of_ble_eq_true rfl) (Nat.le_of_ble_eq_true rfl) (fun r2 u2 H locs hq2 hw => ?_)
        obtain ⟨hk2, hr2⟩ := hq2
        have e1 : r1 = r2 := by rw [hq1.2, hr2, (ly_J_end hO hV hn2 hq1.1).1, hk2.2.2.2.2]
        refine W.lcmp C.1.1 C.1.2.1 dL_law_214 ?_
        refine lv_if_eq (tgt := 233) C.1.1 C.1.2.1 dL_law_215 (by decide) (fun c215 => ?_) (fun c215 => ?_)
        · exact tail _ _ _ _ _ _ _ _ _ _ _ _ _ _ H locs ls (ly_G_kn hG hk2) hw hl
        · exact absurd (by rw [e1]; exact ly_cmp_s _) c215
      · refine lv_tableIn (tgt := 220) (off := 188) C.1.1 C.1.2.1 dL_law_32 (by decide) (by decide) rfl (by decide) ?_
        refine lv_aload_n C.1.1 C.1.2.1 dL_law_220 rfl (lv_at hl 2 rfl) ?_
        refine ly_calli (wr := (ly_WM mo mu le ch mw cI cJ cZ n kn wi he cl Up Le Ch Mw)) (rest := []) (mt_closed0 l (ly_J n Up Dn) (ly_K n Up Dn) hn2 hDb ly_J_0 (ly_J_b hO hV hn2) (ly_J_skip hO hV) (ly_J_in hO hV) ly_K_next ly_K_add ly_K_no (fun V hJ => (ly_J_end hO hV hn2 hJ).2.2)) C (cwV 0 C.1.2.2.2.2 (lw_V q97 q98 q99 q6 q100) rfl rfl rfl (by decide +kernel) ⟨Nat.le_of_ble_eq_true rfl, Nat.le_of_ble_eq_true rfl⟩) hw [0, 1, 2, 3, 4, 5, 6] [7, 8, 9, 10, 11] rfl rfl (by decide) (by decide) (by decide) 0 rfl rfl rfl hl.1 (Nat.le_of_ble_eq_true rfl) dL_law_221 (Nat.le_of_ble_eq_true rfl) (Nat.le_of_ble_eq_true rfl) (fun r1 u1 H locs hq1 hw => ?_)
        refine lv_aload_n C.1.1 C.1.2.1 dL_law_224 rfl (lv_at hl 1 rfl) ?_
        refine ly_calli (wr := (ly_WD h dn up wy pr ab lo cI cJ n tr Dn Up Ab Lo u1)) (rest := [.int r1]) (mt_closed2 l hn2 hU hone hkn) C (cwV 0 C.1.2.2.2.2 (lw_V q176 q177 q178 q8 q179) rfl rfl rfl (by decide +kernel) ⟨Nat.le_of_ble_eq_true rfl, Nat.le_of_ble_eq_true rfl⟩) hw [0, 1, 2, 3, 4] [5, 6, 7, 8, 9, 10, 11] rfl rfl (by decide) (by decide) (by decide) 0 rfl rfl rfl hl.1 (Nat.le_of_ble_eq_true rfl) dL_law_225 (Nat.le_of_ble_eq_true rfl) (Nat.le_of_ble_eq_true rfl) (fun r2 u2 H locs hq2 hw => ?_)
        obtain ⟨hk2, hr2⟩ := hq2
        have e1 : r1 = r2 := by rw [hq1.2, hr2, (ly_J_end hO hV hn2 hq1.1).2.1, hk2.2.2.1]
        refine lv_icmp_eq (tgt := 233) C.1.1 C.1.2.1 dL_law_228 (by decide) (fun c228 => ?_) (fun c228 => ?_)
        · exact tail _ _ _ _ _ _ _ _ _ _ _ _ _ _ H locs ls (ly_G_kn hG hk2) hw hl
        · exact absurd e1 c228
end
section
/-! the law: its entry (rows printed by gen) -/
set_option maxHeartbeats 4000000 in
set_option maxRecDepth 100000 in
/-- THE LAW, from its entry -/
theorem whole_start {p : Program} {e : Env} {s : State} {m : MethodId} {below : List Frame} {meth : Method} {c : Code} (l : Launch) {b L : Nat} {xs : Nat → Int32} (hL : L ≤ 192) (C0 : lw_At p s m meth c b L xs) : W p l e room_1 s m #[Value.ref b] below meth c s.heap [] 0 0 (lw_Z below #[Value.ref b] s) (entryFrame m ([Value.ref b] : List Value).toArray 4) := by
  obtain ⟨hx, hb, hr, hml, hown, hts0, hX, hbl, hlocks, hgv⟩ := id C0
  have hts : ∀ w ∈ lw_all, w.before #[Value.ref b] s = true := fun w h => hts0 w (lw_all_tbl h)
  obtain ⟨c0, iS0, hKn0⟩ := u_known (C := RX0) (T := TX0) (N := 5) (n := 5) hts in_X0 (hts _ q10)
  obtain ⟨c1, iS1, hKn1⟩ := u_known (C := RX1) (T := TX1) (N := 3) (n := 3) hts in_X1 (hts _ q18)
  obtain ⟨c2, iS2, hKn2⟩ := u_known (C := RX2) (T := TX2) (N := 9) (n := 9) hts in_X2 (hts _ q102)
  obtain ⟨dC, dI, hKc⟩ : ∃ (dC : Nat → ClassId) (dI : Nat → Nat → Nat), ∀ (k : Nat) (q : vw_C), vwCl[k]? = some q → u_Kn s q.1 q.2.1 q.2.2 (dC k) (dI k) := by
    refine ⟨fun k => if k = 0 then c0 else if k = 1 then c1 else c2, fun k => if k = 0 then iS0 else if k = 1 then iS1 else iS2, ?_⟩
    intro k q hq
    match k, hq with
    | 0, hq => cases hq; exact hKn0
    | 1, hq => cases hq; exact hKn1
    | 2, hq => cases hq; exact hKn2
    | k + 3, hq => simp [vwCl] at hq
  have C : ly_C p m meth c code 4 s #[Value.ref b] R_law (dC, dI) [] (fun q : Nat => s.heap.size ≤ q) := ⟨⟨hx, hb, hml, hown, hts⟩, ⟨hKc, fun k q h => by simp at h⟩, fun q h => h, hlocks⟩
  have hw : ly_w (dC, dI) (fun q : Nat => s.heap.size ≤ q) s.heap [] s.heap [] := ⟨fun k q h => by simp at h, ⟨fun i j p q h => by simp at h, fun k q h => by simp at h⟩, va_S.rf⟩
  have hl := lv_entry ([.ref b]) (n := 4) (Nat.le_of_ble_eq_true rfl)
  rw [lg_entry_eq]
  generalize (lg_sl ([.ref b]) ++ List.replicate (4 - (lg_sl ([.ref b])).length) Slot.unset).toArray = ls at hl ⊢
  have hl : lv_has ls 4 [(0, .ref b)] := hl
  refine va_new (ci := 0) (fs := [.null, .null, .null, .null, .int (nI 0)]) (C := RX0) (T := TX0) (N := 5) C.1.1 C.1.2.1 C.1.2.2.2.2 in_X0 tyX0 tyX0_ok C.1.2.2.2.1 (C.1.2.2.2.2 _ q9) (C.1.2.2.2.2 _ q10) (C.1.2.2.2.2 _ q6) C.2.1 hw.1 hw.2.1 hw.2.2 C.2.2.1 rfl (fun j hj => by rcases (show j = 0 ∨ j = 1 ∨ j = 2 ∨ j = 3 ∨ j = 4 by omega) with rfl | rfl | rfl | rfl | rfl <;> rfl) (Nat.le_of_ble_eq_true rfl) (Nat.le_of_ble_eq_true rfl) dL_law_0 (fun h H hP hD hS => ?_)
  refine W.widen (k := 1) (n := 5) (Nat.le_of_ble_eq_true rfl) (Nat.le_of_ble_eq_true rfl) ?_
  have hw : ly_w (dC, dI) (fun q : Nat => s.heap.size ≤ q) s.heap [(h, .inr (0, [.null, .null, .null, .null, .int (nI 0)]))] H _ := ⟨hP, hD, hS⟩
  refine lv_dup C.1.1 C.1.2.1 dL_law_3 rfl ?_
  have hN : va_Nw (.methodLinkNest "LayersDesk" (22 : Nat) yX1_init "LayersDesk") s := va_Nw.of rfl (hts0 _ q19)
  obtain ⟨hPc, hDc⟩ := ly_subw (wc := [(h, .inr (0, [.null, .null, .null, .null, .int (nI 0)]))]) hw [0] (by decide) rfl
  have hF := va_free (wc := [(h, .inr (0, [.null, .null, .null, .null, .int (nI 0)]))]) hw.2.1 hw.2.2 C.2.2.1 [0] rfl
  have hK0 : va_K (dC, dI) vwCl [] s := C.2.1.sub [] rfl
  refine va_callv (va_runI (As := []) (rest := [.ref h]) C.1 (mt_initD l H.size) (cwI 0 C.1.2.2.2.2 (lw_meth q13) rfl rfl rfl (C.1.2.2.2.2 _ q6) (C.1.2.2.2.2 _ q11) (C.1.2.2.2.2 _ q12) rfl (by decide +kernel) ⟨Nat.le_of_ble_eq_true rfl, Nat.le_of_ble_eq_true rfl⟩) ⟨(fun a U g mk q => ⟨q.1, ⟨q.2.1.1, q.2.1.2.1, va_K.moved (u := U) (U := U.calling g mk a) (Vm.Alike.refl U.vm) q.2.1.2.2.1, q.2.1.2.2.2⟩, va_Nw.same (u := U) (U := U.calling g mk a) rfl rfl q.2.2⟩), fun U hU hW => ⟨rfl, ⟨by rw [hU], by rw [hU]; exact hPc, va_K.moved hW.alike hK0, hDc⟩, va_Nw.warmM hW hN⟩⟩ rfl rfl hl.1 rfl (lv_room (Nat.le_of_ble_eq_true rfl)) dL_law_4 ⟨Nat.le_of_ble_eq_true rfl, Nat.le_of_ble_eq_true rfl⟩) hw.2.2 (fun q _ h => hF q h) hF (fun u t H1 locs1 ht hvm hp hB hz hk hS => ?_)
  obtain ⟨dn, up, wy, pr, ab, lo, cI, cJ⟩ := u
  have hw := ly_after (wr := []) hw C.2.2.1 [0] [] rfl rfl (by decide) (by decide) ht hk hB.1 hB.2.2 hS
  have hK := C.2.1.app (va_K.moved hvm.symm hB.2.1)
  refine W.widen (k := 7) (n := 1072) (Nat.le_of_ble_eq_true rfl) (Nat.le_of_ble_eq_true rfl) ?_
  generalize H1 = H at hw ⊢
  generalize locs1 = locs at hw ⊢
  have hw : ly_w (dC, dI) (fun q : Nat => s.heap.size ≤ q) s.heap (ly_WD h dn up wy pr ab lo cI cJ 4 0 (fun _ => 0) (fun _ => 0) (fun _ => 0) (fun _ => some 0) (fun _ => 0)) H locs := hw
  have C : ly_C p m meth c code 4 s #[Value.ref b] R_law (dC, dI) [(cI, .int), (cJ, .long)] (fun q : Nat => s.heap.size ≤ q) := ⟨C.1, hK, C.2.2⟩
  refine lv_astore_n (lv' := [(1, .ref h), (0, .ref b)]) C.1.1 C.1.2.1 dL_law_7 rfl hl (by decide) rfl (fun ls hl => ?_)
  refine va_new (ci := 2) (fs := [.null, .int (nI 0), .int (nI 0), .int (nI 0), .int (nI 0), .int (nI 0), .null, .null, .null]) (C := RX2) (T := TX2) (N := 9) C.1.1 C.1.2.1 C.1.2.2.2.2 in_X2 tyX2 tyX2_ok C.1.2.2.2.1 (C.1.2.2.2.2 _ q101) (C.1.2.2.2.2 _ q102) (C.1.2.2.2.2 _ q8) C.2.1 hw.1 hw.2.1 hw.2.2 C.2.2.1 rfl (fun j hj => by rcases (show j = 0 ∨ j = 1 ∨ j = 2 ∨ j = 3 ∨ j = 4 ∨ j = 5 ∨ j = 6 ∨ j = 7 ∨ j = 8 by omega) with rfl | rfl | rfl | rfl | rfl | rfl | rfl | rfl | rfl <;> rfl) (Nat.le_of_ble_eq_true rfl) (Nat.le_of_ble_eq_true rfl) dL_law_8 (fun mo H hP hD hS => ?_)
  refine W.widen (k := 8) (n := 1081) (Nat.le_of_ble_eq_true rfl) (Nat.le_of_ble_eq_true rfl) ?_
  have hw : ly_w (dC, dI) (fun q : Nat => s.heap.size ≤ q) s.heap ((ly_WD h dn up wy pr ab lo cI cJ 4 0 (fun _ => 0) (fun _ => 0) (fun _ => 0) (fun _ => some 0) (fun _ => 0)) ++ [(mo, .inr (2, [.null, .int (nI 0), .int (nI 0), .int (nI 0), .int (nI 0), .int (nI 0), .null, .null, .null]))]) H _ := ⟨hP, hD, hS⟩
  refine lv_dup C.1.1 C.1.2.1 dL_law_11 rfl ?_
  obtain ⟨hPc, hDc⟩ := ly_subw (wc := [(mo, .inr (2, [.null, .int (nI 0), .int (nI 0), .int (nI 0), .int (nI 0), .int (nI 0), .null, .null, .null]))]) hw [7] (by decide) rfl
  have hF := va_free (wc := [(mo, .inr (2, [.null, .int (nI 0), .int (nI 0), .int (nI 0), .int (nI 0), .int (nI 0), .null, .null, .null]))]) hw.2.1 hw.2.2 C.2.2.1 [7] rfl
  have hK0 : va_K (dC, dI) vwCl [] s := C.2.1.sub [] rfl
  refine va_callv (va_runI (As := []) (rest := [.ref mo]) C.1 (mt_initM l H.size) (cwI 0 C.1.2.2.2.2 (lw_meth q105) rfl rfl rfl (C.1.2.2.2.2 _ q8) (C.1.2.2.2.2 _ q103) (C.1.2.2.2.2 _ q104) rfl (by decide +kernel) ⟨Nat.le_of_ble_eq_true rfl, Nat.le_of_ble_eq_true rfl⟩) ⟨ly_blind, fun U hU hW => ⟨rfl, by rw [hU], by rw [hU]; exact hPc, va_K.moved hW.alike hK0, hDc⟩⟩ rfl rfl hl.1 rfl (lv_room (Nat.le_of_ble_eq_true rfl)) dL_law_12 ⟨Nat.le_of_ble_eq_true rfl, Nat.le_of_ble_eq_true rfl⟩) hw.2.2 (fun q _ h => hF q h) hF (fun u t H1 locs1 ht hvm hp hB hz hk hS => ?_)
  obtain ⟨mu, le, ch, mw, c3, c4, cZ⟩ := u
  have hw := ly_after (wr := (ly_WD h dn up wy pr ab lo cI cJ 4 0 (fun _ => 0) (fun _ => 0) (fun _ => 0) (fun _ => some 0) (fun _ => 0))) hw C.2.2.1 [7] [0, 1, 2, 3, 4, 5, 6] rfl rfl (by decide) (by decide) ht hk hB.1 hB.2.2 hS
  have hK := C.2.1.app (va_K.moved hvm.symm hB.2.1)
  refine W.widen (k := 12) (n := 4163) (Nat.le_of_ble_eq_true rfl) (Nat.le_of_ble_eq_true rfl) ?_
  generalize H1 = H at hw ⊢
  generalize locs1 = locs at hw ⊢
  have hw : ly_w (dC, dI) (fun q : Nat => s.heap.size ≤ q) s.heap ((ly_WD h dn up wy pr ab lo cI cJ 4 0 (fun _ => 0) (fun _ => 0) (fun _ => 0) (fun _ => some 0) (fun _ => 0)) ++ (ly_WM mo mu le ch mw c3 c4 cZ 4 0 0 0 0 (fun _ => 0) (fun _ => 0) (fun _ => 0) (fun _ => 0))) H locs := hw
  have e1 := ly_sameI hK 0 2 rfl rfl
  have e2 := ly_sameL hK 1 3 rfl rfl
  subst e1 e2
  have C : ly_C p m meth c code 4 s #[Value.ref b] R_law (dC, dI) (ly_tys cI cJ cZ) (fun q : Nat => s.heap.size ≤ q) := ⟨C.1, hK.sub [0, 1, 4] rfl, C.2.2⟩
  refine lv_astore_n (lv' := [(2, .ref mo), (1, .ref h), (0, .ref b)]) C.1.1 C.1.2.1 dL_law_15 rfl hl (by decide) rfl (fun ls hl => ?_)
  refine lv_iconst (v := nI 0) C.1.1 C.1.2.1 dL_law_16 (by decide) ?_
  refine lv_istore_n (lv' := [(3, .int (nI 0)), (2, .ref mo), (1, .ref h), (0, .ref b)]) C.1.1 C.1.2.1 dL_law_17 rfl hl (by decide) rfl (fun ls hl => ?_)
  exact law_loop hL C hr hX hbl L 0 4 0 _ _ _ _ _ 0 0 0 0 _ _ _ H locs ls (by omega) (by omega) (ly_G_start 0 0 0 _ _) hw hl
end
section
set_option maxHeartbeats 4000000 in
theorem lw_walk (l : Launch) (b : Addr) (xs : List Int32) : MetFree l x (headSpec (Jvm.Cond.code x code maxLocals ret :: tables_1) room_1) (lw_P b xs) (fun _ _ _ _ _ => True) lw_Q := by
  refine MetFree.of_bodyS (code := code) (maxLocals := maxLocals) (ret := ret) (by decide) ?_ ?_
  · intro args s m h hn
    obtain ⟨meth, c, h1, h2, h3, h4, h5, h6, -, -⟩ := Cond.code_spec hn (atoms_spec (ws := Jvm.Cond.code x code maxLocals ret :: tables_1) h _ List.mem_cons_self)
    exact ⟨meth, c, h1, h2, h3, h4, h5, h6⟩
  · intro p e s m args below meth c s₁ B hml0 hP _
    obtain ⟨rfl, hx, hbd, hgv⟩ := hP
    obtain ⟨scr, harrAt, hlist, hof, hsmall⟩ := hx
    obtain ⟨hcb, hkn, -, -⟩ := State.arrayAt?_spec harrAt
    have hown : s.vm.findClass R_law = some m.cls := findClass_of_methodNamed B.named
    have hts0 : ∀ c ∈ (Jvm.Cond.code x code maxLocals ret :: tables_1), c.before #[Value.ref b] s = true := atoms_spec (ws := Jvm.Cond.code x code maxLocals ret :: tables_1) B.pre
    have hts : ∀ w ∈ lw_tbl, w.before #[Value.ref b] s = true := k2_hts_sels lw_privs (fun w hw => hts0 w (List.mem_cons_of_mem _ hw)) lw_privs_ok
    have hml : c.maxLocals = 4 := B.maxLocals_eq (hts0 _ List.mem_cons_self)
    have X₀ : Stand p l e room_1 s m #[Value.ref b] below meth c s₁ [] 0 0 := Stand.of_body B
    have hh0 : s₁.heap = s.heap := by rw [B.state]; rfl
    have hsz : scr.slots.size = xs.length := by rw [← Array.length_toList, hlist, List.length_map]
    have hval : ∀ j : Nat, j < xs.length → scr.slots[j]? = some (.int (xs.getD j 0)) := fun j hj => by
      rw [← Array.getElem?_toList, hlist]
      simp [hj]
    have hbl : b < s.heap.size := (Array.getElem?_eq_some_iff.mp hcb).1
    have hX : va_X b xs.length (fun j => xs.getD j 0) s s.heap := ⟨scr, hcb, hof, hkn, hsz, hval⟩
    have K : W p l e room_1 s m #[Value.ref b] below meth c s₁.heap [] 0 0 (lw_Z below #[Value.ref b] s) (entryFrame m ([Value.ref b] : List Value).toArray 4) := by
      rw [hh0]
      exact whole_start l hbd ⟨B.exec, B.bytes, B.returns, hml, hown, hts, hX, hbl, B.notSynchronized, hgv⟩
    obtain ⟨t, a1, o, b1, b2, b3⟩ := K s₁ rfl X₀
    exact ⟨t, o, a1, b1, b2, b3⟩
theorem lw_pre_spec {args : Array Value} {s : State} (h : (Jvm.Cond.and given_1 narrow_1).before args s = true) (hr : rest_1_c.before args s = true) : ∃ (b : Addr) (xs : List Int32), lw_P b xs args s := by
  have hs := flat_of_before _ h
  have hq := flat_of_before _ hr
  have hc : (Cond.count 1).before args s = true := hs _ (by decide +kernel)
  have harr : (Cond.arrayOf (.arg 0) .int).before args s = true := hs _ (by decide +kernel)
  have hle : (Cond.le (.length (.arg 0)) (.int 192)).before args s = true := hs _ (by decide +kernel)
  have hlen : (Cond.isInt (.length (.arg 0))).before args s = true := hq _ (by decide +kernel)
  have hall : (Cond.all (.arg 0) (.isInt (.elem (.arg 0) (.index 0)))).before args s = true := hq _ (by decide +kernel)
  obtain ⟨b, xs, hb, hx⟩ := State.ints_of_pre rfl harr hlen hall
  have hsm : xs.length < 2 ^ 31 := hx.choose_spec.2.2.2
  have hev : (Term.length (.arg 0)).eval args s none [] s = some (.int xs.length.toInt32) := hx.length_eval hb
  have hv := Cond.le_ints hev (show (Term.int 192).eval args s none [] s = some (.int 192) from rfl)
  have hd : xs.length.toInt32 ≤ 192 := by
    simpa [Cond.before, Cond.holds, hv] using hle
  have hN : xs.length ≤ 192 := (Int32.ofNat_le_ofNat hsm (by decide)).mp (show Int32.ofNat xs.length ≤ Int32.ofNat 192 from hd)
  exact ⟨b, xs, Cond.one_arg hc (show args[0]? = some (.ref b) from hb), hx, hN, h⟩
theorem lw_comes (l : Launch) : Comes l x (Jvm.Cond.code x code maxLocals ret :: tables_1) room_1 (fun tb e args s => Calls_1 tb e args s ∧ rest_1 tb e args s ∧ Pre_1 tb e args s)
    (fun _ _ args s o t => lw_Q args s o t) := by
  intro p e ha hc hk s m args below hf hfit hheap happ hpre
  obtain ⟨b, xs, hP⟩ := lw_pre_spec hpre.2.2 hpre.2.1
  obtain ⟨k, o, h1, h2, h3, hQ⟩ := lw_walk l b xs p e ha hc hk s m args below hf ((Spec.applies_iff_loose hf).mp happ).1 hP trivial
  exact ⟨k, o, h1, h2, h3, hQ⟩
theorem lw_frame {s t : State} {o : Outcome} {args : Array Value} (h : Framed s o t [] 600000 7302250) :
    Framed s o t (fieldLocs frame_1_writes args s ++ arrayLocs frame_1_arrays args s ++ staticLocs frame_1_statics s) 600000 7302250 := h
theorem lw_limb (L : Cond) (hL : ∀ (args : Array Value) (s t : State), L.after args s (.returned (some (.int 1))) t = true) :
    ArmFor flags0 classFile x code maxLocals ret World_1 tables_1 room_1 Calls_1 rest_1 Pre_1
      (fun tb e a s o t => postC L tb e a s o t ∧ Framed s o t (fieldLocs frame_1_writes a s ++ arrayLocs frame_1_arrays a s ++ staticLocs frame_1_statics s) 600000 7302250) := by
  intro l _ _ _ p e ha hc hk s m args below hf hfit hheap happ hpre
  obtain ⟨k, o, h1, h2, h3, rfl, hF⟩ := lw_comes l p e ha hc hk s m args below hf hfit hheap happ hpre
  exact ⟨k, _, h1, h2, h3, hL args s _, lw_frame hF⟩
theorem i_vc : Claimed_1_1 ∧ Claimed_1_2 := ⟨lw_limb limb_1_1 (fun args s t => by simp [limb_1_1, Cond.after, Cond.holds, Cond.value]), lw_limb limb_1_2 (fun args s t => Cond.after_iff.mpr (by
  first | (rw [show limb_1_2 = Cond.eq .result (.int 1) from rfl, Cond.eq_ints (x := 1) (y := 1) rfl rfl]; simp; done) | (simp [limb_1_2, Cond.value, Term.eval]; done)))⟩
end
