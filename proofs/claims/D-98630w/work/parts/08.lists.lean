/-! the lists of what is known all through a run -/
set_option maxRecDepth 100000
abbrev vwCl : List vw_C := [(RX0, TX0, 19), (RX1, TX1, 1), (RX2, TX2, 12), (RX3, TX3, 2), (RX5, TX5, 3), (RX6, TX6, 4), (RX7, TX7, 4), (RX8, TX8, 4), (RX9, TX9, 4), (RX10, TX10, 4), (RX11, TX11, 32), (RX12, TX12, 7), (RX13, TX13, 8), (RX14, TX14, 6), (RX15, TX15, 4), (RX16, TX16, 2), (RX17, TX17, 3), (RJ2, TJ2, 3), (RJ16, TJ16, 4), (RJ14, TJ14, 1), (RJ4, TJ4, 2), (RJ17, TJ17, 6), (RJ18, TJ18, 8), (RJ20, TJ20, 6), (RJ21, TJ21, 6)]
def nxWord : Cond → Bool
  | .fieldLinkNest .. => true
  | .methodLinkNest .. => true
  | .castable .. => true
  | .declares .. => true
  | .publicMethod .. => true
  | .unhidden .. => true
  | _ => false
/-- words of the tables that stay, though they are not among lw_all's -/
def lw_nx : List Cond := lw_tbl.filter nxWord
theorem lw_nxg {w : Cond} (h : w ∈ lw_tbl) (g : nxWord w = true) : w ∈ lw_nx := List.mem_filter.mpr ⟨h, g⟩
theorem lw_nx_warm : ∀ w ∈ lw_nx, ∀ {s U : State}, s.WarmedH U.vm → va_Nw w s → va_Nw w U := by
  intro w hw s U hW h
  have hg := (List.mem_filter.mp hw).2
  cases w <;> first | exact va_Nw.warmF hW h | exact va_Nw.warmM hW h | exact va_Nw.warmC hW h | exact va_Nw.warmD hW h | exact va_tabs rfl (rfl : (s.setVm U.vm).vm = U.vm) (by rw [Cond.publicMethod_setVm hW.alike]; exact h) | exact va_tabs rfl (rfl : (s.setVm U.vm).vm = U.vm) (by rw [Cond.unhidden_setVm hW.alike]; exact h) | (exact absurd hg (by simp [nxWord]))
theorem lw_nx_same : ∀ w ∈ lw_nx, ∀ {u U : State}, u.vm = U.vm → va_Nw w u → va_Nw w U := by
  intro w hw u U hv h
  have hg := (List.mem_filter.mp hw).2
  cases w <;> first | exact va_Nw.same rfl hv h | (exact absurd hg (by simp [nxWord]))
/-- pairs that cannot be cast -/
def lw_nc : List (String × String) := [("[B", "[S"), ("[B", "[I"), ("[B", "[J"), ("[S", "[B"), ("[S", "[I"), ("[S", "[J"), ("[I", "[B"), ("[I", "[S"), ("[I", "[J"), ("[J", "[B"), ("[J", "[S"), ("[J", "[I")]
/-- the texts: whose constant, which entry, the text, its number -/
def lw_tx : List (String × Nat × String × Nat) := [("WarByHours$Reader", 203, "war", 0), ("WarByHours$Reader", 205, "minutes", 1), ("WarByHours$Reader", 209, "late", 2), ("WarByHours$Reader", 213, "peace", 3), ("WarByHours$Reader", 217, "rain", 4), ("WarByHours$Reader", 165, "train", 5), ("WarByHours$Reader", 118, "men", 6), ("WarByHours$Reader", 122, "due", 7), ("WarByHours$Reader", 126, "odds", 8), ("WarByHours$Reader", 130, "by", 9), ("WarByHours$Reader", 134, "price", 10), ("WarByHours$Reader", 170, "cannon", 11), ("WarByHours$Reader", 144, "at", 12), ("WarByHours$Reader", 145, "for", 13), ("WarByHours$Reader", 149, "worth", 14), ("WarByHours$Reader", 175, "spy", 15), ("WarByHours$Reader", 157, "knows", 16), ("WarByHours$Reader", 180, "tea", 17), ("WarByHours$Reader", 91, "to", 18), ("WarByHours$Reader", 189, "rule", 19), ("WarByHours$Reader", 194, "need", 20), ("WarByHoursModel", 161, "war", 0), ("WarByHoursModel", 163, "minutes", 1), ("WarByHoursModel", 169, "late", 2), ("WarByHoursModel", 171, "peace", 3), ("WarByHoursModel", 173, "rain", 4), ("WarByHoursModel", 194, "need", 20), ("WarByHoursModel", 196, "train", 5), ("WarByHoursModel", 198, "tea", 17), ("WarByHoursModel", 200, "cannon", 11), ("WarByHoursModel", 202, "rule", 19), ("WarByHoursModel", 204, "spy", 15), ("WarByHoursModel", 175, "men", 6), ("WarByHoursModel", 177, "due", 7), ("WarByHoursModel", 179, "odds", 8), ("WarByHoursModel", 181, "by", 9), ("WarByHoursModel", 183, "price", 10), ("WarByHoursModel", 185, "to", 18), ("WarByHoursModel", 187, "at", 12), ("WarByHoursModel", 188, "for", 13), ("WarByHoursModel", 190, "worth", 14), ("WarByHoursModel", 192, "knows", 16)]
def tx_all : List String := ["war", "minutes", "late", "peace", "rain", "train", "men", "due", "odds", "by", "price", "cannon", "at", "for", "worth", "spy", "knows", "tea", "to", "rule", "need"]
def lw_ao : List String := ["java/lang/Object", "WarByHours$Slot", "WarByHours$War"]
/-- statics that nobody writes: class, name, descriptor, the number of its value -/
def lw_st : List (String × String × String × Nat) := [("java/util/ArrayList", "EMPTY_ELEMENTDATA", "[Ljava/lang/Object;", 0), ("java/util/ArrayList", "DEFAULTCAPACITY_EMPTY_ELEMENTDATA", "[Ljava/lang/Object;", 1), ("java/lang/Integer$IntegerCache", "high", "I", 2), ("java/lang/Integer$IntegerCache", "cache", "[Ljava/lang/Integer;", 3), ("java/lang/String", "COMPACT_STRINGS", "Z", 4), ("java/lang/StringUTF16", "$assertionsDisabled", "Z", 5), ("java/lang/StringUTF16", "HI_BYTE_SHIFT", "I", 6), ("java/lang/StringUTF16", "LO_BYTE_SHIFT", "I", 7), ("java/lang/Throwable", "UNASSIGNED_STACK", "[Ljava/lang/StackTraceElement;", 8), ("java/lang/Throwable", "SUPPRESSED_SENTINEL", "Ljava/util/List;", 9), ("jdk/internal/util/Preconditions", "SIOOBE_FORMATTER", "Ljava/util/function/BiFunction;", 10)]
/-- calls through an interface: the receiver's class, the method named, the one that it finds -/
def lw_if : List (String × MethodName × MethodName) := [("java/util/ArrayList", ⟨"java/util/List", "size", "()I"⟩, ⟨"java/util/ArrayList", "size", "()I"⟩), ("java/util/ArrayList", ⟨"java/util/List", "add", "(Ljava/lang/Object;)Z"⟩, ⟨"java/util/ArrayList", "add", "(Ljava/lang/Object;)Z"⟩), ("java/util/ArrayList", ⟨"java/util/List", "get", "(I)Ljava/lang/Object;"⟩, ⟨"java/util/ArrayList", "get", "(I)Ljava/lang/Object;"⟩), ("java/util/ArrayList", ⟨"java/util/List", "remove", "(I)Ljava/lang/Object;"⟩, ⟨"java/util/ArrayList", "remove", "(I)Ljava/lang/Object;"⟩), ("java/util/ArrayList", ⟨"java/util/List", "iterator", "()Ljava/util/Iterator;"⟩, ⟨"java/util/ArrayList", "iterator", "()Ljava/util/Iterator;"⟩), ("java/util/ArrayList", ⟨"java/util/List", "addAll", "(Ljava/util/Collection;)Z"⟩, ⟨"java/util/ArrayList", "addAll", "(Ljava/util/Collection;)Z"⟩), ("java/util/ArrayList", ⟨"java/util/Collection", "toArray", "()[Ljava/lang/Object;"⟩, ⟨"java/util/ArrayList", "toArray", "()[Ljava/lang/Object;"⟩), ("java/util/ArrayList$Itr", ⟨"java/util/Iterator", "hasNext", "()Z"⟩, ⟨"java/util/ArrayList$Itr", "hasNext", "()Z"⟩), ("java/util/ArrayList$Itr", ⟨"java/util/Iterator", "next", "()Ljava/lang/Object;"⟩, ⟨"java/util/ArrayList$Itr", "next", "()Ljava/lang/Object;"⟩)]
theorem lw_if_h : ∀ q ∈ lw_if, q.2.1.cls ≠ "java/lang/invoke/MethodHandle" ∧ q.2.1.cls ≠ "java/lang/invoke/VarHandle" := by decide +kernel
