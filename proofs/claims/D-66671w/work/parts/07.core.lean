/-! CORE: abstract values and heaps; what a heap of the machine stands for; the judgement ev ('from here the method ends, with ..') -/
abbrev ab_V : Type := Int ⊕ Int ⊕ Option Nat
abbrev vI (z : Int) : ab_V := .inl z
abbrev vL (z : Int) : ab_V := .inr (.inl z)
abbrev vR (r : Option Nat) : ab_V := .inr (.inr r)
abbrev vA (a : Nat) : ab_V := .inr (.inr (some a))
abbrev vN : ab_V := .inr (.inr none)
def cv : ab_V → Value := fun v => match v with
  | .inl z => .int (Int32.ofInt z)
  | .inr (.inl z) => .long (Int64.ofInt z)
  | .inr (.inr r) => va_rf r
abbrev inI (z : Int) : Prop := -2147483648 ≤ z ∧ z < 2147483648
abbrev inL (z : Int) : Prop := -9223372036854775808 ≤ z ∧ z < 9223372036854775808
def okV : ab_V → Prop := fun v => match v with
  | .inl z => inI z
  | .inr (.inl z) => inL z
  | .inr (.inr _) => True
def is2 : Option ab_V → Bool := fun v => match v with
  | some (.inr (.inl _)) => true
  | _ => false
theorem cv_cat (v : ab_V) : (cv v).category = if is2 (some v) then 2 else 1 := by
  rcases v with z | z | r
  · rfl
  · rfl
  · cases r <;> rfl
theorem oi_toInt {z : Int} (h : inI z) : (Int32.ofInt z).toInt = z := Int32.toInt_ofInt_of_le (by have := h.1; omega) (by have := h.2; omega)
theorem ol_toInt {z : Int} (h : inL z) : (Int64.ofInt z).toInt = z := Int64.toInt_ofInt_of_le (by have := h.1; omega) (by have := h.2; omega)
theorem oi_inj {a b : Int} (ha : inI a) (hb : inI b) : Int32.ofInt a = Int32.ofInt b ↔ a = b := by
  constructor
  · intro h
    have := congrArg Int32.toInt h
    rwa [oi_toInt ha, oi_toInt hb] at this
  · intro h; rw [h]
theorem oi_lt {a b : Int} (ha : inI a) (hb : inI b) : Int32.ofInt a < Int32.ofInt b ↔ a < b := by
  rw [Int32.lt_iff_toInt_lt, oi_toInt ha, oi_toInt hb]
theorem oi_le {a b : Int} (ha : inI a) (hb : inI b) : Int32.ofInt a ≤ Int32.ofInt b ↔ a ≤ b := by
  rw [Int32.le_iff_toInt_le, oi_toInt ha, oi_toInt hb]
theorem ol_inj {a b : Int} (ha : inL a) (hb : inL b) : Int64.ofInt a = Int64.ofInt b ↔ a = b := by
  constructor
  · intro h
    have := congrArg Int64.toInt h
    rwa [ol_toInt ha, ol_toInt hb] at this
  · intro h; rw [h]
theorem ol_lt {a b : Int} (ha : inL a) (hb : inL b) : Int64.ofInt a < Int64.ofInt b ↔ a < b := by
  rw [Int64.lt_iff_toInt_lt, ol_toInt ha, ol_toInt hb]
theorem oi_clamp {z : Int} (h : inI z) : (Int32.ofInt z).toNatClampNeg = z.toNat := by
  show (Int32.ofInt z).toInt.toNat = z.toNat
  rw [oi_toInt h]
/-- locals: what is known of each -/
def lh (lsC : Array Slot) (n : Nat) (ls : List (Option ab_V)) : Prop := lsC.size = n ∧ lv_wf lsC ∧ ls.length = n ∧ ∀ (i : Nat) (v : ab_V), ls[i]? = some (some v) → lsC[i]? = some (.val (cv v))
def al (ls : List (Option ab_V)) : List (Nat × Value) := (List.range ls.length).filterMap fun i => (ls[i]?).bind fun o => o.map fun v => (i, cv v)
theorem al_mem {ls : List (Option ab_V)} {q : Nat × Value} : q ∈ al ls ↔ ∃ v, ls[q.1]? = some (some v) ∧ q.2 = cv v := by
  unfold al
  rw [List.mem_filterMap]
  constructor
  · rintro ⟨i, -, h⟩
    cases h1 : ls[i]? with
    | none => simp [h1] at h
    | some o =>
      cases o with
      | none => simp [h1] at h
      | some v =>
        simp [h1] at h
        subst h
        exact ⟨v, h1, rfl⟩
  · rintro ⟨v, h1, h2⟩
    refine ⟨q.1, List.mem_range.mpr (List.getElem?_eq_some_iff.mp h1).1, ?_⟩
    obtain ⟨i, w⟩ := q
    simp only at h1 h2
    subst h2
    simp [h1]
theorem lh_has {lsC : Array Slot} {n : Nat} {ls : List (Option ab_V)} (h : lh lsC n ls) : lv_has lsC n (al ls) :=
  ⟨h.1, h.2.1, fun q hq => by obtain ⟨v, h1, h2⟩ := al_mem.mp hq; rw [h2]; exact h.2.2.2 _ _ h1⟩
def st1 : List (Option ab_V) → Nat → ab_V → List (Option ab_V)
  | [], _, _ => []
  | _ :: r, 0, v => some v :: r
  | x :: r, 1, v => (if is2 x then none else x) :: st1 r 0 v
  | x :: r, i + 2, v => x :: st1 r (i + 1) v
def st2 : List (Option ab_V) → Nat → ab_V → List (Option ab_V)
  | [], _, _ => []
  | [_], 0, v => [some v]
  | _ :: _ :: r, 0, v => some v :: none :: r
  | x :: r, 1, v => (if is2 x then none else x) :: st2 r 0 v
  | x :: r, i + 2, v => x :: st2 r (i + 1) v
theorem st1_len : ∀ (ls : List (Option ab_V)) (i : Nat) (v : ab_V), (st1 ls i v).length = ls.length
  | [], _, _ => by simp [st1]
  | _ :: r, 0, v => by simp [st1]
  | x :: r, 1, v => by simp [st1, st1_len r 0 v]
  | x :: r, i + 2, v => by simp [st1, st1_len r (i + 1) v]
theorem st2_len : ∀ (ls : List (Option ab_V)) (i : Nat) (v : ab_V), (st2 ls i v).length = ls.length
  | [], _, _ => by simp [st2]
  | [_], 0, v => by simp [st2]
  | _ :: _ :: r, 0, v => by simp [st2]
  | x :: r, 1, v => by simp [st2, st2_len r 0 v]
  | x :: r, i + 2, v => by simp [st2, st2_len r (i + 1) v]
theorem st1_get : ∀ (ls : List (Option ab_V)) (i : Nat) (v : ab_V) (k : Nat) (w : ab_V), (st1 ls i v)[k]? = some (some w) → (k = i ∧ w = v) ∨ (k ≠ i ∧ ls[k]? = some (some w) ∧ ¬ (k + 1 = i ∧ is2 (some w) = true))
  | [], _, _, k, w => by simp [st1]
  | x :: r, 0, v, k, w => by
    intro h
    cases k with
    | zero => simp [st1] at h; exact Or.inl ⟨rfl, h.symm⟩
    | succ k => simp [st1] at h; exact Or.inr ⟨by omega, by simpa using h, by omega⟩
  | x :: r, 1, v, k, w => by
    intro h
    cases k with
    | zero =>
      simp only [st1, List.getElem?_cons_zero] at h
      by_cases hx : is2 x = true
      · simp [hx] at h
      · simp [hx] at h
        subst h
        exact Or.inr ⟨by omega, by simp, fun q => hx q.2⟩
    | succ k =>
      simp only [st1, List.getElem?_cons_succ] at h
      rcases st1_get r 0 v k w h with ⟨h1, h2⟩ | ⟨h1, h2, h3⟩
      · exact Or.inl ⟨by omega, h2⟩
      · exact Or.inr ⟨by omega, by simpa using h2, by omega⟩
  | x :: r, i + 2, v, k, w => by
    intro h
    cases k with
    | zero =>
      simp only [st1, List.getElem?_cons_zero] at h
      exact Or.inr ⟨by omega, by simpa using h, by omega⟩
    | succ k =>
      simp only [st1, List.getElem?_cons_succ] at h
      rcases st1_get r (i + 1) v k w h with ⟨h1, h2⟩ | ⟨h1, h2, h3⟩
      · exact Or.inl ⟨by omega, h2⟩
      · exact Or.inr ⟨by omega, by simpa using h2, fun q => h3 ⟨by omega, q.2⟩⟩
theorem st2_get : ∀ (ls : List (Option ab_V)) (i : Nat) (v : ab_V) (k : Nat) (w : ab_V), (st2 ls i v)[k]? = some (some w) → (k = i ∧ w = v) ∨ (k ≠ i ∧ k ≠ i + 1 ∧ ls[k]? = some (some w) ∧ ¬ (k + 1 = i ∧ is2 (some w) = true))
  | [], _, _, k, w => by simp [st2]
  | [x], 0, v, k, w => by
    intro h
    cases k with
    | zero => simp [st2] at h; exact Or.inl ⟨rfl, h.symm⟩
    | succ k => simp [st2] at h
  | x :: y :: r, 0, v, k, w => by
    intro h
    rcases k with _ | _ | k
    · simp [st2] at h; exact Or.inl ⟨rfl, h.symm⟩
    · simp [st2] at h
    · simp [st2] at h; exact Or.inr ⟨by omega, by omega, by simpa using h, by omega⟩
  | x :: r, 1, v, k, w => by
    intro h
    cases k with
    | zero =>
      have e : (st2 (x :: r) 1 v)[0]? = some (if is2 x then none else x) := by cases r <;> simp [st2]
      rw [e] at h
      by_cases hx : is2 x = true
      · simp [hx] at h
      · simp [hx] at h
        subst h
        exact Or.inr ⟨by omega, by omega, by simp, fun q => hx q.2⟩
    | succ k =>
      have e : (st2 (x :: r) 1 v)[k + 1]? = (st2 r 0 v)[k]? := by cases r <;> simp [st2]
      rw [e] at h
      rcases st2_get r 0 v k w h with ⟨h1, h2⟩ | ⟨h1, h2, h3, h4⟩
      · exact Or.inl ⟨by omega, h2⟩
      · exact Or.inr ⟨by omega, by omega, by simpa using h3, by omega⟩
  | x :: r, i + 2, v, k, w => by
    intro h
    cases k with
    | zero =>
      have e : (st2 (x :: r) (i + 2) v)[0]? = some x := by cases r <;> simp [st2]
      rw [e] at h
      exact Or.inr ⟨by omega, by omega, by simpa using h, by omega⟩
    | succ k =>
      have e : (st2 (x :: r) (i + 2) v)[k + 1]? = (st2 r (i + 1) v)[k]? := by cases r <;> simp [st2]
      rw [e] at h
      rcases st2_get r (i + 1) v k w h with ⟨h1, h2⟩ | ⟨h1, h2, h3, h4⟩
      · exact Or.inl ⟨by omega, h2⟩
      · exact Or.inr ⟨by omega, by omega, by simpa using h3, fun q => h4 ⟨by omega, q.2⟩⟩
theorem lh_st1 {lsC : Array Slot} {n i : Nat} {ls : List (Option ab_V)} {v : ab_V} (h : ls.length = n) (h' : lv_has lsC n ((i, cv v) :: (al ls).filter (fun q => !(q.1 == i) && !(q.1 + 1 == i && q.2.category == 2)))) : lh lsC n (st1 ls i v) := by
  refine ⟨h'.1, h'.2.1, by rw [st1_len]; exact h, fun k w hk => ?_⟩
  rcases st1_get _ _ _ _ _ hk with ⟨h1, h2⟩ | ⟨h1, h2, h3⟩
  · subst h1; subst h2
    exact h'.2.2 _ List.mem_cons_self
  · refine h'.2.2 (k, cv w) (List.mem_cons_of_mem _ (List.mem_filter.mpr ⟨al_mem.mpr ⟨w, h2, rfl⟩, ?_⟩))
    simp only [cv_cat]
    by_cases e : k + 1 = i
    · have : is2 (some w) = false := by
        cases hw : is2 (some w)
        · rfl
        · exact absurd ⟨e, hw⟩ h3
      simp [h1, this]
    · simp [h1, e]
theorem lh_st2 {lsC : Array Slot} {n i : Nat} {ls : List (Option ab_V)} {v : ab_V} (h : ls.length = n) (h' : lv_has lsC n ((i, cv v) :: (al ls).filter (fun q => !(q.1 == i) && (!(q.1 == i + 1) && !(q.1 + 1 == i && q.2.category == 2))))) : lh lsC n (st2 ls i v) := by
  refine ⟨h'.1, h'.2.1, by rw [st2_len]; exact h, fun k w hk => ?_⟩
  rcases st2_get _ _ _ _ _ hk with ⟨h1, h2⟩ | ⟨h1, h1', h2, h3⟩
  · subst h1; subst h2
    exact h'.2.2 _ List.mem_cons_self
  · refine h'.2.2 (k, cv w) (List.mem_cons_of_mem _ (List.mem_filter.mpr ⟨al_mem.mpr ⟨w, h2, rfl⟩, ?_⟩))
    simp only [cv_cat]
    by_cases e : k + 1 = i
    · have : is2 (some w) = false := by
        cases hw : is2 (some w)
        · rfl
        · exact absurd ⟨e, hw⟩ h3
      simp [h1, h1', this]
    · simp [h1, h1', e]
theorem st1_ok {ls : List (Option ab_V)} {i : Nat} {v : ab_V} (h : ∀ w, some w ∈ ls → okV w) (hv : okV v) : ∀ w, some w ∈ st1 ls i v → okV w := by
  intro w hw
  obtain ⟨k, hk⟩ := List.getElem?_of_mem hw
  rcases st1_get _ _ _ _ _ hk with ⟨-, h2⟩ | ⟨-, h2, -⟩
  · rw [h2]; exact hv
  · exact h w (List.mem_of_getElem? h2)
theorem st2_ok {ls : List (Option ab_V)} {i : Nat} {v : ab_V} (h : ∀ w, some w ∈ ls → okV w) (hv : okV v) : ∀ w, some w ∈ st2 ls i v → okV w := by
  intro w hw
  obtain ⟨k, hk⟩ := List.getElem?_of_mem hw
  rcases st2_get _ _ _ _ _ hk with ⟨-, h2⟩ | ⟨-, -, h2, -⟩
  · rw [h2]; exact hv
  · exact h w (List.mem_of_getElem? h2)
/-- the locals at a method's entry -/
def en : Nat → List ab_V → List (Option ab_V)
  | 0, _ => []
  | n + 1, [] => none :: en n []
  | n + 1, v :: r => if is2 (some v) then some v :: (match n with | 0 => [] | n + 1 => none :: en n r) else some v :: en n r
/-- heaps -/
abbrev ab_O : Type := Nat × ((Nat × List ab_V) ⊕ (Nat × List Int) ⊕ (Nat × List (Option Nat)))
abbrev ab_H : Type := Nat → Option ab_O
abbrev oJ (tag ci : Nat) (fs : List ab_V) : ab_O := (tag, .inl (ci, fs))
abbrev oN (tag k : Nat) (xs : List Int) : ab_O := (tag, .inr (.inl (k, xs)))
abbrev oR (tag k : Nat) (rs : List (Option Nat)) : ab_O := (tag, .inr (.inr (k, rs)))
def hu (h : ab_H) (a : Nat) (o : ab_O) : ab_H := fun q => if q = a then some o else h q
theorem hu_self (h : ab_H) (a : Nat) (o : ab_O) : hu h a o a = some o := if_pos rfl
theorem hu_ne (h : ab_H) {a q : Nat} (o : ab_O) (hq : q ≠ a) : hu h a o q = h q := if_neg hq
def okB (o : ab_O) : Prop := match o.2 with
  | .inl (_, fs) => ∀ v ∈ fs, okV v
  | .inr (.inl (k, xs)) => ∀ z ∈ xs, (k = 0 → inI z) ∧ (k = 1 → inL z) ∧ (k = 2 → 0 ≤ z ∧ z < 65536)
  | .inr (.inr _) => True
/-- the launch; the law's start; its argument's values; classes' numbers and slots; arrays' classes; the empty array of ArrayList; the mirror of Object[]; the script -/
abbrev gt_T : Type := Launch × State × Array Value × va_G × (Nat → ClassId) × Nat × Nat × Nat × Nat × (Nat → Int32)
abbrev gl (G : gt_T) : Launch := G.1
abbrev gs (G : gt_T) : State := G.2.1
abbrev ga (G : gt_T) : Array Value := G.2.2.1
abbrev gD (G : gt_T) : va_G := G.2.2.2.1
abbrev gc (G : gt_T) : Nat → ClassId := G.2.2.2.2.1
abbrev ge (G : gt_T) : Nat := G.2.2.2.2.2.1
abbrev gm (G : gt_T) : Nat := G.2.2.2.2.2.2.1
abbrev gb (G : gt_T) : Nat := G.2.2.2.2.2.2.2.1
abbrev gn (G : gt_T) : Nat := G.2.2.2.2.2.2.2.2.1
abbrev gx (G : gt_T) : Nat → Int32 := G.2.2.2.2.2.2.2.2.2
abbrev gA (G : gt_T) : Nat → Prop := fun q => (gs G).heap.size ≤ q
def gy (G : gt_T) : List (ClassId × FieldType) := [(gc G 0, .int), (gc G 1, .long), (gc G 2, .char), (gc G 3, .object "java/lang/Object"), (gc G 4, .object "GoodsTree$Edition")]
def nE (k : Nat) (xs : List Int) : (Nat → Int32) ⊕ (Nat → Int64) ⊕ (Nat → UInt32) ⊕ (Nat → UInt64) ⊕ (Nat → Option Nat) := if k = 1 then .inr (.inl fun j => Int64.ofInt (xs.getD j 0)) else .inl fun j => Int32.ofInt (xs.getD j 0)
def oE (G : gt_T) (o : ab_O) : va_E := match o.2 with
  | .inl (ci, fs) => .inr (ci, fs.map cv)
  | .inr (.inl (k, xs)) => .inl (gc G k, xs.length, nE k xs)
  | .inr (.inr (k, rs)) => .inl (gc G (3 + k), rs.length, .inr (.inr (.inr (.inr fun j => rs.getD j none))))
def rp (G : gt_T) (h : ab_H) (H : Heap) (locs : List Loc) : Prop := ∃ ws : va_W, va_P (gD G) cl_ ws H ∧ va_D (gA G) ws ∧ (∀ (a : Nat) (o : ab_O), h a = some o → okB o ∧ ∃ k : Nat, ws[k]? = some (a, oE G o)) ∧ va_S (gA G) (gs G).heap H locs
/-- what is known of the law's start -/
def GF (G : gt_T) : Prop := (∀ w ∈ lw_tbl, w.before (ga G) (gs G) = true) ∧ va_K (gD G) cl_ (gy G) (gs G) ∧
  va_Z "java/util/ArrayList" "DEFAULTCAPACITY_EMPTY_ELEMENTDATA" "[Ljava/lang/Object;" (.ref (ge G)) (gA G) (gs G) (gs G).heap ∧
  va_T (.object "java/lang/Object") (ge G) 0 (fun _ => .null) (gA G) (gs G) (gs G).heap ∧
  va_Mi "[Ljava/lang/Object;" (gm G) (gs G) ∧
  va_X (gb G) (gn G) (gx G) (gs G) (gs G).heap ∧ gb G < (gs G).heap.size ∧ gn G ≤ 3584 ∧
  (Jvm.Cond.and given_1 narrow_1).before (ga G) (gs G) = true
def cx (G : gt_T) (M : mt_T) (p : Program) (e : Env) (s : State) (m : MethodId) (meth : Method) (c : Code) : Prop :=
  p.tables.exec = Jvm.exec ∧ c.code = M.2.1 ∧ c.maxLocals = M.2.2.1 ∧ meth.sig.returnType = M.2.2.2.1 ∧ meth.locks = false ∧ meth.name = M.1.name ∧ c.exceptionTable.toList = tableOf M.2.2.2.2 ∧ s.vm.findClass M.1.cls = some m.cls ∧ (gs G).WarmedH s.vm ∧ GF G ∧ e.platform.stackTraces = false
theorem wd {G : gt_T} {s : State} (hG : GF G) (hW : (gs G).WarmedH s.vm) {w : Cond} {j : Nat} (hw : tw j w = true) (hk : (w.onTables && w.keeps) = true ∨ ∃ ty, w = .arrayClass ty) (args : Array Value) : w.before args s = true :=
  word_at hW hk (hG.1 w (List.mem_of_getElem? (of_decide_eq_true hw)))
def okO (v : Option ab_V) : Prop := ∀ w, v = some w → okV w
def eq_ (G : gt_T) (below : List Frame) (s : State) (mc ms : Nat) (Φ : Option ab_V → ab_H → Prop) (Θ : Nat → ab_H → Prop) : State → Prop := fun t =>
  ∃ o, t.status = .running ∧ Ended t below o ∧ (∃ h', rp G h' t.heap [] ∧ ((∃ v, o = .returned (v.map cv) ∧ okO v ∧ Φ v h') ∨ ∃ a, o = .threw a ∧ Θ a h')) ∧ s.WarmedH t.vm ∧ ∃ L, s.sameButNew ({ t with vm := s.vm } : State) L mc ms ∧ ∀ q ∈ L, gA G q.base
def cb (G : gt_T) (M : mt_T) (F L C S : Nat) (ls : List (Option ab_V)) (st : List ab_V) (h : ab_H) (p : Program) (e : Env) (R : Room) (s : State) (m : MethodId) (meth : Method) (c : Code) (H : Heap) (locs : List Loc) (cells slots : Nat) (lsC : Array Slot) : Prop :=
  cx G M p e s m meth c ∧ F ≤ R.frames ∧ L ≤ R.locals ∧ cells + C ≤ R.cells ∧ slots + S ≤ R.slots ∧ rp G h H locs ∧ lh lsC M.2.2.1 ls ∧ (∀ v ∈ st, okV v) ∧ ∀ v, some v ∈ ls → okV v
/-- THE JUDGEMENT: method M of room (frames F, words L, cells C, slots S) at pc, with locals ls, operands st and the heap h, comes to its end: it returns v with 'Φ v h'', or throws a with 'Θ a h'' -/
def ev (G : gt_T) (M : mt_T) (F L C S : Nat) (pc : Nat) (ls : List (Option ab_V)) (st : List ab_V) (h : ab_H) (Φ : Option ab_V → ab_H → Prop) (Θ : Nat → ab_H → Prop) : Prop :=
  ∀ (p : Program) (e : Env) (R : Room) (s : State) (m : MethodId) (args : Array Value) (below : List Frame) (meth : Method) (c : Code) (H : Heap) (locs : List Loc) (cells slots : Nat) (lsC : Array Slot),
    cb G M F L C S ls st h p e R s m meth c H locs cells slots lsC →
    W p (gl G) e R s m args below meth c H locs cells slots (eq_ G below s R.cells R.slots Φ Θ) (F0 m pc lsC (st.map cv))
theorem W.mono {p : Program} {l : Launch} {e : Env} {R : Room} {s : State} {m : MethodId} {args : Array Value} {below : List Frame} {meth : Method} {c : Code} {H : Heap} {locs : List Loc} {cells slots : Nat} {Q Q' : State → Prop} {g : JFrame} (hQ : ∀ t, Q t → Q' t) (k : W p l e R s m args below meth c H locs cells slots Q g) : W p l e R s m args below meth c H locs cells slots Q' g := by
  intro T hT X
  obtain ⟨t, a, b⟩ := k T hT X
  exact ⟨t, a, hQ t b⟩
/-- a method's contract: the judgement at its entry -/
abbrev ct (G : gt_T) (M : mt_T) (F L C S : Nat) (args : List ab_V) (h : ab_H) (Φ : Option ab_V → ab_H → Prop) (Θ : Nat → ab_H → Prop) : Prop := ev G M F L C S 0 (en M.2.2.1 args) [] h Φ Θ
theorem ev_mono {G : gt_T} {M : mt_T} {F L C S : Nat} {pc : Nat} {ls : List (Option ab_V)} {st : List ab_V} {h : ab_H} {Φ Φ' : Option ab_V → ab_H → Prop} {Θ Θ' : Nat → ab_H → Prop} (k : ev G M F L C S pc ls st h Φ Θ) (h1 : ∀ v h', Φ v h' → Φ' v h') (h2 : ∀ a h', Θ a h' → Θ' a h') : ev G M F L C S pc ls st h Φ' Θ' := by
  intro p e R s m args below meth c H locs cells slots lsC B
  refine W.mono ?_ (k p e R s m args below meth c H locs cells slots lsC B)
  rintro t ⟨o, a1, a2, ⟨h', a3, a4⟩, a5⟩
  refine ⟨o, a1, a2, ⟨h', a3, ?_⟩, a5⟩
  rcases a4 with ⟨v, b1, b2, b3⟩ | ⟨a, b1, b2⟩
  · exact Or.inl ⟨v, b1, b2, h1 _ _ b3⟩
  · exact Or.inr ⟨a, b1, h2 _ _ b2⟩
/-- more room is no harm -/
theorem ev_room {G : gt_T} {M : mt_T} {F L C S F' L' C' S' : Nat} {pc : Nat} {ls : List (Option ab_V)} {st : List ab_V} {h : ab_H} {Φ : Option ab_V → ab_H → Prop} {Θ : Nat → ab_H → Prop} (hF : F ≤ F') (hL : L ≤ L') (hC : C ≤ C') (hS : S ≤ S') (k : ev G M F L C S pc ls st h Φ Θ) : ev G M F' L' C' S' pc ls st h Φ Θ := by
  intro p e R s m args below meth c H locs cells slots lsC B
  obtain ⟨b1, b2, b3, b4, b5, b6⟩ := B
  exact k p e R s m args below meth c H locs cells slots lsC ⟨b1, by omega, by omega, by omega, by omega, b6⟩
