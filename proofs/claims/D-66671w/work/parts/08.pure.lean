/-! ROWS of instructions that touch no heap (printed by gen/pure.py) -/
theorem ri_ex {M : mt_T} {pc len op a b j : Nat} {z : Int} (h : ri_at M (pc, len, op, a, b, j, z)) : ∃ i, decode M.2.1 pc = .ok (i, len) ∧ ri_ck M pc op a b j z i = true := by
  unfold ri_at ri_ok at h
  dsimp only at h
  cases hd : decode M.2.1 pc with
  | error er => rw [hd] at h; cases h
  | ok q =>
    obtain ⟨i, l⟩ := q
    rw [hd] at h
    simp only [Bool.and_eq_true, decide_eq_true_eq] at h
    exact ⟨i, by rw [h.1], h.2⟩
theorem okc {v : ab_V} {st : List ab_V} (hv : okV v) (h : ∀ w ∈ st, okV w) : ∀ w ∈ v :: st, okV w := by
  intro w hw
  rcases List.mem_cons.mp hw with rfl | hw
  · exact hv
  · exact h w hw
theorem okt {v : ab_V} {st : List ab_V} (h : ∀ w ∈ v :: st, okV w) : ∀ w ∈ st, okV w := fun w hw => h w (List.mem_cons_of_mem _ hw)
theorem okh {v : ab_V} {st : List ab_V} (h : ∀ w ∈ v :: st, okV w) : okV v := h v List.mem_cons_self
theorem ix_eq_t {x y : Int} (hx : inI x) (hy : inI y) (q : Int32.ofInt x = Int32.ofInt y) : x = y := (oi_inj hx hy).mp q
theorem ix_eq_f {x y : Int} (hx : inI x) (hy : inI y) (q : ¬ Int32.ofInt x = Int32.ofInt y) : x ≠ y := fun z => q ((oi_inj hx hy).mpr z)
theorem ix_ne_t {x y : Int} (hx : inI x) (hy : inI y) (q : ¬ Int32.ofInt x = Int32.ofInt y) : x ≠ y := fun z => q ((oi_inj hx hy).mpr z)
theorem ix_ne_f {x y : Int} (hx : inI x) (hy : inI y) (q : Int32.ofInt x = Int32.ofInt y) : x = y := (oi_inj hx hy).mp q
theorem ix_lt_t {x y : Int} (hx : inI x) (hy : inI y) (q : Int32.ofInt x < Int32.ofInt y) : x < y := (oi_lt hx hy).mp q
theorem ix_lt_f {x y : Int} (hx : inI x) (hy : inI y) (q : ¬ Int32.ofInt x < Int32.ofInt y) : y ≤ x := Int.not_lt.mp fun z => q ((oi_lt hx hy).mpr z)
theorem ix_ge_t {x y : Int} (hx : inI x) (hy : inI y) (q : Int32.ofInt y ≤ Int32.ofInt x) : y ≤ x := (oi_le hy hx).mp q
theorem ix_ge_f {x y : Int} (hx : inI x) (hy : inI y) (q : ¬ Int32.ofInt y ≤ Int32.ofInt x) : x < y := Int.not_le.mp fun z => q ((oi_le hy hx).mpr z)
theorem ix_gt_t {x y : Int} (hx : inI x) (hy : inI y) (q : Int32.ofInt y < Int32.ofInt x) : y < x := (oi_lt hy hx).mp q
theorem ix_gt_f {x y : Int} (hx : inI x) (hy : inI y) (q : ¬ Int32.ofInt y < Int32.ofInt x) : x ≤ y := Int.not_lt.mp fun z => q ((oi_lt hy hx).mpr z)
theorem ix_le_t {x y : Int} (hx : inI x) (hy : inI y) (q : Int32.ofInt x ≤ Int32.ofInt y) : x ≤ y := (oi_le hx hy).mp q
theorem ix_le_f {x y : Int} (hx : inI x) (hy : inI y) (q : ¬ Int32.ofInt x ≤ Int32.ofInt y) : y < x := Int.not_le.mp fun z => q ((oi_le hx hy).mpr z)
section EvPure
variable {G : gt_T} {M : mt_T} {F L C S : Nat} {pc a0 b0 j0 : Nat} {z0 : Int} {ls : List (Option ab_V)} {st : List ab_V} {h : ab_H} {Φ : Option ab_V → ab_H → Prop} {Θ : Nat → ab_H → Prop}
/-- the general row: the operands change, nothing else -/
theorem ev_pu {pc' : Nat} {st' : List ab_V} (k : ev G M F L C S pc' ls st' h Φ Θ) (hok : (∀ v ∈ st, okV v) → (∀ v, some v ∈ ls → okV v) → ∀ v ∈ st', okV v)
    (hW : ∀ (p : Program) (e : Env) (R : Room) (s : State) (m : MethodId) (args : Array Value) (below : List Frame) (meth : Method) (c : Code) (H : Heap) (locs : List Loc) (cells slots : Nat) (lsC : Array Slot) (Q : State → Prop), cx G M p e s m meth c → lh lsC M.2.2.1 ls → (∀ v ∈ st, okV v) → W p (gl G) e R s m args below meth c H locs cells slots Q (F0 m pc' lsC (st'.map cv)) → W p (gl G) e R s m args below meth c H locs cells slots Q (F0 m pc lsC (st.map cv))) : ev G M F L C S pc ls st h Φ Θ := by
  intro p e R s m args below meth c H locs cells slots lsC B
  obtain ⟨C0, hF, hL, hC, hS, hrp, hl, hst, hls⟩ := B
  exact hW p e R s m args below meth c H locs cells slots lsC _ C0 hl hst (k p e R s m args below meth c H locs cells slots lsC ⟨C0, hF, hL, hC, hS, hrp, hl, hok hst hls, hls⟩)
theorem rx_9 (d : ri_at M (pc, 1, 9, a0, b0, j0, z0)) : decode M.2.1 pc = .ok (.iadd, 1) := by
  obtain ⟨i, h1, h2⟩ := ri_ex d
  have h3 : decide (i = .iadd) = true := h2
  rw [of_decide_eq_true h3] at h1
  exact h1
theorem rx_10 (d : ri_at M (pc, 1, 10, a0, b0, j0, z0)) : decode M.2.1 pc = .ok (.isub, 1) := by
  obtain ⟨i, h1, h2⟩ := ri_ex d
  have h3 : decide (i = .isub) = true := h2
  rw [of_decide_eq_true h3] at h1
  exact h1
theorem rx_11 (d : ri_at M (pc, 1, 11, a0, b0, j0, z0)) : decode M.2.1 pc = .ok (.imul, 1) := by
  obtain ⟨i, h1, h2⟩ := ri_ex d
  have h3 : decide (i = .imul) = true := h2
  rw [of_decide_eq_true h3] at h1
  exact h1
theorem rx_12 (d : ri_at M (pc, 1, 12, a0, b0, j0, z0)) : decode M.2.1 pc = .ok (.idiv, 1) := by
  obtain ⟨i, h1, h2⟩ := ri_ex d
  have h3 : decide (i = .idiv) = true := h2
  rw [of_decide_eq_true h3] at h1
  exact h1
theorem rx_13 (d : ri_at M (pc, 1, 13, a0, b0, j0, z0)) : decode M.2.1 pc = .ok (.irem, 1) := by
  obtain ⟨i, h1, h2⟩ := ri_ex d
  have h3 : decide (i = .irem) = true := h2
  rw [of_decide_eq_true h3] at h1
  exact h1
theorem rx_14 (d : ri_at M (pc, 1, 14, a0, b0, j0, z0)) : decode M.2.1 pc = .ok (.iand, 1) := by
  obtain ⟨i, h1, h2⟩ := ri_ex d
  have h3 : decide (i = .iand) = true := h2
  rw [of_decide_eq_true h3] at h1
  exact h1
theorem rx_15 (d : ri_at M (pc, 1, 15, a0, b0, j0, z0)) : decode M.2.1 pc = .ok (.ior, 1) := by
  obtain ⟨i, h1, h2⟩ := ri_ex d
  have h3 : decide (i = .ior) = true := h2
  rw [of_decide_eq_true h3] at h1
  exact h1
theorem rx_16 (d : ri_at M (pc, 1, 16, a0, b0, j0, z0)) : decode M.2.1 pc = .ok (.ishr, 1) := by
  obtain ⟨i, h1, h2⟩ := ri_ex d
  have h3 : decide (i = .ishr) = true := h2
  rw [of_decide_eq_true h3] at h1
  exact h1
theorem rx_17 (d : ri_at M (pc, 1, 17, a0, b0, j0, z0)) : decode M.2.1 pc = .ok (.ladd, 1) := by
  obtain ⟨i, h1, h2⟩ := ri_ex d
  have h3 : decide (i = .ladd) = true := h2
  rw [of_decide_eq_true h3] at h1
  exact h1
theorem rx_18 (d : ri_at M (pc, 1, 18, a0, b0, j0, z0)) : decode M.2.1 pc = .ok (.lsub, 1) := by
  obtain ⟨i, h1, h2⟩ := ri_ex d
  have h3 : decide (i = .lsub) = true := h2
  rw [of_decide_eq_true h3] at h1
  exact h1
theorem rx_19 (d : ri_at M (pc, 1, 19, a0, b0, j0, z0)) : decode M.2.1 pc = .ok (.lmul, 1) := by
  obtain ⟨i, h1, h2⟩ := ri_ex d
  have h3 : decide (i = .lmul) = true := h2
  rw [of_decide_eq_true h3] at h1
  exact h1
theorem rx_20 (d : ri_at M (pc, 1, 20, a0, b0, j0, z0)) : decode M.2.1 pc = .ok (.ldiv, 1) := by
  obtain ⟨i, h1, h2⟩ := ri_ex d
  have h3 : decide (i = .ldiv) = true := h2
  rw [of_decide_eq_true h3] at h1
  exact h1
theorem rx_21 (d : ri_at M (pc, 1, 21, a0, b0, j0, z0)) : decode M.2.1 pc = .ok (.land, 1) := by
  obtain ⟨i, h1, h2⟩ := ri_ex d
  have h3 : decide (i = .land) = true := h2
  rw [of_decide_eq_true h3] at h1
  exact h1
theorem rx_22 (d : ri_at M (pc, 1, 22, a0, b0, j0, z0)) : decode M.2.1 pc = .ok (.lor, 1) := by
  obtain ⟨i, h1, h2⟩ := ri_ex d
  have h3 : decide (i = .lor) = true := h2
  rw [of_decide_eq_true h3] at h1
  exact h1
theorem rx_23 (d : ri_at M (pc, 1, 23, a0, b0, j0, z0)) : decode M.2.1 pc = .ok (.lshl, 1) := by
  obtain ⟨i, h1, h2⟩ := ri_ex d
  have h3 : decide (i = .lshl) = true := h2
  rw [of_decide_eq_true h3] at h1
  exact h1
theorem rx_24 (d : ri_at M (pc, 1, 24, a0, b0, j0, z0)) : decode M.2.1 pc = .ok (.i2l, 1) := by
  obtain ⟨i, h1, h2⟩ := ri_ex d
  have h3 : decide (i = .i2l) = true := h2
  rw [of_decide_eq_true h3] at h1
  exact h1
theorem rx_25 (d : ri_at M (pc, 1, 25, a0, b0, j0, z0)) : decode M.2.1 pc = .ok (.i2c, 1) := by
  obtain ⟨i, h1, h2⟩ := ri_ex d
  have h3 : decide (i = .i2c) = true := h2
  rw [of_decide_eq_true h3] at h1
  exact h1
theorem rx_26 (d : ri_at M (pc, 1, 26, a0, b0, j0, z0)) : decode M.2.1 pc = .ok (.lcmp, 1) := by
  obtain ⟨i, h1, h2⟩ := ri_ex d
  have h3 : decide (i = .lcmp) = true := h2
  rw [of_decide_eq_true h3] at h1
  exact h1
theorem rx_27 (d : ri_at M (pc, 1, 27, a0, b0, j0, z0)) : decode M.2.1 pc = .ok (.dup, 1) := by
  obtain ⟨i, h1, h2⟩ := ri_ex d
  have h3 : decide (i = .dup) = true := h2
  rw [of_decide_eq_true h3] at h1
  exact h1
theorem rx_28 (d : ri_at M (pc, 1, 28, a0, b0, j0, z0)) : decode M.2.1 pc = .ok (.pop, 1) := by
  obtain ⟨i, h1, h2⟩ := ri_ex d
  have h3 : decide (i = .pop) = true := h2
  rw [of_decide_eq_true h3] at h1
  exact h1
theorem rx_29 (d : ri_at M (pc, 1, 29, a0, b0, j0, z0)) : decode M.2.1 pc = .ok (.dup2, 1) := by
  obtain ⟨i, h1, h2⟩ := ri_ex d
  have h3 : decide (i = .dup2) = true := h2
  rw [of_decide_eq_true h3] at h1
  exact h1
theorem rx_30 (d : ri_at M (pc, 1, 30, a0, b0, j0, z0)) : decode M.2.1 pc = .ok (.dup_x1, 1) := by
  obtain ⟨i, h1, h2⟩ := ri_ex d
  have h3 : decide (i = .dup_x1) = true := h2
  rw [of_decide_eq_true h3] at h1
  exact h1
theorem rx_55 (d : ri_at M (pc, 1, 55, a0, b0, j0, z0)) : decode M.2.1 pc = .ok (.arraylength, 1) := by
  obtain ⟨i, h1, h2⟩ := ri_ex d
  have h3 : decide (i = .arraylength) = true := h2
  rw [of_decide_eq_true h3] at h1
  exact h1
theorem rx_56 (d : ri_at M (pc, 1, 56, a0, b0, j0, z0)) : decode M.2.1 pc = .ok (.iaload, 1) := by
  obtain ⟨i, h1, h2⟩ := ri_ex d
  have h3 : decide (i = .iaload) = true := h2
  rw [of_decide_eq_true h3] at h1
  exact h1
theorem rx_57 (d : ri_at M (pc, 1, 57, a0, b0, j0, z0)) : decode M.2.1 pc = .ok (.laload, 1) := by
  obtain ⟨i, h1, h2⟩ := ri_ex d
  have h3 : decide (i = .laload) = true := h2
  rw [of_decide_eq_true h3] at h1
  exact h1
theorem rx_58 (d : ri_at M (pc, 1, 58, a0, b0, j0, z0)) : decode M.2.1 pc = .ok (.caload, 1) := by
  obtain ⟨i, h1, h2⟩ := ri_ex d
  have h3 : decide (i = .caload) = true := h2
  rw [of_decide_eq_true h3] at h1
  exact h1
theorem rx_59 (d : ri_at M (pc, 1, 59, a0, b0, j0, z0)) : decode M.2.1 pc = .ok (.aaload, 1) := by
  obtain ⟨i, h1, h2⟩ := ri_ex d
  have h3 : decide (i = .aaload) = true := h2
  rw [of_decide_eq_true h3] at h1
  exact h1
theorem rx_60 (d : ri_at M (pc, 1, 60, a0, b0, j0, z0)) : decode M.2.1 pc = .ok (.iastore, 1) := by
  obtain ⟨i, h1, h2⟩ := ri_ex d
  have h3 : decide (i = .iastore) = true := h2
  rw [of_decide_eq_true h3] at h1
  exact h1
theorem rx_61 (d : ri_at M (pc, 1, 61, a0, b0, j0, z0)) : decode M.2.1 pc = .ok (.lastore, 1) := by
  obtain ⟨i, h1, h2⟩ := ri_ex d
  have h3 : decide (i = .lastore) = true := h2
  rw [of_decide_eq_true h3] at h1
  exact h1
theorem rx_62 (d : ri_at M (pc, 1, 62, a0, b0, j0, z0)) : decode M.2.1 pc = .ok (.castore, 1) := by
  obtain ⟨i, h1, h2⟩ := ri_ex d
  have h3 : decide (i = .castore) = true := h2
  rw [of_decide_eq_true h3] at h1
  exact h1
theorem rx_63 (d : ri_at M (pc, 1, 63, a0, b0, j0, z0)) : decode M.2.1 pc = .ok (.aastore, 1) := by
  obtain ⟨i, h1, h2⟩ := ri_ex d
  have h3 : decide (i = .aastore) = true := h2
  rw [of_decide_eq_true h3] at h1
  exact h1
theorem rx_66 (d : ri_at M (pc, 1, 66, a0, b0, j0, z0)) : decode M.2.1 pc = .ok (.athrow, 1) := by
  obtain ⟨i, h1, h2⟩ := ri_ex d
  have h3 : decide (i = .athrow) = true := h2
  rw [of_decide_eq_true h3] at h1
  exact h1
theorem rx_70 (d : ri_at M (pc, 1, 70, a0, b0, j0, z0)) : decode M.2.1 pc = .ok (.ireturn, 1) := by
  obtain ⟨i, h1, h2⟩ := ri_ex d
  have h3 : decide (i = .ireturn) = true := h2
  rw [of_decide_eq_true h3] at h1
  exact h1
theorem rx_71 (d : ri_at M (pc, 1, 71, a0, b0, j0, z0)) : decode M.2.1 pc = .ok (.lreturn, 1) := by
  obtain ⟨i, h1, h2⟩ := ri_ex d
  have h3 : decide (i = .lreturn) = true := h2
  rw [of_decide_eq_true h3] at h1
  exact h1
theorem rx_72 (d : ri_at M (pc, 1, 72, a0, b0, j0, z0)) : decode M.2.1 pc = .ok (.areturn, 1) := by
  obtain ⟨i, h1, h2⟩ := ri_ex d
  have h3 : decide (i = .areturn) = true := h2
  rw [of_decide_eq_true h3] at h1
  exact h1
theorem rx_73 (d : ri_at M (pc, 1, 73, a0, b0, j0, z0)) : decode M.2.1 pc = .ok (.return_, 1) := by
  obtain ⟨i, h1, h2⟩ := ri_ex d
  have h3 : decide (i = .return_) = true := h2
  rw [of_decide_eq_true h3] at h1
  exact h1
theorem rx_74 (d : ri_at M (pc, 1, 74, a0, b0, j0, z0)) : decode M.2.1 pc = .ok (.aconst_null, 1) := by
  obtain ⟨i, h1, h2⟩ := ri_ex d
  have h3 : decide (i = .aconst_null) = true := h2
  rw [of_decide_eq_true h3] at h1
  exact h1
theorem rx_85 (d : ri_at M (pc, 2, 85, a0, b0, j0, z0)) : decode M.2.1 pc = .ok (.iload a0, 2) := by
  obtain ⟨i, h1, h2⟩ := ri_ex d
  have h3 : decide (i = .iload a0) = true := h2
  rw [of_decide_eq_true h3] at h1
  exact h1
theorem rx_86 (d : ri_at M (pc, 2, 86, a0, b0, j0, z0)) : decode M.2.1 pc = .ok (.lload a0, 2) := by
  obtain ⟨i, h1, h2⟩ := ri_ex d
  have h3 : decide (i = .lload a0) = true := h2
  rw [of_decide_eq_true h3] at h1
  exact h1
theorem rx_87 (d : ri_at M (pc, 2, 87, a0, b0, j0, z0)) : decode M.2.1 pc = .ok (.aload a0, 2) := by
  obtain ⟨i, h1, h2⟩ := ri_ex d
  have h3 : decide (i = .aload a0) = true := h2
  rw [of_decide_eq_true h3] at h1
  exact h1
theorem rx_88 (d : ri_at M (pc, 2, 88, a0, b0, j0, z0)) : decode M.2.1 pc = .ok (.istore a0, 2) := by
  obtain ⟨i, h1, h2⟩ := ri_ex d
  have h3 : decide (i = .istore a0) = true := h2
  rw [of_decide_eq_true h3] at h1
  exact h1
theorem rx_89 (d : ri_at M (pc, 2, 89, a0, b0, j0, z0)) : decode M.2.1 pc = .ok (.lstore a0, 2) := by
  obtain ⟨i, h1, h2⟩ := ri_ex d
  have h3 : decide (i = .lstore a0) = true := h2
  rw [of_decide_eq_true h3] at h1
  exact h1
theorem rx_90 (d : ri_at M (pc, 2, 90, a0, b0, j0, z0)) : decode M.2.1 pc = .ok (.astore a0, 2) := by
  obtain ⟨i, h1, h2⟩ := ri_ex d
  have h3 : decide (i = .astore a0) = true := h2
  rw [of_decide_eq_true h3] at h1
  exact h1
theorem rx_2 (d : ri_at M (pc, 1, 2, a0, b0, j0, z0)) : ∃ k : Fin 4, decode M.2.1 pc = .ok (.iload_n k, 1) ∧ (k : Nat) = a0 := by
  obtain ⟨i, h1, h2⟩ := ri_ex d
  cases i <;> first | exact ⟨_, h1, of_decide_eq_true h2⟩ | exact absurd h2 Bool.false_ne_true
theorem rx_3 (d : ri_at M (pc, 1, 3, a0, b0, j0, z0)) : ∃ k : Fin 4, decode M.2.1 pc = .ok (.lload_n k, 1) ∧ (k : Nat) = a0 := by
  obtain ⟨i, h1, h2⟩ := ri_ex d
  cases i <;> first | exact ⟨_, h1, of_decide_eq_true h2⟩ | exact absurd h2 Bool.false_ne_true
theorem rx_4 (d : ri_at M (pc, 1, 4, a0, b0, j0, z0)) : ∃ k : Fin 4, decode M.2.1 pc = .ok (.aload_n k, 1) ∧ (k : Nat) = a0 := by
  obtain ⟨i, h1, h2⟩ := ri_ex d
  cases i <;> first | exact ⟨_, h1, of_decide_eq_true h2⟩ | exact absurd h2 Bool.false_ne_true
theorem rx_5 (d : ri_at M (pc, 1, 5, a0, b0, j0, z0)) : ∃ k : Fin 4, decode M.2.1 pc = .ok (.istore_n k, 1) ∧ (k : Nat) = a0 := by
  obtain ⟨i, h1, h2⟩ := ri_ex d
  cases i <;> first | exact ⟨_, h1, of_decide_eq_true h2⟩ | exact absurd h2 Bool.false_ne_true
theorem rx_6 (d : ri_at M (pc, 1, 6, a0, b0, j0, z0)) : ∃ k : Fin 4, decode M.2.1 pc = .ok (.lstore_n k, 1) ∧ (k : Nat) = a0 := by
  obtain ⟨i, h1, h2⟩ := ri_ex d
  cases i <;> first | exact ⟨_, h1, of_decide_eq_true h2⟩ | exact absurd h2 Bool.false_ne_true
theorem rx_7 (d : ri_at M (pc, 1, 7, a0, b0, j0, z0)) : ∃ k : Fin 4, decode M.2.1 pc = .ok (.astore_n k, 1) ∧ (k : Nat) = a0 := by
  obtain ⟨i, h1, h2⟩ := ri_ex d
  cases i <;> first | exact ⟨_, h1, of_decide_eq_true h2⟩ | exact absurd h2 Bool.false_ne_true
theorem rx_8 (d : ri_at M (pc, 3, 8, a0, b0, j0, z0)) : decode M.2.1 pc = .ok (.iinc a0 z0, 3) := by
  obtain ⟨i, h1, h2⟩ := ri_ex d
  have h3 : decide (i = .iinc a0 z0) = true := h2
  rw [of_decide_eq_true h3] at h1
  exact h1
theorem rx_0 (d : ri_at M (pc, 1, 0, a0, b0, j0, z0)) : decode M.2.1 pc = .ok (.iconst z0, 1) ∧ inI z0 := by
  obtain ⟨i, h1, h2⟩ := ri_ex d
  have h3 : (decide (i = .iconst z0) && decide (-2147483648 ≤ z0) && decide (z0 < 2147483648)) = true := h2
  simp only [Bool.and_eq_true, decide_eq_true_eq] at h3
  rw [h3.1.1] at h1
  exact ⟨h1, h3.1.2, h3.2⟩
theorem rx_82 (d : ri_at M (pc, 2, 82, a0, b0, j0, z0)) : decode M.2.1 pc = .ok (.bipush z0, 2) ∧ (Int8.ofInt z0).toInt32 = Int32.ofInt z0 ∧ inI z0 := by
  obtain ⟨i, h1, h2⟩ := ri_ex d
  have h3 : (decide (i = .bipush z0) && decide ((Int8.ofInt z0).toInt32 = Int32.ofInt z0) && decide (-2147483648 ≤ z0) && decide (z0 < 2147483648)) = true := h2
  simp only [Bool.and_eq_true, decide_eq_true_eq] at h3
  rw [h3.1.1.1] at h1
  exact ⟨h1, h3.1.1.2, h3.1.2, h3.2⟩
theorem rx_83 (d : ri_at M (pc, 3, 83, a0, b0, j0, z0)) : decode M.2.1 pc = .ok (.sipush z0, 3) ∧ (Int16.ofInt z0).toInt32 = Int32.ofInt z0 ∧ inI z0 := by
  obtain ⟨i, h1, h2⟩ := ri_ex d
  have h3 : (decide (i = .sipush z0) && decide ((Int16.ofInt z0).toInt32 = Int32.ofInt z0) && decide (-2147483648 ≤ z0) && decide (z0 < 2147483648)) = true := h2
  simp only [Bool.and_eq_true, decide_eq_true_eq] at h3
  rw [h3.1.1.1] at h1
  exact ⟨h1, h3.1.1.2, h3.1.2, h3.2⟩
theorem rx_84 (d : ri_at M (pc, 2, 84, a0, b0, j0, z0)) : ∃ k, decode M.2.1 pc = .ok (.ldc k, 2) ∧ tw j0 (.constant M.1.cls k (Int32.ofInt z0)) = true ∧ inI z0 := by
  obtain ⟨i, h1, h2⟩ := ri_ex d
  cases i <;> first | exact absurd h2 Bool.false_ne_true | skip
  rename_i k
  have h3 : (tw j0 (.constant M.1.cls k (Int32.ofInt z0)) && decide (-2147483648 ≤ z0) && decide (z0 < 2147483648)) = true := h2
  simp only [Bool.and_eq_true, decide_eq_true_eq] at h3
  exact ⟨k, h1, h3.1.1, h3.1.2, h3.2⟩
theorem rx_1 (d : ri_at M (pc, 1, 1, a0, b0, j0, z0)) : ∃ n : Fin 2, decode M.2.1 pc = .ok (.lconst n, 1) ∧ ((n : Nat) : Int) = z0 := by
  obtain ⟨i, h1, h2⟩ := ri_ex d
  cases i <;> first | exact ⟨_, h1, of_decide_eq_true h2⟩ | exact absurd h2 Bool.false_ne_true
theorem rx_91 (d : ri_at M (pc, 3, 91, a0, b0, j0, z0)) : ∃ k, decode M.2.1 pc = .ok (.ldc2_w k, 3) ∧ tw j0 (.constantLong M.1.cls k (Int64.ofInt z0)) = true ∧ inL z0 := by
  obtain ⟨i, h1, h2⟩ := ri_ex d
  cases i <;> first | exact absurd h2 Bool.false_ne_true | skip
  rename_i k
  have h3 : (tw j0 (.constantLong M.1.cls k (Int64.ofInt z0)) && decide (-9223372036854775808 ≤ z0) && decide (z0 < 9223372036854775808)) = true := h2
  simp only [Bool.and_eq_true, decide_eq_true_eq] at h3
  exact ⟨k, h1, h3.1.1, h3.1.2, h3.2⟩
-- constants
theorem ev_ic (d : ri_at M (pc, 1, 0, a0, b0, j0, z0)) (k : ev G M F L C S (pc + 1) ls (vI z0 :: st) h Φ Θ) : ev G M F L C S pc ls st h Φ Θ := by
  refine ev_pu k (fun h1 _ => okc (rx_0 d).2 h1) ?_
  intro p e R s m args below meth c H locs cells slots lsC Q C0 hl hst kk
  exact lv_iconst C0.1 C0.2.1 (rx_0 d).1 rfl kk
theorem ev_bp (d : ri_at M (pc, 2, 82, a0, b0, j0, z0)) (k : ev G M F L C S (pc + 2) ls (vI z0 :: st) h Φ Θ) : ev G M F L C S pc ls st h Φ Θ := by
  refine ev_pu k (fun h1 _ => okc (rx_82 d).2.2 h1) ?_
  intro p e R s m args below meth c H locs cells slots lsC Q C0 hl hst kk
  exact lv_bipush C0.1 C0.2.1 (rx_82 d).1 (rx_82 d).2.1 kk
theorem ev_sp (d : ri_at M (pc, 3, 83, a0, b0, j0, z0)) (k : ev G M F L C S (pc + 3) ls (vI z0 :: st) h Φ Θ) : ev G M F L C S pc ls st h Φ Θ := by
  refine ev_pu k (fun h1 _ => okc (rx_83 d).2.2 h1) ?_
  intro p e R s m args below meth c H locs cells slots lsC Q C0 hl hst kk
  exact lv_sipush C0.1 C0.2.1 (rx_83 d).1 (rx_83 d).2.1 kk
theorem ev_ldc (d : ri_at M (pc, 2, 84, a0, b0, j0, z0)) (k : ev G M F L C S (pc + 2) ls (vI z0 :: st) h Φ Θ) : ev G M F L C S pc ls st h Φ Θ := by
  obtain ⟨kx, h1, h2, h3⟩ := rx_84 d
  refine ev_pu k (fun h1 _ => okc h3 h1) ?_
  intro p e R s m args below meth c H locs cells slots lsC Q C0 hl hst kk
  obtain ⟨hx, hb, hml, hr, hlk, hnm, htb, hown, hW, hG, htr⟩ := C0
  exact lv_ldc hx hb hown (wd hG hW h2 (Or.inl rfl) args) h1 kk
theorem ev_lc (d : ri_at M (pc, 1, 1, a0, b0, j0, z0)) (k : ev G M F L C S (pc + 1) ls (vL z0 :: st) h Φ Θ) : ev G M F L C S pc ls st h Φ Θ := by
  obtain ⟨n, h1, h2⟩ := rx_1 d
  have hn : (n : Nat) < 2 := n.isLt
  refine ev_pu k (fun h1 _ => okc (show inL z0 from ⟨by omega, by omega⟩) h1) ?_
  intro p e R s m args below meth c H locs cells slots lsC Q C0 hl hst kk
  refine lv_lconst C0.1 C0.2.1 h1 ?_ kk
  subst h2
  rfl
theorem ev_ldc2 (d : ri_at M (pc, 3, 91, a0, b0, j0, z0)) (k : ev G M F L C S (pc + 3) ls (vL z0 :: st) h Φ Θ) : ev G M F L C S pc ls st h Φ Θ := by
  obtain ⟨kx, h1, h2, h3⟩ := rx_91 d
  refine ev_pu k (fun h1 _ => okc h3 h1) ?_
  intro p e R s m args below meth c H locs cells slots lsC Q C0 hl hst kk
  obtain ⟨hx, hb, hml, hr, hlk, hnm, htb, hown, hW, hG, htr⟩ := C0
  exact lv_ldc2 hx hb hown (wd hG hW h2 (Or.inl rfl) args) h1 kk
theorem ev_null (d : ri_at M (pc, 1, 74, a0, b0, j0, z0)) (k : ev G M F L C S (pc + 1) ls (vN :: st) h Φ Θ) : ev G M F L C S pc ls st h Φ Θ := by
  refine ev_pu k (fun h1 _ => okc trivial h1) ?_
  intro p e R s m args below meth c H locs cells slots lsC Q C0 hl hst kk
  exact lv_null C0.1 C0.2.1 (rx_74 d) kk
theorem ev_il (d : ri_at M (pc, 1, 2, a0, b0, j0, z0)) {x : Int} (hv : ls[a0]? = some (some (vI x))) (k : ev G M F L C S (pc + 1) ls (vI x :: st) h Φ Θ) : ev G M F L C S pc ls st h Φ Θ := by
  obtain ⟨kx, h1, h2⟩ := rx_2 d
  refine ev_pu k (fun h1 h2 => okc (h2 _ (List.mem_of_getElem? hv)) h1) ?_
  intro p e R s m args below meth c H locs cells slots lsC Q C0 hl hst kk
  exact lv_iload_n C0.1 C0.2.1 h1 h2 (hl.2.2.2 _ _ hv) kk
theorem ev_ilw (d : ri_at M (pc, 2, 85, a0, b0, j0, z0)) {x : Int} (hv : ls[a0]? = some (some (vI x))) (k : ev G M F L C S (pc + 2) ls (vI x :: st) h Φ Θ) : ev G M F L C S pc ls st h Φ Θ := by
  refine ev_pu k (fun h1 h2 => okc (h2 _ (List.mem_of_getElem? hv)) h1) ?_
  intro p e R s m args below meth c H locs cells slots lsC Q C0 hl hst kk
  exact lv_iload C0.1 C0.2.1 (rx_85 d) (hl.2.2.2 _ _ hv) kk
theorem ev_ll (d : ri_at M (pc, 1, 3, a0, b0, j0, z0)) {x : Int} (hv : ls[a0]? = some (some (vL x))) (k : ev G M F L C S (pc + 1) ls (vL x :: st) h Φ Θ) : ev G M F L C S pc ls st h Φ Θ := by
  obtain ⟨kx, h1, h2⟩ := rx_3 d
  refine ev_pu k (fun h1 h2 => okc (h2 _ (List.mem_of_getElem? hv)) h1) ?_
  intro p e R s m args below meth c H locs cells slots lsC Q C0 hl hst kk
  exact lv_lload_n C0.1 C0.2.1 h1 h2 (hl.2.2.2 _ _ hv) kk
theorem ev_llw (d : ri_at M (pc, 2, 86, a0, b0, j0, z0)) {x : Int} (hv : ls[a0]? = some (some (vL x))) (k : ev G M F L C S (pc + 2) ls (vL x :: st) h Φ Θ) : ev G M F L C S pc ls st h Φ Θ := by
  refine ev_pu k (fun h1 h2 => okc (h2 _ (List.mem_of_getElem? hv)) h1) ?_
  intro p e R s m args below meth c H locs cells slots lsC Q C0 hl hst kk
  exact lv_lload C0.1 C0.2.1 (rx_86 d) (hl.2.2.2 _ _ hv) kk
theorem ev_al (d : ri_at M (pc, 1, 4, a0, b0, j0, z0)) {r : Option Nat} (hv : ls[a0]? = some (some (vR r))) (k : ev G M F L C S (pc + 1) ls (vR r :: st) h Φ Θ) : ev G M F L C S pc ls st h Φ Θ := by
  obtain ⟨kx, h1, h2⟩ := rx_4 d
  refine ev_pu k (fun h1 h2 => okc (h2 _ (List.mem_of_getElem? hv)) h1) ?_
  intro p e R s m args below meth c H locs cells slots lsC Q C0 hl hst kk
  have hv' := hl.2.2.2 _ _ hv
  cases r with
  | none => exact lv_aload_nN C0.1 C0.2.1 h1 h2 hv' kk
  | some x => exact lv_aload_n C0.1 C0.2.1 h1 h2 hv' kk
theorem ev_alw (d : ri_at M (pc, 2, 87, a0, b0, j0, z0)) {r : Option Nat} (hv : ls[a0]? = some (some (vR r))) (k : ev G M F L C S (pc + 2) ls (vR r :: st) h Φ Θ) : ev G M F L C S pc ls st h Φ Θ := by
  refine ev_pu k (fun h1 h2 => okc (h2 _ (List.mem_of_getElem? hv)) h1) ?_
  intro p e R s m args below meth c H locs cells slots lsC Q C0 hl hst kk
  have hv' := hl.2.2.2 _ _ hv
  cases r with
  | none => exact lv_aloadN C0.1 C0.2.1 (rx_87 d) hv' kk
  | some x => exact lv_aload C0.1 C0.2.1 (rx_87 d) hv' kk
theorem ev_is (d : ri_at M (pc, 1, 5, a0, b0, j0, z0)) {x : Int} (hn : a0 < M.2.2.1) (k : ev G M F L C S (pc + 1) (st1 ls a0 (vI x)) st h Φ Θ) : ev G M F L C S pc ls (vI x :: st) h Φ Θ := by
  intro p e R s m args below meth c H locs cells slots lsC B
  obtain ⟨C0, hF, hL, hC, hS, hrp, hl, hst, hls⟩ := B
  obtain ⟨kx, h1, h2⟩ := rx_5 d
  exact lv_istore_n C0.1 C0.2.1 h1 h2 (lh_has hl) hn rfl (fun lsC' hl' => k p e R s m args below meth c H locs cells slots lsC' ⟨C0, hF, hL, hC, hS, hrp, lh_st1 hl.2.2.1 hl', okt hst, st1_ok hls (okh hst)⟩)
theorem ev_isw (d : ri_at M (pc, 2, 88, a0, b0, j0, z0)) {x : Int} (hn : a0 < M.2.2.1) (k : ev G M F L C S (pc + 2) (st1 ls a0 (vI x)) st h Φ Θ) : ev G M F L C S pc ls (vI x :: st) h Φ Θ := by
  intro p e R s m args below meth c H locs cells slots lsC B
  obtain ⟨C0, hF, hL, hC, hS, hrp, hl, hst, hls⟩ := B
  exact lv_istore C0.1 C0.2.1 (rx_88 d) (lh_has hl) hn rfl (fun lsC' hl' => k p e R s m args below meth c H locs cells slots lsC' ⟨C0, hF, hL, hC, hS, hrp, lh_st1 hl.2.2.1 hl', okt hst, st1_ok hls (okh hst)⟩)
theorem ev_ls (d : ri_at M (pc, 1, 6, a0, b0, j0, z0)) {x : Int} (hn : a0 + 1 < M.2.2.1) (k : ev G M F L C S (pc + 1) (st2 ls a0 (vL x)) st h Φ Θ) : ev G M F L C S pc ls (vL x :: st) h Φ Θ := by
  intro p e R s m args below meth c H locs cells slots lsC B
  obtain ⟨C0, hF, hL, hC, hS, hrp, hl, hst, hls⟩ := B
  obtain ⟨kx, h1, h2⟩ := rx_6 d
  exact lv_lstore_n C0.1 C0.2.1 h1 h2 (lh_has hl) hn rfl (fun lsC' hl' => k p e R s m args below meth c H locs cells slots lsC' ⟨C0, hF, hL, hC, hS, hrp, lh_st2 hl.2.2.1 hl', okt hst, st2_ok hls (okh hst)⟩)
theorem ev_lsw (d : ri_at M (pc, 2, 89, a0, b0, j0, z0)) {x : Int} (hn : a0 + 1 < M.2.2.1) (k : ev G M F L C S (pc + 2) (st2 ls a0 (vL x)) st h Φ Θ) : ev G M F L C S pc ls (vL x :: st) h Φ Θ := by
  intro p e R s m args below meth c H locs cells slots lsC B
  obtain ⟨C0, hF, hL, hC, hS, hrp, hl, hst, hls⟩ := B
  exact lv_lstore C0.1 C0.2.1 (rx_89 d) (lh_has hl) hn rfl (fun lsC' hl' => k p e R s m args below meth c H locs cells slots lsC' ⟨C0, hF, hL, hC, hS, hrp, lh_st2 hl.2.2.1 hl', okt hst, st2_ok hls (okh hst)⟩)
theorem ev_as (d : ri_at M (pc, 1, 7, a0, b0, j0, z0)) {r : Option Nat} (hn : a0 < M.2.2.1) (k : ev G M F L C S (pc + 1) (st1 ls a0 (vR r)) st h Φ Θ) : ev G M F L C S pc ls (vR r :: st) h Φ Θ := by
  intro p e R s m args below meth c H locs cells slots lsC B
  obtain ⟨C0, hF, hL, hC, hS, hrp, hl, hst, hls⟩ := B
  obtain ⟨kx, h1, h2⟩ := rx_7 d
  cases r with
  | none => exact lv_astore_nN C0.1 C0.2.1 h1 h2 (lh_has hl) hn rfl (fun lsC' hl' => k p e R s m args below meth c H locs cells slots lsC' ⟨C0, hF, hL, hC, hS, hrp, lh_st1 hl.2.2.1 hl', okt hst, st1_ok hls trivial⟩)
  | some x => exact lv_astore_n C0.1 C0.2.1 h1 h2 (lh_has hl) hn rfl (fun lsC' hl' => k p e R s m args below meth c H locs cells slots lsC' ⟨C0, hF, hL, hC, hS, hrp, lh_st1 hl.2.2.1 hl', okt hst, st1_ok hls trivial⟩)
theorem ev_asw (d : ri_at M (pc, 2, 90, a0, b0, j0, z0)) {r : Option Nat} (hn : a0 < M.2.2.1) (k : ev G M F L C S (pc + 2) (st1 ls a0 (vR r)) st h Φ Θ) : ev G M F L C S pc ls (vR r :: st) h Φ Θ := by
  intro p e R s m args below meth c H locs cells slots lsC B
  obtain ⟨C0, hF, hL, hC, hS, hrp, hl, hst, hls⟩ := B
  cases r with
  | none => exact lv_astoreN C0.1 C0.2.1 (rx_90 d) (lh_has hl) hn rfl (fun lsC' hl' => k p e R s m args below meth c H locs cells slots lsC' ⟨C0, hF, hL, hC, hS, hrp, lh_st1 hl.2.2.1 hl', okt hst, st1_ok hls trivial⟩)
  | some x => exact lv_astore C0.1 C0.2.1 (rx_90 d) (lh_has hl) hn rfl (fun lsC' hl' => k p e R s m args below meth c H locs cells slots lsC' ⟨C0, hF, hL, hC, hS, hrp, lh_st1 hl.2.2.1 hl', okt hst, st1_ok hls trivial⟩)
theorem ev_iinc (d : ri_at M (pc, 3, 8, a0, b0, j0, z0)) {x : Int} (hv : ls[a0]? = some (some (vI x))) (hz : -2147483648 ≤ x + z0 ∧ x + z0 < 2147483648) (k : ev G M F L C S (pc + 3) (st1 ls a0 (vI (x + z0))) st h Φ Θ) : ev G M F L C S pc ls st h Φ Θ := by
  intro p e R s m args below meth c H locs cells slots lsC B
  obtain ⟨C0, hF, hL, hC, hS, hrp, hl, hst, hls⟩ := B
  obtain ⟨kk, hk⟩ := List.getElem?_of_mem (al_mem.mpr ⟨_, hv, rfl⟩ : (a0, cv (vI x)) ∈ al ls)
  have hn : a0 < M.2.2.1 := by rw [← hl.2.2.1]; exact (List.getElem?_eq_some_iff.mp hv).1
  exact lv_iinc (v := Int32.ofInt (x + z0)) C0.1 C0.2.1 (rx_8 d) (lh_has hl) hk (Int32.ofInt_add x z0).symm hn rfl (fun lsC' hl' => k p e R s m args below meth c H locs cells slots lsC' ⟨C0, hF, hL, hC, hS, hrp, lh_st1 hl.2.2.1 hl', hst, st1_ok hls hz⟩)
theorem ev_iadd (d : ri_at M (pc, 1, 9, a0, b0, j0, z0)) {x y : Int} (hz : -2147483648 ≤ x + y ∧ x + y < 2147483648) (k : ev G M F L C S (pc + 1) ls (vI (x + y) :: st) h Φ Θ) : ev G M F L C S pc ls (vI y :: vI x :: st) h Φ Θ := by
  refine ev_pu k (fun h1 _ => okc hz (okt (okt h1))) ?_
  intro p e R s m args below meth c H locs cells slots lsC Q C0 hl hst kk
  have e1 : cv (vI (x + y)) = .int (Int32.ofInt x + Int32.ofInt y) := congrArg Value.int (Int32.ofInt_add x y)
  rw [List.map_cons, e1] at kk
  exact lv_iadd C0.1 C0.2.1 (rx_9 d) kk
theorem ev_isub (d : ri_at M (pc, 1, 10, a0, b0, j0, z0)) {x y : Int} (hz : -2147483648 ≤ x - y ∧ x - y < 2147483648) (k : ev G M F L C S (pc + 1) ls (vI (x - y) :: st) h Φ Θ) : ev G M F L C S pc ls (vI y :: vI x :: st) h Φ Θ := by
  refine ev_pu k (fun h1 _ => okc hz (okt (okt h1))) ?_
  intro p e R s m args below meth c H locs cells slots lsC Q C0 hl hst kk
  have e1 : cv (vI (x - y)) = .int (Int32.ofInt x - Int32.ofInt y) := congrArg Value.int (Int32.ofInt_sub x y)
  rw [List.map_cons, e1] at kk
  exact lv_isub C0.1 C0.2.1 (rx_10 d) kk
theorem ev_imul (d : ri_at M (pc, 1, 11, a0, b0, j0, z0)) {x y : Int} (hz : -2147483648 ≤ x * y ∧ x * y < 2147483648) (k : ev G M F L C S (pc + 1) ls (vI (x * y) :: st) h Φ Θ) : ev G M F L C S pc ls (vI y :: vI x :: st) h Φ Θ := by
  refine ev_pu k (fun h1 _ => okc hz (okt (okt h1))) ?_
  intro p e R s m args below meth c H locs cells slots lsC Q C0 hl hst kk
  have e1 : cv (vI (x * y)) = .int (Int32.ofInt x * Int32.ofInt y) := congrArg Value.int (Int32.ofInt_mul x y)
  rw [List.map_cons, e1] at kk
  exact lv_imul C0.1 C0.2.1 (rx_11 d) kk
theorem ev_ladd (d : ri_at M (pc, 1, 17, a0, b0, j0, z0)) {x y : Int} (hz : -9223372036854775808 ≤ x + y ∧ x + y < 9223372036854775808) (k : ev G M F L C S (pc + 1) ls (vL (x + y) :: st) h Φ Θ) : ev G M F L C S pc ls (vL y :: vL x :: st) h Φ Θ := by
  refine ev_pu k (fun h1 _ => okc hz (okt (okt h1))) ?_
  intro p e R s m args below meth c H locs cells slots lsC Q C0 hl hst kk
  have e1 : cv (vL (x + y)) = .long (Int64.ofInt x + Int64.ofInt y) := congrArg Value.long (Int64.ofInt_add x y)
  rw [List.map_cons, e1] at kk
  exact lv_ladd C0.1 C0.2.1 (rx_17 d) kk
theorem ev_lsub (d : ri_at M (pc, 1, 18, a0, b0, j0, z0)) {x y : Int} (hz : -9223372036854775808 ≤ x - y ∧ x - y < 9223372036854775808) (k : ev G M F L C S (pc + 1) ls (vL (x - y) :: st) h Φ Θ) : ev G M F L C S pc ls (vL y :: vL x :: st) h Φ Θ := by
  refine ev_pu k (fun h1 _ => okc hz (okt (okt h1))) ?_
  intro p e R s m args below meth c H locs cells slots lsC Q C0 hl hst kk
  have e1 : cv (vL (x - y)) = .long (Int64.ofInt x - Int64.ofInt y) := congrArg Value.long (Int64.ofInt_sub x y)
  rw [List.map_cons, e1] at kk
  exact lv_lsub C0.1 C0.2.1 (rx_18 d) kk
theorem ev_lmul (d : ri_at M (pc, 1, 19, a0, b0, j0, z0)) {x y : Int} (hz : -9223372036854775808 ≤ x * y ∧ x * y < 9223372036854775808) (k : ev G M F L C S (pc + 1) ls (vL (x * y) :: st) h Φ Θ) : ev G M F L C S pc ls (vL y :: vL x :: st) h Φ Θ := by
  refine ev_pu k (fun h1 _ => okc hz (okt (okt h1))) ?_
  intro p e R s m args below meth c H locs cells slots lsC Q C0 hl hst kk
  have e1 : cv (vL (x * y)) = .long (Int64.ofInt x * Int64.ofInt y) := congrArg Value.long (Int64.ofInt_mul x y)
  rw [List.map_cons, e1] at kk
  exact lv_lmul C0.1 C0.2.1 (rx_19 d) kk
/-- with the wrap of 32 bits -/
theorem ev_isubW (d : ri_at M (pc, 1, 10, a0, b0, j0, z0)) {x y : Int} (k : ev G M F L C S (pc + 1) ls (vI (Int.bmod (x - y) 4294967296) :: st) h Φ Θ) : ev G M F L C S pc ls (vI y :: vI x :: st) h Φ Θ := by
  refine ev_pu k (fun h1 _ => okc (show inI _ from ⟨by have := Int.le_bmod (x := x - y) (m := 4294967296) (by decide); omega, by have := Int.bmod_lt (x := x - y) (m := 4294967296) (by decide); omega⟩) (okt (okt h1))) ?_
  intro p e R s m args below meth c H locs cells slots lsC Q C0 hl hst kk
  have e1 : cv (vI (Int.bmod (x - y) 4294967296)) = .int (Int32.ofInt x - Int32.ofInt y) := by
    refine congrArg Value.int ?_
    rw [← Int32.ofInt_sub]
    exact Int32.toInt_inj.mp (by rw [Int32.toInt_ofInt, Int32.toInt_ofInt]; exact Int.bmod_bmod)
  rw [List.map_cons, e1] at kk
  exact lv_isub C0.1 C0.2.1 (rx_10 d) kk
theorem oi_div {x y : Int} (hx : inI x) (hy : inI y) (h0 : 0 ≤ x) (h1 : 0 < y) : Int32.ofInt x / Int32.ofInt y = Int32.ofInt (x / y) := by
  have e0 : 0 ≤ x / y := Int.ediv_nonneg h0 (Int.le_of_lt h1)
  have e1 : x / y ≤ x := Int.ediv_le_self y h0
  apply Int32.toInt_inj.mp
  rw [Int32.toInt_div, oi_toInt hx, oi_toInt hy, oi_toInt (show inI (x / y) from ⟨by omega, by have := hx.2; omega⟩), Int.tdiv_eq_ediv_of_nonneg h0]
  have := hx.2
  exact Int.bmod_eq_of_le (by omega) (by omega)
theorem ol_div {x y : Int} (hx : inL x) (hy : inL y) (h0 : 0 ≤ x) (h1 : 0 < y) : Int64.ofInt x / Int64.ofInt y = Int64.ofInt (x / y) := by
  have e0 : 0 ≤ x / y := Int.ediv_nonneg h0 (Int.le_of_lt h1)
  have e1 : x / y ≤ x := Int.ediv_le_self y h0
  apply Int64.toInt_inj.mp
  rw [Int64.toInt_div, ol_toInt hx, ol_toInt hy, ol_toInt (show inL (x / y) from ⟨by omega, by have := hx.2; omega⟩), Int.tdiv_eq_ediv_of_nonneg h0]
  have := hx.2
  exact Int.bmod_eq_of_le (by omega) (by omega)
theorem ev_idiv (d : ri_at M (pc, 1, 12, a0, b0, j0, z0)) {x y : Int} (h0 : 0 ≤ x) (h1 : 0 < y) (k : ev G M F L C S (pc + 1) ls (vI (x / y) :: st) h Φ Θ) : ev G M F L C S pc ls (vI y :: vI x :: st) h Φ Θ := by
  have e0 : 0 ≤ x / y := Int.ediv_nonneg h0 (Int.le_of_lt h1)
  have e1 : x / y ≤ x := Int.ediv_le_self y h0
  refine ev_pu k (fun h1 _ => okc (show inI _ from ⟨by omega, by have := (okh (okt h1)).2; omega⟩) (okt (okt h1))) ?_
  intro p e R s m args below meth c H locs cells slots lsC Q C0 hl hst kk
  have hy := okh hst
  have hx := okh (okt hst)
  have e2 : cv (vI (x / y)) = .int (Int32.ofInt x / Int32.ofInt y) := congrArg Value.int (oi_div hx hy h0 h1).symm
  rw [List.map_cons, e2] at kk
  exact lv_idiv C0.1 C0.2.1 (rx_12 d) (fun q => by have := (oi_inj hy (show inI 0 from ⟨by decide, by decide⟩)).mp q; omega) kk
theorem ev_irem (d : ri_at M (pc, 1, 13, a0, b0, j0, z0)) {x y : Int} (h0 : 0 ≤ x) (h1 : 0 < y) (k : ev G M F L C S (pc + 1) ls (vI (x % y) :: st) h Φ Θ) : ev G M F L C S pc ls (vI y :: vI x :: st) h Φ Θ := by
  have e0 : 0 ≤ x % y := Int.emod_nonneg x (by omega)
  have e1 : x % y < y := Int.emod_lt_of_pos x h1
  refine ev_pu k (fun h1 _ => okc (show inI _ from ⟨by omega, by have := (okh h1).2; omega⟩) (okt (okt h1))) ?_
  intro p e R s m args below meth c H locs cells slots lsC Q C0 hl hst kk
  have hy := okh hst
  have hx := okh (okt hst)
  have e2 : cv (vI (x % y)) = .int (Int32.ofInt x - Int32.ofInt x / Int32.ofInt y * Int32.ofInt y) := by
    refine congrArg Value.int ?_
    rw [oi_div hx hy h0 h1, ← Int32.ofInt_mul, ← Int32.ofInt_sub, Int.emod_def, Int.mul_comm y]
  rw [List.map_cons, e2] at kk
  exact lv_irem C0.1 C0.2.1 (rx_13 d) (fun q => by have := (oi_inj hy (show inI 0 from ⟨by decide, by decide⟩)).mp q; omega) kk
theorem ev_ldiv (d : ri_at M (pc, 1, 20, a0, b0, j0, z0)) {x y : Int} (h0 : 0 ≤ x) (h1 : 0 < y) (k : ev G M F L C S (pc + 1) ls (vL (x / y) :: st) h Φ Θ) : ev G M F L C S pc ls (vL y :: vL x :: st) h Φ Θ := by
  have e0 : 0 ≤ x / y := Int.ediv_nonneg h0 (Int.le_of_lt h1)
  have e1 : x / y ≤ x := Int.ediv_le_self y h0
  refine ev_pu k (fun h1 _ => okc (show inL _ from ⟨by omega, by have := (okh (okt h1)).2; omega⟩) (okt (okt h1))) ?_
  intro p e R s m args below meth c H locs cells slots lsC Q C0 hl hst kk
  have hy := okh hst
  have hx := okh (okt hst)
  have e2 : cv (vL (x / y)) = .long (Int64.ofInt x / Int64.ofInt y) := congrArg Value.long (ol_div hx hy h0 h1).symm
  rw [List.map_cons, e2] at kk
  exact lv_ldiv C0.1 C0.2.1 (rx_20 d) (fun q => by have := (ol_inj hy (show inL 0 from ⟨by decide, by decide⟩)).mp q; omega) kk
theorem ev_i2l (d : ri_at M (pc, 1, 24, a0, b0, j0, z0)) {x : Int} (k : ev G M F L C S (pc + 1) ls (vL x :: st) h Φ Θ) : ev G M F L C S pc ls (vI x :: st) h Φ Θ := by
  refine ev_pu k (fun h1 _ => okc (show inL x from ⟨by have := (okh h1).1; omega, by have := (okh h1).2; omega⟩) (okt h1)) ?_
  intro p e R s m args below meth c H locs cells slots lsC Q C0 hl hst kk
  have hx := okh hst
  exact lv_i2l C0.1 C0.2.1 (rx_24 d) (Int64.toInt_inj.mp (by rw [Int32.toInt_toInt64, oi_toInt hx, ol_toInt ⟨by have := hx.1; omega, by have := hx.2; omega⟩])) kk
theorem ev_iand (d : ri_at M (pc, 1, 14, a0, b0, j0, z0)) {x y : Int} (k : ev G M F L C S (pc + 1) ls (vI ((Int32.ofInt x &&& Int32.ofInt y).toInt) :: st) h Φ Θ) : ev G M F L C S pc ls (vI y :: vI x :: st) h Φ Θ := by
  refine ev_pu k (fun h1 _ => okc (show inI _ from ⟨Int32.le_toInt _, Int32.toInt_lt _⟩) (okt (okt h1))) ?_
  intro p e R s m args below meth c H locs cells slots lsC Q C0 hl hst kk
  have e2 : cv (vI ((Int32.ofInt x &&& Int32.ofInt y).toInt)) = .int ((Int32.ofInt x &&& Int32.ofInt y)) := congrArg Value.int (Int32.ofInt_toInt _)
  rw [List.map_cons, e2] at kk
  exact lv_iand C0.1 C0.2.1 (rx_14 d) kk
theorem ev_ior (d : ri_at M (pc, 1, 15, a0, b0, j0, z0)) {x y : Int} (k : ev G M F L C S (pc + 1) ls (vI ((Int32.ofInt x ||| Int32.ofInt y).toInt) :: st) h Φ Θ) : ev G M F L C S pc ls (vI y :: vI x :: st) h Φ Θ := by
  refine ev_pu k (fun h1 _ => okc (show inI _ from ⟨Int32.le_toInt _, Int32.toInt_lt _⟩) (okt (okt h1))) ?_
  intro p e R s m args below meth c H locs cells slots lsC Q C0 hl hst kk
  have e2 : cv (vI ((Int32.ofInt x ||| Int32.ofInt y).toInt)) = .int ((Int32.ofInt x ||| Int32.ofInt y)) := congrArg Value.int (Int32.ofInt_toInt _)
  rw [List.map_cons, e2] at kk
  exact lv_ior C0.1 C0.2.1 (rx_15 d) kk
theorem ev_land (d : ri_at M (pc, 1, 21, a0, b0, j0, z0)) {x y : Int} (k : ev G M F L C S (pc + 1) ls (vL ((Int64.ofInt x &&& Int64.ofInt y).toInt) :: st) h Φ Θ) : ev G M F L C S pc ls (vL y :: vL x :: st) h Φ Θ := by
  refine ev_pu k (fun h1 _ => okc (show inL _ from ⟨Int64.le_toInt _, Int64.toInt_lt _⟩) (okt (okt h1))) ?_
  intro p e R s m args below meth c H locs cells slots lsC Q C0 hl hst kk
  have e2 : cv (vL ((Int64.ofInt x &&& Int64.ofInt y).toInt)) = .long ((Int64.ofInt x &&& Int64.ofInt y)) := congrArg Value.long (Int64.ofInt_toInt _)
  rw [List.map_cons, e2] at kk
  exact lv_land C0.1 C0.2.1 (rx_21 d) kk
theorem ev_lor (d : ri_at M (pc, 1, 22, a0, b0, j0, z0)) {x y : Int} (k : ev G M F L C S (pc + 1) ls (vL ((Int64.ofInt x ||| Int64.ofInt y).toInt) :: st) h Φ Θ) : ev G M F L C S pc ls (vL y :: vL x :: st) h Φ Θ := by
  refine ev_pu k (fun h1 _ => okc (show inL _ from ⟨Int64.le_toInt _, Int64.toInt_lt _⟩) (okt (okt h1))) ?_
  intro p e R s m args below meth c H locs cells slots lsC Q C0 hl hst kk
  have e2 : cv (vL ((Int64.ofInt x ||| Int64.ofInt y).toInt)) = .long ((Int64.ofInt x ||| Int64.ofInt y)) := congrArg Value.long (Int64.ofInt_toInt _)
  rw [List.map_cons, e2] at kk
  exact lv_lor C0.1 C0.2.1 (rx_22 d) kk
theorem ev_lshl (d : ri_at M (pc, 1, 23, a0, b0, j0, z0)) {x y : Int} (k : ev G M F L C S (pc + 1) ls (vL ((Int64.ofInt x <<< ((Int32.ofInt y).toInt64 &&& 63)).toInt) :: st) h Φ Θ) : ev G M F L C S pc ls (vI y :: vL x :: st) h Φ Θ := by
  refine ev_pu k (fun h1 _ => okc (show inL _ from ⟨Int64.le_toInt _, Int64.toInt_lt _⟩) (okt (okt h1))) ?_
  intro p e R s m args below meth c H locs cells slots lsC Q C0 hl hst kk
  exact lv_lshl C0.1 C0.2.1 (rx_23 d) (Int64.ofInt_toInt _).symm kk
theorem ev_ishr1 (d : ri_at M (pc, 1, 16, a0, b0, j0, z0)) {x : Int} (h0 : 0 ≤ x) (k : ev G M F L C S (pc + 1) ls (vI (x / 2) :: st) h Φ Θ) : ev G M F L C S pc ls (vI 1 :: vI x :: st) h Φ Θ := by
  refine ev_pu k (fun h1 _ => okc (show inI _ from ⟨by omega, by have := (okh (okt h1)).2; omega⟩) (okt (okt h1))) ?_
  intro p e R s m args below meth c H locs cells slots lsC Q C0 hl hst kk
  have hx := okh (okt hst)
  have e2 : cv (vI (x / 2)) = .int (Int32.ofInt x >>> Int32.ofInt 1) := by
    refine congrArg Value.int (Int32.toInt_inj.mp ?_)
    rw [pk_shr _ _ 1 (by decide), oi_toInt hx, oi_toInt (show inI (x / 2) from ⟨by omega, by have := hx.2; omega⟩), Int.shiftRight_eq_div_pow]
    rfl
  rw [List.map_cons, e2] at kk
  exact lv_ishr C0.1 C0.2.1 (rx_16 d) kk
theorem ev_i2c (d : ri_at M (pc, 1, 25, a0, b0, j0, z0)) {x : Int} (h0 : 0 ≤ x) (h1 : x < 65536) (k : ev G M F L C S (pc + 1) ls (vI x :: st) h Φ Θ) : ev G M F L C S pc ls (vI x :: st) h Φ Θ := by
  refine ev_pu k (fun h1 _ => h1) ?_
  intro p e R s m args below meth c H locs cells slots lsC Q C0 hl hst kk
  refine lv_i2c C0.1 C0.2.1 (rx_25 d) ?_ kk
  rw [pk_char]
  obtain ⟨n, rfl⟩ := Int.eq_ofNat_of_zero_le h0
  have e : Int32.ofInt (n : Int) = nI n := rfl
  rw [e, pk_tn (by omega), Nat.mod_eq_of_lt (by omega)]
theorem ev_dup (d : ri_at M (pc, 1, 27, a0, b0, j0, z0)) {v : ab_V} (hv : is2 (some v) = false) (k : ev G M F L C S (pc + 1) ls (v :: v :: st) h Φ Θ) : ev G M F L C S pc ls (v :: st) h Φ Θ := by
  refine ev_pu k (fun h1 _ => okc (okh h1) h1) ?_
  intro p e R s m args below meth c H locs cells slots lsC Q C0 hl hst kk
  exact lv_dup C0.1 C0.2.1 (rx_27 d) (by rw [cv_cat, hv]; rfl) kk
theorem ev_pop (d : ri_at M (pc, 1, 28, a0, b0, j0, z0)) {v : ab_V} (hv : is2 (some v) = false) (k : ev G M F L C S (pc + 1) ls st h Φ Θ) : ev G M F L C S pc ls (v :: st) h Φ Θ := by
  refine ev_pu k (fun h1 _ => okt h1) ?_
  intro p e R s m args below meth c H locs cells slots lsC Q C0 hl hst kk
  exact lv_pop C0.1 C0.2.1 (rx_28 d) (by rw [cv_cat, hv]; rfl) kk
theorem ev_dup2 (d : ri_at M (pc, 1, 29, a0, b0, j0, z0)) {v w : ab_V} (hv : is2 (some v) = false) (hw : is2 (some w) = false) (k : ev G M F L C S (pc + 1) ls (v :: w :: v :: w :: st) h Φ Θ) : ev G M F L C S pc ls (v :: w :: st) h Φ Θ := by
  refine ev_pu k (fun h1 _ => okc (okh h1) (okc (okh (okt h1)) h1)) ?_
  intro p e R s m args below meth c H locs cells slots lsC Q C0 hl hst kk
  exact lv_dup2_11 C0.1 C0.2.1 (rx_29 d) (by rw [cv_cat, hv]; rfl) (by rw [cv_cat, hw]; rfl) kk
theorem ev_dupx1 (d : ri_at M (pc, 1, 30, a0, b0, j0, z0)) {v w : ab_V} (hv : is2 (some v) = false) (hw : is2 (some w) = false) (k : ev G M F L C S (pc + 1) ls (v :: w :: v :: st) h Φ Θ) : ev G M F L C S pc ls (v :: w :: st) h Φ Θ := by
  refine ev_pu k (fun h1 _ => okc (okh h1) (okc (okh (okt h1)) (okc (okh h1) (okt (okt h1))))) ?_
  intro p e R s m args below meth c H locs cells slots lsC Q C0 hl hst kk
  exact lv_dup_x1 C0.1 C0.2.1 (rx_30 d) (by rw [cv_cat, hv]; rfl) (by rw [cv_cat, hw]; rfl) kk
theorem rx_31 (d : ri_at M (pc, 3, 31, a0, b0, j0, z0)) : ∃ off, decode M.2.1 pc = .ok (.ifCond .eq off, 3) ∧ (pc : Int) + off = (a0 : Int) := by
  obtain ⟨i, h1, h2⟩ := ri_ex d
  cases i <;> first | exact absurd h2 Bool.false_ne_true | skip
  rename_i cc off
  have h3 : (decide (cc = .eq) && decide ((pc : Int) + off = (a0 : Int))) = true := h2
  simp only [Bool.and_eq_true, decide_eq_true_eq] at h3
  rw [h3.1] at h1
  exact ⟨off, h1, h3.2⟩
theorem rx_37 (d : ri_at M (pc, 3, 37, a0, b0, j0, z0)) : ∃ off, decode M.2.1 pc = .ok (.if_icmp .eq off, 3) ∧ (pc : Int) + off = (a0 : Int) := by
  obtain ⟨i, h1, h2⟩ := ri_ex d
  cases i <;> first | exact absurd h2 Bool.false_ne_true | skip
  rename_i cc off
  have h3 : (decide (cc = .eq) && decide ((pc : Int) + off = (a0 : Int))) = true := h2
  simp only [Bool.and_eq_true, decide_eq_true_eq] at h3
  rw [h3.1] at h1
  exact ⟨off, h1, h3.2⟩
theorem rx_32 (d : ri_at M (pc, 3, 32, a0, b0, j0, z0)) : ∃ off, decode M.2.1 pc = .ok (.ifCond .ne off, 3) ∧ (pc : Int) + off = (a0 : Int) := by
  obtain ⟨i, h1, h2⟩ := ri_ex d
  cases i <;> first | exact absurd h2 Bool.false_ne_true | skip
  rename_i cc off
  have h3 : (decide (cc = .ne) && decide ((pc : Int) + off = (a0 : Int))) = true := h2
  simp only [Bool.and_eq_true, decide_eq_true_eq] at h3
  rw [h3.1] at h1
  exact ⟨off, h1, h3.2⟩
theorem rx_38 (d : ri_at M (pc, 3, 38, a0, b0, j0, z0)) : ∃ off, decode M.2.1 pc = .ok (.if_icmp .ne off, 3) ∧ (pc : Int) + off = (a0 : Int) := by
  obtain ⟨i, h1, h2⟩ := ri_ex d
  cases i <;> first | exact absurd h2 Bool.false_ne_true | skip
  rename_i cc off
  have h3 : (decide (cc = .ne) && decide ((pc : Int) + off = (a0 : Int))) = true := h2
  simp only [Bool.and_eq_true, decide_eq_true_eq] at h3
  rw [h3.1] at h1
  exact ⟨off, h1, h3.2⟩
theorem rx_33 (d : ri_at M (pc, 3, 33, a0, b0, j0, z0)) : ∃ off, decode M.2.1 pc = .ok (.ifCond .lt off, 3) ∧ (pc : Int) + off = (a0 : Int) := by
  obtain ⟨i, h1, h2⟩ := ri_ex d
  cases i <;> first | exact absurd h2 Bool.false_ne_true | skip
  rename_i cc off
  have h3 : (decide (cc = .lt) && decide ((pc : Int) + off = (a0 : Int))) = true := h2
  simp only [Bool.and_eq_true, decide_eq_true_eq] at h3
  rw [h3.1] at h1
  exact ⟨off, h1, h3.2⟩
theorem rx_39 (d : ri_at M (pc, 3, 39, a0, b0, j0, z0)) : ∃ off, decode M.2.1 pc = .ok (.if_icmp .lt off, 3) ∧ (pc : Int) + off = (a0 : Int) := by
  obtain ⟨i, h1, h2⟩ := ri_ex d
  cases i <;> first | exact absurd h2 Bool.false_ne_true | skip
  rename_i cc off
  have h3 : (decide (cc = .lt) && decide ((pc : Int) + off = (a0 : Int))) = true := h2
  simp only [Bool.and_eq_true, decide_eq_true_eq] at h3
  rw [h3.1] at h1
  exact ⟨off, h1, h3.2⟩
theorem rx_34 (d : ri_at M (pc, 3, 34, a0, b0, j0, z0)) : ∃ off, decode M.2.1 pc = .ok (.ifCond .ge off, 3) ∧ (pc : Int) + off = (a0 : Int) := by
  obtain ⟨i, h1, h2⟩ := ri_ex d
  cases i <;> first | exact absurd h2 Bool.false_ne_true | skip
  rename_i cc off
  have h3 : (decide (cc = .ge) && decide ((pc : Int) + off = (a0 : Int))) = true := h2
  simp only [Bool.and_eq_true, decide_eq_true_eq] at h3
  rw [h3.1] at h1
  exact ⟨off, h1, h3.2⟩
theorem rx_40 (d : ri_at M (pc, 3, 40, a0, b0, j0, z0)) : ∃ off, decode M.2.1 pc = .ok (.if_icmp .ge off, 3) ∧ (pc : Int) + off = (a0 : Int) := by
  obtain ⟨i, h1, h2⟩ := ri_ex d
  cases i <;> first | exact absurd h2 Bool.false_ne_true | skip
  rename_i cc off
  have h3 : (decide (cc = .ge) && decide ((pc : Int) + off = (a0 : Int))) = true := h2
  simp only [Bool.and_eq_true, decide_eq_true_eq] at h3
  rw [h3.1] at h1
  exact ⟨off, h1, h3.2⟩
theorem rx_35 (d : ri_at M (pc, 3, 35, a0, b0, j0, z0)) : ∃ off, decode M.2.1 pc = .ok (.ifCond .gt off, 3) ∧ (pc : Int) + off = (a0 : Int) := by
  obtain ⟨i, h1, h2⟩ := ri_ex d
  cases i <;> first | exact absurd h2 Bool.false_ne_true | skip
  rename_i cc off
  have h3 : (decide (cc = .gt) && decide ((pc : Int) + off = (a0 : Int))) = true := h2
  simp only [Bool.and_eq_true, decide_eq_true_eq] at h3
  rw [h3.1] at h1
  exact ⟨off, h1, h3.2⟩
theorem rx_41 (d : ri_at M (pc, 3, 41, a0, b0, j0, z0)) : ∃ off, decode M.2.1 pc = .ok (.if_icmp .gt off, 3) ∧ (pc : Int) + off = (a0 : Int) := by
  obtain ⟨i, h1, h2⟩ := ri_ex d
  cases i <;> first | exact absurd h2 Bool.false_ne_true | skip
  rename_i cc off
  have h3 : (decide (cc = .gt) && decide ((pc : Int) + off = (a0 : Int))) = true := h2
  simp only [Bool.and_eq_true, decide_eq_true_eq] at h3
  rw [h3.1] at h1
  exact ⟨off, h1, h3.2⟩
theorem rx_36 (d : ri_at M (pc, 3, 36, a0, b0, j0, z0)) : ∃ off, decode M.2.1 pc = .ok (.ifCond .le off, 3) ∧ (pc : Int) + off = (a0 : Int) := by
  obtain ⟨i, h1, h2⟩ := ri_ex d
  cases i <;> first | exact absurd h2 Bool.false_ne_true | skip
  rename_i cc off
  have h3 : (decide (cc = .le) && decide ((pc : Int) + off = (a0 : Int))) = true := h2
  simp only [Bool.and_eq_true, decide_eq_true_eq] at h3
  rw [h3.1] at h1
  exact ⟨off, h1, h3.2⟩
theorem rx_42 (d : ri_at M (pc, 3, 42, a0, b0, j0, z0)) : ∃ off, decode M.2.1 pc = .ok (.if_icmp .le off, 3) ∧ (pc : Int) + off = (a0 : Int) := by
  obtain ⟨i, h1, h2⟩ := ri_ex d
  cases i <;> first | exact absurd h2 Bool.false_ne_true | skip
  rename_i cc off
  have h3 : (decide (cc = .le) && decide ((pc : Int) + off = (a0 : Int))) = true := h2
  simp only [Bool.and_eq_true, decide_eq_true_eq] at h3
  rw [h3.1] at h1
  exact ⟨off, h1, h3.2⟩
theorem ev_if_eq (d : ri_at M (pc, 3, 31, a0, b0, j0, z0)) {x : Int} (kt : x = 0 → ev G M F L C S a0 ls st h Φ Θ) (kf : x ≠ 0 → ev G M F L C S (pc + 3) ls st h Φ Θ) : ev G M F L C S pc ls (vI x :: st) h Φ Θ := by
  intro p e R s m args below meth c H locs cells slots lsC B
  obtain ⟨C0, hF, hL, hC, hS, hrp, hl, hst, hls⟩ := B
  obtain ⟨off, h1, h2⟩ := rx_31 d
  have hx : inI x := okh hst
  have hy : inI 0 := ⟨by decide, by decide⟩
  refine lv_if_eq C0.1 C0.2.1 h1 h2 (fun q => ?_) (fun q => ?_)
  · exact kt (ix_eq_t hx hy q) p e R s m args below meth c H locs cells slots lsC ⟨C0, hF, hL, hC, hS, hrp, hl, (okt hst), hls⟩
  · exact kf (ix_eq_f hx hy q) p e R s m args below meth c H locs cells slots lsC ⟨C0, hF, hL, hC, hS, hrp, hl, (okt hst), hls⟩
theorem ev_ic_eq (d : ri_at M (pc, 3, 37, a0, b0, j0, z0)) {x y : Int} (kt : x = y → ev G M F L C S a0 ls st h Φ Θ) (kf : x ≠ y → ev G M F L C S (pc + 3) ls st h Φ Θ) : ev G M F L C S pc ls (vI y :: vI x :: st) h Φ Θ := by
  intro p e R s m args below meth c H locs cells slots lsC B
  obtain ⟨C0, hF, hL, hC, hS, hrp, hl, hst, hls⟩ := B
  obtain ⟨off, h1, h2⟩ := rx_37 d
  have hx : inI x := okh (okt hst)
  have hy : inI y := okh hst
  refine lv_icmp_eq C0.1 C0.2.1 h1 h2 (fun q => ?_) (fun q => ?_)
  · exact kt (ix_eq_t hx hy q) p e R s m args below meth c H locs cells slots lsC ⟨C0, hF, hL, hC, hS, hrp, hl, (okt (okt hst)), hls⟩
  · exact kf (ix_eq_f hx hy q) p e R s m args below meth c H locs cells slots lsC ⟨C0, hF, hL, hC, hS, hrp, hl, (okt (okt hst)), hls⟩
theorem ev_if_ne (d : ri_at M (pc, 3, 32, a0, b0, j0, z0)) {x : Int} (kt : x ≠ 0 → ev G M F L C S a0 ls st h Φ Θ) (kf : x = 0 → ev G M F L C S (pc + 3) ls st h Φ Θ) : ev G M F L C S pc ls (vI x :: st) h Φ Θ := by
  intro p e R s m args below meth c H locs cells slots lsC B
  obtain ⟨C0, hF, hL, hC, hS, hrp, hl, hst, hls⟩ := B
  obtain ⟨off, h1, h2⟩ := rx_32 d
  have hx : inI x := okh hst
  have hy : inI 0 := ⟨by decide, by decide⟩
  refine lv_if_ne C0.1 C0.2.1 h1 h2 (fun q => ?_) (fun q => ?_)
  · exact kt (ix_ne_t hx hy q) p e R s m args below meth c H locs cells slots lsC ⟨C0, hF, hL, hC, hS, hrp, hl, (okt hst), hls⟩
  · exact kf (ix_ne_f hx hy q) p e R s m args below meth c H locs cells slots lsC ⟨C0, hF, hL, hC, hS, hrp, hl, (okt hst), hls⟩
theorem ev_ic_ne (d : ri_at M (pc, 3, 38, a0, b0, j0, z0)) {x y : Int} (kt : x ≠ y → ev G M F L C S a0 ls st h Φ Θ) (kf : x = y → ev G M F L C S (pc + 3) ls st h Φ Θ) : ev G M F L C S pc ls (vI y :: vI x :: st) h Φ Θ := by
  intro p e R s m args below meth c H locs cells slots lsC B
  obtain ⟨C0, hF, hL, hC, hS, hrp, hl, hst, hls⟩ := B
  obtain ⟨off, h1, h2⟩ := rx_38 d
  have hx : inI x := okh (okt hst)
  have hy : inI y := okh hst
  refine lv_icmp_ne C0.1 C0.2.1 h1 h2 (fun q => ?_) (fun q => ?_)
  · exact kt (ix_ne_t hx hy q) p e R s m args below meth c H locs cells slots lsC ⟨C0, hF, hL, hC, hS, hrp, hl, (okt (okt hst)), hls⟩
  · exact kf (ix_ne_f hx hy q) p e R s m args below meth c H locs cells slots lsC ⟨C0, hF, hL, hC, hS, hrp, hl, (okt (okt hst)), hls⟩
theorem ev_if_lt (d : ri_at M (pc, 3, 33, a0, b0, j0, z0)) {x : Int} (kt : x < 0 → ev G M F L C S a0 ls st h Φ Θ) (kf : 0 ≤ x → ev G M F L C S (pc + 3) ls st h Φ Θ) : ev G M F L C S pc ls (vI x :: st) h Φ Θ := by
  intro p e R s m args below meth c H locs cells slots lsC B
  obtain ⟨C0, hF, hL, hC, hS, hrp, hl, hst, hls⟩ := B
  obtain ⟨off, h1, h2⟩ := rx_33 d
  have hx : inI x := okh hst
  have hy : inI 0 := ⟨by decide, by decide⟩
  refine lv_if_lt C0.1 C0.2.1 h1 h2 (fun q => ?_) (fun q => ?_)
  · exact kt (ix_lt_t hx hy q) p e R s m args below meth c H locs cells slots lsC ⟨C0, hF, hL, hC, hS, hrp, hl, (okt hst), hls⟩
  · exact kf (ix_lt_f hx hy q) p e R s m args below meth c H locs cells slots lsC ⟨C0, hF, hL, hC, hS, hrp, hl, (okt hst), hls⟩
theorem ev_ic_lt (d : ri_at M (pc, 3, 39, a0, b0, j0, z0)) {x y : Int} (kt : x < y → ev G M F L C S a0 ls st h Φ Θ) (kf : y ≤ x → ev G M F L C S (pc + 3) ls st h Φ Θ) : ev G M F L C S pc ls (vI y :: vI x :: st) h Φ Θ := by
  intro p e R s m args below meth c H locs cells slots lsC B
  obtain ⟨C0, hF, hL, hC, hS, hrp, hl, hst, hls⟩ := B
  obtain ⟨off, h1, h2⟩ := rx_39 d
  have hx : inI x := okh (okt hst)
  have hy : inI y := okh hst
  refine lv_icmp_lt C0.1 C0.2.1 h1 h2 (fun q => ?_) (fun q => ?_)
  · exact kt (ix_lt_t hx hy q) p e R s m args below meth c H locs cells slots lsC ⟨C0, hF, hL, hC, hS, hrp, hl, (okt (okt hst)), hls⟩
  · exact kf (ix_lt_f hx hy q) p e R s m args below meth c H locs cells slots lsC ⟨C0, hF, hL, hC, hS, hrp, hl, (okt (okt hst)), hls⟩
theorem ev_if_ge (d : ri_at M (pc, 3, 34, a0, b0, j0, z0)) {x : Int} (kt : 0 ≤ x → ev G M F L C S a0 ls st h Φ Θ) (kf : x < 0 → ev G M F L C S (pc + 3) ls st h Φ Θ) : ev G M F L C S pc ls (vI x :: st) h Φ Θ := by
  intro p e R s m args below meth c H locs cells slots lsC B
  obtain ⟨C0, hF, hL, hC, hS, hrp, hl, hst, hls⟩ := B
  obtain ⟨off, h1, h2⟩ := rx_34 d
  have hx : inI x := okh hst
  have hy : inI 0 := ⟨by decide, by decide⟩
  refine lv_if_ge C0.1 C0.2.1 h1 h2 (fun q => ?_) (fun q => ?_)
  · exact kt (ix_ge_t hx hy q) p e R s m args below meth c H locs cells slots lsC ⟨C0, hF, hL, hC, hS, hrp, hl, (okt hst), hls⟩
  · exact kf (ix_ge_f hx hy q) p e R s m args below meth c H locs cells slots lsC ⟨C0, hF, hL, hC, hS, hrp, hl, (okt hst), hls⟩
theorem ev_ic_ge (d : ri_at M (pc, 3, 40, a0, b0, j0, z0)) {x y : Int} (kt : y ≤ x → ev G M F L C S a0 ls st h Φ Θ) (kf : x < y → ev G M F L C S (pc + 3) ls st h Φ Θ) : ev G M F L C S pc ls (vI y :: vI x :: st) h Φ Θ := by
  intro p e R s m args below meth c H locs cells slots lsC B
  obtain ⟨C0, hF, hL, hC, hS, hrp, hl, hst, hls⟩ := B
  obtain ⟨off, h1, h2⟩ := rx_40 d
  have hx : inI x := okh (okt hst)
  have hy : inI y := okh hst
  refine lv_icmp_ge C0.1 C0.2.1 h1 h2 (fun q => ?_) (fun q => ?_)
  · exact kt (ix_ge_t hx hy q) p e R s m args below meth c H locs cells slots lsC ⟨C0, hF, hL, hC, hS, hrp, hl, (okt (okt hst)), hls⟩
  · exact kf (ix_ge_f hx hy q) p e R s m args below meth c H locs cells slots lsC ⟨C0, hF, hL, hC, hS, hrp, hl, (okt (okt hst)), hls⟩
theorem ev_if_gt (d : ri_at M (pc, 3, 35, a0, b0, j0, z0)) {x : Int} (kt : 0 < x → ev G M F L C S a0 ls st h Φ Θ) (kf : x ≤ 0 → ev G M F L C S (pc + 3) ls st h Φ Θ) : ev G M F L C S pc ls (vI x :: st) h Φ Θ := by
  intro p e R s m args below meth c H locs cells slots lsC B
  obtain ⟨C0, hF, hL, hC, hS, hrp, hl, hst, hls⟩ := B
  obtain ⟨off, h1, h2⟩ := rx_35 d
  have hx : inI x := okh hst
  have hy : inI 0 := ⟨by decide, by decide⟩
  refine lv_if_gt C0.1 C0.2.1 h1 h2 (fun q => ?_) (fun q => ?_)
  · exact kt (ix_gt_t hx hy q) p e R s m args below meth c H locs cells slots lsC ⟨C0, hF, hL, hC, hS, hrp, hl, (okt hst), hls⟩
  · exact kf (ix_gt_f hx hy q) p e R s m args below meth c H locs cells slots lsC ⟨C0, hF, hL, hC, hS, hrp, hl, (okt hst), hls⟩
theorem ev_ic_gt (d : ri_at M (pc, 3, 41, a0, b0, j0, z0)) {x y : Int} (kt : y < x → ev G M F L C S a0 ls st h Φ Θ) (kf : x ≤ y → ev G M F L C S (pc + 3) ls st h Φ Θ) : ev G M F L C S pc ls (vI y :: vI x :: st) h Φ Θ := by
  intro p e R s m args below meth c H locs cells slots lsC B
  obtain ⟨C0, hF, hL, hC, hS, hrp, hl, hst, hls⟩ := B
  obtain ⟨off, h1, h2⟩ := rx_41 d
  have hx : inI x := okh (okt hst)
  have hy : inI y := okh hst
  refine lv_icmp_gt C0.1 C0.2.1 h1 h2 (fun q => ?_) (fun q => ?_)
  · exact kt (ix_gt_t hx hy q) p e R s m args below meth c H locs cells slots lsC ⟨C0, hF, hL, hC, hS, hrp, hl, (okt (okt hst)), hls⟩
  · exact kf (ix_gt_f hx hy q) p e R s m args below meth c H locs cells slots lsC ⟨C0, hF, hL, hC, hS, hrp, hl, (okt (okt hst)), hls⟩
theorem ev_if_le (d : ri_at M (pc, 3, 36, a0, b0, j0, z0)) {x : Int} (kt : x ≤ 0 → ev G M F L C S a0 ls st h Φ Θ) (kf : 0 < x → ev G M F L C S (pc + 3) ls st h Φ Θ) : ev G M F L C S pc ls (vI x :: st) h Φ Θ := by
  intro p e R s m args below meth c H locs cells slots lsC B
  obtain ⟨C0, hF, hL, hC, hS, hrp, hl, hst, hls⟩ := B
  obtain ⟨off, h1, h2⟩ := rx_36 d
  have hx : inI x := okh hst
  have hy : inI 0 := ⟨by decide, by decide⟩
  refine lv_if_le C0.1 C0.2.1 h1 h2 (fun q => ?_) (fun q => ?_)
  · exact kt (ix_le_t hx hy q) p e R s m args below meth c H locs cells slots lsC ⟨C0, hF, hL, hC, hS, hrp, hl, (okt hst), hls⟩
  · exact kf (ix_le_f hx hy q) p e R s m args below meth c H locs cells slots lsC ⟨C0, hF, hL, hC, hS, hrp, hl, (okt hst), hls⟩
theorem ev_ic_le (d : ri_at M (pc, 3, 42, a0, b0, j0, z0)) {x y : Int} (kt : x ≤ y → ev G M F L C S a0 ls st h Φ Θ) (kf : y < x → ev G M F L C S (pc + 3) ls st h Φ Θ) : ev G M F L C S pc ls (vI y :: vI x :: st) h Φ Θ := by
  intro p e R s m args below meth c H locs cells slots lsC B
  obtain ⟨C0, hF, hL, hC, hS, hrp, hl, hst, hls⟩ := B
  obtain ⟨off, h1, h2⟩ := rx_42 d
  have hx : inI x := okh (okt hst)
  have hy : inI y := okh hst
  refine lv_icmp_le C0.1 C0.2.1 h1 h2 (fun q => ?_) (fun q => ?_)
  · exact kt (ix_le_t hx hy q) p e R s m args below meth c H locs cells slots lsC ⟨C0, hF, hL, hC, hS, hrp, hl, (okt (okt hst)), hls⟩
  · exact kf (ix_le_f hx hy q) p e R s m args below meth c H locs cells slots lsC ⟨C0, hF, hL, hC, hS, hrp, hl, (okt (okt hst)), hls⟩
theorem rx_45 (d : ri_at M (pc, 3, 45, a0, b0, j0, z0)) : ∃ off, decode M.2.1 pc = .ok (.ifnull off, 3) ∧ (pc : Int) + off = (a0 : Int) := by
  obtain ⟨i, h1, h2⟩ := ri_ex d
  cases i <;> first | exact absurd h2 Bool.false_ne_true | skip
  rename_i off
  exact ⟨off, h1, of_decide_eq_true h2⟩
theorem rx_46 (d : ri_at M (pc, 3, 46, a0, b0, j0, z0)) : ∃ off, decode M.2.1 pc = .ok (.ifnonnull off, 3) ∧ (pc : Int) + off = (a0 : Int) := by
  obtain ⟨i, h1, h2⟩ := ri_ex d
  cases i <;> first | exact absurd h2 Bool.false_ne_true | skip
  rename_i off
  exact ⟨off, h1, of_decide_eq_true h2⟩
theorem rx_47 (d : ri_at M (pc, 3, 47, a0, b0, j0, z0)) : ∃ off, decode M.2.1 pc = .ok (.goto off, 3) ∧ (pc : Int) + off = (a0 : Int) := by
  obtain ⟨i, h1, h2⟩ := ri_ex d
  cases i <;> first | exact absurd h2 Bool.false_ne_true | skip
  rename_i off
  exact ⟨off, h1, of_decide_eq_true h2⟩
theorem rx_43 (d : ri_at M (pc, 3, 43, a0, b0, j0, z0)) : ∃ off, decode M.2.1 pc = .ok (.if_acmp .eq off, 3) ∧ (pc : Int) + off = (a0 : Int) := by
  obtain ⟨i, h1, h2⟩ := ri_ex d
  cases i <;> first | exact absurd h2 Bool.false_ne_true | skip
  rename_i cc off
  have h3 : (decide (cc = .eq) && decide ((pc : Int) + off = (a0 : Int))) = true := h2
  simp only [Bool.and_eq_true, decide_eq_true_eq] at h3
  rw [h3.1] at h1
  exact ⟨off, h1, h3.2⟩
theorem rx_44 (d : ri_at M (pc, 3, 44, a0, b0, j0, z0)) : ∃ off, decode M.2.1 pc = .ok (.if_acmp .ne off, 3) ∧ (pc : Int) + off = (a0 : Int) := by
  obtain ⟨i, h1, h2⟩ := ri_ex d
  cases i <;> first | exact absurd h2 Bool.false_ne_true | skip
  rename_i cc off
  have h3 : (decide (cc = .ne) && decide ((pc : Int) + off = (a0 : Int))) = true := h2
  simp only [Bool.and_eq_true, decide_eq_true_eq] at h3
  rw [h3.1] at h1
  exact ⟨off, h1, h3.2⟩
theorem ev_ac_eq (d : ri_at M (pc, 3, 43, a0, b0, j0, z0)) {x y : Option Nat} (kt : x = y → ev G M F L C S a0 ls st h Φ Θ) (kf : x ≠ y → ev G M F L C S (pc + 3) ls st h Φ Θ) : ev G M F L C S pc ls (vR y :: vR x :: st) h Φ Θ := by
  intro p e R s m args below meth c H locs cells slots lsC B
  obtain ⟨C0, hF, hL, hC, hS, hrp, hl, hst, hls⟩ := B
  obtain ⟨off, h1, h2⟩ := rx_43 d
  exact lv_acmp_eq C0.1 C0.2.1 h1 h2 (fun q => kt q p e R s m args below meth c H locs cells slots lsC ⟨C0, hF, hL, hC, hS, hrp, hl, okt (okt hst), hls⟩) (fun q => kf q p e R s m args below meth c H locs cells slots lsC ⟨C0, hF, hL, hC, hS, hrp, hl, okt (okt hst), hls⟩)
theorem ev_ac_ne (d : ri_at M (pc, 3, 44, a0, b0, j0, z0)) {x y : Option Nat} (kt : x ≠ y → ev G M F L C S a0 ls st h Φ Θ) (kf : x = y → ev G M F L C S (pc + 3) ls st h Φ Θ) : ev G M F L C S pc ls (vR y :: vR x :: st) h Φ Θ := by
  intro p e R s m args below meth c H locs cells slots lsC B
  obtain ⟨C0, hF, hL, hC, hS, hrp, hl, hst, hls⟩ := B
  obtain ⟨off, h1, h2⟩ := rx_44 d
  exact lv_acmp_ne C0.1 C0.2.1 h1 h2 (fun q => kt q p e R s m args below meth c H locs cells slots lsC ⟨C0, hF, hL, hC, hS, hrp, hl, okt (okt hst), hls⟩) (fun q => kf q p e R s m args below meth c H locs cells slots lsC ⟨C0, hF, hL, hC, hS, hrp, hl, okt (okt hst), hls⟩)
theorem ev_ifn (d : ri_at M (pc, 3, 45, a0, b0, j0, z0)) {x : Option Nat} (kt : x = none → ev G M F L C S a0 ls st h Φ Θ) (kf : x ≠ none → ev G M F L C S (pc + 3) ls st h Φ Θ) : ev G M F L C S pc ls (vR x :: st) h Φ Θ := by
  intro p e R s m args below meth c H locs cells slots lsC B
  obtain ⟨C0, hF, hL, hC, hS, hrp, hl, hst, hls⟩ := B
  obtain ⟨off, h1, h2⟩ := rx_45 d
  cases x with
  | none => exact lv_ifnullN C0.1 C0.2.1 h1 h2 (kt rfl p e R s m args below meth c H locs cells slots lsC ⟨C0, hF, hL, hC, hS, hrp, hl, okt hst, hls⟩)
  | some x => exact lv_ifnull C0.1 C0.2.1 h1 (kf (fun q => by cases q) p e R s m args below meth c H locs cells slots lsC ⟨C0, hF, hL, hC, hS, hrp, hl, okt hst, hls⟩)
theorem ev_ifnn (d : ri_at M (pc, 3, 46, a0, b0, j0, z0)) {x : Option Nat} (kt : x ≠ none → ev G M F L C S a0 ls st h Φ Θ) (kf : x = none → ev G M F L C S (pc + 3) ls st h Φ Θ) : ev G M F L C S pc ls (vR x :: st) h Φ Θ := by
  intro p e R s m args below meth c H locs cells slots lsC B
  obtain ⟨C0, hF, hL, hC, hS, hrp, hl, hst, hls⟩ := B
  obtain ⟨off, h1, h2⟩ := rx_46 d
  cases x with
  | none => exact lv_ifnonnullN C0.1 C0.2.1 h1 (kf rfl p e R s m args below meth c H locs cells slots lsC ⟨C0, hF, hL, hC, hS, hrp, hl, okt hst, hls⟩)
  | some x => exact lv_ifnonnull C0.1 C0.2.1 h1 h2 (kt (fun q => by cases q) p e R s m args below meth c H locs cells slots lsC ⟨C0, hF, hL, hC, hS, hrp, hl, okt hst, hls⟩)
theorem ev_goto (d : ri_at M (pc, 3, 47, a0, b0, j0, z0)) (k : ev G M F L C S a0 ls st h Φ Θ) : ev G M F L C S pc ls st h Φ Θ := by
  intro p e R s m args below meth c H locs cells slots lsC B
  obtain ⟨C0, hF, hL, hC, hS, hrp, hl, hst, hls⟩ := B
  obtain ⟨off, h1, h2⟩ := rx_47 d
  exact lv_goto C0.1 C0.2.1 h1 h2 (k p e R s m args below meth c H locs cells slots lsC ⟨C0, hF, hL, hC, hS, hrp, hl, hst, hls⟩)
/-- the top operand is an int of 32 bits -/
theorem ev_top {x : Int} (k : inI x → ev G M F L C S pc ls (vI x :: st) h Φ Θ) : ev G M F L C S pc ls (vI x :: st) h Φ Θ := by
  intro p e R s m args below meth c H locs cells slots lsC B
  obtain ⟨C0, hF, hL, hC, hS, hrp, hl, hst, hls⟩ := B
  exact k (okh hst) p e R s m args below meth c H locs cells slots lsC ⟨C0, hF, hL, hC, hS, hrp, hl, hst, hls⟩
theorem ev_topL {x : Int} (k : inL x → ev G M F L C S pc ls (vL x :: st) h Φ Θ) : ev G M F L C S pc ls (vL x :: st) h Φ Θ := by
  intro p e R s m args below meth c H locs cells slots lsC B
  obtain ⟨C0, hF, hL, hC, hS, hrp, hl, hst, hls⟩ := B
  exact k (okh hst) p e R s m args below meth c H locs cells slots lsC ⟨C0, hF, hL, hC, hS, hrp, hl, hst, hls⟩
/-- a local is in range -/
theorem ev_loc {v : ab_V} (i : Nat) (hv : ls[i]? = some (some v)) (k : okV v → ev G M F L C S pc ls st h Φ Θ) : ev G M F L C S pc ls st h Φ Θ := by
  intro p e R s m args below meth c H locs cells slots lsC B
  obtain ⟨C0, hF, hL, hC, hS, hrp, hl, hst, hls⟩ := B
  exact k (hls v (List.mem_of_getElem? hv)) p e R s m args below meth c H locs cells slots lsC ⟨C0, hF, hL, hC, hS, hrp, hl, hst, hls⟩
/-- a cell's numbers are in range -/
theorem ev_cell {a : Nat} {o : ab_O} (ha : h a = some o) (k : okB o → ev G M F L C S pc ls st h Φ Θ) : ev G M F L C S pc ls st h Φ Θ := by
  intro p e R s m args below meth c H locs cells slots lsC B
  obtain ⟨C0, hF, hL, hC, hS, hrp, hl, hst, hls⟩ := B
  have hrp' := hrp
  obtain ⟨ws, -, -, hc, -⟩ := hrp'
  exact k (hc a o ha).1 p e R s m args below meth c H locs cells slots lsC ⟨C0, hF, hL, hC, hS, hrp, hl, hst, hls⟩
/-- the outcome of lcmp -/
def lc (x y : Int) : Int := if y < x then 1 else if x = y then 0 else -1
theorem lc_in (x y : Int) : inI (lc x y) := by unfold lc; split; exact ⟨by decide, by decide⟩; split <;> exact ⟨by decide, by decide⟩
theorem ev_lcmp (d : ri_at M (pc, 1, 26, a0, b0, j0, z0)) {x y : Int} (k : ev G M F L C S (pc + 1) ls (vI (lc x y) :: st) h Φ Θ) : ev G M F L C S pc ls (vL y :: vL x :: st) h Φ Θ := by
  refine ev_pu k (fun h1 _ => okc (lc_in x y) (okt (okt h1))) ?_
  intro p e R s m args below meth c H locs cells slots lsC Q C0 hl hst kk
  have hy := okh hst
  have hx := okh (okt hst)
  have e2 : cv (vI (lc x y)) = .int (lg_cmp (Int64.ofInt x) (Int64.ofInt y)) := by
    refine congrArg Value.int ?_
    unfold lc lg_cmp
    by_cases q : y < x
    · rw [if_pos q, if_pos (show Int64.ofInt x > Int64.ofInt y from (ol_lt hy hx).mpr q)]; rfl
    · rw [if_neg q, if_neg (show ¬ Int64.ofInt x > Int64.ofInt y from fun z => q ((ol_lt hy hx).mp z))]
      by_cases q2 : x = y
      · rw [if_pos q2, if_pos ((ol_inj hx hy).mpr q2)]; rfl
      · rw [if_neg q2, if_neg (fun z => q2 ((ol_inj hx hy).mp z))]; rfl
  rw [List.map_cons, e2] at kk
  exact W.lcmp C0.1 C0.2.1 (rx_26 d) kk
/-- lcmp and the branch behind it -/
theorem ev_lc_eq {a1 b1 j1 : Nat} {z1 : Int} (d : ri_at M (pc, 1, 26, a0, b0, j0, z0)) (d2 : ri_at M (pc + 1, 3, 31, a1, b1, j1, z1)) {x y : Int} (kt : x = y → ev G M F L C S a1 ls st h Φ Θ) (kf : x ≠ y → ev G M F L C S (pc + 1 + 3) ls st h Φ Θ) : ev G M F L C S pc ls (vL y :: vL x :: st) h Φ Θ := by
  refine ev_lcmp d (ev_if_eq d2 (fun q => kt ?_) (fun q => kf ?_))
  · revert q; unfold lc; split
    · intro q; omega
    · split <;> intro q <;> omega
  · revert q; unfold lc; split
    · intro q; omega
    · split <;> intro q <;> omega
/-- lcmp and the branch behind it -/
theorem ev_lc_ne {a1 b1 j1 : Nat} {z1 : Int} (d : ri_at M (pc, 1, 26, a0, b0, j0, z0)) (d2 : ri_at M (pc + 1, 3, 32, a1, b1, j1, z1)) {x y : Int} (kt : x ≠ y → ev G M F L C S a1 ls st h Φ Θ) (kf : x = y → ev G M F L C S (pc + 1 + 3) ls st h Φ Θ) : ev G M F L C S pc ls (vL y :: vL x :: st) h Φ Θ := by
  refine ev_lcmp d (ev_if_ne d2 (fun q => kt ?_) (fun q => kf ?_))
  · revert q; unfold lc; split
    · intro q; omega
    · split <;> intro q <;> omega
  · revert q; unfold lc; split
    · intro q; omega
    · split <;> intro q <;> omega
/-- lcmp and the branch behind it -/
theorem ev_lc_lt {a1 b1 j1 : Nat} {z1 : Int} (d : ri_at M (pc, 1, 26, a0, b0, j0, z0)) (d2 : ri_at M (pc + 1, 3, 33, a1, b1, j1, z1)) {x y : Int} (kt : x < y → ev G M F L C S a1 ls st h Φ Θ) (kf : y ≤ x → ev G M F L C S (pc + 1 + 3) ls st h Φ Θ) : ev G M F L C S pc ls (vL y :: vL x :: st) h Φ Θ := by
  refine ev_lcmp d (ev_if_lt d2 (fun q => kt ?_) (fun q => kf ?_))
  · revert q; unfold lc; split
    · intro q; omega
    · split <;> intro q <;> omega
  · revert q; unfold lc; split
    · intro q; omega
    · split <;> intro q <;> omega
/-- lcmp and the branch behind it -/
theorem ev_lc_ge {a1 b1 j1 : Nat} {z1 : Int} (d : ri_at M (pc, 1, 26, a0, b0, j0, z0)) (d2 : ri_at M (pc + 1, 3, 34, a1, b1, j1, z1)) {x y : Int} (kt : y ≤ x → ev G M F L C S a1 ls st h Φ Θ) (kf : x < y → ev G M F L C S (pc + 1 + 3) ls st h Φ Θ) : ev G M F L C S pc ls (vL y :: vL x :: st) h Φ Θ := by
  refine ev_lcmp d (ev_if_ge d2 (fun q => kt ?_) (fun q => kf ?_))
  · revert q; unfold lc; split
    · intro q; omega
    · split <;> intro q <;> omega
  · revert q; unfold lc; split
    · intro q; omega
    · split <;> intro q <;> omega
/-- lcmp and the branch behind it -/
theorem ev_lc_gt {a1 b1 j1 : Nat} {z1 : Int} (d : ri_at M (pc, 1, 26, a0, b0, j0, z0)) (d2 : ri_at M (pc + 1, 3, 35, a1, b1, j1, z1)) {x y : Int} (kt : y < x → ev G M F L C S a1 ls st h Φ Θ) (kf : x ≤ y → ev G M F L C S (pc + 1 + 3) ls st h Φ Θ) : ev G M F L C S pc ls (vL y :: vL x :: st) h Φ Θ := by
  refine ev_lcmp d (ev_if_gt d2 (fun q => kt ?_) (fun q => kf ?_))
  · revert q; unfold lc; split
    · intro q; omega
    · split <;> intro q <;> omega
  · revert q; unfold lc; split
    · intro q; omega
    · split <;> intro q <;> omega
/-- lcmp and the branch behind it -/
theorem ev_lc_le {a1 b1 j1 : Nat} {z1 : Int} (d : ri_at M (pc, 1, 26, a0, b0, j0, z0)) (d2 : ri_at M (pc + 1, 3, 36, a1, b1, j1, z1)) {x y : Int} (kt : x ≤ y → ev G M F L C S a1 ls st h Φ Θ) (kf : y < x → ev G M F L C S (pc + 1 + 3) ls st h Φ Θ) : ev G M F L C S pc ls (vL y :: vL x :: st) h Φ Θ := by
  refine ev_lcmp d (ev_if_le d2 (fun q => kt ?_) (fun q => kf ?_))
  · revert q; unfold lc; split
    · intro q; omega
    · split <;> intro q <;> omega
  · revert q; unfold lc; split
    · intro q; omega
    · split <;> intro q <;> omega
/-- a truth value as an int -/
def bi (p : Bool) : Int := if p then 1 else 0
theorem bi_in (p : Bool) : inI (bi p) := by cases p <;> exact ⟨by decide, by decide⟩
theorem bi_t : bi true = 1 := rfl
theorem bi_f : bi false = 0 := rfl
theorem ev_b_eq (d : ri_at M (pc, 3, 31, a0, b0, j0, z0)) {x : Bool} (kt : x = false → ev G M F L C S a0 ls st h Φ Θ) (kf : x = true → ev G M F L C S (pc + 3) ls st h Φ Θ) : ev G M F L C S pc ls (vI (bi x) :: st) h Φ Θ :=
  ev_if_eq d (fun q => kt (by cases x; rfl; exact absurd q (by decide))) (fun q => kf (by cases x; exact absurd rfl q; rfl))
theorem ev_b_ne (d : ri_at M (pc, 3, 32, a0, b0, j0, z0)) {x : Bool} (kt : x = true → ev G M F L C S a0 ls st h Φ Θ) (kf : x = false → ev G M F L C S (pc + 3) ls st h Φ Θ) : ev G M F L C S pc ls (vI (bi x) :: st) h Φ Θ :=
  ev_if_ne d (fun q => kt (by cases x; exact absurd rfl q; rfl)) (fun q => kf (by cases x; rfl; exact absurd q (by decide)))
end EvPure
