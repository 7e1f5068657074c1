/-! ROWS: new cells, casts, statics, natives, switches, the script (printed by gen/more.py) -/
theorem wo_i : tw 77 (.instanceMethod objectInit) = true := by decide +kernel
theorem wo_c : tw 78 (.code objectInit ⟨#[0xb1]⟩ 1 none) = true := by decide +kernel
theorem wa_o : tw 302 (.arrayOver (.object "java/lang/Object")) = true := by decide +kernel
theorem wa_e : tw 100 (.arrayOver (.object "GoodsTree$Edition")) = true := by decide +kernel
theorem wc_3 : tw 991 (.castable "GoodsTree$Row" "java/lang/Object") = true := by decide +kernel
theorem wc_4 : tw 992 (.castable "GoodsTree$Note" "java/lang/Object") = true := by decide +kernel
theorem wc_5 : tw 993 (.castable "GoodsTree$Link" "java/lang/Object") = true := by decide +kernel
theorem wg_d : tw 985 (.declares ⟨"java/lang/Object", "getClass", "()Ljava/lang/Class;"⟩) = true := by decide +kernel
theorem wg_s : tw 984 (.selects "[Ljava/lang/Object;" ⟨"java/lang/Object", "getClass", "()Ljava/lang/Class;"⟩ ⟨"java/lang/Object", "getClass", "()Ljava/lang/Class;"⟩) = true := by decide +kernel
theorem wg_i : tw 283 (.instanceMethod ⟨"java/lang/Object", "getClass", "()Ljava/lang/Class;"⟩) = true := by decide +kernel
theorem wg_n : tw 297 (.native ⟨"java/lang/Object", "getClass", "()Ljava/lang/Class;"⟩) = true := by decide +kernel
theorem wy_n : tw 309 (.native arraycopyName) = true := by decide +kernel
theorem wy_s : tw 308 (.static arraycopyName) = true := by decide +kernel
theorem wy_i : tw 65 (.initialized "java/lang/System") = true := by decide +kernel
theorem wm_i : tw 63 (.initialized "java/lang/Math") = true := by decide +kernel
theorem wm_smax : tw 273 (.static Lib.Math.max.name) = true := by decide +kernel
theorem wm_cmax : tw 274 (.code Lib.Math.max.name Lib.Math.max.code 2 (some .int)) = true := by decide +kernel
theorem wm_smin : tw 305 (.static Lib.Math.min.name) = true := by decide +kernel
theorem wm_cmin : tw 306 (.code Lib.Math.min.name Lib.Math.min.code 2 (some .int)) = true := by decide +kernel
def nf (ci : Nat) : Nat := match cl_[ci]? with
  | some (_, _, N) => N
  | none => 0
theorem mem_tw {w : Cond} {j : Nat} (h : tw j w = true) : w ∈ lw_tbl := List.mem_of_getElem? (of_decide_eq_true h)
/-- classes whose objects may be stored into an Object[] -/
def cs (ci : Nat) : Bool := ci == 3 || ci == 4 || ci == 5
theorem cs_asg {G : gt_T} {s : State} (hG : GF G) (hW : (gs G).WarmedH s.vm) {ci : Nat} {q : vw_C} (hci : cs ci = true) (hc : cl_[ci]? = some q) : ∀ comp c0 : ClassId, s.vm.findClass "java/lang/Object" = some comp → s.vm.findClass q.1 = some c0 → s.vm.assignable c0 comp = true := by
  intro comp c0 h1 h2
  have key : ∀ nm j, tw j (.castable nm "java/lang/Object") = true → s.vm.findClass nm = some c0 → s.vm.assignable c0 comp = true := by
    intro nm j hj h3
    obtain ⟨c1, t1, f1, f2, f3⟩ := Cond.castable_spec (va_Nw.use (A := #[]) rfl (va_Nw.warmC hW (va_Nw.of rfl (hG.1 _ (mem_tw hj)))))
    cases h3.symm.trans f1
    cases h1.symm.trans f2
    exact f3
  unfold cs at hci
  simp only [Bool.or_eq_true, beq_iff_eq] at hci
  rcases hci with (rfl | rfl) | rfl
  · cases hc; exact key _ _ wc_3 h2
  · cases hc; exact key _ _ wc_4 h2
  · cases hc; exact key _ _ wc_5 h2
theorem rp_any {G : gt_T} {s : State} {h : ab_H} {H : Heap} {ws : va_W} (hG : GF G) (hW : (gs G).WarmedH s.vm) (hK : va_K (gD G) cl_ (gy G) s) (hP : va_P (gD G) cl_ ws H) (hcov : ∀ (a : Nat) (o : ab_O), h a = some o → okB o ∧ ∃ k : Nat, ws[k]? = some (a, oE G o)) {v tag ci : Nat} {fs : List ab_V} (hv : h v = some (oJ tag ci fs)) (hci : cs ci = true) : va_Any "java/lang/Object" s H v := by
  obtain ⟨-, q, hq⟩ := hcov v _ hv
  obtain ⟨r, hr, -⟩ := hP q _ hq
  exact va_rAny hK hP hq hr (cs_asg hG hW hci hr)
def cpy (rs0 rs1 : List (Option Nat)) (sp dp n : Nat) : List (Option Nat) := (List.range rs1.length).map fun k => if dp ≤ k ∧ k < dp + n then rs0.getD (sp + (k - dp)) none else rs1.getD k none
theorem cpy_len (rs0 rs1 : List (Option Nat)) (sp dp n : Nat) : (cpy rs0 rs1 sp dp n).length = rs1.length := by simp [cpy]
theorem cpy_get (rs0 rs1 : List (Option Nat)) (sp dp n : Nat) (h : dp + n ≤ rs1.length) (k : Nat) : (cpy rs0 rs1 sp dp n).getD k none = va_cpy (fun j => rs0.getD j none) (fun j => rs1.getD j none) sp dp n k := by
  unfold cpy va_cpy
  by_cases hk : k < rs1.length
  · simp [List.getD_eq_getElem?_getD, List.getElem?_map, List.getElem?_range hk]
  · have h1 : ¬ (dp ≤ k ∧ k < dp + n) := by omega
    rw [if_neg h1]
    simp only [List.getD_eq_getElem?_getD]
    rw [List.getElem?_eq_none (by simpa using Nat.not_lt.mp hk), List.getElem?_eq_none (Nat.not_lt.mp hk)]
section EvMore
variable {G : gt_T} {M : mt_T} {F L C S : Nat} {pc a0 b0 j0 : Nat} {z0 : Int} {ls : List (Option ab_V)} {st : List ab_V} {h : ab_H} {Φ : Option ab_V → ab_H → Prop} {Θ : Nat → ab_H → Prop}
theorem rx_75 {l0 : Nat} (d : ri_at M (pc, l0, 75, a0, b0, j0, z0)) : ∃ k, decode M.2.1 pc = .ok (.invokespecial k, l0) ∧ tw j0 (.methodLink M.1.cls k objectInit) = true := by
  obtain ⟨i, h1, h2⟩ := ri_ex d
  cases i <;> first | exact ⟨_, h1, h2⟩ | exact absurd h2 Bool.false_ne_true
theorem rx_77 {l0 : Nat} (d : ri_at M (pc, l0, 77, a0, b0, j0, z0)) : ∃ k, decode M.2.1 pc = .ok (.invokestatic k, l0) ∧ tw j0 (.methodLink M.1.cls k arraycopyName) = true := by
  obtain ⟨i, h1, h2⟩ := ri_ex d
  cases i <;> first | exact ⟨_, h1, h2⟩ | exact absurd h2 Bool.false_ne_true
theorem rx_78 {l0 : Nat} (d : ri_at M (pc, l0, 78, a0, b0, j0, z0)) : ∃ k, decode M.2.1 pc = .ok (.invokevirtual k, l0) ∧ tw j0 (.methodLink M.1.cls k ⟨"java/lang/Object", "getClass", "()Ljava/lang/Class;"⟩) = true := by
  obtain ⟨i, h1, h2⟩ := ri_ex d
  cases i <;> first | exact ⟨_, h1, h2⟩ | exact absurd h2 Bool.false_ne_true
theorem rx_79 {l0 : Nat} (d : ri_at M (pc, l0, 79, a0, b0, j0, z0)) : ∃ k, decode M.2.1 pc = .ok (.ldc k, l0) ∧ tw j0 (.classLink M.1.cls k "[Ljava/lang/Object;") = true := by
  obtain ⟨i, h1, h2⟩ := ri_ex d
  cases i <;> first | exact ⟨_, h1, h2⟩ | exact absurd h2 Bool.false_ne_true
theorem rx_80 {l0 : Nat} (d : ri_at M (pc, l0, 80, a0, b0, j0, z0)) : ∃ k, decode M.2.1 pc = .ok (.invokestatic k, l0) ∧ tw j0 (.methodLink M.1.cls k Lib.Math.max.name) = true := by
  obtain ⟨i, h1, h2⟩ := ri_ex d
  cases i <;> first | exact ⟨_, h1, h2⟩ | exact absurd h2 Bool.false_ne_true
theorem rx_81 {l0 : Nat} (d : ri_at M (pc, l0, 81, a0, b0, j0, z0)) : ∃ k, decode M.2.1 pc = .ok (.invokestatic k, l0) ∧ tw j0 (.methodLink M.1.cls k Lib.Math.min.name) = true := by
  obtain ⟨i, h1, h2⟩ := ri_ex d
  cases i <;> first | exact ⟨_, h1, h2⟩ | exact absurd h2 Bool.false_ne_true
theorem rx_52 {l0 : Nat} (d : ri_at M (pc, l0, 52, a0, b0, j0, z0)) : ∃ k, decode M.2.1 pc = .ok (.getstatic k, l0) ∧ tw j0 (.fieldLink M.1.cls k "java/util/ArrayList" "DEFAULTCAPACITY_EMPTY_ELEMENTDATA" "[Ljava/lang/Object;") = true := by
  obtain ⟨i, h1, h2⟩ := ri_ex d
  cases i <;> first | exact ⟨_, h1, h2⟩ | exact absurd h2 Bool.false_ne_true
theorem rx_54 {l0 : Nat} (d : ri_at M (pc, l0, 54, a0, b0, j0, z0)) : ∃ k, decode M.2.1 pc = .ok (.anewarray k, l0) ∧ tw j0 (.classLink M.1.cls k (an a0)) = true := by
  obtain ⟨i, h1, h2⟩ := ri_ex d
  cases i <;> first | exact ⟨_, h1, h2⟩ | exact absurd h2 Bool.false_ne_true
theorem rx_64 {l0 : Nat} (d : ri_at M (pc, l0, 64, a0, b0, j0, z0)) : ∃ k, decode M.2.1 pc = .ok (.new k, l0) ∧ tw j0 (.classLink M.1.cls k (ri_cn a0)) = true := by
  obtain ⟨i, h1, h2⟩ := ri_ex d
  cases i <;> first | exact ⟨_, h1, h2⟩ | exact absurd h2 Bool.false_ne_true
theorem rx_65 {l0 : Nat} (d : ri_at M (pc, l0, 65, a0, b0, j0, z0)) : ∃ k, decode M.2.1 pc = .ok (.checkcast k, l0) ∧ tw j0 (.classLink M.1.cls k (ri_cn a0)) = true := by
  obtain ⟨i, h1, h2⟩ := ri_ex d
  cases i <;> first | exact ⟨_, h1, h2⟩ | exact absurd h2 Bool.false_ne_true
theorem rx_53 (d : ri_at M (pc, 2, 53, a0, b0, j0, z0)) : ∃ t, decode M.2.1 pc = .ok (.newarray t, 2) ∧ newarray.typeOf t = ak a0 ∧ tw j0 (.arrayClass (newarray.typeOf t)) = true := by
  obtain ⟨i, h1, h2⟩ := ri_ex d
  cases i <;> first | exact absurd h2 Bool.false_ne_true | skip
  rename_i t
  have h3 : (decide (newarray.typeOf t = ak a0) && tw j0 (.arrayClass (newarray.typeOf t))) = true := h2
  simp only [Bool.and_eq_true, decide_eq_true_eq] at h3
  exact ⟨t, h1, h3.1, h3.2⟩
theorem ev_objInit (d : ri_at M (pc, 3, 75, a0, b0, j0, z0)) {a : Nat} (hF1 : 1 ≤ F) (hL1 : sw st + 12 ≤ L) (k : ev G M F L C S (pc + 3) ls st h Φ Θ) : ev G M F L C S pc ls (vA a :: st) h Φ Θ := by
  intro p e R s m args below meth c H locs cells slots lsC B
  obtain ⟨C0, hF, hL, hC, hS, hrp, hl, hst, hls⟩ := B
  have C1 := C0
  obtain ⟨hx, hb, hml, hr, hlk, hnm, htb, hown, hW, hG, htr⟩ := C1
  have hK : va_K (gD G) cl_ (gy G) s := va_K.moved hW.alike hG.2.1
  obtain ⟨kx, h1, h2⟩ := rx_75 d
  have kk := k p e R s m args below meth c H locs cells slots lsC ⟨C0, hF, hL, hC, hS, hrp, hl, okt hst, hls⟩
  exact W.objInit hx hb hown (wd hG hW h2 (Or.inl rfl) args) (wd hG hW wo_i (Or.inl rfl) args) (wd hG hW wo_c (Or.inl rfl) args) (g := F0 m pc lsC ((vA a :: st).map cv)) rfl (by rw [hml]; exact hl.1) rfl h1 (by omega) (by show 2 * 0 + ((st.map cv).map fun v => v.category).sum + 12 ≤ R.locals; rw [sw_cat]; omega) kk
theorem ev_gets (d : ri_at M (pc, 3, 52, a0, b0, j0, z0)) (k : ev G M F L C S (pc + 3) ls (vA (ge G) :: st) h Φ Θ) : ev G M F L C S pc ls st h Φ Θ := by
  intro p e R s m args below meth c H locs cells slots lsC B
  obtain ⟨C0, hF, hL, hC, hS, hrp, hl, hst, hls⟩ := B
  have C1 := C0
  obtain ⟨hx, hb, hml, hr, hlk, hnm, htb, hown, hW, hG, htr⟩ := C1
  have hK : va_K (gD G) cl_ (gy G) s := va_K.moved hW.alike hG.2.1
  obtain ⟨kx, h1, h2⟩ := rx_52 d
  have hrp' := hrp
  obtain ⟨ws, hP, hD, hcov, hSS⟩ := hrp'
  obtain ⟨cf, kf, fi, f, a, cell, g1, g2, g3, g4, g5, g6, g7, g8⟩ := va_Z.moved hW.alike hG.2.2.1
  have kk := k p e R s m args below meth c H locs cells slots lsC ⟨C0, hF, hL, hC, hS, hrp, hl, okc trivial hst, hls⟩
  exact W.gets hx hb hown (wd hG hW h2 (Or.inl rfl) args) g1 g2 g3 g4 (by rw [hSS.2.1 a (Array.getElem?_eq_some_iff.mp g5).1 g8]; exact g5) (fun e1 => by rw [e1] at g6; cases g6) g7 rfl h1 kk
theorem ev_alenE (d : ri_at M (pc, 1, 55, a0, b0, j0, z0)) (k : ev G M F L C S (pc + 1) ls (vI 0 :: st) h Φ Θ) : ev G M F L C S pc ls (vA (ge G) :: st) h Φ Θ := by
  intro p e R s m args below meth c H locs cells slots lsC B
  obtain ⟨C0, hF, hL, hC, hS, hrp, hl, hst, hls⟩ := B
  have C1 := C0
  obtain ⟨hx, hb, hml, hr, hlk, hnm, htb, hown, hW, hG, htr⟩ := C1
  have hK : va_K (gD G) cl_ (gy G) s := va_K.moved hW.alike hG.2.1
  have hrp' := hrp
  obtain ⟨ws, hP, hD, hcov, hSS⟩ := hrp'
  obtain ⟨cell, g1, g2, g3, g4, g5, g6, g7⟩ := va_T.moved hW.alike hG.2.2.2.1
  have kk := k p e R s m args below meth c H locs cells slots lsC ⟨C0, hF, hL, hC, hS, hrp, hl, okc (show inI 0 from ⟨by decide, by decide⟩) (okt hst), hls⟩
  exact W.alen (n := Int32.ofInt 0) hx hb (by rw [hSS.2.1 _ (Array.getElem?_eq_some_iff.mp g1).1 g7]; exact g1) g2 g5 rfl rfl (rx_55 d) kk
theorem ev_sld (d : ri_at M (pc, 1, 56, a0, b0, j0, z0)) {i : Int} (h0 : 0 ≤ i) (hi : i < gn G) (k : ev G M F L C S (pc + 1) ls (vI ((gx G i.toNat).toInt) :: st) h Φ Θ) : ev G M F L C S pc ls (vI i :: vA (gb G) :: st) h Φ Θ := by
  intro p e R s m args below meth c H locs cells slots lsC B
  obtain ⟨C0, hF, hL, hC, hS, hrp, hl, hst, hls⟩ := B
  have C1 := C0
  obtain ⟨hx, hb, hml, hr, hlk, hnm, htb, hown, hW, hG, htr⟩ := C1
  have hK : va_K (gD G) cl_ (gy G) s := va_K.moved hW.alike hG.2.1
  have hrp' := hrp
  obtain ⟨ws, hP, hD, hcov, hSS⟩ := hrp'
  have hii := okh hst
  have kk := k p e R s m args below meth c H locs cells slots lsC ⟨C0, hF, hL, hC, hS, hrp, hl, okc (show inI _ from ⟨Int32.le_toInt _, Int32.toInt_lt _⟩) (okt (okt hst)), hls⟩
  have e2 : cv (vI ((gx G i.toNat).toInt)) = .int (gx G (Int32.ofInt i).toNatClampNeg) := by rw [oi_clamp hii]; exact congrArg Value.int (Int32.ofInt_toInt _)
  rw [List.map_cons, e2] at kk
  exact va_sld hx hb (va_X.moved hW.alike hG.2.2.2.2.2.1) hG.2.2.2.2.2.2.1 (Nat.not_le.mpr hG.2.2.2.2.2.2.1) hSS (ixin hii h0 hi) (rx_56 d) kk
theorem ev_slen (d : ri_at M (pc, 1, 55, a0, b0, j0, z0)) (k : ev G M F L C S (pc + 1) ls (vI (gn G : Int) :: st) h Φ Θ) : ev G M F L C S pc ls (vA (gb G) :: st) h Φ Θ := by
  intro p e R s m args below meth c H locs cells slots lsC B
  obtain ⟨C0, hF, hL, hC, hS, hrp, hl, hst, hls⟩ := B
  have C1 := C0
  obtain ⟨hx, hb, hml, hr, hlk, hnm, htb, hown, hW, hG, htr⟩ := C1
  have hK : va_K (gD G) cl_ (gy G) s := va_K.moved hW.alike hG.2.1
  have hrp' := hrp
  obtain ⟨ws, hP, hD, hcov, hSS⟩ := hrp'
  have hn : gn G ≤ 3584 := hG.2.2.2.2.2.2.2.1
  have kk := k p e R s m args below meth c H locs cells slots lsC ⟨C0, hF, hL, hC, hS, hrp, hl, okc (show inI _ from ⟨by omega, by omega⟩) (okt hst), hls⟩
  exact va_slen hx hb (va_X.moved hW.alike hG.2.2.2.2.2.1) hG.2.2.2.2.2.2.1 (Nat.not_le.mpr hG.2.2.2.2.2.2.1) hSS (rx_55 d) kk
theorem ev_new {C2 S2 : Nat} (tag : Nat) (d : ri_at M (pc, 3, 64, a0, b0, j0, z0)) (hci : a0 < 8) (hC1 : C2 + 1 ≤ C) (hS1 : S2 + nf a0 ≤ S) (k : ∀ q, h q = none → q ≠ ge G → ev G M F L C2 S2 (pc + 3) ls (vA q :: st) (hu h q (oJ tag a0 (df a0))) Φ Θ) : ev G M F L C S pc ls st h Φ Θ := by
  intro p e R s m args below meth c H locs cells slots lsC B
  obtain ⟨C0, hF, hL, hC, hS, hrp, hl, hst, hls⟩ := B
  have C1 := C0
  obtain ⟨hx, hb, hml, hr, hlk, hnm, htb, hown, hW, hG, htr⟩ := C1
  have hK : va_K (gD G) cl_ (gy G) s := va_K.moved hW.alike hG.2.1
  obtain ⟨kx, h1, h2⟩ := rx_64 d
  obtain ⟨ws, hP, hD, hcov, hSS⟩ := hrp
  cases hc : cl_[a0]? with
  | none => have := List.getElem?_eq_none_iff.mp hc; simp [cl_] at this; omega
  | some q =>
    obtain ⟨C3, T3, N3⟩ := q
    obtain ⟨hd1, j1, j2, hd2, hd3⟩ := df_ok a0 hci C3 T3 N3 hc
    have hN : nf a0 = N3 := by unfold nf; rw [hc]
    have hcn : ri_cn a0 = C3 := by unfold ri_cn; rw [hc]
    rw [hcn] at h2
    refine va_new hx hb (hts_u hG hW hc args) (fun _ h9 => h9) (ft a0) (cl_ok a0 _ _ _ hc).2.1 hown (wd hG hW h2 (Or.inl rfl) args) (wd hG hW hd2 (Or.inl rfl) args) (wd hG hW hd3 (Or.inl rfl) args) hK hP hD hSS (fun q hq => hq) hc hd1 (by omega) (by omega) h1 ?_
    intro q H1 p1 p2 p3
    exact k q (cov_new hcov p2) (cov_lo hG p2) p e R s m args below meth c H1 locs (cells + 1) (slots + N3) lsC ⟨C0, hF, hL, by omega, by omega, ⟨_, p1, p2, cov_push (o := oJ tag a0 (df a0)) hcov (df_len a0), p3⟩, hl, okc trivial hst, hls⟩
theorem ev_chk (d : ri_at M (pc, 3, 65, a0, b0, j0, z0)) {a tag : Nat} {fs : List ab_V} (ha : h a = some (oJ tag a0 fs)) (k : ev G M F L C S (pc + 3) ls (vA a :: st) h Φ Θ) : ev G M F L C S pc ls (vA a :: st) h Φ Θ := by
  intro p e R s m args below meth c H locs cells slots lsC B
  obtain ⟨C0, hF, hL, hC, hS, hrp, hl, hst, hls⟩ := B
  have C1 := C0
  obtain ⟨hx, hb, hml, hr, hlk, hnm, htb, hown, hW, hG, htr⟩ := C1
  have hK : va_K (gD G) cl_ (gy G) s := va_K.moved hW.alike hG.2.1
  obtain ⟨kx, h1, h2⟩ := rx_65 d
  have hrp' := hrp
  obtain ⟨ws, hP, hD, hcov, hSS⟩ := hrp'
  obtain ⟨hok, q0, hq0⟩ := hcov a _ ha
  obtain ⟨r, hr0, -⟩ := hP q0 _ hq0
  have hcn : ri_cn a0 = r.1 := by unfold ri_cn; rw [show cl_[a0]? = some r from hr0]
  rw [hcn] at h2
  exact va_castS hx hb hown (wd hG hW h2 (Or.inl rfl) args) (hK.1 a0 r hr0).2 (va_recv hK hP hr0 hq0) h1 (k p e R s m args below meth c H locs cells slots lsC ⟨C0, hF, hL, hC, hS, hrp, hl, hst, hls⟩)
theorem ev_chkN (d : ri_at M (pc, 3, 65, a0, b0, j0, z0)) (k : ev G M F L C S (pc + 3) ls (vN :: st) h Φ Θ) : ev G M F L C S pc ls (vN :: st) h Φ Θ := by
  intro p e R s m args below meth c H locs cells slots lsC B
  obtain ⟨C0, hF, hL, hC, hS, hrp, hl, hst, hls⟩ := B
  have C1 := C0
  obtain ⟨hx, hb, hml, hr, hlk, hnm, htb, hown, hW, hG, htr⟩ := C1
  have hK : va_K (gD G) cl_ (gy G) s := va_K.moved hW.alike hG.2.1
  obtain ⟨kx, h1, h2⟩ := rx_65 d
  exact lv_castN hx hb h1 (k p e R s m args below meth c H locs cells slots lsC ⟨C0, hF, hL, hC, hS, hrp, hl, hst, hls⟩)
theorem oR_set (tag k0 : Nat) (rs : List (Option Nat)) (i : Nat) (r : Option Nat) (hi : i < rs.length) : oE G (oR tag k0 (rs.set i r)) = .inl (gc G (3 + k0), rs.length, .inr (.inr (.inr (.inr (va_up (fun j => rs.getD j none) i r))))) := by
  show (Sum.inl (gc G (3 + k0), (rs.set i r).length, .inr (.inr (.inr (.inr fun j => (rs.set i r).getD j none)))) : va_E) = _
  rw [List.length_set]
  refine congrArg (fun f => (Sum.inl (gc G (3 + k0), rs.length, .inr (.inr (.inr (.inr f)))) : va_E)) ?_
  funext j
  rw [getD_set rs i r none hi j]
  rfl
theorem ev_aast (d : ri_at M (pc, 1, 63, a0, b0, j0, z0)) {a tag : Nat} {rs : List (Option Nat)} {i : Int} {v tv ci : Nat} {fv : List ab_V} (ha : h a = some (oR tag 0 rs)) (h0 : 0 ≤ i) (hi : i < rs.length) (hv : h v = some (oJ tv ci fv)) (hci : cs ci = true) (k : ev G M F L C S (pc + 1) ls st (hu h a (oR tag 0 (rs.set i.toNat (some v)))) Φ Θ) : ev G M F L C S pc ls (vA v :: vI i :: vA a :: st) h Φ Θ := by
  intro p e R s m args below meth c H locs cells slots lsC B
  obtain ⟨C0, hF, hL, hC, hS, hrp, hl, hst, hls⟩ := B
  have C1 := C0
  obtain ⟨hx, hb, hml, hr, hlk, hnm, htb, hown, hW, hG, htr⟩ := C1
  have hK : va_K (gD G) cl_ (gy G) s := va_K.moved hW.alike hG.2.1
  obtain ⟨ws, hP, hD, hcov, hSS⟩ := hrp
  obtain ⟨hok, q0, hq0⟩ := hcov a _ ha
  have hii := okh (okt hst)
  refine va_astqM hx hb hK hP hD hSS q0 3 (E := "java/lang/Object") hq0 rfl (rp_any hG hW hK hP hcov hv hci) (ixin hii h0 hi) (rx_63 d) ?_
  intro H1 locs1 p1 p2 p3
  rw [oi_clamp hii] at p1 p2
  rw [← oR_set (G := G) tag 0 rs i.toNat (some v) (by omega)] at p1 p2
  exact k p e R s m args below meth c H1 locs1 cells slots lsC ⟨C0, hF, hL, hC, hS, ⟨_, p1, p2, cov_set (A := gA G) hcov hq0 trivial, p3⟩, hl, okt (okt (okt hst)), hls⟩
theorem ev_aastN (d : ri_at M (pc, 1, 63, a0, b0, j0, z0)) {a tag : Nat} {rs : List (Option Nat)} {i : Int} (ha : h a = some (oR tag 0 rs)) (h0 : 0 ≤ i) (hi : i < rs.length) (k : ev G M F L C S (pc + 1) ls st (hu h a (oR tag 0 (rs.set i.toNat none))) Φ Θ) : ev G M F L C S pc ls (vN :: vI i :: vA a :: st) h Φ Θ := by
  intro p e R s m args below meth c H locs cells slots lsC B
  obtain ⟨C0, hF, hL, hC, hS, hrp, hl, hst, hls⟩ := B
  have C1 := C0
  obtain ⟨hx, hb, hml, hr, hlk, hnm, htb, hown, hW, hG, htr⟩ := C1
  have hK : va_K (gD G) cl_ (gy G) s := va_K.moved hW.alike hG.2.1
  obtain ⟨ws, hP, hD, hcov, hSS⟩ := hrp
  obtain ⟨hok, q0, hq0⟩ := hcov a _ ha
  have hii := okh (okt hst)
  refine va_astqN hx hb hK hP hD hSS q0 3 (C := "java/lang/Object") hq0 rfl (ixin hii h0 hi) (rx_63 d) ?_
  intro H1 locs1 p1 p2 p3
  rw [oi_clamp hii] at p1 p2
  rw [← oR_set (G := G) tag 0 rs i.toNat none (by omega)] at p1 p2
  exact k p e R s m args below meth c H1 locs1 cells slots lsC ⟨C0, hF, hL, hC, hS, ⟨_, p1, p2, cov_set (A := gA G) hcov hq0 trivial, p3⟩, hl, okt (okt (okt hst)), hls⟩
theorem ev_aastE (d : ri_at M (pc, 1, 63, a0, b0, j0, z0)) {a tag : Nat} {rs : List (Option Nat)} {i : Int} {v tv : Nat} {fv : List ab_V} (ha : h a = some (oR tag 1 rs)) (h0 : 0 ≤ i) (hi : i < rs.length) (hv : h v = some (oJ tv 2 fv)) (k : ev G M F L C S (pc + 1) ls st (hu h a (oR tag 1 (rs.set i.toNat (some v)))) Φ Θ) : ev G M F L C S pc ls (vA v :: vI i :: vA a :: st) h Φ Θ := by
  intro p e R s m args below meth c H locs cells slots lsC B
  obtain ⟨C0, hF, hL, hC, hS, hrp, hl, hst, hls⟩ := B
  have C1 := C0
  obtain ⟨hx, hb, hml, hr, hlk, hnm, htb, hown, hW, hG, htr⟩ := C1
  have hK : va_K (gD G) cl_ (gy G) s := va_K.moved hW.alike hG.2.1
  obtain ⟨ws, hP, hD, hcov, hSS⟩ := hrp
  obtain ⟨hok, q0, hq0⟩ := hcov a _ ha
  obtain ⟨-, q1, hq1⟩ := hcov v _ hv
  have hii := okh (okt hst)
  refine va_astq hx hb hK hP hD hSS q0 4 q1 2 hq0 (r := ("GoodsTree$Edition", F_2, 2)) rfl hq1 rfl (ixin hii h0 hi) (rx_63 d) ?_
  intro H1 locs1 p1 p2 p3
  rw [oi_clamp hii] at p1 p2
  rw [← oR_set (G := G) tag 1 rs i.toNat (some v) (by omega)] at p1 p2
  exact k p e R s m args below meth c H1 locs1 cells slots lsC ⟨C0, hF, hL, hC, hS, ⟨_, p1, p2, cov_set (A := gA G) hcov hq0 trivial, p3⟩, hl, okt (okt (okt hst)), hls⟩
theorem ev_anew {C2 S2 N : Nat} (tag : Nat) (d : ri_at M (pc, 3, 54, a0, b0, j0, z0)) (ha0 : a0 < 2) (hN : N ≤ 65536) (hC1 : C2 + 1 ≤ C) (hS1 : S2 + N ≤ S) (k : ∀ q, h q = none → q ≠ ge G → ev G M F L C2 S2 (pc + 3) ls (vA q :: st) (hu h q (oR tag a0 (List.replicate N none))) Φ Θ) : ev G M F L C S pc ls (vI (N : Int) :: st) h Φ Θ := by
  intro p e R s m args below meth c H locs cells slots lsC B
  obtain ⟨C0, hF, hL, hC, hS, hrp, hl, hst, hls⟩ := B
  have C1 := C0
  obtain ⟨hx, hb, hml, hr, hlk, hnm, htb, hown, hW, hG, htr⟩ := C1
  have hK : va_K (gD G) cl_ (gy G) s := va_K.moved hW.alike hG.2.1
  obtain ⟨kx, h1, h2⟩ := rx_54 d
  obtain ⟨ws, hP, hD, hcov, hSS⟩ := hrp
  have hii := okh hst
  have hn : ¬ Int32.ofInt (N : Int) < 0 := fun q => by have := (oi_lt hii (show inI 0 from ⟨by decide, by decide⟩)).mp q; omega
  have hover : va_AO (an a0) s := by
    rcases (show a0 = 0 ∨ a0 = 1 by omega) with rfl | rfl
    · exact va_AO.moved hW.alike (va_AO.of (hG.1 _ (mem_tw wa_o)))
    · exact va_AO.moved hW.alike (va_AO.of (hG.1 _ (mem_tw wa_e)))
  refine va_newq hx hb hown (wd hG hW h2 (Or.inl rfl) args) hover hK hP hD hSS (fun q hq => hq) (N' := N) hn (by rw [oi_clamp hii]; omega) (by omega) (by omega) (by omega) h1 ?_
  intro q cA H1 p0 p1 p2 p3
  have hcA : cA = gc G (3 + a0) := by
    have g1 : va_RA s cA (.object (an a0)) := (p0.2 (gy G).length (cA, .object (an a0)) (by simp)).2
    have g2 : va_RA s (gc G (3 + a0)) (.object (an a0)) := by
      rcases (show a0 = 0 ∨ a0 = 1 by omega) with rfl | rfl
      · exact (hK.2 3 _ rfl).2
      · exact (hK.2 4 _ rfl).2
    obtain ⟨_, _, _, _, _, f1⟩ := g1
    obtain ⟨_, _, _, _, _, f2⟩ := g2
    exact Option.some.inj (f1.symm.trans f2)
  have ee : oE G (oR tag a0 (List.replicate N none)) = .inl (cA, N, .inr (.inr (.inr (.inr fun _ => none)))) := by
    show (Sum.inl (gc G (3 + a0), (List.replicate N (none : Option Nat)).length, .inr (.inr (.inr (.inr fun j => (List.replicate N (none : Option Nat)).getD j none)))) : va_E) = _
    rw [List.length_replicate, ← hcA]
    refine congrArg (fun f => (Sum.inl (cA, N, .inr (.inr (.inr (.inr f)))) : va_E)) ?_
    funext j
    simp only [List.getD_eq_getElem?_getD, List.getElem?_replicate]
    split <;> rfl
  rw [← ee] at p1 p2
  exact k q (cov_new hcov p2) (cov_lo hG p2) p e R s m args below meth c H1 locs (cells + 1) (slots + N) lsC ⟨C0, hF, hL, by omega, by omega, ⟨_, p1, p2, cov_push hcov trivial, p3⟩, hl, okc trivial (okt hst), hls⟩
theorem nE_rep (k N : Nat) : nE k (List.replicate N 0) = if k = 1 then .inr (.inl fun _ => 0) else .inl fun _ => 0 := by
  have h1 : ∀ j, (List.replicate N (0 : Int)).getD j 0 = 0 := by
    intro j
    simp only [List.getD_eq_getElem?_getD, List.getElem?_replicate]
    split <;> rfl
  unfold nE
  simp only [h1]
  rfl
theorem ev_newa {C2 S2 N : Nat} (tag : Nat) (d : ri_at M (pc, 2, 53, a0, b0, j0, z0)) (ha0 : a0 < 3) (hN : N ≤ 65536) (hC1 : C2 + 1 ≤ C) (hS1 : S2 + N ≤ S) (k : ∀ q, h q = none → q ≠ ge G → ev G M F L C2 S2 (pc + 2) ls (vA q :: st) (hu h q (oN tag a0 (List.replicate N 0))) Φ Θ) : ev G M F L C S pc ls (vI (N : Int) :: st) h Φ Θ := by
  intro p e R s m args below meth c H locs cells slots lsC B
  obtain ⟨C0, hF, hL, hC, hS, hrp, hl, hst, hls⟩ := B
  have C1 := C0
  obtain ⟨hx, hb, hml, hr, hlk, hnm, htb, hown, hW, hG, htr⟩ := C1
  have hK : va_K (gD G) cl_ (gy G) s := va_K.moved hW.alike hG.2.1
  obtain ⟨t, h1, h2, h3⟩ := rx_53 d
  obtain ⟨ws, hP, hD, hcov, hSS⟩ := hrp
  have hii := okh hst
  have hn : ¬ Int32.ofInt (N : Int) < 0 := fun q => by have := (oi_lt hii (show inI 0 from ⟨by decide, by decide⟩)).mp q; omega
  refine va_newa hx hb (wd hG hW h3 (Or.inr ⟨_, rfl⟩) args) h2 hK hP hD hSS (fun q hq => hq) (N' := N) (a0 := (N, nE a0 (List.replicate N 0))) ?_ hn (by rw [oi_clamp hii]; omega) ?_ (by omega) (by omega) h1 ?_
  · intro cA
    rw [nE_rep]
    rcases (show a0 = 0 ∨ a0 = 1 ∨ a0 = 2 by omega) with rfl | rfl | rfl <;> rfl
  · rcases (show a0 = 0 ∨ a0 = 1 ∨ a0 = 2 by omega) with rfl | rfl | rfl
    · show N * 4 ≤ 536870912; omega
    · show N * 8 ≤ 536870912; omega
    · show N * 2 ≤ 536870912; omega
  · intro q cA H1 p0 p1 p2 p3
    have hcA : cA = gc G a0 := by
      have g1 : va_RA s cA (ak a0) := (p0.2 (gy G).length (cA, ak a0) (by simp)).2
      rcases (show a0 = 0 ∨ a0 = 1 ∨ a0 = 2 by omega) with rfl | rfl | rfl
      · exact Option.some.inj (g1.symm.trans (hK.2 0 _ rfl).2)
      · exact Option.some.inj (g1.symm.trans (hK.2 1 _ rfl).2)
      · exact Option.some.inj (g1.symm.trans (hK.2 2 _ rfl).2)
    have ee : oE G (oN tag a0 (List.replicate N 0)) = .inl (cA, N, nE a0 (List.replicate N 0)) := by
      show (Sum.inl (gc G a0, (List.replicate N (0 : Int)).length, nE a0 (List.replicate N 0)) : va_E) = _
      rw [List.length_replicate, ← hcA]
    rw [← ee] at p1 p2
    refine k q (cov_new hcov p2) (cov_lo hG p2) p e R s m args below meth c H1 locs (cells + 1) (slots + N) lsC ⟨C0, hF, hL, by omega, by omega, ⟨_, p1, p2, cov_push hcov ?_, p3⟩, hl, okc trivial (okt hst), hls⟩
    intro z hz
    rw [List.eq_of_mem_replicate hz]
    exact ⟨fun _ => ⟨by decide, by decide⟩, fun _ => ⟨by decide, by decide⟩, fun _ => ⟨by decide, by decide⟩⟩
theorem ev_max (d : ri_at M (pc, 3, 80, a0, b0, j0, z0)) {x y : Int} (hF1 : 1 ≤ F) (hL1 : sw st + 13 ≤ L) (k : ev G M F L C S (pc + 3) ls (vI (if x < y then y else x) :: st) h Φ Θ) : ev G M F L C S pc ls (vI y :: vI x :: st) h Φ Θ := by
  intro p e R s m args below meth c H locs cells slots lsC B
  obtain ⟨C0, hF, hL, hC, hS, hrp, hl, hst, hls⟩ := B
  have C1 := C0
  obtain ⟨hx, hb, hml, hr, hlk, hnm, htb, hown, hW, hG, htr⟩ := C1
  have hK : va_K (gD G) cl_ (gy G) s := va_K.moved hW.alike hG.2.1
  obtain ⟨kx, h1, h2⟩ := rx_80 d
  have hy := okh hst
  have hxx := okh (okt hst)
  have kk := k p e R s m args below meth c H locs cells slots lsC ⟨C0, hF, hL, hC, hS, hrp, hl, okc (show inI _ by split; exact hy; exact hxx) (okt (okt hst)), hls⟩
  have e2 : cv (vI (if x < y then y else x)) = .int (if Int32.ofInt x < Int32.ofInt y then Int32.ofInt y else Int32.ofInt x) := by
    by_cases q : x < y
    · rw [if_pos q, if_pos ((oi_lt hxx hy).mpr q)]; rfl
    · rw [if_neg q, if_neg (fun z => q ((oi_lt hxx hy).mp z))]; rfl
  rw [List.map_cons, e2] at kk
  exact va_mmax hx hb (hml.trans hl.1.symm) hown (wd hG hW h2 (Or.inl rfl) args) (wd hG hW wm_smax (Or.inl rfl) args) (wd hG hW wm_i (Or.inl rfl) args) (wd hG hW wm_cmax (Or.inl rfl) args) (by omega) (by rw [sw_cat]; omega) (by omega) (by omega) h1 kk
theorem ev_min (d : ri_at M (pc, 3, 81, a0, b0, j0, z0)) {x y : Int} (hF1 : 1 ≤ F) (hL1 : sw st + 13 ≤ L) (k : ev G M F L C S (pc + 3) ls (vI (if y < x then y else x) :: st) h Φ Θ) : ev G M F L C S pc ls (vI y :: vI x :: st) h Φ Θ := by
  intro p e R s m args below meth c H locs cells slots lsC B
  obtain ⟨C0, hF, hL, hC, hS, hrp, hl, hst, hls⟩ := B
  have C1 := C0
  obtain ⟨hx, hb, hml, hr, hlk, hnm, htb, hown, hW, hG, htr⟩ := C1
  have hK : va_K (gD G) cl_ (gy G) s := va_K.moved hW.alike hG.2.1
  obtain ⟨kx, h1, h2⟩ := rx_81 d
  have hy := okh hst
  have hxx := okh (okt hst)
  have kk := k p e R s m args below meth c H locs cells slots lsC ⟨C0, hF, hL, hC, hS, hrp, hl, okc (show inI _ by split; exact hy; exact hxx) (okt (okt hst)), hls⟩
  have e2 : cv (vI (if y < x then y else x)) = .int (if Int32.ofInt y < Int32.ofInt x then Int32.ofInt y else Int32.ofInt x) := by
    by_cases q : y < x
    · rw [if_pos q, if_pos ((oi_lt hy hxx).mpr q)]; rfl
    · rw [if_neg q, if_neg (fun z => q ((oi_lt hy hxx).mp z))]; rfl
  rw [List.map_cons, e2] at kk
  exact va_mmin hx hb (hml.trans hl.1.symm) hown (wd hG hW h2 (Or.inl rfl) args) (wd hG hW wm_smin (Or.inl rfl) args) (wd hG hW wm_i (Or.inl rfl) args) (wd hG hW wm_cmin (Or.inl rfl) args) (by omega) (by rw [sw_cat]; omega) (by omega) (by omega) h1 kk
theorem ev_ldcM (d : ri_at M (pc, 2, 79, a0, b0, j0, z0)) (k : ev G M F L C S (pc + 2) ls (vA (gm G) :: st) h Φ Θ) : ev G M F L C S pc ls st h Φ Θ := by
  intro p e R s m args below meth c H locs cells slots lsC B
  obtain ⟨C0, hF, hL, hC, hS, hrp, hl, hst, hls⟩ := B
  have C1 := C0
  obtain ⟨hx, hb, hml, hr, hlk, hnm, htb, hown, hW, hG, htr⟩ := C1
  have hK : va_K (gD G) cl_ (gy G) s := va_K.moved hW.alike hG.2.1
  obtain ⟨kx, h1, h2⟩ := rx_79 d
  exact va_ldcM hx hb hown (wd hG hW h2 (Or.inl rfl) args) (va_Mi.moved hW.alike hG.2.2.2.2.1) h1 (k p e R s m args below meth c H locs cells slots lsC ⟨C0, hF, hL, hC, hS, hrp, hl, okc trivial hst, hls⟩)
theorem ev_getC (d : ri_at M (pc, 3, 78, a0, b0, j0, z0)) {a tag : Nat} {rs : List (Option Nat)} (ha : h a = some (oR tag 0 rs)) (hF1 : 1 ≤ F) (hL1 : sw st + 14 ≤ L) (k : ev G M F L C S (pc + 3) ls (vA (gm G) :: st) h Φ Θ) : ev G M F L C S pc ls (vA a :: st) h Φ Θ := by
  intro p e R s m args below meth c H locs cells slots lsC B
  obtain ⟨C0, hF, hL, hC, hS, hrp, hl, hst, hls⟩ := B
  have C1 := C0
  obtain ⟨hx, hb, hml, hr, hlk, hnm, htb, hown, hW, hG, htr⟩ := C1
  have hK : va_K (gD G) cl_ (gy G) s := va_K.moved hW.alike hG.2.1
  obtain ⟨kx, h1, h2⟩ := rx_78 d
  have hrp' := hrp
  obtain ⟨ws, hP, hD, hcov, hSS⟩ := hrp'
  obtain ⟨hok, q0, hq0⟩ := hcov a _ ha
  have hc0 : H[a]? = some (vp_cell (gc G 3) (rs.length, .inr (.inr (.inr (.inr fun j => rs.getD j none))))) := hP q0 _ hq0
  exact va_getC hx hb (hml.trans hl.1.symm) hown (wd hG hW h2 (Or.inl rfl) args) (va_Dc.use (va_Dc.moved hW.alike (va_Dc.of (hG.1 _ (mem_tw wg_d))))) (wd hG hW wg_s (Or.inl rfl) args) (wd hG hW wg_i (Or.inl rfl) args) (wd hG hW wg_n (Or.inl rfl) args) (va_Mi.moved hW.alike hG.2.2.2.2.1) ⟨_, hc0, rfl, va_nmO (hK.2 3 _ rfl).2 (by decide +kernel)⟩ (by omega) (by rw [sw_cat]; omega) h1 (k p e R s m args below meth c H locs cells slots lsC ⟨C0, hF, hL, hC, hS, hrp, hl, okc trivial (okt hst), hls⟩)
theorem ev_acopy (d : ri_at M (pc, 3, 77, a0, b0, j0, z0)) {a1 a2 t1 t2 : Nat} {rs1 rs2 : List (Option Nat)} {sp dp n : Int} (ha1 : h a1 = some (oR t1 0 rs1)) (ha2 : h a2 = some (oR t2 0 rs2)) (h1 : 0 ≤ sp) (h2 : 0 ≤ dp) (h3 : 0 ≤ n) (h4 : sp + n ≤ rs1.length) (h5 : dp + n ≤ rs2.length)
    (hel : ∀ y, some y ∈ rs1 → ∃ tag ci fs, h y = some (oJ tag ci fs) ∧ cs ci = true) (hF1 : 1 ≤ F) (hL1 : sw st + (nativeFrameWords "java/lang/System" "arraycopy" 5 + 11) ≤ L) (k : ev G M F L C S (pc + 3) ls st (hu h a2 (oR t2 0 (cpy rs1 rs2 sp.toNat dp.toNat n.toNat))) Φ Θ) : ev G M F L C S pc ls (vI n :: vI dp :: vA a2 :: vI sp :: vA a1 :: st) h Φ Θ := by
  intro p e R s m args below meth c H locs cells slots lsC B
  obtain ⟨C0, hF, hL, hC, hS, hrp, hl, hst, hls⟩ := B
  have C1 := C0
  obtain ⟨hx, hb, hml, hr, hlk, hnm, htb, hown, hW, hG, htr⟩ := C1
  have hK : va_K (gD G) cl_ (gy G) s := va_K.moved hW.alike hG.2.1
  obtain ⟨kx, hd1, hd2⟩ := rx_77 d
  obtain ⟨ws, hP, hD, hcov, hSS⟩ := hrp
  obtain ⟨hok1, q1, hq1⟩ := hcov a1 _ ha1
  obtain ⟨hok2, q2, hq2⟩ := hcov a2 _ ha2
  have i1 : inI n := okh hst
  have i2 : inI dp := okh (okt hst)
  have i3 : inI sp := okh (okt (okt (okt hst)))
  have z0 : inI 0 := ⟨by decide, by decide⟩
  have c1 : (Int32.ofInt sp).toNatClampNeg = sp.toNat := oi_clamp i3
  have c2 : (Int32.ofInt dp).toNatClampNeg = dp.toNat := oi_clamp i2
  have c3 : (Int32.ofInt n).toNatClampNeg = n.toNat := oi_clamp i1
  have g1 : ¬ Int32.ofInt sp < 0 := fun q => by have := (oi_lt i3 z0).mp q; omega
  have g2 : ¬ Int32.ofInt dp < 0 := fun q => by have := (oi_lt i2 z0).mp q; omega
  have g3 : ¬ Int32.ofInt n < 0 := fun q => by have := (oi_lt i1 z0).mp q; omega
  refine va_copyM hx hb (hml.trans hl.1.symm) hown (wd hG hW hd2 (Or.inl rfl) args) (wd hG hW wy_n (Or.inl rfl) args) (wd hG hW wy_s (Or.inl rfl) args) (wd hG hW wy_i (Or.inl rfl) args) hK hP hD hSS q1 q2 3 3 (E0 := "java/lang/Object") (E1 := "java/lang/Object") hq1 hq2 rfl rfl g1 g2 g3 (by rw [c1, c3]; omega) (by rw [c2, c3]; omega) ?_ (by omega) (by rw [sw_cat]; omega) hd1 ?_
  · intro i hi y hy
    rw [c1] at hy
    have hm : some y ∈ rs1 := by
      have hlt : sp.toNat + i < rs1.length := by rw [c3] at hi; omega
      rw [List.getD_eq_getElem?_getD, List.getElem?_eq_getElem hlt] at hy
      have hy' : rs1[sp.toNat + i] = some y := hy
      rw [← hy']
      exact List.getElem_mem hlt
    obtain ⟨tg, ci, fs, e1, e2⟩ := hel y hm
    exact rp_any hG hW hK hP hcov e1 e2
  · intro H1 locs1 p1 p2 p3
    rw [c1, c2, c3] at p1 p2
    have ee : oE G (oR t2 0 (cpy rs1 rs2 sp.toNat dp.toNat n.toNat)) = .inl (gc G 3, rs2.length, .inr (.inr (.inr (.inr (va_cpy (fun j => rs1.getD j none) (fun j => rs2.getD j none) sp.toNat dp.toNat n.toNat))))) := by
      show (Sum.inl (gc G 3, (cpy rs1 rs2 sp.toNat dp.toNat n.toNat).length, .inr (.inr (.inr (.inr fun j => (cpy rs1 rs2 sp.toNat dp.toNat n.toNat).getD j none)))) : va_E) = _
      rw [cpy_len]
      refine congrArg (fun f => (Sum.inl (gc G 3, rs2.length, .inr (.inr (.inr (.inr f)))) : va_E)) ?_
      funext j
      exact cpy_get rs1 rs2 _ _ _ (by omega) j
    rw [← ee] at p1 p2
    exact k p e R s m args below meth c H1 locs1 cells slots lsC ⟨C0, hF, hL, hC, hS, ⟨_, p1, p2, cov_set (A := gA G) hcov hq2 trivial, p3⟩, hl, okt (okt (okt (okt (okt hst)))), hls⟩
theorem ev_tsO {dflt lo hi : Int} {offs : Array Int} {len tgt : Nat} (hd : decode M.2.1 pc = .ok (.tableswitch dflt lo hi offs, len)) {x : Int} (hx0 : x < lo ∨ hi < x) (ht : (pc : Int) + dflt = (tgt : Int)) (k : ev G M F L C S tgt ls st h Φ Θ) : ev G M F L C S pc ls (vI x :: st) h Φ Θ := by
  intro p e R s m args below meth c H locs cells slots lsC B
  obtain ⟨C0, hF, hL, hC, hS, hrp, hl, hst, hls⟩ := B
  have C1 := C0
  obtain ⟨hx, hb, hml, hr, hlk, hnm, htb, hown, hW, hG, htr⟩ := C1
  have hK : va_K (gD G) cl_ (gy G) s := va_K.moved hW.alike hG.2.1
  exact lv_tableOut hx hb hd (by rw [oi_toInt (okh hst)]; exact hx0) ht (k p e R s m args below meth c H locs cells slots lsC ⟨C0, hF, hL, hC, hS, hrp, hl, okt hst, hls⟩)
theorem ev_tsI {dflt lo hi off : Int} {offs : Array Int} {len tgt : Nat} (hd : decode M.2.1 pc = .ok (.tableswitch dflt lo hi offs, len)) {x : Int} (h1 : lo ≤ x) (h2 : x ≤ hi) (ho : offs[(x - lo).toNat]? = some off) (ht : (pc : Int) + off = (tgt : Int)) (k : ev G M F L C S tgt ls st h Φ Θ) : ev G M F L C S pc ls (vI x :: st) h Φ Θ := by
  intro p e R s m args below meth c H locs cells slots lsC B
  obtain ⟨C0, hF, hL, hC, hS, hrp, hl, hst, hls⟩ := B
  have C1 := C0
  obtain ⟨hx, hb, hml, hr, hlk, hnm, htb, hown, hW, hG, htr⟩ := C1
  have hK : va_K (gD G) cl_ (gy G) s := va_K.moved hW.alike hG.2.1
  have e1 := oi_toInt (okh hst)
  exact lv_tableIn hx hb hd (by rw [e1]; omega) (by rw [e1]; omega) (by rw [e1]; exact ho) ht (k p e R s m args below meth c H locs cells slots lsC ⟨C0, hF, hL, hC, hS, hrp, hl, okt hst, hls⟩)
/-- no cell of ours is the empty array of ArrayList -/
theorem ev_neE {a : Nat} {o : ab_O} (ha : h a = some o) (k : a ≠ ge G → ev G M F L C S pc ls st h Φ Θ) : ev G M F L C S pc ls st h Φ Θ := by
  intro p e R s m args below meth c H locs cells slots lsC B
  obtain ⟨C0, hF, hL, hC, hS, hrp, hl, hst, hls⟩ := B
  have C1 := C0
  obtain ⟨hx, hb, hml, hr, hlk, hnm, htb, hown, hW, hG, htr⟩ := C1
  have hK : va_K (gD G) cl_ (gy G) s := va_K.moved hW.alike hG.2.1
  have hrp' := hrp
  obtain ⟨ws, hP, hD, hcov, hSS⟩ := hrp'
  obtain ⟨-, q0, hq0⟩ := hcov a _ ha
  refine k ?_ p e R s m args below meth c H locs cells slots lsC ⟨C0, hF, hL, hC, hS, hrp, hl, hst, hls⟩
  have h3 := hD.2 _ _ hq0
  obtain ⟨cell, -, -, -, -, -, -, h4⟩ := hG.2.2.2.1
  intro z
  rw [← z] at h4
  exact h4 h3
end EvMore
