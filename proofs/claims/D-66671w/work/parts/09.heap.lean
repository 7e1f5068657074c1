/-! ROWS of instructions over the heap (printed by gen/heap.py) -/
theorem cl_ok : ∀ (ci : Nat) (C : String) (T : u_T) (N : Nat), cl_[ci]? = some (C, T, N) → (∀ w ∈ u_ws C T N, w ∈ lw_tbl) ∧ (∀ k, k < N → parseFieldDescriptor (T k).2.2.1 = some (ft ci k)) ∧ (∀ a, a < N → ∀ b, b < N → a ≠ b → (T a).2.1 ≠ (T b).2.1) := by
  intro ci C T N h
  match ci, h with
  | 0, h => cases h; exact ⟨by decide +kernel, by decide +kernel, by decide +kernel⟩
  | 1, h => cases h; exact ⟨by decide +kernel, by decide +kernel, by decide +kernel⟩
  | 2, h => cases h; exact ⟨by decide +kernel, by decide +kernel, by decide +kernel⟩
  | 3, h => cases h; exact ⟨by decide +kernel, by decide +kernel, by decide +kernel⟩
  | 4, h => cases h; exact ⟨by decide +kernel, by decide +kernel, by decide +kernel⟩
  | 5, h => cases h; exact ⟨by decide +kernel, by decide +kernel, by decide +kernel⟩
  | 6, h => cases h; exact ⟨by decide +kernel, by decide +kernel, by decide +kernel⟩
  | 7, h => cases h; exact ⟨by decide +kernel, by decide +kernel, by decide +kernel⟩
  | 8, h => cases h; exact ⟨by decide +kernel, by decide +kernel, by decide +kernel⟩
  | 9, h => cases h; exact ⟨by decide +kernel, by decide +kernel, by decide +kernel⟩
  | 10, h => cases h; exact ⟨by decide +kernel, by decide +kernel, by decide +kernel⟩
  | 11, h => cases h; exact ⟨by decide +kernel, by decide +kernel, by decide +kernel⟩
  | n + 12, h => simp [cl_] at h
theorem sf_w : tw 119 (.sameField "java/util/ArrayList" "java/util/AbstractList" "modCount" "I") = true := by decide +kernel
/-- the fields' first values -/
def df : Nat → List ab_V := fun ci => match ci with
  | 0 => [vN, vN, vN, vN, vI 0, vI 0, vI 0, vN, vN, vI 0]
  | 1 => [vN, vI 0, vI 0]
  | 2 => [vI 0, vN]
  | 3 => [vL 0, vI 0, vI 0, vN, vN, vN, vI 0]
  | 4 => [vN, vN, vI 0, vN]
  | 5 => [vN, vN, vN, vN]
  | 6 => [vI 0, vN, vI 0]
  | 7 => [vI 0, vN, vI 0, vI 0, vI 0, vI 0, vN, vN, vN, vN, vN, vI 0, vN, vN, vN, vN, vI 0, vN, vN, vN, vN, vI 0, vN, vN, vN, vI 0, vN]
  | _ => []
theorem df_ok : ∀ ci, ci < 8 → ∀ C T N, cl_[ci]? = some (C, T, N) → (∀ j, j < N → defaultValue (ft ci j) = vp_V ((df ci).map cv) j) ∧ (∃ j1 j2, tw j1 (.instantiable C N) = true ∧ tw j2 (.initialized C) = true) := by
  intro ci hci C T N h
  match ci, hci, h with
  | 0, _, h => cases h; exact ⟨by decide +kernel, 72, 48, by decide +kernel, by decide +kernel⟩
  | 1, _, h => cases h; exact ⟨by decide +kernel, 80, 49, by decide +kernel, by decide +kernel⟩
  | 2, _, h => cases h; exact ⟨by decide +kernel, 127, 53, by decide +kernel, by decide +kernel⟩
  | 3, _, h => cases h; exact ⟨by decide +kernel, 459, 61, by decide +kernel, by decide +kernel⟩
  | 4, _, h => cases h; exact ⟨by decide +kernel, 606, 69, by decide +kernel, by decide +kernel⟩
  | 5, _, h => cases h; exact ⟨by decide +kernel, 231, 70, by decide +kernel, by decide +kernel⟩
  | 6, _, h => cases h; exact ⟨by decide +kernel, 102, 52, by decide +kernel, by decide +kernel⟩
  | 7, _, h => cases h; exact ⟨by decide +kernel, 714, 54, by decide +kernel, by decide +kernel⟩
  | n + 8, h, _ => omega
theorem df_len : ∀ ci, ∀ v ∈ df ci, okV v := by
  intro ci v hv
  unfold df at hv
  split at hv <;> simp only [List.mem_cons, List.not_mem_nil, or_false] at hv
  all_goals (rcases hv with rfl | hv <;> first | exact trivial | exact ⟨by decide, by decide⟩ | skip)
  all_goals (repeat' (rcases hv with rfl | hv))
  all_goals first | exact trivial | exact ⟨by decide, by decide⟩ | (subst hv; first | exact trivial | exact ⟨by decide, by decide⟩)
theorem hts_u {G : gt_T} {s : State} (hG : GF G) (hW : (gs G).WarmedH s.vm) {ci : Nat} {C : String} {T : u_T} {N : Nat} (hc : cl_[ci]? = some (C, T, N)) (args : Array Value) : ∀ w ∈ u_ws C T N, w.before args s = true := by
  intro w hw
  refine word_at hW (Or.inl ?_) (hG.1 w ((cl_ok ci C T N hc).1 w hw))
  obtain ⟨k, -, rfl⟩ := List.mem_map.mp hw
  unfold u_lay
  split <;> rfl
def fk (ty : FieldType) (v : ab_V) : Bool := match ty, v with
  | .int, .inl _ => true
  | .long, .inr (.inl _) => true
  | .object _, .inr (.inr _) => true
  | .array _, .inr (.inr _) => true
  | _, _ => false
theorem fk_ok {ty : FieldType} {v : ab_V} (h : fk ty v = true) : narrow ty (cv v) = cv v ∧ fits ty (cv v) = true := by
  rcases v with z | z | r
  · cases ty <;> first | exact absurd h Bool.false_ne_true | exact ⟨rfl, rfl⟩
  · cases ty <;> first | exact absurd h Bool.false_ne_true | exact ⟨rfl, rfl⟩
  · cases r <;> cases ty <;> first | exact absurd h Bool.false_ne_true | exact ⟨rfl, rfl⟩
theorem cov_set {G : gt_T} {h : ab_H} {ws : va_W} {A : Nat → Prop} {q0 a : Nat} {e0 : va_E} {o : ab_O} (hcov : ∀ (a : Nat) (o : ab_O), h a = some o → okB o ∧ ∃ k : Nat, ws[k]? = some (a, oE G o)) (hq : ws[q0]? = some (a, e0)) (ho : okB o) :
    ∀ (a' : Nat) (o' : ab_O), hu h a o a' = some o' → okB o' ∧ ∃ k : Nat, (ws.set q0 (a, oE G o))[k]? = some (a', oE G o') := by
  intro a' o' h1
  have hlt : q0 < ws.length := (List.getElem?_eq_some_iff.mp hq).1
  by_cases e : a' = a
  · subst e
    rw [hu_self] at h1
    cases h1
    exact ⟨ho, q0, by rw [List.getElem?_set_self hlt]⟩
  · rw [hu_ne h o e] at h1
    obtain ⟨h2, k, hk⟩ := hcov a' o' h1
    refine ⟨h2, k, ?_⟩
    have : q0 ≠ k := by
      intro z
      subst z
      rw [hq] at hk
      cases hk
      exact e rfl
    rw [List.getElem?_set_ne this]
    exact hk
theorem cov_push {G : gt_T} {h : ab_H} {ws : va_W} {q : Nat} {o : ab_O} (hcov : ∀ (a : Nat) (o : ab_O), h a = some o → okB o ∧ ∃ k : Nat, ws[k]? = some (a, oE G o)) (ho : okB o) :
    ∀ (a' : Nat) (o' : ab_O), hu h q o a' = some o' → okB o' ∧ ∃ k : Nat, (ws ++ [(q, oE G o)])[k]? = some (a', oE G o') := by
  intro a' o' h1
  by_cases e : a' = q
  · subst e
    rw [hu_self] at h1
    cases h1
    exact ⟨ho, ws.length, by simp⟩
  · rw [hu_ne h o e] at h1
    obtain ⟨h2, k, hk⟩ := hcov a' o' h1
    refine ⟨h2, k, ?_⟩
    rw [List.getElem?_append_left (List.getElem?_eq_some_iff.mp hk).1]
    exact hk
theorem cov_new {G : gt_T} {h : ab_H} {ws : va_W} {q : Nat} {e0 : va_E} (hcov : ∀ (a : Nat) (o : ab_O), h a = some o → okB o ∧ ∃ k : Nat, ws[k]? = some (a, oE G o)) (hD : va_D (gA G) (ws ++ [(q, e0)])) : h q = none := by
  cases hq : h q with
  | none => rfl
  | some o =>
    obtain ⟨-, k, hk⟩ := hcov q o hq
    have hlt := (List.getElem?_eq_some_iff.mp hk).1
    have h1 : (ws ++ [(q, e0)])[k]? = some (q, oE G o) := by rw [List.getElem?_append_left hlt]; exact hk
    have h2 : (ws ++ [(q, e0)])[ws.length]? = some (q, e0) := by simp
    have := hD.1 k ws.length _ _ h1 h2 rfl
    omega
theorem cov_lo {G : gt_T} {ws : va_W} {q : Nat} {e0 : va_E} (hG : GF G) (hD : va_D (gA G) (ws ++ [(q, e0)])) : q ≠ ge G := by
  have h2 : (ws ++ [(q, e0)])[ws.length]? = some (q, e0) := by simp
  have h3 := hD.2 _ _ h2
  obtain ⟨cell, -, -, -, -, -, -, h4⟩ := hG.2.2.2.1
  intro z
  rw [← z] at h4
  exact h4 h3
theorem okB_set {tag ci b : Nat} {fs : List ab_V} {v : ab_V} (h : okB (oJ tag ci fs)) (hv : okV v) : okB (oJ tag ci (fs.set b v)) := by
  intro w hw
  rcases List.mem_or_eq_of_mem_set hw with h1 | h1
  · exact h w h1
  · rw [h1]; exact hv
theorem oE_set (G : gt_T) (tag ci b : Nat) (fs : List ab_V) (v : ab_V) : oE G (oJ tag ci (fs.set b v)) = .inr (ci, (fs.map cv).set b (cv v)) := by
  show (Sum.inr (ci, (fs.set b v).map cv) : va_E) = _
  rw [List.map_set]
section EvHeap
variable {G : gt_T} {M : mt_T} {F L C S : Nat} {pc a0 b0 j0 : Nat} {z0 : Int} {ls : List (Option ab_V)} {st : List ab_V} {h : ab_H} {Φ : Option ab_V → ab_H → Prop} {Θ : Nat → ab_H → Prop}
theorem rx_fl {own : String} {k : Nat} (hk : ri_fl own k a0 b0 j0 = true) : ∃ C1 T1 N1, cl_[a0]? = some (C1, T1, N1) ∧ b0 < N1 ∧ (tw j0 (.fieldLink own k (T1 b0).1 (T1 b0).2.1 (T1 b0).2.2.1) = true ∨ tw j0 (.fieldLinkNest own k (T1 b0).1 (T1 b0).2.1 (T1 b0).2.2.1 "GoodsTree") = true ∨ (tw j0 (.fieldLink own k "java/util/ArrayList" (T1 b0).2.1 (T1 b0).2.2.1) = true ∧ (T1 b0).1 = "java/util/AbstractList" ∧ (T1 b0).2.1 = "modCount" ∧ (T1 b0).2.2.1 = "I")) := by
  unfold ri_fl at hk
  cases hc : cl_[a0]? with
  | none => rw [hc] at hk; cases hk
  | some q =>
    obtain ⟨C1, T1, N1⟩ := q
    rw [hc] at hk
    simp only [Bool.and_eq_true, Bool.or_eq_true, decide_eq_true_eq] at hk
    refine ⟨C1, T1, N1, rfl, hk.1, ?_⟩
    rcases hk.2 with (h1 | h1) | h1
    · exact Or.inl h1
    · exact Or.inr (Or.inl h1)
    · exact Or.inr (Or.inr ⟨h1.1.1.1, h1.1.1.2, h1.1.2, h1.2⟩)
theorem rx_49 (d : ri_at M (pc, 3, 49, a0, b0, j0, z0)) : ∃ k, decode M.2.1 pc = .ok (.getfield k, 3) ∧ ri_fl M.1.cls k a0 b0 j0 = true := by
  obtain ⟨i, h1, h2⟩ := ri_ex d
  cases i <;> first | exact ⟨_, h1, h2⟩ | exact absurd h2 Bool.false_ne_true
theorem rx_50 (d : ri_at M (pc, 3, 50, a0, b0, j0, z0)) : ∃ k, decode M.2.1 pc = .ok (.putfield k, 3) ∧ ri_fl M.1.cls k a0 b0 j0 = true ∧ ri_fin a0 b0 = false := by
  obtain ⟨i, h1, h2⟩ := ri_ex d
  cases i <;> first | exact absurd h2 Bool.false_ne_true | skip
  rename_i k
  have h3 : (ri_fl M.1.cls k a0 b0 j0 && !ri_fin a0 b0) = true := h2
  simp only [Bool.and_eq_true, Bool.not_eq_true'] at h3
  exact ⟨k, h1, h3.1, h3.2⟩
theorem rx_51 (d : ri_at M (pc, 3, 51, a0, b0, j0, z0)) : ∃ k C1 T1 N1, decode M.2.1 pc = .ok (.putfield k, 3) ∧ cl_[a0]? = some (C1, T1, N1) ∧ b0 < N1 ∧ tw j0 (.fieldLink M.1.cls k (T1 b0).1 (T1 b0).2.1 (T1 b0).2.2.1) = true ∧ (T1 b0).1 = M.1.cls ∧ (T1 b0).2.2.2 = true ∧ M.1.name = "<init>" := by
  obtain ⟨i, h1, h2⟩ := ri_ex d
  cases i <;> first | exact absurd h2 Bool.false_ne_true | skip
  rename_i k
  have h3 : (ri_fp M.1.cls k a0 b0 j0 && ri_fin a0 b0 && decide (M.1.name = "<init>")) = true := h2
  simp only [Bool.and_eq_true, decide_eq_true_eq] at h3
  obtain ⟨⟨h4, h5⟩, h6⟩ := h3
  unfold ri_fp at h4
  unfold ri_fin at h5
  cases hc : cl_[a0]? with
  | none => rw [hc] at h4; cases h4
  | some q =>
    obtain ⟨C1, T1, N1⟩ := q
    rw [hc] at h4 h5
    simp only [Bool.and_eq_true, decide_eq_true_eq] at h4 h5
    exact ⟨k, C1, T1, N1, h1, rfl, h4.1.1, h4.1.2, h4.2, h5, h6⟩
theorem ev_get (d : ri_at M (pc, 3, 49, a0, b0, j0, z0)) {a tag : Nat} {fs : List ab_V} {v : ab_V} (ha : h a = some (oJ tag a0 fs)) (hv : fs[b0]? = some v) (k : ev G M F L C S (pc + 3) ls (v :: st) h Φ Θ) : ev G M F L C S pc ls (vA a :: st) h Φ Θ := by
  intro p e R s m args below meth c H locs cells slots lsC B
  obtain ⟨C0, hF, hL, hC, hS, hrp, hl, hst, hls⟩ := B
  have C1 := C0
  obtain ⟨hx, hb, hml, hr, hlk, hnm, htb, hown, hW, hG, htr⟩ := C1
  have hK : va_K (gD G) cl_ (gy G) s := va_K.moved hW.alike hG.2.1
  obtain ⟨kx, h1, hk⟩ := rx_49 d
  obtain ⟨C2, T2, N2, h2, h3, h4⟩ := rx_fl hk
  have hrp' := hrp
  obtain ⟨ws, hP, hD, hcov, hSS⟩ := hrp'
  obtain ⟨hok, q0, hq0⟩ := hcov a _ ha
  have kk := k p e R s m args below meth c H locs cells slots lsC ⟨C0, hF, hL, hC, hS, hrp, hl, okc (hok v (List.mem_of_getElem? hv)) (okt hst), hls⟩
  have hv' : (fs.map cv)[b0]? = some (cv v) := by rw [List.getElem?_map, hv]; rfl
  have hts := hts_u hG hW h2 args
  rcases h4 with h4 | h4 | ⟨h4, h5, h6, h7⟩
  · exact va_get hx hb hts (fun _ h9 => h9) hown hK hP q0 hq0 h2 b0 h3 (wd hG hW h4 (Or.inl rfl) args) (fun _ h9 => h9) hv' h1 kk
  · exact va_getN hx hb hts (fun _ h9 => h9) hown hK hP q0 hq0 h2 b0 h3 (va_Nw.use rfl (va_Nw.warmF hW (va_Nw.of rfl (hG.1 _ (List.mem_of_getElem? (of_decide_eq_true h4)))))) (fun _ h9 => h9) hv' h1 kk
  · exact va_get hx hb hts (fun _ h9 => h9) hown hK hP q0 hq0 h2 b0 h3 (wd hG hW h4 (Or.inl rfl) args) (fun x h9 => by rw [h5, h6, h7] at h9; rw [h6, h7]; exact u_same (wd hG hW sf_w (Or.inl rfl) args) x h9) hv' h1 kk
theorem ev_put (d : ri_at M (pc, 3, 50, a0, b0, j0, z0)) {a tag : Nat} {fs : List ab_V} {v : ab_V} (ha : h a = some (oJ tag a0 fs)) (hlen : b0 < fs.length) (hk0 : fk (ft a0 b0) v = true) (k : ev G M F L C S (pc + 3) ls st (hu h a (oJ tag a0 (fs.set b0 v))) Φ Θ) : ev G M F L C S pc ls (v :: vA a :: st) h Φ Θ := by
  intro p e R s m args below meth c H locs cells slots lsC B
  obtain ⟨C0, hF, hL, hC, hS, hrp, hl, hst, hls⟩ := B
  have C1 := C0
  obtain ⟨hx, hb, hml, hr, hlk, hnm, htb, hown, hW, hG, htr⟩ := C1
  have hK : va_K (gD G) cl_ (gy G) s := va_K.moved hW.alike hG.2.1
  obtain ⟨kx, h1, hk, hfin⟩ := rx_50 d
  obtain ⟨C2, T2, N2, h2, h3, h4⟩ := rx_fl hk
  have hfin' : (T2 b0).2.2.2 = false := by unfold ri_fin at hfin; rw [h2] at hfin; exact hfin
  obtain ⟨ws, hP, hD, hcov, hSS⟩ := hrp
  obtain ⟨hok, q0, hq0⟩ := hcov a _ ha
  have hts := hts_u hG hW h2 args
  obtain ⟨-, hty, hnms⟩ := cl_ok a0 _ _ _ h2
  obtain ⟨f1, f2⟩ := fk_ok hk0
  have hl2 : b0 < (fs.map cv).length := by rw [List.length_map]; exact hlen
  have kk : ∀ (H1 : Heap) (locs1 : List Loc), va_P (gD G) cl_ (ws.set q0 (a, .inr (a0, (fs.map cv).set b0 (cv v)))) H1 → va_D (gA G) (ws.set q0 (a, .inr (a0, (fs.map cv).set b0 (cv v)))) → va_S (gA G) (gs G).heap H1 locs1 → W p (gl G) e R s m args below meth c H1 locs1 cells slots (eq_ G below s R.cells R.slots Φ Θ) (F0 m (pc + 3) lsC (st.map cv)) := by
    intro H1 locs1 p1 p2 p3
    rw [← oE_set G tag a0 b0 fs v] at p1 p2
    exact k p e R s m args below meth c H1 locs1 cells slots lsC ⟨C0, hF, hL, hC, hS, ⟨_, p1, p2, cov_set (A := gA G) hcov hq0 (okB_set hok (okh hst)), p3⟩, hl, okt (okt hst), hls⟩
  rcases h4 with h4 | h4 | ⟨h4, h5, h6, h7⟩
  · exact va_put hx hb hts (fun _ h9 => h9) (ft a0) hty hnms hown hK hP hD hSS q0 hq0 h2 b0 h3 (wd hG hW h4 (Or.inl rfl) args) (fun _ h9 => h9) hfin' (hty b0 h3) f1 f2 hl2 h1 kk
  · exact va_putN hx hb hts (fun _ h9 => h9) (ft a0) hty hnms hown hK hP hD hSS q0 hq0 h2 b0 h3 (va_Nw.use rfl (va_Nw.warmF hW (va_Nw.of rfl (hG.1 _ (List.mem_of_getElem? (of_decide_eq_true h4)))))) (fun _ h9 => h9) hfin' (hty b0 h3) f1 f2 hl2 h1 kk
  · exact va_put hx hb hts (fun _ h9 => h9) (ft a0) hty hnms hown hK hP hD hSS q0 hq0 h2 b0 h3 (wd hG hW h4 (Or.inl rfl) args) (fun x h9 => by rw [h5, h6, h7] at h9; rw [h6, h7]; exact u_same (wd hG hW sf_w (Or.inl rfl) args) x h9) hfin' (hty b0 h3) f1 f2 hl2 h1 kk
theorem ev_putF (d : ri_at M (pc, 3, 51, a0, b0, j0, z0)) {a tag : Nat} {fs : List ab_V} {v : ab_V} (ha : h a = some (oJ tag a0 fs)) (hlen : b0 < fs.length) (hk0 : fk (ft a0 b0) v = true) (k : ev G M F L C S (pc + 3) ls st (hu h a (oJ tag a0 (fs.set b0 v))) Φ Θ) : ev G M F L C S pc ls (v :: vA a :: st) h Φ Θ := by
  intro p e R s m args below meth c H locs cells slots lsC B
  obtain ⟨C0, hF, hL, hC, hS, hrp, hl, hst, hls⟩ := B
  have C1 := C0
  obtain ⟨hx, hb, hml, hr, hlk, hnm, htb, hown, hW, hG, htr⟩ := C1
  have hK : va_K (gD G) cl_ (gy G) s := va_K.moved hW.alike hG.2.1
  obtain ⟨kx, C2, T2, N2, h1, h2, h3, h4, h5, h6, h7⟩ := rx_51 d
  obtain ⟨ws, hP, hD, hcov, hSS⟩ := hrp
  obtain ⟨hok, q0, hq0⟩ := hcov a _ ha
  have hts := hts_u hG hW h2 args
  obtain ⟨-, hty, hnms⟩ := cl_ok a0 _ _ _ h2
  obtain ⟨f1, f2⟩ := fk_ok hk0
  have hl2 : b0 < (fs.map cv).length := by rw [List.length_map]; exact hlen
  refine va_putF hx hb hts (fun _ h9 => h9) (ft a0) hty hnms hown hK hP hD hSS q0 hq0 h2 b0 h3 (wd hG hW h4 (Or.inl rfl) args) (fun _ h9 => h9) h6 (by rw [hnm]; exact h7) h5 (hty b0 h3) f1 f2 hl2 h1 ?_
  intro H1 locs1 p1 p2 p3
  rw [← oE_set G tag a0 b0 fs v] at p1 p2
  exact k p e R s m args below meth c H1 locs1 cells slots lsC ⟨C0, hF, hL, hC, hS, ⟨_, p1, p2, cov_set (A := gA G) hcov hq0 (okB_set hok (okh hst)), p3⟩, hl, okt (okt hst), hls⟩
theorem ixin {i : Int} {n : Nat} (hi : inI i) (h0 : 0 ≤ i) (h1 : i < n) : vp_in (Int32.ofInt i) n := by
  intro q
  rcases q with q | q
  · have := (oi_lt hi (show inI 0 from ⟨by decide, by decide⟩)).mp q
    omega
  · rw [oi_clamp hi] at q
    omega
theorem gD_mem {xs : List Int} {i : Nat} (hi : i < xs.length) : xs.getD i 0 ∈ xs := by
  rw [List.getD_eq_getElem?_getD, List.getElem?_eq_getElem hi]
  exact List.getElem_mem hi
theorem ev_iald (d : ri_at M (pc, 1, 56, a0, b0, j0, z0)) {a tag : Nat} {xs : List Int} {i : Int} (ha : h a = some (oN tag 0 xs)) (h0 : 0 ≤ i) (hi : i < xs.length) (k : ev G M F L C S (pc + 1) ls (vI (xs.getD i.toNat 0) :: st) h Φ Θ) : ev G M F L C S pc ls (vI i :: vA a :: st) h Φ Θ := by
  intro p e R s m args below meth c H locs cells slots lsC B
  obtain ⟨C0, hF, hL, hC, hS, hrp, hl, hst, hls⟩ := B
  have C1 := C0
  obtain ⟨hx, hb, hml, hr, hlk, hnm, htb, hown, hW, hG, htr⟩ := C1
  have hK : va_K (gD G) cl_ (gy G) s := va_K.moved hW.alike hG.2.1
  have hrp' := hrp
  obtain ⟨ws, hP, hD, hcov, hSS⟩ := hrp'
  obtain ⟨hok, q0, hq0⟩ := hcov a _ ha
  have hii := okh hst
  have hlt : i.toNat < xs.length := by omega
  have kk := k p e R s m args below meth c H locs cells slots lsC ⟨C0, hF, hL, hC, hS, hrp, hl, okc ((hok _ (gD_mem hlt)).1 rfl) (okt (okt hst)), hls⟩
  rw [← oi_clamp hii] at kk
  exact va_iald hx hb hK hP q0 0 hq0 rfl (ixin hii h0 hi) (rx_56 d) kk
theorem ev_lald (d : ri_at M (pc, 1, 57, a0, b0, j0, z0)) {a tag : Nat} {xs : List Int} {i : Int} (ha : h a = some (oN tag 1 xs)) (h0 : 0 ≤ i) (hi : i < xs.length) (k : ev G M F L C S (pc + 1) ls (vL (xs.getD i.toNat 0) :: st) h Φ Θ) : ev G M F L C S pc ls (vI i :: vA a :: st) h Φ Θ := by
  intro p e R s m args below meth c H locs cells slots lsC B
  obtain ⟨C0, hF, hL, hC, hS, hrp, hl, hst, hls⟩ := B
  have C1 := C0
  obtain ⟨hx, hb, hml, hr, hlk, hnm, htb, hown, hW, hG, htr⟩ := C1
  have hK : va_K (gD G) cl_ (gy G) s := va_K.moved hW.alike hG.2.1
  have hrp' := hrp
  obtain ⟨ws, hP, hD, hcov, hSS⟩ := hrp'
  obtain ⟨hok, q0, hq0⟩ := hcov a _ ha
  have hii := okh hst
  have hlt : i.toNat < xs.length := by omega
  have kk := k p e R s m args below meth c H locs cells slots lsC ⟨C0, hF, hL, hC, hS, hrp, hl, okc ((hok _ (gD_mem hlt)).2.1 rfl) (okt (okt hst)), hls⟩
  rw [← oi_clamp hii] at kk
  exact va_lald hx hb hK hP q0 1 hq0 rfl (ixin hii h0 hi) (rx_57 d) kk
theorem ev_cald (d : ri_at M (pc, 1, 58, a0, b0, j0, z0)) {a tag : Nat} {xs : List Int} {i : Int} (ha : h a = some (oN tag 2 xs)) (h0 : 0 ≤ i) (hi : i < xs.length) (k : ev G M F L C S (pc + 1) ls (vI (xs.getD i.toNat 0) :: st) h Φ Θ) : ev G M F L C S pc ls (vI i :: vA a :: st) h Φ Θ := by
  intro p e R s m args below meth c H locs cells slots lsC B
  obtain ⟨C0, hF, hL, hC, hS, hrp, hl, hst, hls⟩ := B
  have C1 := C0
  obtain ⟨hx, hb, hml, hr, hlk, hnm, htb, hown, hW, hG, htr⟩ := C1
  have hK : va_K (gD G) cl_ (gy G) s := va_K.moved hW.alike hG.2.1
  have hrp' := hrp
  obtain ⟨ws, hP, hD, hcov, hSS⟩ := hrp'
  obtain ⟨hok, q0, hq0⟩ := hcov a _ ha
  have hii := okh hst
  have hlt : i.toNat < xs.length := by omega
  have kk := k p e R s m args below meth c H locs cells slots lsC ⟨C0, hF, hL, hC, hS, hrp, hl, okc (show inI _ from ⟨by have := ((hok _ (gD_mem hlt)).2.2 rfl).1; omega, by have := ((hok _ (gD_mem hlt)).2.2 rfl).2; omega⟩) (okt (okt hst)), hls⟩
  rw [← oi_clamp hii] at kk
  exact va_cald hx hb hK hP q0 2 hq0 rfl (ixin hii h0 hi) (rx_58 d) kk
theorem ev_alen (d : ri_at M (pc, 1, 55, a0, b0, j0, z0)) {a tag k0 : Nat} {xs : List Int} (hk0 : k0 < 3) (hb0 : xs.length < 2147483648) (ha : h a = some (oN tag k0 xs)) (k : ev G M F L C S (pc + 1) ls (vI (xs.length : Int) :: st) h Φ Θ) : ev G M F L C S pc ls (vA a :: st) h Φ Θ := by
  intro p e R s m args below meth c H locs cells slots lsC B
  obtain ⟨C0, hF, hL, hC, hS, hrp, hl, hst, hls⟩ := B
  have C1 := C0
  obtain ⟨hx, hb, hml, hr, hlk, hnm, htb, hown, hW, hG, htr⟩ := C1
  have hK : va_K (gD G) cl_ (gy G) s := va_K.moved hW.alike hG.2.1
  have hrp' := hrp
  obtain ⟨ws, hP, hD, hcov, hSS⟩ := hrp'
  obtain ⟨hok, q0, hq0⟩ := hcov a _ ha
  have kk := k p e R s m args below meth c H locs cells slots lsC ⟨C0, hF, hL, hC, hS, hrp, hl, okc (show inI _ from ⟨by omega, by omega⟩) (okt hst), hls⟩
  rcases (show k0 = 0 ∨ k0 = 1 ∨ k0 = 2 by omega) with rfl | rfl | rfl
  · exact va_alen hx hb hK hP q0 0 hq0 (ty := .int) rfl rfl (rx_55 d) kk
  · exact va_alen hx hb hK hP q0 1 hq0 (ty := .long) rfl rfl (rx_55 d) kk
  · exact va_alen hx hb hK hP q0 2 hq0 (ty := .char) rfl rfl (rx_55 d) kk
theorem ev_alenR (d : ri_at M (pc, 1, 55, a0, b0, j0, z0)) {a tag k0 : Nat} {rs : List (Option Nat)} (hk0 : k0 < 2) (hb0 : rs.length < 2147483648) (ha : h a = some (oR tag k0 rs)) (k : ev G M F L C S (pc + 1) ls (vI (rs.length : Int) :: st) h Φ Θ) : ev G M F L C S pc ls (vA a :: st) h Φ Θ := by
  intro p e R s m args below meth c H locs cells slots lsC B
  obtain ⟨C0, hF, hL, hC, hS, hrp, hl, hst, hls⟩ := B
  have C1 := C0
  obtain ⟨hx, hb, hml, hr, hlk, hnm, htb, hown, hW, hG, htr⟩ := C1
  have hK : va_K (gD G) cl_ (gy G) s := va_K.moved hW.alike hG.2.1
  have hrp' := hrp
  obtain ⟨ws, hP, hD, hcov, hSS⟩ := hrp'
  obtain ⟨hok, q0, hq0⟩ := hcov a _ ha
  have kk := k p e R s m args below meth c H locs cells slots lsC ⟨C0, hF, hL, hC, hS, hrp, hl, okc (show inI _ from ⟨by omega, by omega⟩) (okt hst), hls⟩
  rcases (show k0 = 0 ∨ k0 = 1 by omega) with rfl | rfl
  · exact va_alen hx hb hK hP q0 3 hq0 (ty := .object "java/lang/Object") rfl rfl (rx_55 d) kk
  · exact va_alen hx hb hK hP q0 4 hq0 (ty := .object "GoodsTree$Edition") rfl rfl (rx_55 d) kk
theorem ev_aald (d : ri_at M (pc, 1, 59, a0, b0, j0, z0)) {a tag k0 : Nat} {rs : List (Option Nat)} {i : Int} (hk0 : k0 < 2) (ha : h a = some (oR tag k0 rs)) (h0 : 0 ≤ i) (hi : i < rs.length) (k : ev G M F L C S (pc + 1) ls (vR (rs.getD i.toNat none) :: st) h Φ Θ) : ev G M F L C S pc ls (vI i :: vA a :: st) h Φ Θ := by
  intro p e R s m args below meth c H locs cells slots lsC B
  obtain ⟨C0, hF, hL, hC, hS, hrp, hl, hst, hls⟩ := B
  have C1 := C0
  obtain ⟨hx, hb, hml, hr, hlk, hnm, htb, hown, hW, hG, htr⟩ := C1
  have hK : va_K (gD G) cl_ (gy G) s := va_K.moved hW.alike hG.2.1
  have hrp' := hrp
  obtain ⟨ws, hP, hD, hcov, hSS⟩ := hrp'
  obtain ⟨hok, q0, hq0⟩ := hcov a _ ha
  have hii := okh hst
  have kk := k p e R s m args below meth c H locs cells slots lsC ⟨C0, hF, hL, hC, hS, hrp, hl, okc trivial (okt (okt hst)), hls⟩
  rw [← oi_clamp hii] at kk
  rcases (show k0 = 0 ∨ k0 = 1 by omega) with rfl | rfl
  · exact va_aldq hx hb hK hP q0 3 hq0 (C := "java/lang/Object") rfl (ixin hii h0 hi) (rx_59 d) kk
  · exact va_aldq hx hb hK hP q0 4 hq0 (C := "GoodsTree$Edition") rfl (ixin hii h0 hi) (rx_59 d) kk
theorem getD_set {α : Type} (xs : List α) (k : Nat) (z d : α) (hk : k < xs.length) (j : Nat) : (xs.set k z).getD j d = if j = k then z else xs.getD j d := by
  simp only [List.getD_eq_getElem?_getD]
  by_cases e : j = k
  · subst e
    rw [if_pos rfl, List.getElem?_set_self hk]
    rfl
  · rw [if_neg e, List.getElem?_set_ne (fun q => e q.symm)]
theorem ev_iast (d : ri_at M (pc, 1, 60, a0, b0, j0, z0)) {a tag : Nat} {xs : List Int} {i x : Int} (ha : h a = some (oN tag 0 xs)) (h0 : 0 ≤ i) (hi : i < xs.length) (k : ev G M F L C S (pc + 1) ls st (hu h a (oN tag 0 (xs.set i.toNat x))) Φ Θ) : ev G M F L C S pc ls (vI x :: vI i :: vA a :: st) h Φ Θ := by
  intro p e R s m args below meth c H locs cells slots lsC B
  obtain ⟨C0, hF, hL, hC, hS, hrp, hl, hst, hls⟩ := B
  have C1 := C0
  obtain ⟨hx, hb, hml, hr, hlk, hnm, htb, hown, hW, hG, htr⟩ := C1
  have hK : va_K (gD G) cl_ (gy G) s := va_K.moved hW.alike hG.2.1
  obtain ⟨ws, hP, hD, hcov, hSS⟩ := hrp
  obtain ⟨hok, q0, hq0⟩ := hcov a _ ha
  have hii := okh (okt hst)
  have hlt : i.toNat < xs.length := by omega
  refine va_iast hx hb hK hP hD hSS q0 0 hq0 rfl (ixin hii h0 hi) (rx_60 d) ?_
  intro H1 locs1 p1 p2 p3
  rw [oi_clamp hii] at p1 p2
  have ee : oE G (oN tag 0 (xs.set i.toNat x)) = .inl (gc G 0, xs.length, .inl (upd (fun j => Int32.ofInt (xs.getD j 0)) i.toNat (Int32.ofInt x))) := by
    show (Sum.inl (gc G 0, (xs.set i.toNat x).length, nE 0 (xs.set i.toNat x)) : va_E) = _
    rw [List.length_set]
    refine congrArg (fun f => (Sum.inl (gc G 0, xs.length, f) : va_E)) ?_
    refine congrArg (fun f => (Sum.inl f : (Nat → Int32) ⊕ (Nat → Int64) ⊕ (Nat → UInt32) ⊕ (Nat → UInt64) ⊕ (Nat → Option Nat))) ?_
    funext j
    rw [getD_set xs i.toNat x 0 hlt j]
    by_cases e : j = i.toNat
    · simp [e, upd, vp_updL]
    · simp [e, upd, vp_updL]
  rw [← ee] at p1 p2
  refine k p e R s m args below meth c H1 locs1 cells slots lsC ⟨C0, hF, hL, hC, hS, ⟨_, p1, p2, cov_set (A := gA G) hcov hq0 ?_, p3⟩, hl, okt (okt (okt hst)), hls⟩
  intro z hz
  rcases List.mem_or_eq_of_mem_set hz with h1 | h1
  · exact hok z h1
  · rw [h1]; exact ⟨fun _ => okh hst, fun q => by omega, fun q => by omega⟩
theorem ev_last (d : ri_at M (pc, 1, 61, a0, b0, j0, z0)) {a tag : Nat} {xs : List Int} {i x : Int} (ha : h a = some (oN tag 1 xs)) (h0 : 0 ≤ i) (hi : i < xs.length) (k : ev G M F L C S (pc + 1) ls st (hu h a (oN tag 1 (xs.set i.toNat x))) Φ Θ) : ev G M F L C S pc ls (vL x :: vI i :: vA a :: st) h Φ Θ := by
  intro p e R s m args below meth c H locs cells slots lsC B
  obtain ⟨C0, hF, hL, hC, hS, hrp, hl, hst, hls⟩ := B
  have C1 := C0
  obtain ⟨hx, hb, hml, hr, hlk, hnm, htb, hown, hW, hG, htr⟩ := C1
  have hK : va_K (gD G) cl_ (gy G) s := va_K.moved hW.alike hG.2.1
  obtain ⟨ws, hP, hD, hcov, hSS⟩ := hrp
  obtain ⟨hok, q0, hq0⟩ := hcov a _ ha
  have hii := okh (okt hst)
  have hlt : i.toNat < xs.length := by omega
  refine va_last hx hb hK hP hD hSS q0 1 hq0 rfl (ixin hii h0 hi) (rx_61 d) ?_
  intro H1 locs1 p1 p2 p3
  rw [oi_clamp hii] at p1 p2
  have ee : oE G (oN tag 1 (xs.set i.toNat x)) = .inl (gc G 1, xs.length, .inr (.inl (vp_updL (fun j => Int64.ofInt (xs.getD j 0)) i.toNat (Int64.ofInt x)))) := by
    show (Sum.inl (gc G 1, (xs.set i.toNat x).length, nE 1 (xs.set i.toNat x)) : va_E) = _
    rw [List.length_set]
    refine congrArg (fun f => (Sum.inl (gc G 1, xs.length, f) : va_E)) ?_
    refine congrArg (fun f => (Sum.inr (Sum.inl f) : (Nat → Int32) ⊕ (Nat → Int64) ⊕ (Nat → UInt32) ⊕ (Nat → UInt64) ⊕ (Nat → Option Nat))) ?_
    funext j
    rw [getD_set xs i.toNat x 0 hlt j]
    by_cases e : j = i.toNat
    · simp [e, upd, vp_updL]
    · simp [e, upd, vp_updL]
  rw [← ee] at p1 p2
  refine k p e R s m args below meth c H1 locs1 cells slots lsC ⟨C0, hF, hL, hC, hS, ⟨_, p1, p2, cov_set (A := gA G) hcov hq0 ?_, p3⟩, hl, okt (okt (okt hst)), hls⟩
  intro z hz
  rcases List.mem_or_eq_of_mem_set hz with h1 | h1
  · exact hok z h1
  · rw [h1]; exact ⟨fun q => by omega, fun _ => okh hst, fun q => by omega⟩
theorem ev_cast (d : ri_at M (pc, 1, 62, a0, b0, j0, z0)) {a tag : Nat} {xs : List Int} {i x : Int} (ha : h a = some (oN tag 2 xs)) (h0 : 0 ≤ i) (hi : i < xs.length) (hc0 : 0 ≤ x) (hc1 : x < 65536) (k : ev G M F L C S (pc + 1) ls st (hu h a (oN tag 2 (xs.set i.toNat x))) Φ Θ) : ev G M F L C S pc ls (vI x :: vI i :: vA a :: st) h Φ Θ := by
  intro p e R s m args below meth c H locs cells slots lsC B
  obtain ⟨C0, hF, hL, hC, hS, hrp, hl, hst, hls⟩ := B
  have C1 := C0
  obtain ⟨hx, hb, hml, hr, hlk, hnm, htb, hown, hW, hG, htr⟩ := C1
  have hK : va_K (gD G) cl_ (gy G) s := va_K.moved hW.alike hG.2.1
  obtain ⟨ws, hP, hD, hcov, hSS⟩ := hrp
  obtain ⟨hok, q0, hq0⟩ := hcov a _ ha
  have hii := okh (okt hst)
  have hlt : i.toNat < xs.length := by omega
  refine va_cast hx hb hK hP hD hSS q0 2 hq0 rfl (ixin hii h0 hi) (rx_62 d) ?_
  intro H1 locs1 p1 p2 p3
  rw [oi_clamp hii] at p1 p2
  have ee : oE G (oN tag 2 (xs.set i.toNat x)) = .inl (gc G 2, xs.length, .inl (upd (fun j => Int32.ofInt (xs.getD j 0)) i.toNat (vp_nar .char (Int32.ofInt x)))) := by
    show (Sum.inl (gc G 2, (xs.set i.toNat x).length, nE 2 (xs.set i.toNat x)) : va_E) = _
    rw [List.length_set]
    have en : vp_nar .char (Int32.ofInt x) = Int32.ofInt x := by
      obtain ⟨n, rfl⟩ := Int.eq_ofNat_of_zero_le hc0
      have e1 : Int32.ofInt (n : Int) = nI n := rfl
      rw [e1]
      have := (pk_charN (q := n) (by omega)).1
      exact Value.int.inj this
    rw [en]
    refine congrArg (fun f => (Sum.inl (gc G 2, xs.length, f) : va_E)) ?_
    refine congrArg (fun f => (Sum.inl f : (Nat → Int32) ⊕ (Nat → Int64) ⊕ (Nat → UInt32) ⊕ (Nat → UInt64) ⊕ (Nat → Option Nat))) ?_
    funext j
    rw [getD_set xs i.toNat x 0 hlt j]
    by_cases e : j = i.toNat
    · simp [e, upd, vp_updL]
    · simp [e, upd, vp_updL]
  rw [← ee] at p1 p2
  refine k p e R s m args below meth c H1 locs1 cells slots lsC ⟨C0, hF, hL, hC, hS, ⟨_, p1, p2, cov_set (A := gA G) hcov hq0 ?_, p3⟩, hl, okt (okt (okt hst)), hls⟩
  intro z hz
  rcases List.mem_or_eq_of_mem_set hz with h1 | h1
  · exact hok z h1
  · rw [h1]; exact ⟨fun q => by omega, fun q => by omega, fun _ => ⟨hc0, hc1⟩⟩
end EvHeap
