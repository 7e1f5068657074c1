/-! the methods' words for calls; call rows with few arguments (printed by gen/vq.py) -/
def vq (M : mt_T) (n : Nat) : Prop := ∃ j1 j2 j3 j4, mt_ok M j1 j2 j3 j4 = true ∧ tw j3 (.instanceMethod M.1) = true ∧ tw j4 (.selects M.1.cls M.1 M.1) = true ∧ (parseMethodDescriptor M.1.desc).map (fun q => q.parameters.length) = some n
def sq (M : mt_T) (n : Nat) : Prop := ∃ j1 j2 j3 j4, mt_ok M j1 j2 j3 j4 = true ∧ tw j3 (.static M.1) = true ∧ (parseMethodDescriptor M.1.desc).map (fun q => q.parameters.length) = some n
def iq (M : mt_T) (n : Nat) : Prop := ∃ j1 j2 j3 j4, mt_ok M j1 j2 j3 j4 = true ∧ tw j3 (.instanceMethod M.1) = true ∧ tw j1 (.code M.1 M.2.1 M.2.2.1 none) = true ∧ M.1.name = "<init>" ∧ (parseMethodDescriptor M.1.desc).map (fun q => q.parameters.length) = some n
theorem v_g_init : iq M_g_init 0 := ⟨75, 48, 74, 0, q_g_init, by decide +kernel, by decide +kernel, rfl, by decide +kernel⟩
theorem v_r_init : iq M_r_init 0 := ⟨83, 49, 82, 0, q_r_init, by decide +kernel, by decide +kernel, rfl, by decide +kernel⟩
theorem v_al_init : iq M_al_init 0 := ⟨105, 52, 104, 0, q_al_init, by decide +kernel, by decide +kernel, rfl, by decide +kernel⟩
theorem v_abl_init : iq M_abl_init 0 := ⟨108, 51, 107, 0, q_abl_init, by decide +kernel, by decide +kernel, rfl, by decide +kernel⟩
theorem v_abc_init : iq M_abc_init 0 := ⟨111, 50, 110, 0, q_abc_init, by decide +kernel, by decide +kernel, rfl, by decide +kernel⟩
theorem v_e_init : iq M_e_init 1 := ⟨130, 53, 129, 0, q_e_init, by decide +kernel, by decide +kernel, rfl, by decide +kernel⟩
theorem v_g_sign : vq M_g_sign 1 := ⟨178, 48, 176, 177, q_g_sign, by decide +kernel, by decide +kernel, by decide +kernel⟩
theorem v_g_in : sq M_g_in 3 := ⟨181, 48, 180, 0, q_g_in, by decide +kernel, by decide +kernel⟩
theorem v_g_failure : vq M_g_failure 1 := ⟨185, 48, 183, 184, q_g_failure, by decide +kernel, by decide +kernel, by decide +kernel⟩
theorem v_g_edition : vq M_g_edition 1 := ⟨189, 48, 187, 188, q_g_edition, by decide +kernel, by decide +kernel, by decide +kernel⟩
theorem v_g_isEdition : sq M_g_isEdition 1 := ⟨192, 48, 191, 0, q_g_isEdition, by decide +kernel, by decide +kernel⟩
theorem v_g_find : vq M_g_find 1 := ⟨196, 48, 194, 195, q_g_find, by decide +kernel, by decide +kernel, by decide +kernel⟩
theorem v_g_now : vq M_g_now 0 := ⟨200, 48, 199, 0, q_g_now, by decide +kernel, by decide +kernel, by decide +kernel⟩
theorem v_e_find : vq M_e_find 1 := ⟨204, 53, 202, 203, q_e_find, by decide +kernel, by decide +kernel, by decide +kernel⟩
theorem v_al_size : vq M_al_size 0 := ⟨208, 52, 206, 207, q_al_size, by decide +kernel, by decide +kernel, by decide +kernel⟩
theorem v_al_get : vq M_al_get 1 := ⟨212, 52, 210, 211, q_al_get, by decide +kernel, by decide +kernel, by decide +kernel⟩
theorem v_ob_checkIndex : sq M_ob_checkIndex 2 := ⟨215, 59, 214, 0, q_ob_checkIndex, by decide +kernel, by decide +kernel⟩
theorem v_pr_checkIndex : sq M_pr_checkIndex 3 := ⟨218, 60, 217, 0, q_pr_checkIndex, by decide +kernel, by decide +kernel⟩
theorem v_al_elementData : vq M_al_elementData 1 := ⟨222, 52, 220, 221, q_al_elementData, by decide +kernel, by decide +kernel, by decide +kernel⟩
theorem v_g_link : vq M_g_link 4 := ⟨227, 48, 225, 226, q_g_link, by decide +kernel, by decide +kernel, by decide +kernel⟩
theorem v_k_init : iq M_k_init 4 := ⟨234, 70, 233, 0, q_k_init, by decide +kernel, by decide +kernel, rfl, by decide +kernel⟩
theorem v_al_add : vq M_al_add 1 := ⟨256, 52, 254, 255, q_al_add, by decide +kernel, by decide +kernel, by decide +kernel⟩
theorem v_al_add2 : vq M_al_add2 3 := ⟨260, 52, 259, 1, q_al_add2, by decide +kernel, by decide +kernel, by decide +kernel⟩
theorem v_al_grow : vq M_al_grow 0 := ⟨264, 52, 263, 2, q_al_grow, by decide +kernel, by decide +kernel, by decide +kernel⟩
theorem v_al_grow2 : vq M_al_grow2 1 := ⟨268, 52, 267, 3, q_al_grow2, by decide +kernel, by decide +kernel, by decide +kernel⟩
theorem v_as_newLength : sq M_as_newLength 3 := ⟨271, 62, 270, 0, q_as_newLength, by decide +kernel, by decide +kernel⟩
theorem v_ar_copyOf : sq M_ar_copyOf 2 := ⟨281, 64, 280, 0, q_ar_copyOf, by decide +kernel, by decide +kernel⟩
theorem v_ar_copyOf2 : sq M_ar_copyOf2 3 := ⟨300, 64, 299, 0, q_ar_copyOf2, by decide +kernel, by decide +kernel⟩
theorem v_g_count : vq M_g_count 1 := ⟨315, 48, 313, 314, q_g_count, by decide +kernel, by decide +kernel, by decide +kernel⟩
theorem v_e_chapters : vq M_e_chapters 0 := ⟨319, 53, 317, 318, q_e_chapters, by decide +kernel, by decide +kernel, by decide +kernel⟩
theorem v_l_read : sq M_l_read 2 := ⟨322, 47, 321, 0, q_l_read, by decide +kernel, by decide +kernel⟩
theorem v_g_read : vq M_g_read 0 := ⟨327, 48, 325, 326, q_g_read, by decide +kernel, by decide +kernel, by decide +kernel⟩
theorem v_r_rows : vq M_r_rows 0 := ⟨332, 49, 330, 331, q_r_rows, by decide +kernel, by decide +kernel, by decide +kernel⟩
theorem v_r_oneRow : vq M_r_oneRow 1 := ⟨338, 49, 337, 4, q_r_oneRow, by decide +kernel, by decide +kernel, by decide +kernel⟩
theorem v_r_dashes : vq M_r_dashes 0 := ⟨342, 49, 341, 5, q_r_dashes, by decide +kernel, by decide +kernel, by decide +kernel⟩
theorem v_r_look : vq M_r_look 0 := ⟨346, 49, 345, 6, q_r_look, by decide +kernel, by decide +kernel, by decide +kernel⟩
theorem v_r_isDigit : vq M_r_isDigit 0 := ⟨350, 49, 349, 7, q_r_isDigit, by decide +kernel, by decide +kernel, by decide +kernel⟩
theorem v_g_need : sq M_g_need 3 := ⟨354, 48, 353, 0, q_g_need, by decide +kernel, by decide +kernel⟩
theorem v_f_init : iq M_f_init 2 := ⟨398, 58, 397, 0, q_f_init, by decide +kernel, by decide +kernel, rfl, by decide +kernel⟩
theorem v_al_isEmpty : vq M_al_isEmpty 0 := ⟨429, 52, 427, 428, q_al_isEmpty, by decide +kernel, by decide +kernel, by decide +kernel⟩
theorem v_r_above : sq M_r_above 2 := ⟨435, 49, 434, 0, q_r_above, by decide +kernel, by decide +kernel⟩
theorem v_r_codeAt : vq M_r_codeAt 2 := ⟨439, 49, 438, 9, q_r_codeAt, by decide +kernel, by decide +kernel, by decide +kernel⟩
theorem v_r_peek : vq M_r_peek 0 := ⟨443, 49, 442, 10, q_r_peek, by decide +kernel, by decide +kernel, by decide +kernel⟩
theorem v_r_length : sq M_r_length 1 := ⟨448, 49, 447, 0, q_r_length, by decide +kernel, by decide +kernel⟩
theorem v_r_begins : sq M_r_begins 2 := ⟨451, 49, 450, 0, q_r_begins, by decide +kernel, by decide +kernel⟩
theorem v_r_comesBehind : sq M_r_comesBehind 2 := ⟨454, 49, 453, 0, q_r_comesBehind, by decide +kernel, by decide +kernel⟩
theorem v_r_code : vq M_r_code 0 := ⟨458, 49, 457, 11, q_r_code, by decide +kernel, by decide +kernel, by decide +kernel⟩
theorem v_w_init : iq M_w_init 4 := ⟨462, 61, 461, 0, q_w_init, by decide +kernel, by decide +kernel, rfl, by decide +kernel⟩
theorem v_r_words : vq M_r_words 1 := ⟨504, 49, 503, 12, q_r_words, by decide +kernel, by decide +kernel, by decide +kernel⟩
theorem v_r_word : vq M_r_word 0 := ⟨508, 49, 507, 13, q_r_word, by decide +kernel, by decide +kernel, by decide +kernel⟩
theorem v_r_isLetter : vq M_r_isLetter 0 := ⟨512, 49, 511, 14, q_r_isLetter, by decide +kernel, by decide +kernel, by decide +kernel⟩
theorem v_r_take : vq M_r_take 1 := ⟨518, 49, 517, 15, q_r_take, by decide +kernel, by decide +kernel, by decide +kernel⟩
theorem v_g_forget : vq M_g_forget 1 := ⟨523, 48, 522, 16, q_g_forget, by decide +kernel, by decide +kernel, by decide +kernel⟩
theorem v_al_remove : vq M_al_remove 1 := ⟨528, 52, 526, 527, q_al_remove, by decide +kernel, by decide +kernel, by decide +kernel⟩
theorem v_al_fastRemove : vq M_al_fastRemove 2 := ⟨532, 52, 531, 17, q_al_fastRemove, by decide +kernel, by decide +kernel, by decide +kernel⟩
theorem v_g_fail : vq M_g_fail 1 := ⟨537, 48, 536, 18, q_g_fail, by decide +kernel, by decide +kernel, by decide +kernel⟩
theorem v_g_may : sq M_g_may 1 := ⟨540, 48, 539, 0, q_g_may, by decide +kernel, by decide +kernel⟩
theorem v_l_row : sq M_l_row 4 := ⟨558, 47, 557, 0, q_l_row, by decide +kernel, by decide +kernel⟩
theorem v_g_row : vq M_g_row 2 := ⟨563, 48, 561, 562, q_g_row, by decide +kernel, by decide +kernel, by decide +kernel⟩
theorem v_l_note : sq M_l_note 5 := ⟨582, 47, 581, 0, q_l_note, by decide +kernel, by decide +kernel⟩
theorem v_g_note : vq M_g_note 3 := ⟨587, 48, 585, 586, q_g_note, by decide +kernel, by decide +kernel, by decide +kernel⟩
theorem v_g_allow : sq M_g_allow 1 := ⟨590, 48, 589, 0, q_g_allow, by decide +kernel, by decide +kernel⟩
theorem v_n_init : iq M_n_init 4 := ⟨609, 69, 608, 0, q_n_init, by decide +kernel, by decide +kernel, rfl, by decide +kernel⟩
theorem v_g_notesOf : vq M_g_notesOf 1 := ⟨631, 48, 630, 19, q_g_notesOf, by decide +kernel, by decide +kernel, by decide +kernel⟩
theorem v_l_noted : sq M_l_noted 4 := ⟨634, 47, 633, 0, q_l_noted, by decide +kernel, by decide +kernel⟩
theorem v_g_noted : vq M_g_noted 2 := ⟨638, 48, 636, 637, q_g_noted, by decide +kernel, by decide +kernel, by decide +kernel⟩
theorem v_l_became : sq M_l_became 5 := ⟨641, 47, 640, 0, q_l_became, by decide +kernel, by decide +kernel⟩
theorem v_g_became : vq M_g_became 3 := ⟨645, 48, 643, 644, q_g_became, by decide +kernel, by decide +kernel, by decide +kernel⟩
theorem v_g_rowOf : vq M_g_rowOf 3 := ⟨649, 48, 648, 20, q_g_rowOf, by decide +kernel, by decide +kernel, by decide +kernel⟩
theorem v_g_linksOf : vq M_g_linksOf 2 := ⟨653, 48, 652, 21, q_g_linksOf, by decide +kernel, by decide +kernel, by decide +kernel⟩
theorem v_g_isJoined : vq M_g_isJoined 3 := ⟨657, 48, 656, 22, q_g_isJoined, by decide +kernel, by decide +kernel, by decide +kernel⟩
theorem v_l_linked : sq M_l_linked 6 := ⟨660, 47, 659, 0, q_l_linked, by decide +kernel, by decide +kernel⟩
theorem v_g_linked : vq M_g_linked 4 := ⟨664, 48, 662, 663, q_g_linked, by decide +kernel, by decide +kernel, by decide +kernel⟩
theorem v_l_lost : sq M_l_lost 4 := ⟨667, 47, 666, 0, q_l_lost, by decide +kernel, by decide +kernel⟩
theorem v_g_lost : vq M_g_lost 2 := ⟨671, 48, 669, 670, q_g_lost, by decide +kernel, by decide +kernel, by decide +kernel⟩
theorem v_l_search : sq M_l_search 2 := ⟨675, 47, 674, 0, q_l_search, by decide +kernel, by decide +kernel⟩
theorem v_g_search : vq M_g_search 0 := ⟨679, 48, 677, 678, q_g_search, by decide +kernel, by decide +kernel, by decide +kernel⟩
theorem v_g_searchFor : vq M_g_searchFor 2 := ⟨685, 48, 684, 23, q_g_searchFor, by decide +kernel, by decide +kernel, by decide +kernel⟩
theorem v_w_points : vq M_w_points 1 := ⟨689, 61, 687, 688, q_w_points, by decide +kernel, by decide +kernel, by decide +kernel⟩
theorem v_w_has : vq M_w_has 1 := ⟨693, 61, 691, 692, q_w_has, by decide +kernel, by decide +kernel, by decide +kernel⟩
theorem v_g_isLeftOut : vq M_g_isLeftOut 1 := ⟨697, 48, 696, 24, q_g_isLeftOut, by decide +kernel, by decide +kernel, by decide +kernel⟩
theorem v_w_isBelow : vq M_w_isBelow 1 := ⟨701, 61, 699, 700, q_w_isBelow, by decide +kernel, by decide +kernel, by decide +kernel⟩
theorem v_g_put : vq M_g_put 2 := ⟨705, 48, 704, 25, q_g_put, by decide +kernel, by decide +kernel, by decide +kernel⟩
theorem v_l_found : sq M_l_found 4 := ⟨708, 47, 707, 0, q_l_found, by decide +kernel, by decide +kernel⟩
theorem v_g_found : vq M_g_found 2 := ⟨712, 48, 710, 711, q_g_found, by decide +kernel, by decide +kernel, by decide +kernel⟩
theorem v_m_init : iq M_m_init 0 := ⟨717, 54, 716, 0, q_m_init, by decide +kernel, by decide +kernel, rfl, by decide +kernel⟩
theorem v_m_thrown : vq M_m_thrown 0 := ⟨804, 54, 802, 803, q_m_thrown, by decide +kernel, by decide +kernel, by decide +kernel⟩
theorem v_m_sign : vq M_m_sign 1 := ⟨808, 54, 806, 807, q_m_sign, by decide +kernel, by decide +kernel, by decide +kernel⟩
theorem v_m_in : sq M_m_in 3 := ⟨811, 54, 810, 0, q_m_in, by decide +kernel, by decide +kernel⟩
theorem v_m_isLetter : sq M_m_isLetter 1 := ⟨814, 54, 813, 0, q_m_isLetter, by decide +kernel, by decide +kernel⟩
theorem v_m_isDigit : sq M_m_isDigit 1 := ⟨817, 54, 816, 0, q_m_isDigit, by decide +kernel, by decide +kernel⟩
theorem v_m_read : vq M_m_read 0 := ⟨821, 54, 819, 820, q_m_read, by decide +kernel, by decide +kernel, by decide +kernel⟩
theorem v_m_reads : vq M_m_reads 0 := ⟨825, 54, 824, 26, q_m_reads, by decide +kernel, by decide +kernel, by decide +kernel⟩
theorem v_m_readsCode : vq M_m_readsCode 1 := ⟨829, 54, 828, 27, q_m_readsCode, by decide +kernel, by decide +kernel, by decide +kernel⟩
theorem v_m_run : vq M_m_run 2 := ⟨833, 54, 832, 28, q_m_run, by decide +kernel, by decide +kernel, by decide +kernel⟩
theorem v_m_fails : vq M_m_fails 2 := ⟨837, 54, 836, 29, q_m_fails, by decide +kernel, by decide +kernel, by decide +kernel⟩
theorem v_m_codeAt : vq M_m_codeAt 2 := ⟨841, 54, 840, 30, q_m_codeAt, by decide +kernel, by decide +kernel, by decide +kernel⟩
theorem v_m_above : vq M_m_above 2 := ⟨847, 54, 846, 31, q_m_above, by decide +kernel, by decide +kernel, by decide +kernel⟩
theorem v_m_begins : sq M_m_begins 2 := ⟨850, 54, 849, 0, q_m_begins, by decide +kernel, by decide +kernel⟩
theorem v_m_digitsOf : sq M_m_digitsOf 1 := ⟨853, 54, 852, 0, q_m_digitsOf, by decide +kernel, by decide +kernel⟩
theorem v_m_cut : sq M_m_cut 2 := ⟨857, 54, 856, 0, q_m_cut, by decide +kernel, by decide +kernel⟩
theorem v_m_isBehind : sq M_m_isBehind 2 := ⟨860, 54, 859, 0, q_m_isBehind, by decide +kernel, by decide +kernel⟩
theorem v_m_readsWords : vq M_m_readsWords 3 := ⟨864, 54, 863, 32, q_m_readsWords, by decide +kernel, by decide +kernel, by decide +kernel⟩
theorem v_m_wordAt : vq M_m_wordAt 2 := ⟨868, 54, 867, 33, q_m_wordAt, by decide +kernel, by decide +kernel, by decide +kernel⟩
theorem v_m_refuse : vq M_m_refuse 1 := ⟨874, 54, 873, 34, q_m_refuse, by decide +kernel, by decide +kernel, by decide +kernel⟩
theorem v_m_forget : vq M_m_forget 1 := ⟨878, 54, 877, 35, q_m_forget, by decide +kernel, by decide +kernel, by decide +kernel⟩
theorem v_m_failure : vq M_m_failure 1 := ⟨882, 54, 880, 881, q_m_failure, by decide +kernel, by decide +kernel, by decide +kernel⟩
theorem v_m_edition : vq M_m_edition 1 := ⟨886, 54, 884, 885, q_m_edition, by decide +kernel, by decide +kernel, by decide +kernel⟩
theorem v_m_isEdition : sq M_m_isEdition 1 := ⟨889, 54, 888, 0, q_m_isEdition, by decide +kernel, by decide +kernel⟩
theorem v_m_row : vq M_m_row 2 := ⟨893, 54, 891, 892, q_m_row, by decide +kernel, by decide +kernel, by decide +kernel⟩
theorem v_m_below : vq M_m_below 2 := ⟨897, 54, 896, 36, q_m_below, by decide +kernel, by decide +kernel, by decide +kernel⟩
theorem v_m_find : vq M_m_find 1 := ⟨901, 54, 899, 900, q_m_find, by decide +kernel, by decide +kernel, by decide +kernel⟩
theorem v_m_rowOf : vq M_m_rowOf 2 := ⟨905, 54, 904, 37, q_m_rowOf, by decide +kernel, by decide +kernel, by decide +kernel⟩
theorem v_m_note : vq M_m_note 3 := ⟨909, 54, 907, 908, q_m_note, by decide +kernel, by decide +kernel, by decide +kernel⟩
theorem v_m_hasNote : vq M_m_hasNote 3 := ⟨913, 54, 912, 38, q_m_hasNote, by decide +kernel, by decide +kernel, by decide +kernel⟩
theorem v_m_isNote : vq M_m_isNote 4 := ⟨917, 54, 916, 39, q_m_isNote, by decide +kernel, by decide +kernel, by decide +kernel⟩
theorem v_m_notesOf : vq M_m_notesOf 1 := ⟨921, 54, 920, 40, q_m_notesOf, by decide +kernel, by decide +kernel, by decide +kernel⟩
theorem v_m_noted : vq M_m_noted 2 := ⟨925, 54, 923, 924, q_m_noted, by decide +kernel, by decide +kernel, by decide +kernel⟩
theorem v_m_link : vq M_m_link 4 := ⟨929, 54, 927, 928, q_m_link, by decide +kernel, by decide +kernel, by decide +kernel⟩
theorem v_m_isLink : vq M_m_isLink 4 := ⟨933, 54, 932, 41, q_m_isLink, by decide +kernel, by decide +kernel, by decide +kernel⟩
theorem v_m_became : vq M_m_became 3 := ⟨937, 54, 935, 936, q_m_became, by decide +kernel, by decide +kernel, by decide +kernel⟩
theorem v_m_isOf : vq M_m_isOf 3 := ⟨941, 54, 940, 42, q_m_isOf, by decide +kernel, by decide +kernel, by decide +kernel⟩
theorem v_m_linksOf : vq M_m_linksOf 3 := ⟨945, 54, 944, 43, q_m_linksOf, by decide +kernel, by decide +kernel, by decide +kernel⟩
theorem v_m_linksTo : vq M_m_linksTo 3 := ⟨949, 54, 948, 44, q_m_linksTo, by decide +kernel, by decide +kernel, by decide +kernel⟩
theorem v_m_linked : vq M_m_linked 4 := ⟨953, 54, 951, 952, q_m_linked, by decide +kernel, by decide +kernel, by decide +kernel⟩
theorem v_m_lost : vq M_m_lost 2 := ⟨957, 54, 955, 956, q_m_lost, by decide +kernel, by decide +kernel, by decide +kernel⟩
theorem v_m_search : vq M_m_search 0 := ⟨961, 54, 959, 960, q_m_search, by decide +kernel, by decide +kernel, by decide +kernel⟩
theorem v_m_pointsOf : vq M_m_pointsOf 1 := ⟨965, 54, 964, 45, q_m_pointsOf, by decide +kernel, by decide +kernel, by decide +kernel⟩
theorem v_m_has : vq M_m_has 2 := ⟨969, 54, 968, 46, q_m_has, by decide +kernel, by decide +kernel, by decide +kernel⟩
theorem v_m_found : vq M_m_found 2 := ⟨973, 54, 971, 972, q_m_found, by decide +kernel, by decide +kernel, by decide +kernel⟩
theorem v_m_count : vq M_m_count 1 := ⟨977, 54, 975, 976, q_m_count, by decide +kernel, by decide +kernel, by decide +kernel⟩
theorem le_b {a b : Nat} (h : Nat.ble a b = true) : a ≤ b := Nat.le_of_ble_eq_true h
section EvVq
variable {G : gt_T} {M M' : mt_T} {F L C S F' L' C' S' : Nat} {pc a0 b0 j0 : Nat} {z0 : Int} {ls : List (Option ab_V)} {st : List ab_V} {h : ab_H} {Φ Φ' : Option ab_V → ab_H → Prop} {Θ Θ' : Nat → ab_H → Prop} {args' r' : List ab_V}
theorem ev_cS (d : ri_at M (pc, 3, 69, a0, b0, j0, z0)) (hM : MT[a0]? = some M') {n0 : Nat} (v : sq M' n0) (hct : ct G M' F' L' 0 0 args' h Φ' Θ') (hn0 : args'.length = n0) (hw : sw args' ≤ M'.2.2.1) (hF : F' + 1 ≤ F) (hL : sw st + (M'.2.2.1 + 11) + L' ≤ L) (kt : ∀ a h', Θ' a h' → et G M F L C S pc ls h' a Φ Θ)
    (k : ∀ v h', Φ' v h' → ev G M F L C S (pc + 3) ls (pv v st) h' Φ Θ) : ev G M F L C S pc ls (rv args' st) h Φ Θ := by
  subst hn0
  obtain ⟨j1, j2, j3, j4, q1, q2, q3⟩ := v
  exact ev_callS d hM q1 q2 q3 hct hw hF hL (by omega) (by omega) k kt
theorem ev_cV (d : ri_at M (pc, 3, 67, a0, b0, j0, z0)) (hM : MT[a0]? = some M') {n0 : Nat} (v : vq M' n0) {b tag ci : Nat} {fs : List ab_V} (hb0 : h b = some (oJ tag ci fs)) (hcn : ri_cn ci = M'.1.cls) (hct : ct G M' F' L' 0 0 (vA b :: r') h Φ' Θ') (hn0 : r'.length = n0) (hw : sw (vA b :: r') ≤ M'.2.2.1) (hF : F' + 1 ≤ F) (hL : sw st + (M'.2.2.1 + 11) + L' ≤ L) (kt : ∀ a h', Θ' a h' → et G M F L C S pc ls h' a Φ Θ)
    (k : ∀ v h', Φ' v h' → ev G M F L C S (pc + 3) ls (pv v st) h' Φ Θ) : ev G M F L C S pc ls (rv (vA b :: r') st) h Φ Θ := by
  subst hn0
  obtain ⟨j1, j2, j3, j4, q1, q2, q3, q4⟩ := v
  exact ev_callV d hM q1 q2 q3 hb0 hcn q4 hct hw hF hL (by omega) (by omega) k kt
theorem ev_cI (d : ri_at M (pc, 3, 68, a0, b0, j0, z0)) (hM : MT[a0]? = some M') {n0 : Nat} (v : iq M' n0) {b : Nat} (hct : ct G M' F' L' 0 0 (vA b :: r') h Φ' Θ') (hn0 : r'.length = n0) (hw : sw (vA b :: r') ≤ M'.2.2.1) (hF : F' + 1 ≤ F) (hL : sw st + (M'.2.2.1 + 11) + L' ≤ L) (kt : ∀ a h', Θ' a h' → et G M F L C S pc ls h' a Φ Θ)
    (k : ∀ v h', Φ' v h' → ev G M F L C S (pc + 3) ls (pv v st) h' Φ Θ) : ev G M F L C S pc ls (rv (vA b :: r') st) h Φ Θ := by
  subst hn0
  obtain ⟨j1, j2, j3, j4, q1, q2, q3, q4, q5⟩ := v
  exact ev_callI d hM q1 q2 q3 q4 q5 hct hw hF hL (by omega) (by omega) k kt
theorem ev_cSA {C2 S2 : Nat} (d : ri_at M (pc, 3, 69, a0, b0, j0, z0)) (hM : MT[a0]? = some M') {n0 : Nat} (v : sq M' n0) (hct : ct G M' F' L' C' S' args' h Φ' Θ') (hn0 : args'.length = n0) (hw : sw args' ≤ M'.2.2.1) (hF : F' + 1 ≤ F) (hL : sw st + (M'.2.2.1 + 11) + L' ≤ L) (hC : C' + C2 ≤ C) (hS : S' + S2 ≤ S) (kt : ∀ a h', Θ' a h' → et G M F L C2 S2 pc ls h' a Φ Θ)
    (k : ∀ v h', Φ' v h' → ev G M F L C2 S2 (pc + 3) ls (pv v st) h' Φ Θ) : ev G M F L C S pc ls (rv args' st) h Φ Θ := by
  subst hn0
  obtain ⟨j1, j2, j3, j4, q1, q2, q3⟩ := v
  exact ev_callS d hM q1 q2 q3 hct hw hF hL hC hS k kt
theorem ev_cVA {C2 S2 : Nat} (d : ri_at M (pc, 3, 67, a0, b0, j0, z0)) (hM : MT[a0]? = some M') {n0 : Nat} (v : vq M' n0) {b tag ci : Nat} {fs : List ab_V} (hb0 : h b = some (oJ tag ci fs)) (hcn : ri_cn ci = M'.1.cls) (hct : ct G M' F' L' C' S' (vA b :: r') h Φ' Θ') (hn0 : r'.length = n0) (hw : sw (vA b :: r') ≤ M'.2.2.1) (hF : F' + 1 ≤ F) (hL : sw st + (M'.2.2.1 + 11) + L' ≤ L) (hC : C' + C2 ≤ C) (hS : S' + S2 ≤ S) (kt : ∀ a h', Θ' a h' → et G M F L C2 S2 pc ls h' a Φ Θ)
    (k : ∀ v h', Φ' v h' → ev G M F L C2 S2 (pc + 3) ls (pv v st) h' Φ Θ) : ev G M F L C S pc ls (rv (vA b :: r') st) h Φ Θ := by
  subst hn0
  obtain ⟨j1, j2, j3, j4, q1, q2, q3, q4⟩ := v
  exact ev_callV d hM q1 q2 q3 hb0 hcn q4 hct hw hF hL hC hS k kt
theorem ev_cIA {C2 S2 : Nat} (d : ri_at M (pc, 3, 68, a0, b0, j0, z0)) (hM : MT[a0]? = some M') {n0 : Nat} (v : iq M' n0) {b : Nat} (hct : ct G M' F' L' C' S' (vA b :: r') h Φ' Θ') (hn0 : r'.length = n0) (hw : sw (vA b :: r') ≤ M'.2.2.1) (hF : F' + 1 ≤ F) (hL : sw st + (M'.2.2.1 + 11) + L' ≤ L) (hC : C' + C2 ≤ C) (hS : S' + S2 ≤ S) (kt : ∀ a h', Θ' a h' → et G M F L C2 S2 pc ls h' a Φ Θ)
    (k : ∀ v h', Φ' v h' → ev G M F L C2 S2 (pc + 3) ls (pv v st) h' Φ Θ) : ev G M F L C S pc ls (rv (vA b :: r') st) h Φ Θ := by
  subst hn0
  obtain ⟨j1, j2, j3, j4, q1, q2, q3, q4, q5⟩ := v
  exact ev_callI d hM q1 q2 q3 q4 q5 hct hw hF hL hC hS k kt
end EvVq
