/-! tables: X4_keep X4_back -/
set_option maxRecDepth 100000
set_option maxHeartbeats 4000000
theorem dX4_keep_0 : decode cX4_keep 0 = .ok (.aload_n 0, 1) := by decide +kernel
theorem dX4_keep_1 : decode cX4_keep 1 = .ok (.getfield 12, 3) := by decide +kernel
theorem dX4_keep_4 : decode cX4_keep 4 = .ok (.aload_n 1, 1) := by decide +kernel
theorem dX4_keep_5 : decode cX4_keep 5 = .ok (.getfield 28, 3) := by decide +kernel
theorem dX4_keep_8 : decode cX4_keep 8 = .ok (.invokevirtual 29, 3) := by decide +kernel
theorem dX4_keep_11 : decode cX4_keep 11 = .ok (.aload_n 1, 1) := by decide +kernel
theorem dX4_keep_12 : decode cX4_keep 12 = .ok (.getfield 33, 3) := by decide +kernel
theorem dX4_keep_15 : decode cX4_keep 15 = .ok (.iconst 0, 1) := by decide +kernel
theorem dX4_keep_16 : decode cX4_keep 16 = .ok (.aload_n 0, 1) := by decide +kernel
theorem dX4_keep_17 : decode cX4_keep 17 = .ok (.getfield 18, 3) := by decide +kernel
theorem dX4_keep_20 : decode cX4_keep 20 = .ok (.iconst 0, 1) := by decide +kernel
theorem dX4_keep_21 : decode cX4_keep 21 = .ok (.sipush 144, 3) := by decide +kernel
theorem dX4_keep_24 : decode cX4_keep 24 = .ok (.invokestatic 34, 3) := by decide +kernel
theorem dX4_keep_27 : decode cX4_keep 27 = .ok (.aload_n 1, 1) := by decide +kernel
theorem dX4_keep_28 : decode cX4_keep 28 = .ok (.getfield 40, 3) := by decide +kernel
theorem dX4_keep_31 : decode cX4_keep 31 = .ok (.iconst 0, 1) := by decide +kernel
theorem dX4_keep_32 : decode cX4_keep 32 = .ok (.aload_n 0, 1) := by decide +kernel
theorem dX4_keep_33 : decode cX4_keep 33 = .ok (.getfield 25, 3) := by decide +kernel
theorem dX4_keep_36 : decode cX4_keep 36 = .ok (.iconst 0, 1) := by decide +kernel
theorem dX4_keep_37 : decode cX4_keep 37 = .ok (.iconst 4, 1) := by decide +kernel
theorem dX4_keep_38 : decode cX4_keep 38 = .ok (.invokestatic 34, 3) := by decide +kernel
theorem dX4_keep_41 : decode cX4_keep 41 = .ok (.aload_n 0, 1) := by decide +kernel
theorem dX4_keep_42 : decode cX4_keep 42 = .ok (.aload_n 1, 1) := by decide +kernel
theorem dX4_keep_43 : decode cX4_keep 43 = .ok (.getfield 41, 3) := by decide +kernel
theorem dX4_keep_46 : decode cX4_keep 46 = .ok (.putfield 45, 3) := by decide +kernel
theorem dX4_keep_49 : decode cX4_keep 49 = .ok (.aload_n 1, 1) := by decide +kernel
theorem dX4_keep_50 : decode cX4_keep 50 = .ok (.getfield 46, 3) := by decide +kernel
theorem dX4_keep_53 : decode cX4_keep 53 = .ok (.iconst 0, 1) := by decide +kernel
theorem dX4_keep_54 : decode cX4_keep 54 = .ok (.aload_n 0, 1) := by decide +kernel
theorem dX4_keep_55 : decode cX4_keep 55 = .ok (.getfield 22, 3) := by decide +kernel
theorem dX4_keep_58 : decode cX4_keep 58 = .ok (.iconst 0, 1) := by decide +kernel
theorem dX4_keep_59 : decode cX4_keep 59 = .ok (.bipush 12, 2) := by decide +kernel
theorem dX4_keep_61 : decode cX4_keep 61 = .ok (.invokestatic 34, 3) := by decide +kernel
theorem dX4_keep_64 : decode cX4_keep 64 = .ok (.aload_n 1, 1) := by decide +kernel
theorem dX4_keep_65 : decode cX4_keep 65 = .ok (.getfield 49, 3) := by decide +kernel
theorem dX4_keep_68 : decode cX4_keep 68 = .ok (.iconst 0, 1) := by decide +kernel
theorem dX4_keep_69 : decode cX4_keep 69 = .ok (.aload_n 0, 1) := by decide +kernel
theorem dX4_keep_70 : decode cX4_keep 70 = .ok (.getfield 22, 3) := by decide +kernel
theorem dX4_keep_73 : decode cX4_keep 73 = .ok (.bipush 12, 2) := by decide +kernel
theorem dX4_keep_75 : decode cX4_keep 75 = .ok (.bipush 12, 2) := by decide +kernel
theorem dX4_keep_77 : decode cX4_keep 77 = .ok (.invokestatic 34, 3) := by decide +kernel
theorem dX4_keep_80 : decode cX4_keep 80 = .ok (.aload_n 1, 1) := by decide +kernel
theorem dX4_keep_81 : decode cX4_keep 81 = .ok (.getfield 52, 3) := by decide +kernel
theorem dX4_keep_84 : decode cX4_keep 84 = .ok (.iconst 0, 1) := by decide +kernel
theorem dX4_keep_85 : decode cX4_keep 85 = .ok (.aload_n 0, 1) := by decide +kernel
theorem dX4_keep_86 : decode cX4_keep 86 = .ok (.getfield 22, 3) := by decide +kernel
theorem dX4_keep_89 : decode cX4_keep 89 = .ok (.bipush 24, 2) := by decide +kernel
theorem dX4_keep_91 : decode cX4_keep 91 = .ok (.bipush 12, 2) := by decide +kernel
theorem dX4_keep_93 : decode cX4_keep 93 = .ok (.invokestatic 34, 3) := by decide +kernel
theorem dX4_keep_96 : decode cX4_keep 96 = .ok (.aload_n 1, 1) := by decide +kernel
theorem dX4_keep_97 : decode cX4_keep 97 = .ok (.getfield 55, 3) := by decide +kernel
theorem dX4_keep_100 : decode cX4_keep 100 = .ok (.iconst 0, 1) := by decide +kernel
theorem dX4_keep_101 : decode cX4_keep 101 = .ok (.aload_n 0, 1) := by decide +kernel
theorem dX4_keep_102 : decode cX4_keep 102 = .ok (.getfield 22, 3) := by decide +kernel
theorem dX4_keep_105 : decode cX4_keep 105 = .ok (.bipush 36, 2) := by decide +kernel
theorem dX4_keep_107 : decode cX4_keep 107 = .ok (.bipush 12, 2) := by decide +kernel
theorem dX4_keep_109 : decode cX4_keep 109 = .ok (.invokestatic 34, 3) := by decide +kernel
theorem dX4_keep_112 : decode cX4_keep 112 = .ok (.aload_n 0, 1) := by decide +kernel
theorem dX4_keep_113 : decode cX4_keep 113 = .ok (.aload_n 1, 1) := by decide +kernel
theorem dX4_keep_114 : decode cX4_keep 114 = .ok (.getfield 58, 3) := by decide +kernel
theorem dX4_keep_117 : decode cX4_keep 117 = .ok (.putfield 61, 3) := by decide +kernel
theorem dX4_keep_120 : decode cX4_keep 120 = .ok (.return_, 1) := by decide +kernel
def tb_X4_keep (S_X2_copy : ma_Cs) : Nat → ma_In := fun pc =>
 (if pc < 59 then
 (if pc < 31 then
 (if pc < 15 then
 (if pc < 5 then
 (if pc < 1 then
 (if pc = 0 then in_ald 0 1 else in_no) else
 (if pc < 4 then
 (if pc = 1 then in_get YX 4 0 4 else in_no) else
 (if pc = 4 then in_ald 1 5 else in_no))) else
 (if pc < 11 then
 (if pc < 8 then
 (if pc = 5 then in_get YX 0 4 8 else in_no) else
 (if pc = 8 then in_v2 YX 2 S_X2_copy 11 else in_no)) else
 (if pc < 12 then
 (if pc = 11 then in_ald 1 12 else in_no) else
 (if pc = 12 then in_get YX 0 9 15 else in_no)))) else
 (if pc < 21 then
 (if pc < 17 then
 (if pc < 16 then
 (if pc = 15 then in_push (.int 0) 16 else in_no) else
 (if pc = 16 then in_ald 0 17 else in_no)) else
 (if pc < 20 then
 (if pc = 17 then in_get YX 4 1 20 else in_no) else
 (if pc = 20 then in_push (.int 0) 21 else in_no))) else
 (if pc < 27 then
 (if pc < 24 then
 (if pc = 21 then in_push (.int 144) 24 else in_no) else
 (if pc = 24 then in_cpy YX 27 else in_no)) else
 (if pc < 28 then
 (if pc = 27 then in_ald 1 28 else in_no) else
 (if pc = 28 then in_get YX 0 8 31 else in_no))))) else
 (if pc < 43 then
 (if pc < 37 then
 (if pc < 33 then
 (if pc < 32 then
 (if pc = 31 then in_push (.int 0) 32 else in_no) else
 (if pc = 32 then in_ald 0 33 else in_no)) else
 (if pc < 36 then
 (if pc = 33 then in_get YX 4 5 36 else in_no) else
 (if pc = 36 then in_push (.int 0) 37 else in_no))) else
 (if pc < 41 then
 (if pc < 38 then
 (if pc = 37 then in_push (.int 4) 38 else in_no) else
 (if pc = 38 then in_cpy YX 41 else in_no)) else
 (if pc < 42 then
 (if pc = 41 then in_ald 0 42 else in_no) else
 (if pc = 42 then in_ald 1 43 else in_no)))) else
 (if pc < 53 then
 (if pc < 49 then
 (if pc < 46 then
 (if pc = 43 then in_get YX 0 10 46 else in_no) else
 (if pc = 46 then in_put YX 4 2 49 else in_no)) else
 (if pc < 50 then
 (if pc = 49 then in_ald 1 50 else in_no) else
 (if pc = 50 then in_get YX 0 11 53 else in_no))) else
 (if pc < 55 then
 (if pc < 54 then
 (if pc = 53 then in_push (.int 0) 54 else in_no) else
 (if pc = 54 then in_ald 0 55 else in_no)) else
 (if pc < 58 then
 (if pc = 55 then in_get YX 4 3 58 else in_no) else
 (if pc = 58 then in_push (.int 0) 59 else in_no)))))) else
 (if pc < 89 then
 (if pc < 73 then
 (if pc < 65 then
 (if pc < 61 then
 (if pc = 59 then in_push (.int 12) 61 else in_no) else
 (if pc < 64 then
 (if pc = 61 then in_cpy YX 64 else in_no) else
 (if pc = 64 then in_ald 1 65 else in_no))) else
 (if pc < 69 then
 (if pc < 68 then
 (if pc = 65 then in_get YX 0 12 68 else in_no) else
 (if pc = 68 then in_push (.int 0) 69 else in_no)) else
 (if pc < 70 then
 (if pc = 69 then in_ald 0 70 else in_no) else
 (if pc = 70 then in_get YX 4 3 73 else in_no)))) else
 (if pc < 81 then
 (if pc < 77 then
 (if pc < 75 then
 (if pc = 73 then in_push (.int 12) 75 else in_no) else
 (if pc = 75 then in_push (.int 12) 77 else in_no)) else
 (if pc < 80 then
 (if pc = 77 then in_cpy YX 80 else in_no) else
 (if pc = 80 then in_ald 1 81 else in_no))) else
 (if pc < 85 then
 (if pc < 84 then
 (if pc = 81 then in_get YX 0 13 84 else in_no) else
 (if pc = 84 then in_push (.int 0) 85 else in_no)) else
 (if pc < 86 then
 (if pc = 85 then in_ald 0 86 else in_no) else
 (if pc = 86 then in_get YX 4 3 89 else in_no))))) else
 (if pc < 105 then
 (if pc < 97 then
 (if pc < 93 then
 (if pc < 91 then
 (if pc = 89 then in_push (.int 24) 91 else in_no) else
 (if pc = 91 then in_push (.int 12) 93 else in_no)) else
 (if pc < 96 then
 (if pc = 93 then in_cpy YX 96 else in_no) else
 (if pc = 96 then in_ald 1 97 else in_no))) else
 (if pc < 101 then
 (if pc < 100 then
 (if pc = 97 then in_get YX 0 14 100 else in_no) else
 (if pc = 100 then in_push (.int 0) 101 else in_no)) else
 (if pc < 102 then
 (if pc = 101 then in_ald 0 102 else in_no) else
 (if pc = 102 then in_get YX 4 3 105 else in_no)))) else
 (if pc < 113 then
 (if pc < 109 then
 (if pc < 107 then
 (if pc = 105 then in_push (.int 36) 107 else in_no) else
 (if pc = 107 then in_push (.int 12) 109 else in_no)) else
 (if pc < 112 then
 (if pc = 109 then in_cpy YX 112 else in_no) else
 (if pc = 112 then in_ald 0 113 else in_no))) else
 (if pc < 117 then
 (if pc < 114 then
 (if pc = 113 then in_ald 1 114 else in_no) else
 (if pc = 114 then in_get YX 0 7 117 else in_no)) else
 (if pc < 120 then
 (if pc = 117 then in_put YX 4 4 120 else in_no) else
 (if pc = 120 then in_rv else in_no)))))))
theorem tk_X4_keep {l : Launch} {w : ma_Wd} {NC : Nat} {A : Nat → Prop} {S_X2_copy : ma_Cs} (h_X2_copy : ma_Sd l w YX NC A yX2_copy cX2_copy 2 none rm_X2_copy S_X2_copy) {p : Program} {e : Env} {s : State} {m : MethodId} {args : Array Value} {below : List Frame} {meth : Method} {c : Code} (X : ma_Cx p s m args meth c w YX NC A yX4_keep.cls cX4_keep 2 none) : ∀ pc, ma_Ok p l e rm_X4_keep s m args below meth c w YX NC A 2 pc (tb_X4_keep S_X2_copy pc) := fun pc =>
 (mk_lt
 (mk_lt
 (mk_lt
 (mk_lt
 (mk_lt
 (mk_eq (mk_aload_n X dX4_keep_0 rfl rfl))
 (mk_lt
 (mk_eq (mk_get X (ci := 4) (j := 0) rfl in_X4 (Nat.le_of_ble_eq_true rfl) q192 dX4_keep_1 rfl))
 (mk_eq (mk_aload_n X dX4_keep_4 rfl rfl))))
 (mk_lt
 (mk_lt
 (mk_eq (mk_getN X (ci := 0) (j := 4) rfl in_X0 (Nat.le_of_ble_eq_true rfl) (List.mem_of_getElem? (i := 38) rfl) dX4_keep_5 rfl))
 (mk_eq (mk_V2 X h_X2_copy (ci := 2) rfl (lw_V q717 q444 q445 q63 q446) ⟨rfl, by decide, by decide, rfl⟩ ⟨(Nat.le_of_ble_eq_true rfl), (Nat.le_of_ble_eq_true rfl)⟩ dX4_keep_8 rfl)))
 (mk_lt
 (mk_eq (mk_aload_n X dX4_keep_11 rfl rfl))
 (mk_eq (mk_getN X (ci := 0) (j := 9) rfl in_X0 (Nat.le_of_ble_eq_true rfl) (List.mem_of_getElem? (i := 41) rfl) dX4_keep_12 rfl)))))
 (mk_lt
 (mk_lt
 (mk_lt
 (mk_eq (mk_iconst X dX4_keep_15 rfl rfl))
 (mk_eq (mk_aload_n X dX4_keep_16 rfl rfl)))
 (mk_lt
 (mk_eq (mk_get X (ci := 4) (j := 1) rfl in_X4 (Nat.le_of_ble_eq_true rfl) q193 dX4_keep_17 rfl))
 (mk_eq (mk_iconst X dX4_keep_20 rfl rfl))))
 (mk_lt
 (mk_lt
 (mk_eq (mk_sipush X dX4_keep_21 rfl rfl))
 (mk_eq (mk_cpy X q718 q449 q448 q68 ⟨(Nat.le_of_ble_eq_true rfl), (Nat.le_of_ble_eq_true rfl)⟩ dX4_keep_24 rfl)))
 (mk_lt
 (mk_eq (mk_aload_n X dX4_keep_27 rfl rfl))
 (mk_eq (mk_getN X (ci := 0) (j := 8) rfl in_X0 (Nat.le_of_ble_eq_true rfl) (List.mem_of_getElem? (i := 40) rfl) dX4_keep_28 rfl))))))
 (mk_lt
 (mk_lt
 (mk_lt
 (mk_lt
 (mk_eq (mk_iconst X dX4_keep_31 rfl rfl))
 (mk_eq (mk_aload_n X dX4_keep_32 rfl rfl)))
 (mk_lt
 (mk_eq (mk_get X (ci := 4) (j := 5) rfl in_X4 (Nat.le_of_ble_eq_true rfl) q197 dX4_keep_33 rfl))
 (mk_eq (mk_iconst X dX4_keep_36 rfl rfl))))
 (mk_lt
 (mk_lt
 (mk_eq (mk_iconst X dX4_keep_37 rfl rfl))
 (mk_eq (mk_cpy X q718 q449 q448 q68 ⟨(Nat.le_of_ble_eq_true rfl), (Nat.le_of_ble_eq_true rfl)⟩ dX4_keep_38 rfl)))
 (mk_lt
 (mk_eq (mk_aload_n X dX4_keep_41 rfl rfl))
 (mk_eq (mk_aload_n X dX4_keep_42 rfl rfl)))))
 (mk_lt
 (mk_lt
 (mk_lt
 (mk_eq (mk_getN X (ci := 0) (j := 10) rfl in_X0 (Nat.le_of_ble_eq_true rfl) (List.mem_of_getElem? (i := 42) rfl) dX4_keep_43 rfl))
 (mk_eq (mk_put X (ci := 4) (j := 2) rfl in_X4 tyX4_ok nmX4 (Nat.le_of_ble_eq_true rfl) rfl rfl q194 dX4_keep_46 rfl)))
 (mk_lt
 (mk_eq (mk_aload_n X dX4_keep_49 rfl rfl))
 (mk_eq (mk_getN X (ci := 0) (j := 11) rfl in_X0 (Nat.le_of_ble_eq_true rfl) (List.mem_of_getElem? (i := 43) rfl) dX4_keep_50 rfl))))
 (mk_lt
 (mk_lt
 (mk_eq (mk_iconst X dX4_keep_53 rfl rfl))
 (mk_eq (mk_aload_n X dX4_keep_54 rfl rfl)))
 (mk_lt
 (mk_eq (mk_get X (ci := 4) (j := 3) rfl in_X4 (Nat.le_of_ble_eq_true rfl) q195 dX4_keep_55 rfl))
 (mk_eq (mk_iconst X dX4_keep_58 rfl rfl)))))))
 (mk_lt
 (mk_lt
 (mk_lt
 (mk_lt
 (mk_eq (mk_bipush X dX4_keep_59 rfl rfl))
 (mk_lt
 (mk_eq (mk_cpy X q718 q449 q448 q68 ⟨(Nat.le_of_ble_eq_true rfl), (Nat.le_of_ble_eq_true rfl)⟩ dX4_keep_61 rfl))
 (mk_eq (mk_aload_n X dX4_keep_64 rfl rfl))))
 (mk_lt
 (mk_lt
 (mk_eq (mk_getN X (ci := 0) (j := 12) rfl in_X0 (Nat.le_of_ble_eq_true rfl) (List.mem_of_getElem? (i := 44) rfl) dX4_keep_65 rfl))
 (mk_eq (mk_iconst X dX4_keep_68 rfl rfl)))
 (mk_lt
 (mk_eq (mk_aload_n X dX4_keep_69 rfl rfl))
 (mk_eq (mk_get X (ci := 4) (j := 3) rfl in_X4 (Nat.le_of_ble_eq_true rfl) q195 dX4_keep_70 rfl)))))
 (mk_lt
 (mk_lt
 (mk_lt
 (mk_eq (mk_bipush X dX4_keep_73 rfl rfl))
 (mk_eq (mk_bipush X dX4_keep_75 rfl rfl)))
 (mk_lt
 (mk_eq (mk_cpy X q718 q449 q448 q68 ⟨(Nat.le_of_ble_eq_true rfl), (Nat.le_of_ble_eq_true rfl)⟩ dX4_keep_77 rfl))
 (mk_eq (mk_aload_n X dX4_keep_80 rfl rfl))))
 (mk_lt
 (mk_lt
 (mk_eq (mk_getN X (ci := 0) (j := 13) rfl in_X0 (Nat.le_of_ble_eq_true rfl) (List.mem_of_getElem? (i := 45) rfl) dX4_keep_81 rfl))
 (mk_eq (mk_iconst X dX4_keep_84 rfl rfl)))
 (mk_lt
 (mk_eq (mk_aload_n X dX4_keep_85 rfl rfl))
 (mk_eq (mk_get X (ci := 4) (j := 3) rfl in_X4 (Nat.le_of_ble_eq_true rfl) q195 dX4_keep_86 rfl))))))
 (mk_lt
 (mk_lt
 (mk_lt
 (mk_lt
 (mk_eq (mk_bipush X dX4_keep_89 rfl rfl))
 (mk_eq (mk_bipush X dX4_keep_91 rfl rfl)))
 (mk_lt
 (mk_eq (mk_cpy X q718 q449 q448 q68 ⟨(Nat.le_of_ble_eq_true rfl), (Nat.le_of_ble_eq_true rfl)⟩ dX4_keep_93 rfl))
 (mk_eq (mk_aload_n X dX4_keep_96 rfl rfl))))
 (mk_lt
 (mk_lt
 (mk_eq (mk_getN X (ci := 0) (j := 14) rfl in_X0 (Nat.le_of_ble_eq_true rfl) (List.mem_of_getElem? (i := 46) rfl) dX4_keep_97 rfl))
 (mk_eq (mk_iconst X dX4_keep_100 rfl rfl)))
 (mk_lt
 (mk_eq (mk_aload_n X dX4_keep_101 rfl rfl))
 (mk_eq (mk_get X (ci := 4) (j := 3) rfl in_X4 (Nat.le_of_ble_eq_true rfl) q195 dX4_keep_102 rfl)))))
 (mk_lt
 (mk_lt
 (mk_lt
 (mk_eq (mk_bipush X dX4_keep_105 rfl rfl))
 (mk_eq (mk_bipush X dX4_keep_107 rfl rfl)))
 (mk_lt
 (mk_eq (mk_cpy X q718 q449 q448 q68 ⟨(Nat.le_of_ble_eq_true rfl), (Nat.le_of_ble_eq_true rfl)⟩ dX4_keep_109 rfl))
 (mk_eq (mk_aload_n X dX4_keep_112 rfl rfl))))
 (mk_lt
 (mk_lt
 (mk_eq (mk_aload_n X dX4_keep_113 rfl rfl))
 (mk_eq (mk_getN X (ci := 0) (j := 7) rfl in_X0 (Nat.le_of_ble_eq_true rfl) (List.mem_of_getElem? (i := 39) rfl) dX4_keep_114 rfl)))
 (mk_lt
 (mk_eq (mk_put X (ci := 4) (j := 4) rfl in_X4 tyX4_ok nmX4 (Nat.le_of_ble_eq_true rfl) rfl rfl q196 dX4_keep_117 rfl))
 (mk_eq (mk_rv X dX4_keep_120))))))))
theorem sd_X4_keep {l : Launch} {w : ma_Wd} {NC : Nat} {A : Nat → Prop} {S_X2_copy : ma_Cs} (hw : ma_Wo w YX NC A) (h_X2_copy : ma_Sd l w YX NC A yX2_copy cX2_copy 2 none rm_X2_copy S_X2_copy) : ma_Sd l w YX NC A yX4_keep cX4_keep 2 none rm_X4_keep (ma_rn (tb_X4_keep S_X2_copy) 2) := ma_of hw (by decide) ⟨rfl, rfl⟩ (fun X => tk_X4_keep h_X2_copy X)
theorem dX4_back_0 : decode cX4_back 0 = .ok (.aload_n 1, 1) := by decide +kernel
theorem dX4_back_1 : decode cX4_back 1 = .ok (.getfield 28, 3) := by decide +kernel
theorem dX4_back_4 : decode cX4_back 4 = .ok (.aload_n 0, 1) := by decide +kernel
theorem dX4_back_5 : decode cX4_back 5 = .ok (.getfield 12, 3) := by decide +kernel
theorem dX4_back_8 : decode cX4_back 8 = .ok (.invokevirtual 29, 3) := by decide +kernel
theorem dX4_back_11 : decode cX4_back 11 = .ok (.aload_n 0, 1) := by decide +kernel
theorem dX4_back_12 : decode cX4_back 12 = .ok (.getfield 18, 3) := by decide +kernel
theorem dX4_back_15 : decode cX4_back 15 = .ok (.iconst 0, 1) := by decide +kernel
theorem dX4_back_16 : decode cX4_back 16 = .ok (.aload_n 1, 1) := by decide +kernel
theorem dX4_back_17 : decode cX4_back 17 = .ok (.getfield 33, 3) := by decide +kernel
theorem dX4_back_20 : decode cX4_back 20 = .ok (.iconst 0, 1) := by decide +kernel
theorem dX4_back_21 : decode cX4_back 21 = .ok (.sipush 144, 3) := by decide +kernel
theorem dX4_back_24 : decode cX4_back 24 = .ok (.invokestatic 34, 3) := by decide +kernel
theorem dX4_back_27 : decode cX4_back 27 = .ok (.aload_n 0, 1) := by decide +kernel
theorem dX4_back_28 : decode cX4_back 28 = .ok (.getfield 25, 3) := by decide +kernel
theorem dX4_back_31 : decode cX4_back 31 = .ok (.iconst 0, 1) := by decide +kernel
theorem dX4_back_32 : decode cX4_back 32 = .ok (.aload_n 1, 1) := by decide +kernel
theorem dX4_back_33 : decode cX4_back 33 = .ok (.getfield 40, 3) := by decide +kernel
theorem dX4_back_36 : decode cX4_back 36 = .ok (.iconst 0, 1) := by decide +kernel
theorem dX4_back_37 : decode cX4_back 37 = .ok (.iconst 4, 1) := by decide +kernel
theorem dX4_back_38 : decode cX4_back 38 = .ok (.invokestatic 34, 3) := by decide +kernel
theorem dX4_back_41 : decode cX4_back 41 = .ok (.aload_n 1, 1) := by decide +kernel
theorem dX4_back_42 : decode cX4_back 42 = .ok (.aload_n 0, 1) := by decide +kernel
theorem dX4_back_43 : decode cX4_back 43 = .ok (.getfield 45, 3) := by decide +kernel
theorem dX4_back_46 : decode cX4_back 46 = .ok (.putfield 41, 3) := by decide +kernel
theorem dX4_back_49 : decode cX4_back 49 = .ok (.aload_n 0, 1) := by decide +kernel
theorem dX4_back_50 : decode cX4_back 50 = .ok (.getfield 22, 3) := by decide +kernel
theorem dX4_back_53 : decode cX4_back 53 = .ok (.iconst 0, 1) := by decide +kernel
theorem dX4_back_54 : decode cX4_back 54 = .ok (.aload_n 1, 1) := by decide +kernel
theorem dX4_back_55 : decode cX4_back 55 = .ok (.getfield 46, 3) := by decide +kernel
theorem dX4_back_58 : decode cX4_back 58 = .ok (.iconst 0, 1) := by decide +kernel
theorem dX4_back_59 : decode cX4_back 59 = .ok (.bipush 12, 2) := by decide +kernel
theorem dX4_back_61 : decode cX4_back 61 = .ok (.invokestatic 34, 3) := by decide +kernel
theorem dX4_back_64 : decode cX4_back 64 = .ok (.aload_n 0, 1) := by decide +kernel
theorem dX4_back_65 : decode cX4_back 65 = .ok (.getfield 22, 3) := by decide +kernel
theorem dX4_back_68 : decode cX4_back 68 = .ok (.bipush 12, 2) := by decide +kernel
theorem dX4_back_70 : decode cX4_back 70 = .ok (.aload_n 1, 1) := by decide +kernel
theorem dX4_back_71 : decode cX4_back 71 = .ok (.getfield 49, 3) := by decide +kernel
theorem dX4_back_74 : decode cX4_back 74 = .ok (.iconst 0, 1) := by decide +kernel
theorem dX4_back_75 : decode cX4_back 75 = .ok (.bipush 12, 2) := by decide +kernel
theorem dX4_back_77 : decode cX4_back 77 = .ok (.invokestatic 34, 3) := by decide +kernel
theorem dX4_back_80 : decode cX4_back 80 = .ok (.aload_n 0, 1) := by decide +kernel
theorem dX4_back_81 : decode cX4_back 81 = .ok (.getfield 22, 3) := by decide +kernel
theorem dX4_back_84 : decode cX4_back 84 = .ok (.bipush 24, 2) := by decide +kernel
theorem dX4_back_86 : decode cX4_back 86 = .ok (.aload_n 1, 1) := by decide +kernel
theorem dX4_back_87 : decode cX4_back 87 = .ok (.getfield 52, 3) := by decide +kernel
theorem dX4_back_90 : decode cX4_back 90 = .ok (.iconst 0, 1) := by decide +kernel
theorem dX4_back_91 : decode cX4_back 91 = .ok (.bipush 12, 2) := by decide +kernel
theorem dX4_back_93 : decode cX4_back 93 = .ok (.invokestatic 34, 3) := by decide +kernel
theorem dX4_back_96 : decode cX4_back 96 = .ok (.aload_n 0, 1) := by decide +kernel
theorem dX4_back_97 : decode cX4_back 97 = .ok (.getfield 22, 3) := by decide +kernel
theorem dX4_back_100 : decode cX4_back 100 = .ok (.bipush 36, 2) := by decide +kernel
theorem dX4_back_102 : decode cX4_back 102 = .ok (.aload_n 1, 1) := by decide +kernel
theorem dX4_back_103 : decode cX4_back 103 = .ok (.getfield 55, 3) := by decide +kernel
theorem dX4_back_106 : decode cX4_back 106 = .ok (.iconst 0, 1) := by decide +kernel
theorem dX4_back_107 : decode cX4_back 107 = .ok (.bipush 12, 2) := by decide +kernel
theorem dX4_back_109 : decode cX4_back 109 = .ok (.invokestatic 34, 3) := by decide +kernel
theorem dX4_back_112 : decode cX4_back 112 = .ok (.aload_n 1, 1) := by decide +kernel
theorem dX4_back_113 : decode cX4_back 113 = .ok (.aload_n 0, 1) := by decide +kernel
theorem dX4_back_114 : decode cX4_back 114 = .ok (.getfield 61, 3) := by decide +kernel
theorem dX4_back_117 : decode cX4_back 117 = .ok (.putfield 58, 3) := by decide +kernel
theorem dX4_back_120 : decode cX4_back 120 = .ok (.aload_n 1, 1) := by decide +kernel
theorem dX4_back_121 : decode cX4_back 121 = .ok (.iconst 0, 1) := by decide +kernel
theorem dX4_back_122 : decode cX4_back 122 = .ok (.putfield 62, 3) := by decide +kernel
theorem dX4_back_125 : decode cX4_back 125 = .ok (.return_, 1) := by decide +kernel
def tb_X4_back (S_X2_copy : ma_Cs) : Nat → ma_In := fun pc =>
 (if pc < 61 then
 (if pc < 32 then
 (if pc < 16 then
 (if pc < 8 then
 (if pc < 4 then
 (if pc < 1 then
 (if pc = 0 then in_ald 1 1 else in_no) else
 (if pc = 1 then in_get YX 0 4 4 else in_no)) else
 (if pc < 5 then
 (if pc = 4 then in_ald 0 5 else in_no) else
 (if pc = 5 then in_get YX 4 0 8 else in_no))) else
 (if pc < 12 then
 (if pc < 11 then
 (if pc = 8 then in_v2 YX 2 S_X2_copy 11 else in_no) else
 (if pc = 11 then in_ald 0 12 else in_no)) else
 (if pc < 15 then
 (if pc = 12 then in_get YX 4 1 15 else in_no) else
 (if pc = 15 then in_push (.int 0) 16 else in_no)))) else
 (if pc < 24 then
 (if pc < 20 then
 (if pc < 17 then
 (if pc = 16 then in_ald 1 17 else in_no) else
 (if pc = 17 then in_get YX 0 9 20 else in_no)) else
 (if pc < 21 then
 (if pc = 20 then in_push (.int 0) 21 else in_no) else
 (if pc = 21 then in_push (.int 144) 24 else in_no))) else
 (if pc < 28 then
 (if pc < 27 then
 (if pc = 24 then in_cpy YX 27 else in_no) else
 (if pc = 27 then in_ald 0 28 else in_no)) else
 (if pc < 31 then
 (if pc = 28 then in_get YX 4 5 31 else in_no) else
 (if pc = 31 then in_push (.int 0) 32 else in_no))))) else
 (if pc < 46 then
 (if pc < 38 then
 (if pc < 36 then
 (if pc < 33 then
 (if pc = 32 then in_ald 1 33 else in_no) else
 (if pc = 33 then in_get YX 0 8 36 else in_no)) else
 (if pc < 37 then
 (if pc = 36 then in_push (.int 0) 37 else in_no) else
 (if pc = 37 then in_push (.int 4) 38 else in_no))) else
 (if pc < 42 then
 (if pc < 41 then
 (if pc = 38 then in_cpy YX 41 else in_no) else
 (if pc = 41 then in_ald 1 42 else in_no)) else
 (if pc < 43 then
 (if pc = 42 then in_ald 0 43 else in_no) else
 (if pc = 43 then in_get YX 4 2 46 else in_no)))) else
 (if pc < 54 then
 (if pc < 50 then
 (if pc < 49 then
 (if pc = 46 then in_put YX 0 10 49 else in_no) else
 (if pc = 49 then in_ald 0 50 else in_no)) else
 (if pc < 53 then
 (if pc = 50 then in_get YX 4 3 53 else in_no) else
 (if pc = 53 then in_push (.int 0) 54 else in_no))) else
 (if pc < 58 then
 (if pc < 55 then
 (if pc = 54 then in_ald 1 55 else in_no) else
 (if pc = 55 then in_get YX 0 11 58 else in_no)) else
 (if pc < 59 then
 (if pc = 58 then in_push (.int 0) 59 else in_no) else
 (if pc = 59 then in_push (.int 12) 61 else in_no)))))) else
 (if pc < 93 then
 (if pc < 77 then
 (if pc < 70 then
 (if pc < 65 then
 (if pc < 64 then
 (if pc = 61 then in_cpy YX 64 else in_no) else
 (if pc = 64 then in_ald 0 65 else in_no)) else
 (if pc < 68 then
 (if pc = 65 then in_get YX 4 3 68 else in_no) else
 (if pc = 68 then in_push (.int 12) 70 else in_no))) else
 (if pc < 74 then
 (if pc < 71 then
 (if pc = 70 then in_ald 1 71 else in_no) else
 (if pc = 71 then in_get YX 0 12 74 else in_no)) else
 (if pc < 75 then
 (if pc = 74 then in_push (.int 0) 75 else in_no) else
 (if pc = 75 then in_push (.int 12) 77 else in_no)))) else
 (if pc < 86 then
 (if pc < 81 then
 (if pc < 80 then
 (if pc = 77 then in_cpy YX 80 else in_no) else
 (if pc = 80 then in_ald 0 81 else in_no)) else
 (if pc < 84 then
 (if pc = 81 then in_get YX 4 3 84 else in_no) else
 (if pc = 84 then in_push (.int 24) 86 else in_no))) else
 (if pc < 90 then
 (if pc < 87 then
 (if pc = 86 then in_ald 1 87 else in_no) else
 (if pc = 87 then in_get YX 0 13 90 else in_no)) else
 (if pc < 91 then
 (if pc = 90 then in_push (.int 0) 91 else in_no) else
 (if pc = 91 then in_push (.int 12) 93 else in_no))))) else
 (if pc < 109 then
 (if pc < 102 then
 (if pc < 97 then
 (if pc < 96 then
 (if pc = 93 then in_cpy YX 96 else in_no) else
 (if pc = 96 then in_ald 0 97 else in_no)) else
 (if pc < 100 then
 (if pc = 97 then in_get YX 4 3 100 else in_no) else
 (if pc = 100 then in_push (.int 36) 102 else in_no))) else
 (if pc < 106 then
 (if pc < 103 then
 (if pc = 102 then in_ald 1 103 else in_no) else
 (if pc = 103 then in_get YX 0 14 106 else in_no)) else
 (if pc < 107 then
 (if pc = 106 then in_push (.int 0) 107 else in_no) else
 (if pc = 107 then in_push (.int 12) 109 else in_no)))) else
 (if pc < 117 then
 (if pc < 113 then
 (if pc < 112 then
 (if pc = 109 then in_cpy YX 112 else in_no) else
 (if pc = 112 then in_ald 1 113 else in_no)) else
 (if pc < 114 then
 (if pc = 113 then in_ald 0 114 else in_no) else
 (if pc = 114 then in_get YX 4 4 117 else in_no))) else
 (if pc < 121 then
 (if pc < 120 then
 (if pc = 117 then in_put YX 0 7 120 else in_no) else
 (if pc = 120 then in_ald 1 121 else in_no)) else
 (if pc < 122 then
 (if pc = 121 then in_push (.int 0) 122 else in_no) else
 (if pc < 125 then
 (if pc = 122 then in_puz YX 0 15 125 else in_no) else
 (if pc = 125 then in_rv else in_no))))))))
theorem tk_X4_back {l : Launch} {w : ma_Wd} {NC : Nat} {A : Nat → Prop} {S_X2_copy : ma_Cs} (h_X2_copy : ma_Sd l w YX NC A yX2_copy cX2_copy 2 none rm_X2_copy S_X2_copy) {p : Program} {e : Env} {s : State} {m : MethodId} {args : Array Value} {below : List Frame} {meth : Method} {c : Code} (X : ma_Cx p s m args meth c w YX NC A yX4_back.cls cX4_back 2 none) : ∀ pc, ma_Ok p l e rm_X4_back s m args below meth c w YX NC A 2 pc (tb_X4_back S_X2_copy pc) := fun pc =>
 (mk_lt
 (mk_lt
 (mk_lt
 (mk_lt
 (mk_lt
 (mk_lt
 (mk_eq (mk_aload_n X dX4_back_0 rfl rfl))
 (mk_eq (mk_getN X (ci := 0) (j := 4) rfl in_X0 (Nat.le_of_ble_eq_true rfl) (List.mem_of_getElem? (i := 38) rfl) dX4_back_1 rfl)))
 (mk_lt
 (mk_eq (mk_aload_n X dX4_back_4 rfl rfl))
 (mk_eq (mk_get X (ci := 4) (j := 0) rfl in_X4 (Nat.le_of_ble_eq_true rfl) q192 dX4_back_5 rfl))))
 (mk_lt
 (mk_lt
 (mk_eq (mk_V2 X h_X2_copy (ci := 2) rfl (lw_V q717 q444 q445 q63 q446) ⟨rfl, by decide, by decide, rfl⟩ ⟨(Nat.le_of_ble_eq_true rfl), (Nat.le_of_ble_eq_true rfl)⟩ dX4_back_8 rfl))
 (mk_eq (mk_aload_n X dX4_back_11 rfl rfl)))
 (mk_lt
 (mk_eq (mk_get X (ci := 4) (j := 1) rfl in_X4 (Nat.le_of_ble_eq_true rfl) q193 dX4_back_12 rfl))
 (mk_eq (mk_iconst X dX4_back_15 rfl rfl)))))
 (mk_lt
 (mk_lt
 (mk_lt
 (mk_eq (mk_aload_n X dX4_back_16 rfl rfl))
 (mk_eq (mk_getN X (ci := 0) (j := 9) rfl in_X0 (Nat.le_of_ble_eq_true rfl) (List.mem_of_getElem? (i := 41) rfl) dX4_back_17 rfl)))
 (mk_lt
 (mk_eq (mk_iconst X dX4_back_20 rfl rfl))
 (mk_eq (mk_sipush X dX4_back_21 rfl rfl))))
 (mk_lt
 (mk_lt
 (mk_eq (mk_cpy X q718 q449 q448 q68 ⟨(Nat.le_of_ble_eq_true rfl), (Nat.le_of_ble_eq_true rfl)⟩ dX4_back_24 rfl))
 (mk_eq (mk_aload_n X dX4_back_27 rfl rfl)))
 (mk_lt
 (mk_eq (mk_get X (ci := 4) (j := 5) rfl in_X4 (Nat.le_of_ble_eq_true rfl) q197 dX4_back_28 rfl))
 (mk_eq (mk_iconst X dX4_back_31 rfl rfl))))))
 (mk_lt
 (mk_lt
 (mk_lt
 (mk_lt
 (mk_eq (mk_aload_n X dX4_back_32 rfl rfl))
 (mk_eq (mk_getN X (ci := 0) (j := 8) rfl in_X0 (Nat.le_of_ble_eq_true rfl) (List.mem_of_getElem? (i := 40) rfl) dX4_back_33 rfl)))
 (mk_lt
 (mk_eq (mk_iconst X dX4_back_36 rfl rfl))
 (mk_eq (mk_iconst X dX4_back_37 rfl rfl))))
 (mk_lt
 (mk_lt
 (mk_eq (mk_cpy X q718 q449 q448 q68 ⟨(Nat.le_of_ble_eq_true rfl), (Nat.le_of_ble_eq_true rfl)⟩ dX4_back_38 rfl))
 (mk_eq (mk_aload_n X dX4_back_41 rfl rfl)))
 (mk_lt
 (mk_eq (mk_aload_n X dX4_back_42 rfl rfl))
 (mk_eq (mk_get X (ci := 4) (j := 2) rfl in_X4 (Nat.le_of_ble_eq_true rfl) q194 dX4_back_43 rfl)))))
 (mk_lt
 (mk_lt
 (mk_lt
 (mk_eq (mk_putN X (ci := 0) (j := 10) rfl in_X0 tyX0_ok nmX0 (Nat.le_of_ble_eq_true rfl) rfl rfl (List.mem_of_getElem? (i := 42) rfl) dX4_back_46 rfl))
 (mk_eq (mk_aload_n X dX4_back_49 rfl rfl)))
 (mk_lt
 (mk_eq (mk_get X (ci := 4) (j := 3) rfl in_X4 (Nat.le_of_ble_eq_true rfl) q195 dX4_back_50 rfl))
 (mk_eq (mk_iconst X dX4_back_53 rfl rfl))))
 (mk_lt
 (mk_lt
 (mk_eq (mk_aload_n X dX4_back_54 rfl rfl))
 (mk_eq (mk_getN X (ci := 0) (j := 11) rfl in_X0 (Nat.le_of_ble_eq_true rfl) (List.mem_of_getElem? (i := 43) rfl) dX4_back_55 rfl)))
 (mk_lt
 (mk_eq (mk_iconst X dX4_back_58 rfl rfl))
 (mk_eq (mk_bipush X dX4_back_59 rfl rfl)))))))
 (mk_lt
 (mk_lt
 (mk_lt
 (mk_lt
 (mk_lt
 (mk_eq (mk_cpy X q718 q449 q448 q68 ⟨(Nat.le_of_ble_eq_true rfl), (Nat.le_of_ble_eq_true rfl)⟩ dX4_back_61 rfl))
 (mk_eq (mk_aload_n X dX4_back_64 rfl rfl)))
 (mk_lt
 (mk_eq (mk_get X (ci := 4) (j := 3) rfl in_X4 (Nat.le_of_ble_eq_true rfl) q195 dX4_back_65 rfl))
 (mk_eq (mk_bipush X dX4_back_68 rfl rfl))))
 (mk_lt
 (mk_lt
 (mk_eq (mk_aload_n X dX4_back_70 rfl rfl))
 (mk_eq (mk_getN X (ci := 0) (j := 12) rfl in_X0 (Nat.le_of_ble_eq_true rfl) (List.mem_of_getElem? (i := 44) rfl) dX4_back_71 rfl)))
 (mk_lt
 (mk_eq (mk_iconst X dX4_back_74 rfl rfl))
 (mk_eq (mk_bipush X dX4_back_75 rfl rfl)))))
 (mk_lt
 (mk_lt
 (mk_lt
 (mk_eq (mk_cpy X q718 q449 q448 q68 ⟨(Nat.le_of_ble_eq_true rfl), (Nat.le_of_ble_eq_true rfl)⟩ dX4_back_77 rfl))
 (mk_eq (mk_aload_n X dX4_back_80 rfl rfl)))
 (mk_lt
 (mk_eq (mk_get X (ci := 4) (j := 3) rfl in_X4 (Nat.le_of_ble_eq_true rfl) q195 dX4_back_81 rfl))
 (mk_eq (mk_bipush X dX4_back_84 rfl rfl))))
 (mk_lt
 (mk_lt
 (mk_eq (mk_aload_n X dX4_back_86 rfl rfl))
 (mk_eq (mk_getN X (ci := 0) (j := 13) rfl in_X0 (Nat.le_of_ble_eq_true rfl) (List.mem_of_getElem? (i := 45) rfl) dX4_back_87 rfl)))
 (mk_lt
 (mk_eq (mk_iconst X dX4_back_90 rfl rfl))
 (mk_eq (mk_bipush X dX4_back_91 rfl rfl))))))
 (mk_lt
 (mk_lt
 (mk_lt
 (mk_lt
 (mk_eq (mk_cpy X q718 q449 q448 q68 ⟨(Nat.le_of_ble_eq_true rfl), (Nat.le_of_ble_eq_true rfl)⟩ dX4_back_93 rfl))
 (mk_eq (mk_aload_n X dX4_back_96 rfl rfl)))
 (mk_lt
 (mk_eq (mk_get X (ci := 4) (j := 3) rfl in_X4 (Nat.le_of_ble_eq_true rfl) q195 dX4_back_97 rfl))
 (mk_eq (mk_bipush X dX4_back_100 rfl rfl))))
 (mk_lt
 (mk_lt
 (mk_eq (mk_aload_n X dX4_back_102 rfl rfl))
 (mk_eq (mk_getN X (ci := 0) (j := 14) rfl in_X0 (Nat.le_of_ble_eq_true rfl) (List.mem_of_getElem? (i := 46) rfl) dX4_back_103 rfl)))
 (mk_lt
 (mk_eq (mk_iconst X dX4_back_106 rfl rfl))
 (mk_eq (mk_bipush X dX4_back_107 rfl rfl)))))
 (mk_lt
 (mk_lt
 (mk_lt
 (mk_eq (mk_cpy X q718 q449 q448 q68 ⟨(Nat.le_of_ble_eq_true rfl), (Nat.le_of_ble_eq_true rfl)⟩ dX4_back_109 rfl))
 (mk_eq (mk_aload_n X dX4_back_112 rfl rfl)))
 (mk_lt
 (mk_eq (mk_aload_n X dX4_back_113 rfl rfl))
 (mk_eq (mk_get X (ci := 4) (j := 4) rfl in_X4 (Nat.le_of_ble_eq_true rfl) q196 dX4_back_114 rfl))))
 (mk_lt
 (mk_lt
 (mk_eq (mk_putN X (ci := 0) (j := 7) rfl in_X0 tyX0_ok nmX0 (Nat.le_of_ble_eq_true rfl) rfl rfl (List.mem_of_getElem? (i := 39) rfl) dX4_back_117 rfl))
 (mk_eq (mk_aload_n X dX4_back_120 rfl rfl)))
 (mk_lt
 (mk_eq (mk_iconst X dX4_back_121 rfl rfl))
 (mk_lt
 (mk_eq (mk_puzN X (ci := 0) (j := 15) rfl in_X0 tyX0_ok nmX0 (Nat.le_of_ble_eq_true rfl) rfl rfl (List.mem_of_getElem? (i := 47) rfl) dX4_back_122 rfl))
 (mk_eq (mk_rv X dX4_back_125)))))))))
theorem sd_X4_back {l : Launch} {w : ma_Wd} {NC : Nat} {A : Nat → Prop} {S_X2_copy : ma_Cs} (hw : ma_Wo w YX NC A) (h_X2_copy : ma_Sd l w YX NC A yX2_copy cX2_copy 2 none rm_X2_copy S_X2_copy) : ma_Sd l w YX NC A yX4_back cX4_back 2 none rm_X4_back (ma_rn (tb_X4_back S_X2_copy) 2) := ma_of hw (by decide) ⟨rfl, rfl⟩ (fun X => tk_X4_back h_X2_copy X)
