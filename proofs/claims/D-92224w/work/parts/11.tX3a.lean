/-! tables: X3_begin X3_filled X3_neighbour X3_put X3_place X3_run X3_at X3_slipped X3_marksOf X3_marks X3_stepOf X3_made X3_valueOf -/
set_option maxRecDepth 100000
set_option maxHeartbeats 4000000
theorem dX3_begin_0 : decode cX3_begin 0 = .ok (.aload_n 0, 1) := by decide +kernel
theorem dX3_begin_1 : decode cX3_begin 1 = .ok (.aload_n 0, 1) := by decide +kernel
theorem dX3_begin_2 : decode cX3_begin 2 = .ok (.getfield 3, 3) := by decide +kernel
theorem dX3_begin_5 : decode cX3_begin 5 = .ok (.getfield 143, 3) := by decide +kernel
theorem dX3_begin_8 : decode cX3_begin 8 = .ok (.putfield 27, 3) := by decide +kernel
theorem dX3_begin_11 : decode cX3_begin 11 = .ok (.aload_n 0, 1) := by decide +kernel
theorem dX3_begin_12 : decode cX3_begin 12 = .ok (.aload_n 0, 1) := by decide +kernel
theorem dX3_begin_13 : decode cX3_begin 13 = .ok (.getfield 3, 3) := by decide +kernel
theorem dX3_begin_16 : decode cX3_begin 16 = .ok (.getfield 146, 3) := by decide +kernel
theorem dX3_begin_19 : decode cX3_begin 19 = .ok (.putfield 31, 3) := by decide +kernel
theorem dX3_begin_22 : decode cX3_begin 22 = .ok (.iconst 0, 1) := by decide +kernel
theorem dX3_begin_23 : decode cX3_begin 23 = .ok (.istore_n 1, 1) := by decide +kernel
theorem dX3_begin_24 : decode cX3_begin 24 = .ok (.iload_n 1, 1) := by decide +kernel
theorem dX3_begin_25 : decode cX3_begin 25 = .ok (.aload_n 0, 1) := by decide +kernel
theorem dX3_begin_26 : decode cX3_begin 26 = .ok (.getfield 3, 3) := by decide +kernel
theorem dX3_begin_29 : decode cX3_begin 29 = .ok (.invokevirtual 149, 3) := by decide +kernel
theorem dX3_begin_32 : decode cX3_begin 32 = .ok (.if_icmp .ge 70, 3) := by decide +kernel
theorem dX3_begin_35 : decode cX3_begin 35 = .ok (.iconst 0, 1) := by decide +kernel
theorem dX3_begin_36 : decode cX3_begin 36 = .ok (.istore_n 2, 1) := by decide +kernel
theorem dX3_begin_37 : decode cX3_begin 37 = .ok (.iload_n 2, 1) := by decide +kernel
theorem dX3_begin_38 : decode cX3_begin 38 = .ok (.iconst 4, 1) := by decide +kernel
theorem dX3_begin_39 : decode cX3_begin 39 = .ok (.if_icmp .ge 57, 3) := by decide +kernel
theorem dX3_begin_42 : decode cX3_begin 42 = .ok (.aload_n 0, 1) := by decide +kernel
theorem dX3_begin_43 : decode cX3_begin 43 = .ok (.getfield 3, 3) := by decide +kernel
theorem dX3_begin_46 : decode cX3_begin 46 = .ok (.getfield 137, 3) := by decide +kernel
theorem dX3_begin_49 : decode cX3_begin 49 = .ok (.iconst 4, 1) := by decide +kernel
theorem dX3_begin_50 : decode cX3_begin 50 = .ok (.iload_n 1, 1) := by decide +kernel
theorem dX3_begin_51 : decode cX3_begin 51 = .ok (.imul, 1) := by decide +kernel
theorem dX3_begin_52 : decode cX3_begin 52 = .ok (.iload_n 2, 1) := by decide +kernel
theorem dX3_begin_53 : decode cX3_begin 53 = .ok (.iadd, 1) := by decide +kernel
theorem dX3_begin_54 : decode cX3_begin 54 = .ok (.iaload, 1) := by decide +kernel
theorem dX3_begin_55 : decode cX3_begin 55 = .ok (.istore_n 3, 1) := by decide +kernel
theorem dX3_begin_56 : decode cX3_begin 56 = .ok (.aload_n 0, 1) := by decide +kernel
theorem dX3_begin_57 : decode cX3_begin 57 = .ok (.iconst 0, 1) := by decide +kernel
theorem dX3_begin_58 : decode cX3_begin 58 = .ok (.iload_n 1, 1) := by decide +kernel
theorem dX3_begin_59 : decode cX3_begin 59 = .ok (.iload_n 2, 1) := by decide +kernel
theorem dX3_begin_60 : decode cX3_begin 60 = .ok (.iload_n 3, 1) := by decide +kernel
theorem dX3_begin_61 : decode cX3_begin 61 = .ok (.ldc 140, 2) := by decide +kernel
theorem dX3_begin_63 : decode cX3_begin 63 = .ok (.if_icmp .ne 12, 3) := by decide +kernel
theorem dX3_begin_66 : decode cX3_begin 66 = .ok (.aload_n 0, 1) := by decide +kernel
theorem dX3_begin_67 : decode cX3_begin 67 = .ok (.iload_n 1, 1) := by decide +kernel
theorem dX3_begin_68 : decode cX3_begin 68 = .ok (.iload_n 2, 1) := by decide +kernel
theorem dX3_begin_69 : decode cX3_begin 69 = .ok (.invokevirtual 153, 3) := by decide +kernel
theorem dX3_begin_72 : decode cX3_begin 72 = .ok (.goto 4, 3) := by decide +kernel
theorem dX3_begin_75 : decode cX3_begin 75 = .ok (.iload_n 3, 1) := by decide +kernel
theorem dX3_begin_76 : decode cX3_begin 76 = .ok (.iload_n 3, 1) := by decide +kernel
theorem dX3_begin_77 : decode cX3_begin 77 = .ok (.ldc 140, 2) := by decide +kernel
theorem dX3_begin_79 : decode cX3_begin 79 = .ok (.if_icmp .ne 7, 3) := by decide +kernel
theorem dX3_begin_82 : decode cX3_begin 82 = .ok (.iconst 1, 1) := by decide +kernel
theorem dX3_begin_83 : decode cX3_begin 83 = .ok (.goto 4, 3) := by decide +kernel
theorem dX3_begin_86 : decode cX3_begin 86 = .ok (.iconst 0, 1) := by decide +kernel
theorem dX3_begin_87 : decode cX3_begin 87 = .ok (.invokevirtual 121, 3) := by decide +kernel
theorem dX3_begin_90 : decode cX3_begin 90 = .ok (.iinc 2 1, 3) := by decide +kernel
theorem dX3_begin_93 : decode cX3_begin 93 = .ok (.goto (-56), 3) := by decide +kernel
theorem dX3_begin_96 : decode cX3_begin 96 = .ok (.iinc 1 1, 3) := by decide +kernel
theorem dX3_begin_99 : decode cX3_begin 99 = .ok (.goto (-75), 3) := by decide +kernel
theorem dX3_begin_102 : decode cX3_begin 102 = .ok (.return_, 1) := by decide +kernel
def tb_X3_begin (S_X0_cells S_X3_filled S_X3_put : ma_Cs) : Nat → ma_In := fun pc =>
 (if pc < 52 then
 (if pc < 26 then
 (if pc < 13 then
 (if pc < 5 then
 (if pc < 1 then
 (if pc = 0 then in_ald 0 1 else in_no) else
 (if pc < 2 then
 (if pc = 1 then in_ald 0 2 else in_no) else
 (if pc = 2 then in_get YX 3 4 5 else in_no))) else
 (if pc < 11 then
 (if pc < 8 then
 (if pc = 5 then in_get YX 0 5 8 else in_no) else
 (if pc = 8 then in_put YX 3 0 11 else in_no)) else
 (if pc < 12 then
 (if pc = 11 then in_ald 0 12 else in_no) else
 (if pc = 12 then in_ald 0 13 else in_no)))) else
 (if pc < 22 then
 (if pc < 16 then
 (if pc = 13 then in_get YX 3 4 16 else in_no) else
 (if pc < 19 then
 (if pc = 16 then in_get YX 0 6 19 else in_no) else
 (if pc = 19 then in_put YX 3 1 22 else in_no))) else
 (if pc < 24 then
 (if pc < 23 then
 (if pc = 22 then in_push (.int 0) 23 else in_no) else
 (if pc = 23 then in_ist 1 24 else in_no)) else
 (if pc < 25 then
 (if pc = 24 then in_ild 1 25 else in_no) else
 (if pc = 25 then in_ald 0 26 else in_no))))) else
 (if pc < 39 then
 (if pc < 35 then
 (if pc < 29 then
 (if pc = 26 then in_get YX 3 4 29 else in_no) else
 (if pc < 32 then
 (if pc = 29 then in_v1 YX 0 S_X0_cells 32 else in_no) else
 (if pc = 32 then in_if2 (fun x y => y ≤ x) 102 35 else in_no))) else
 (if pc < 37 then
 (if pc < 36 then
 (if pc = 35 then in_push (.int 0) 36 else in_no) else
 (if pc = 36 then in_ist 2 37 else in_no)) else
 (if pc < 38 then
 (if pc = 37 then in_ild 2 38 else in_no) else
 (if pc = 38 then in_push (.int 4) 39 else in_no)))) else
 (if pc < 46 then
 (if pc < 42 then
 (if pc = 39 then in_if2 (fun x y => y ≤ x) 96 42 else in_no) else
 (if pc < 43 then
 (if pc = 42 then in_ald 0 43 else in_no) else
 (if pc = 43 then in_get YX 3 4 46 else in_no))) else
 (if pc < 50 then
 (if pc < 49 then
 (if pc = 46 then in_get YX 0 9 49 else in_no) else
 (if pc = 49 then in_push (.int 4) 50 else in_no)) else
 (if pc < 51 then
 (if pc = 50 then in_ild 1 51 else in_no) else
 (if pc = 51 then in_iii (fun x y => x * y) 52 else in_no)))))) else
 (if pc < 69 then
 (if pc < 59 then
 (if pc < 55 then
 (if pc < 53 then
 (if pc = 52 then in_ild 2 53 else in_no) else
 (if pc < 54 then
 (if pc = 53 then in_iii (fun x y => x + y) 54 else in_no) else
 (if pc = 54 then in_iar YX 55 else in_no))) else
 (if pc < 57 then
 (if pc < 56 then
 (if pc = 55 then in_ist 3 56 else in_no) else
 (if pc = 56 then in_ald 0 57 else in_no)) else
 (if pc < 58 then
 (if pc = 57 then in_push (.int 0) 58 else in_no) else
 (if pc = 58 then in_ild 1 59 else in_no)))) else
 (if pc < 63 then
 (if pc < 60 then
 (if pc = 59 then in_ild 2 60 else in_no) else
 (if pc < 61 then
 (if pc = 60 then in_ild 3 61 else in_no) else
 (if pc = 61 then in_push (.int 2000000) 63 else in_no))) else
 (if pc < 67 then
 (if pc < 66 then
 (if pc = 63 then in_if2 (fun x y => x = y) 66 75 else in_no) else
 (if pc = 66 then in_ald 0 67 else in_no)) else
 (if pc < 68 then
 (if pc = 67 then in_ild 1 68 else in_no) else
 (if pc = 68 then in_ild 2 69 else in_no))))) else
 (if pc < 83 then
 (if pc < 76 then
 (if pc < 72 then
 (if pc = 69 then in_v3 YX 3 S_X3_filled 72 else in_no) else
 (if pc < 75 then
 (if pc = 72 then in_go 76 else in_no) else
 (if pc = 75 then in_ild 3 76 else in_no))) else
 (if pc < 79 then
 (if pc < 77 then
 (if pc = 76 then in_ild 3 77 else in_no) else
 (if pc = 77 then in_push (.int 2000000) 79 else in_no)) else
 (if pc < 82 then
 (if pc = 79 then in_if2 (fun x y => x = y) 82 86 else in_no) else
 (if pc = 82 then in_push (.int 1) 83 else in_no)))) else
 (if pc < 93 then
 (if pc < 87 then
 (if pc < 86 then
 (if pc = 83 then in_go 87 else in_no) else
 (if pc = 86 then in_push (.int 0) 87 else in_no)) else
 (if pc < 90 then
 (if pc = 87 then in_v6 YX 3 S_X3_put 90 else in_no) else
 (if pc = 90 then in_inc 2 1 93 else in_no))) else
 (if pc < 99 then
 (if pc < 96 then
 (if pc = 93 then in_go 37 else in_no) else
 (if pc = 96 then in_inc 1 1 99 else in_no)) else
 (if pc < 102 then
 (if pc = 99 then in_go 24 else in_no) else
 (if pc = 102 then in_rv else in_no)))))))
theorem tk_X3_begin {l : Launch} {w : ma_Wd} {NC : Nat} {A : Nat → Prop} {S_X0_cells S_X3_filled S_X3_put : ma_Cs} (h_X0_cells : ma_Sd l w YX NC A yX0_cells cX0_cells 1 (some .int) rm_X0_cells S_X0_cells) (h_X3_filled : ma_Sd l w YX NC A yX3_filled cX3_filled 8 (some .int) rm_X3_filled S_X3_filled) (h_X3_put : ma_Sd l w YX NC A yX3_put cX3_put 6 none rm_X3_put S_X3_put) {p : Program} {e : Env} {s : State} {m : MethodId} {args : Array Value} {below : List Frame} {meth : Method} {c : Code} (X : ma_Cx p s m args meth c w YX NC A yX3_begin.cls cX3_begin 4 none) : ∀ pc, ma_Ok p l e rm_X3_begin s m args below meth c w YX NC A 4 pc (tb_X3_begin S_X0_cells S_X3_filled S_X3_put pc) := fun pc =>
 (mk_lt
 (mk_lt
 (mk_lt
 (mk_lt
 (mk_lt
 (mk_eq (mk_aload_n X dX3_begin_0 rfl rfl))
 (mk_lt
 (mk_eq (mk_aload_n X dX3_begin_1 rfl rfl))
 (mk_eq (mk_get X (ci := 3) (j := 4) rfl in_X3 (Nat.le_of_ble_eq_true rfl) q171 dX3_begin_2 rfl))))
 (mk_lt
 (mk_lt
 (mk_eq (mk_getN X (ci := 0) (j := 5) rfl in_X0 (Nat.le_of_ble_eq_true rfl) (List.mem_of_getElem? (i := 28) rfl) dX3_begin_5 rfl))
 (mk_eq (mk_put X (ci := 3) (j := 0) rfl in_X3 tyX3_ok nmX3 (Nat.le_of_ble_eq_true rfl) rfl rfl q164 dX3_begin_8 rfl)))
 (mk_lt
 (mk_eq (mk_aload_n X dX3_begin_11 rfl rfl))
 (mk_eq (mk_aload_n X dX3_begin_12 rfl rfl)))))
 (mk_lt
 (mk_lt
 (mk_eq (mk_get X (ci := 3) (j := 4) rfl in_X3 (Nat.le_of_ble_eq_true rfl) q171 dX3_begin_13 rfl))
 (mk_lt
 (mk_eq (mk_getN X (ci := 0) (j := 6) rfl in_X0 (Nat.le_of_ble_eq_true rfl) (List.mem_of_getElem? (i := 29) rfl) dX3_begin_16 rfl))
 (mk_eq (mk_put X (ci := 3) (j := 1) rfl in_X3 tyX3_ok nmX3 (Nat.le_of_ble_eq_true rfl) rfl rfl q166 dX3_begin_19 rfl))))
 (mk_lt
 (mk_lt
 (mk_eq (mk_iconst X dX3_begin_22 rfl rfl))
 (mk_eq (mk_istore_n X dX3_begin_23 rfl (Nat.le_of_ble_eq_true rfl) rfl)))
 (mk_lt
 (mk_eq (mk_iload_n X dX3_begin_24 rfl rfl))
 (mk_eq (mk_aload_n X dX3_begin_25 rfl rfl))))))
 (mk_lt
 (mk_lt
 (mk_lt
 (mk_eq (mk_get X (ci := 3) (j := 4) rfl in_X3 (Nat.le_of_ble_eq_true rfl) q171 dX3_begin_26 rfl))
 (mk_lt
 (mk_eq (mk_VN1 X h_X0_cells (ci := 0) rfl (lw_meth q361) (List.mem_of_getElem? (i := 7) rfl) q61 q360 qs2 ⟨by decide, by decide, rfl⟩ ⟨(Nat.le_of_ble_eq_true rfl), (Nat.le_of_ble_eq_true rfl)⟩ dX3_begin_29 rfl))
 (mk_eq (mk_icge X dX3_begin_32 rfl rfl))))
 (mk_lt
 (mk_lt
 (mk_eq (mk_iconst X dX3_begin_35 rfl rfl))
 (mk_eq (mk_istore_n X dX3_begin_36 rfl (Nat.le_of_ble_eq_true rfl) rfl)))
 (mk_lt
 (mk_eq (mk_iload_n X dX3_begin_37 rfl rfl))
 (mk_eq (mk_iconst X dX3_begin_38 rfl rfl)))))
 (mk_lt
 (mk_lt
 (mk_eq (mk_icge X dX3_begin_39 rfl rfl))
 (mk_lt
 (mk_eq (mk_aload_n X dX3_begin_42 rfl rfl))
 (mk_eq (mk_get X (ci := 3) (j := 4) rfl in_X3 (Nat.le_of_ble_eq_true rfl) q171 dX3_begin_43 rfl))))
 (mk_lt
 (mk_lt
 (mk_eq (mk_getN X (ci := 0) (j := 9) rfl in_X0 (Nat.le_of_ble_eq_true rfl) (List.mem_of_getElem? (i := 32) rfl) dX3_begin_46 rfl))
 (mk_eq (mk_iconst X dX3_begin_49 rfl rfl)))
 (mk_lt
 (mk_eq (mk_iload_n X dX3_begin_50 rfl rfl))
 (mk_eq (mk_imul X dX3_begin_51 rfl)))))))
 (mk_lt
 (mk_lt
 (mk_lt
 (mk_lt
 (mk_eq (mk_iload_n X dX3_begin_52 rfl rfl))
 (mk_lt
 (mk_eq (mk_iadd X dX3_begin_53 rfl))
 (mk_eq (mk_iar X dX3_begin_54 rfl))))
 (mk_lt
 (mk_lt
 (mk_eq (mk_istore_n X dX3_begin_55 rfl (Nat.le_of_ble_eq_true rfl) rfl))
 (mk_eq (mk_aload_n X dX3_begin_56 rfl rfl)))
 (mk_lt
 (mk_eq (mk_iconst X dX3_begin_57 rfl rfl))
 (mk_eq (mk_iload_n X dX3_begin_58 rfl rfl)))))
 (mk_lt
 (mk_lt
 (mk_eq (mk_iload_n X dX3_begin_59 rfl rfl))
 (mk_lt
 (mk_eq (mk_iload_n X dX3_begin_60 rfl rfl))
 (mk_eq (mk_ldc X dX3_begin_61 q490 rfl))))
 (mk_lt
 (mk_lt
 (mk_eq (mk_icne X dX3_begin_63 rfl rfl))
 (mk_eq (mk_aload_n X dX3_begin_66 rfl rfl)))
 (mk_lt
 (mk_eq (mk_iload_n X dX3_begin_67 rfl rfl))
 (mk_eq (mk_iload_n X dX3_begin_68 rfl rfl))))))
 (mk_lt
 (mk_lt
 (mk_lt
 (mk_eq (mk_V3 X h_X3_filled (ci := 3) rfl (lw_V q491 q493 qs14 q64 q494) ⟨rfl, by decide, by decide, rfl⟩ ⟨(Nat.le_of_ble_eq_true rfl), (Nat.le_of_ble_eq_true rfl)⟩ dX3_begin_69 rfl))
 (mk_lt
 (mk_eq (mk_goto X dX3_begin_72 rfl))
 (mk_eq (mk_iload_n X dX3_begin_75 rfl rfl))))
 (mk_lt
 (mk_lt
 (mk_eq (mk_iload_n X dX3_begin_76 rfl rfl))
 (mk_eq (mk_ldc X dX3_begin_77 q490 rfl)))
 (mk_lt
 (mk_eq (mk_icne X dX3_begin_79 rfl rfl))
 (mk_eq (mk_iconst X dX3_begin_82 rfl rfl)))))
 (mk_lt
 (mk_lt
 (mk_lt
 (mk_eq (mk_goto X dX3_begin_83 rfl))
 (mk_eq (mk_iconst X dX3_begin_86 rfl rfl)))
 (mk_lt
 (mk_eq (mk_V6 X h_X3_put (ci := 3) rfl (lw_V q502 q504 qs15 q64 q505) ⟨rfl, by decide, by decide, rfl⟩ ⟨(Nat.le_of_ble_eq_true rfl), (Nat.le_of_ble_eq_true rfl)⟩ dX3_begin_87 rfl))
 (mk_eq (mk_iinc X dX3_begin_90 rfl (Nat.le_of_ble_eq_true rfl) rfl))))
 (mk_lt
 (mk_lt
 (mk_eq (mk_goto X dX3_begin_93 rfl))
 (mk_eq (mk_iinc X dX3_begin_96 rfl (Nat.le_of_ble_eq_true rfl) rfl)))
 (mk_lt
 (mk_eq (mk_goto X dX3_begin_99 rfl))
 (mk_eq (mk_rv X dX3_begin_102))))))))
theorem sd_X3_begin {l : Launch} {w : ma_Wd} {NC : Nat} {A : Nat → Prop} {S_X0_cells S_X3_filled S_X3_put : ma_Cs} (hw : ma_Wo w YX NC A) (h_X0_cells : ma_Sd l w YX NC A yX0_cells cX0_cells 1 (some .int) rm_X0_cells S_X0_cells) (h_X3_filled : ma_Sd l w YX NC A yX3_filled cX3_filled 8 (some .int) rm_X3_filled S_X3_filled) (h_X3_put : ma_Sd l w YX NC A yX3_put cX3_put 6 none rm_X3_put S_X3_put) : ma_Sd l w YX NC A yX3_begin cX3_begin 4 none rm_X3_begin (ma_rn (tb_X3_begin S_X0_cells S_X3_filled S_X3_put) 4) := ma_of hw (by decide) ⟨rfl, rfl⟩ (fun X => tk_X3_begin h_X0_cells h_X3_filled h_X3_put X)
theorem dX3_filled_0 : decode cX3_filled 0 = .ok (.iconst 0, 1) := by decide +kernel
theorem dX3_filled_1 : decode cX3_filled 1 = .ok (.istore_n 3, 1) := by decide +kernel
theorem dX3_filled_2 : decode cX3_filled 2 = .ok (.iconst 0, 1) := by decide +kernel
theorem dX3_filled_3 : decode cX3_filled 3 = .ok (.istore 4, 2) := by decide +kernel
theorem dX3_filled_5 : decode cX3_filled 5 = .ok (.iconst 1, 1) := by decide +kernel
theorem dX3_filled_6 : decode cX3_filled 6 = .ok (.istore 5, 2) := by decide +kernel
theorem dX3_filled_8 : decode cX3_filled 8 = .ok (.iload 5, 2) := by decide +kernel
theorem dX3_filled_10 : decode cX3_filled 10 = .ok (.iconst 4, 1) := by decide +kernel
theorem dX3_filled_11 : decode cX3_filled 11 = .ok (.if_icmp .gt 68, 3) := by decide +kernel
theorem dX3_filled_14 : decode cX3_filled 14 = .ok (.aload_n 0, 1) := by decide +kernel
theorem dX3_filled_15 : decode cX3_filled 15 = .ok (.iload_n 1, 1) := by decide +kernel
theorem dX3_filled_16 : decode cX3_filled 16 = .ok (.iload 5, 2) := by decide +kernel
theorem dX3_filled_18 : decode cX3_filled 18 = .ok (.invokevirtual 37, 3) := by decide +kernel
theorem dX3_filled_21 : decode cX3_filled 21 = .ok (.istore 6, 2) := by decide +kernel
theorem dX3_filled_23 : decode cX3_filled 23 = .ok (.iload 6, 2) := by decide +kernel
theorem dX3_filled_25 : decode cX3_filled 25 = .ok (.bipush (-4), 2) := by decide +kernel
theorem dX3_filled_27 : decode cX3_filled 27 = .ok (.if_icmp .ne 15, 3) := by decide +kernel
theorem dX3_filled_30 : decode cX3_filled 30 = .ok (.aload_n 0, 1) := by decide +kernel
theorem dX3_filled_31 : decode cX3_filled 31 = .ok (.getfield 3, 3) := by decide +kernel
theorem dX3_filled_34 : decode cX3_filled 34 = .ok (.getfield 41, 3) := by decide +kernel
theorem dX3_filled_37 : decode cX3_filled 37 = .ok (.iload_n 2, 1) := by decide +kernel
theorem dX3_filled_38 : decode cX3_filled 38 = .ok (.iaload, 1) := by decide +kernel
theorem dX3_filled_39 : decode cX3_filled 39 = .ok (.goto 17, 3) := by decide +kernel
theorem dX3_filled_42 : decode cX3_filled 42 = .ok (.aload_n 0, 1) := by decide +kernel
theorem dX3_filled_43 : decode cX3_filled 43 = .ok (.getfield 3, 3) := by decide +kernel
theorem dX3_filled_46 : decode cX3_filled 46 = .ok (.getfield 137, 3) := by decide +kernel
theorem dX3_filled_49 : decode cX3_filled 49 = .ok (.iconst 4, 1) := by decide +kernel
theorem dX3_filled_50 : decode cX3_filled 50 = .ok (.iload 6, 2) := by decide +kernel
theorem dX3_filled_52 : decode cX3_filled 52 = .ok (.imul, 1) := by decide +kernel
theorem dX3_filled_53 : decode cX3_filled 53 = .ok (.iload_n 2, 1) := by decide +kernel
theorem dX3_filled_54 : decode cX3_filled 54 = .ok (.iadd, 1) := by decide +kernel
theorem dX3_filled_55 : decode cX3_filled 55 = .ok (.iaload, 1) := by decide +kernel
theorem dX3_filled_56 : decode cX3_filled 56 = .ok (.istore 7, 2) := by decide +kernel
theorem dX3_filled_58 : decode cX3_filled 58 = .ok (.iload 7, 2) := by decide +kernel
theorem dX3_filled_60 : decode cX3_filled 60 = .ok (.ldc 140, 2) := by decide +kernel
theorem dX3_filled_62 : decode cX3_filled 62 = .ok (.if_icmp .eq 11, 3) := by decide +kernel
theorem dX3_filled_65 : decode cX3_filled 65 = .ok (.iload_n 3, 1) := by decide +kernel
theorem dX3_filled_66 : decode cX3_filled 66 = .ok (.iload 7, 2) := by decide +kernel
theorem dX3_filled_68 : decode cX3_filled 68 = .ok (.iadd, 1) := by decide +kernel
theorem dX3_filled_69 : decode cX3_filled 69 = .ok (.istore_n 3, 1) := by decide +kernel
theorem dX3_filled_70 : decode cX3_filled 70 = .ok (.iinc 4 1, 3) := by decide +kernel
theorem dX3_filled_73 : decode cX3_filled 73 = .ok (.iinc 5 1, 3) := by decide +kernel
theorem dX3_filled_76 : decode cX3_filled 76 = .ok (.goto (-68), 3) := by decide +kernel
theorem dX3_filled_79 : decode cX3_filled 79 = .ok (.iload 4, 2) := by decide +kernel
theorem dX3_filled_81 : decode cX3_filled 81 = .ok (.ifCond .ne 7, 3) := by decide +kernel
theorem dX3_filled_84 : decode cX3_filled 84 = .ok (.iconst 0, 1) := by decide +kernel
theorem dX3_filled_85 : decode cX3_filled 85 = .ok (.goto 9, 3) := by decide +kernel
theorem dX3_filled_88 : decode cX3_filled 88 = .ok (.iload_n 3, 1) := by decide +kernel
theorem dX3_filled_89 : decode cX3_filled 89 = .ok (.iload 4, 2) := by decide +kernel
theorem dX3_filled_91 : decode cX3_filled 91 = .ok (.invokestatic 141, 3) := by decide +kernel
theorem dX3_filled_94 : decode cX3_filled 94 = .ok (.ireturn, 1) := by decide +kernel
def tb_X3_filled (S_X3_neighbour S_J0_floorDiv : ma_Cs) : Nat → ma_In := fun pc =>
 (if pc < 46 then
 (if pc < 18 then
 (if pc < 8 then
 (if pc < 3 then
 (if pc < 1 then
 (if pc = 0 then in_push (.int 0) 1 else in_no) else
 (if pc < 2 then
 (if pc = 1 then in_ist 3 2 else in_no) else
 (if pc = 2 then in_push (.int 0) 3 else in_no))) else
 (if pc < 5 then
 (if pc = 3 then in_ist 4 5 else in_no) else
 (if pc < 6 then
 (if pc = 5 then in_push (.int 1) 6 else in_no) else
 (if pc = 6 then in_ist 5 8 else in_no)))) else
 (if pc < 14 then
 (if pc < 10 then
 (if pc = 8 then in_ild 5 10 else in_no) else
 (if pc < 11 then
 (if pc = 10 then in_push (.int 4) 11 else in_no) else
 (if pc = 11 then in_if2 (fun x y => y < x) 79 14 else in_no))) else
 (if pc < 15 then
 (if pc = 14 then in_ald 0 15 else in_no) else
 (if pc < 16 then
 (if pc = 15 then in_ild 1 16 else in_no) else
 (if pc = 16 then in_ild 5 18 else in_no))))) else
 (if pc < 31 then
 (if pc < 25 then
 (if pc < 21 then
 (if pc = 18 then in_v3 YX 3 S_X3_neighbour 21 else in_no) else
 (if pc < 23 then
 (if pc = 21 then in_ist 6 23 else in_no) else
 (if pc = 23 then in_ild 6 25 else in_no))) else
 (if pc < 27 then
 (if pc = 25 then in_push (.int (-4)) 27 else in_no) else
 (if pc < 30 then
 (if pc = 27 then in_if2 (fun x y => x = y) 30 42 else in_no) else
 (if pc = 30 then in_ald 0 31 else in_no)))) else
 (if pc < 38 then
 (if pc < 34 then
 (if pc = 31 then in_get YX 3 4 34 else in_no) else
 (if pc < 37 then
 (if pc = 34 then in_get YX 0 8 37 else in_no) else
 (if pc = 37 then in_ild 2 38 else in_no))) else
 (if pc < 42 then
 (if pc < 39 then
 (if pc = 38 then in_iar YX 39 else in_no) else
 (if pc = 39 then in_go 56 else in_no)) else
 (if pc < 43 then
 (if pc = 42 then in_ald 0 43 else in_no) else
 (if pc = 43 then in_get YX 3 4 46 else in_no)))))) else
 (if pc < 68 then
 (if pc < 55 then
 (if pc < 52 then
 (if pc < 49 then
 (if pc = 46 then in_get YX 0 9 49 else in_no) else
 (if pc < 50 then
 (if pc = 49 then in_push (.int 4) 50 else in_no) else
 (if pc = 50 then in_ild 6 52 else in_no))) else
 (if pc < 53 then
 (if pc = 52 then in_iii (fun x y => x * y) 53 else in_no) else
 (if pc < 54 then
 (if pc = 53 then in_ild 2 54 else in_no) else
 (if pc = 54 then in_iii (fun x y => x + y) 55 else in_no)))) else
 (if pc < 60 then
 (if pc < 56 then
 (if pc = 55 then in_iar YX 56 else in_no) else
 (if pc < 58 then
 (if pc = 56 then in_ist 7 58 else in_no) else
 (if pc = 58 then in_ild 7 60 else in_no))) else
 (if pc < 65 then
 (if pc < 62 then
 (if pc = 60 then in_push (.int 2000000) 62 else in_no) else
 (if pc = 62 then in_if2 (fun x y => x = y) 73 65 else in_no)) else
 (if pc < 66 then
 (if pc = 65 then in_ild 3 66 else in_no) else
 (if pc = 66 then in_ild 7 68 else in_no))))) else
 (if pc < 81 then
 (if pc < 73 then
 (if pc < 69 then
 (if pc = 68 then in_iii (fun x y => x + y) 69 else in_no) else
 (if pc < 70 then
 (if pc = 69 then in_ist 3 70 else in_no) else
 (if pc = 70 then in_inc 4 1 73 else in_no))) else
 (if pc < 76 then
 (if pc = 73 then in_inc 5 1 76 else in_no) else
 (if pc < 79 then
 (if pc = 76 then in_go 8 else in_no) else
 (if pc = 79 then in_ild 4 81 else in_no)))) else
 (if pc < 88 then
 (if pc < 84 then
 (if pc = 81 then in_if1 (fun x => x = 0) 84 88 else in_no) else
 (if pc < 85 then
 (if pc = 84 then in_push (.int 0) 85 else in_no) else
 (if pc = 85 then in_go 94 else in_no))) else
 (if pc < 91 then
 (if pc < 89 then
 (if pc = 88 then in_ild 3 89 else in_no) else
 (if pc = 89 then in_ild 4 91 else in_no)) else
 (if pc < 94 then
 (if pc = 91 then in_s2 S_J0_floorDiv 94 else in_no) else
 (if pc = 94 then in_ri else in_no)))))))
theorem tk_X3_filled {l : Launch} {w : ma_Wd} {NC : Nat} {A : Nat → Prop} {S_X3_neighbour S_J0_floorDiv : ma_Cs} (h_X3_neighbour : ma_Sd l w YX NC A yX3_neighbour cX3_neighbour 5 (some .int) rm_X3_neighbour S_X3_neighbour) (h_J0_floorDiv : ma_Sd l w YX NC A yJ0_floorDiv cJ0_floorDiv 3 (some .int) rm_J0_floorDiv S_J0_floorDiv) {p : Program} {e : Env} {s : State} {m : MethodId} {args : Array Value} {below : List Frame} {meth : Method} {c : Code} (X : ma_Cx p s m args meth c w YX NC A yX3_filled.cls cX3_filled 8 (some .int)) : ∀ pc, ma_Ok p l e rm_X3_filled s m args below meth c w YX NC A 8 pc (tb_X3_filled S_X3_neighbour S_J0_floorDiv pc) := fun pc =>
 (mk_lt
 (mk_lt
 (mk_lt
 (mk_lt
 (mk_lt
 (mk_eq (mk_iconst X dX3_filled_0 rfl rfl))
 (mk_lt
 (mk_eq (mk_istore_n X dX3_filled_1 rfl (Nat.le_of_ble_eq_true rfl) rfl))
 (mk_eq (mk_iconst X dX3_filled_2 rfl rfl))))
 (mk_lt
 (mk_eq (mk_istore X dX3_filled_3 (Nat.le_of_ble_eq_true rfl) rfl))
 (mk_lt
 (mk_eq (mk_iconst X dX3_filled_5 rfl rfl))
 (mk_eq (mk_istore X dX3_filled_6 (Nat.le_of_ble_eq_true rfl) rfl)))))
 (mk_lt
 (mk_lt
 (mk_eq (mk_iload X dX3_filled_8 rfl))
 (mk_lt
 (mk_eq (mk_iconst X dX3_filled_10 rfl rfl))
 (mk_eq (mk_icgt X dX3_filled_11 rfl rfl))))
 (mk_lt
 (mk_eq (mk_aload_n X dX3_filled_14 rfl rfl))
 (mk_lt
 (mk_eq (mk_iload_n X dX3_filled_15 rfl rfl))
 (mk_eq (mk_iload X dX3_filled_16 rfl))))))
 (mk_lt
 (mk_lt
 (mk_lt
 (mk_eq (mk_V3 X h_X3_neighbour (ci := 3) rfl (lw_V q495 q496 q497 q64 q498) ⟨rfl, by decide, by decide, rfl⟩ ⟨(Nat.le_of_ble_eq_true rfl), (Nat.le_of_ble_eq_true rfl)⟩ dX3_filled_18 rfl))
 (mk_lt
 (mk_eq (mk_istore X dX3_filled_21 (Nat.le_of_ble_eq_true rfl) rfl))
 (mk_eq (mk_iload X dX3_filled_23 rfl))))
 (mk_lt
 (mk_eq (mk_bipush X dX3_filled_25 rfl rfl))
 (mk_lt
 (mk_eq (mk_icne X dX3_filled_27 rfl rfl))
 (mk_eq (mk_aload_n X dX3_filled_30 rfl rfl)))))
 (mk_lt
 (mk_lt
 (mk_eq (mk_get X (ci := 3) (j := 4) rfl in_X3 (Nat.le_of_ble_eq_true rfl) q171 dX3_filled_31 rfl))
 (mk_lt
 (mk_eq (mk_getN X (ci := 0) (j := 8) rfl in_X0 (Nat.le_of_ble_eq_true rfl) (List.mem_of_getElem? (i := 31) rfl) dX3_filled_34 rfl))
 (mk_eq (mk_iload_n X dX3_filled_37 rfl rfl))))
 (mk_lt
 (mk_lt
 (mk_eq (mk_iar X dX3_filled_38 rfl))
 (mk_eq (mk_goto X dX3_filled_39 rfl)))
 (mk_lt
 (mk_eq (mk_aload_n X dX3_filled_42 rfl rfl))
 (mk_eq (mk_get X (ci := 3) (j := 4) rfl in_X3 (Nat.le_of_ble_eq_true rfl) q171 dX3_filled_43 rfl)))))))
 (mk_lt
 (mk_lt
 (mk_lt
 (mk_lt
 (mk_eq (mk_getN X (ci := 0) (j := 9) rfl in_X0 (Nat.le_of_ble_eq_true rfl) (List.mem_of_getElem? (i := 32) rfl) dX3_filled_46 rfl))
 (mk_lt
 (mk_eq (mk_iconst X dX3_filled_49 rfl rfl))
 (mk_eq (mk_iload X dX3_filled_50 rfl))))
 (mk_lt
 (mk_eq (mk_imul X dX3_filled_52 rfl))
 (mk_lt
 (mk_eq (mk_iload_n X dX3_filled_53 rfl rfl))
 (mk_eq (mk_iadd X dX3_filled_54 rfl)))))
 (mk_lt
 (mk_lt
 (mk_eq (mk_iar X dX3_filled_55 rfl))
 (mk_lt
 (mk_eq (mk_istore X dX3_filled_56 (Nat.le_of_ble_eq_true rfl) rfl))
 (mk_eq (mk_iload X dX3_filled_58 rfl))))
 (mk_lt
 (mk_lt
 (mk_eq (mk_ldc X dX3_filled_60 q490 rfl))
 (mk_eq (mk_iceq X dX3_filled_62 rfl rfl)))
 (mk_lt
 (mk_eq (mk_iload_n X dX3_filled_65 rfl rfl))
 (mk_eq (mk_iload X dX3_filled_66 rfl))))))
 (mk_lt
 (mk_lt
 (mk_lt
 (mk_eq (mk_iadd X dX3_filled_68 rfl))
 (mk_lt
 (mk_eq (mk_istore_n X dX3_filled_69 rfl (Nat.le_of_ble_eq_true rfl) rfl))
 (mk_eq (mk_iinc X dX3_filled_70 rfl (Nat.le_of_ble_eq_true rfl) rfl))))
 (mk_lt
 (mk_eq (mk_iinc X dX3_filled_73 rfl (Nat.le_of_ble_eq_true rfl) rfl))
 (mk_lt
 (mk_eq (mk_goto X dX3_filled_76 rfl))
 (mk_eq (mk_iload X dX3_filled_79 rfl)))))
 (mk_lt
 (mk_lt
 (mk_eq (mk_ifne X dX3_filled_81 rfl rfl))
 (mk_lt
 (mk_eq (mk_iconst X dX3_filled_84 rfl rfl))
 (mk_eq (mk_goto X dX3_filled_85 rfl))))
 (mk_lt
 (mk_lt
 (mk_eq (mk_iload_n X dX3_filled_88 rfl rfl))
 (mk_eq (mk_iload X dX3_filled_89 rfl)))
 (mk_lt
 (mk_eq (mk_S2 X h_J0_floorDiv (lw_S q499 q500 q67 q501) ⟨by decide, by decide, rfl⟩ ⟨(Nat.le_of_ble_eq_true rfl), (Nat.le_of_ble_eq_true rfl)⟩ dX3_filled_91 rfl))
 (mk_eq (mk_ri X dX3_filled_94))))))))
theorem sd_X3_filled {l : Launch} {w : ma_Wd} {NC : Nat} {A : Nat → Prop} {S_X3_neighbour S_J0_floorDiv : ma_Cs} (hw : ma_Wo w YX NC A) (h_X3_neighbour : ma_Sd l w YX NC A yX3_neighbour cX3_neighbour 5 (some .int) rm_X3_neighbour S_X3_neighbour) (h_J0_floorDiv : ma_Sd l w YX NC A yJ0_floorDiv cJ0_floorDiv 3 (some .int) rm_J0_floorDiv S_J0_floorDiv) : ma_Sd l w YX NC A yX3_filled cX3_filled 8 (some .int) rm_X3_filled (ma_rn (tb_X3_filled S_X3_neighbour S_J0_floorDiv) 8) := ma_of hw (by decide) ⟨rfl, rfl⟩ (fun X => tk_X3_filled h_X3_neighbour h_J0_floorDiv X)
theorem dX3_neighbour_0 : decode cX3_neighbour 0 = .ok (.iload_n 1, 1) := by decide +kernel
theorem dX3_neighbour_1 : decode cX3_neighbour 1 = .ok (.aload_n 0, 1) := by decide +kernel
theorem dX3_neighbour_2 : decode cX3_neighbour 2 = .ok (.getfield 27, 3) := by decide +kernel
theorem dX3_neighbour_5 : decode cX3_neighbour 5 = .ok (.irem, 1) := by decide +kernel
theorem dX3_neighbour_6 : decode cX3_neighbour 6 = .ok (.iload_n 2, 1) := by decide +kernel
theorem dX3_neighbour_7 : decode cX3_neighbour 7 = .ok (.iconst 2, 1) := by decide +kernel
theorem dX3_neighbour_8 : decode cX3_neighbour 8 = .ok (.if_icmp .ne 7, 3) := by decide +kernel
theorem dX3_neighbour_11 : decode cX3_neighbour 11 = .ok (.iconst 1, 1) := by decide +kernel
theorem dX3_neighbour_12 : decode cX3_neighbour 12 = .ok (.goto 13, 3) := by decide +kernel
theorem dX3_neighbour_15 : decode cX3_neighbour 15 = .ok (.iload_n 2, 1) := by decide +kernel
theorem dX3_neighbour_16 : decode cX3_neighbour 16 = .ok (.iconst 4, 1) := by decide +kernel
theorem dX3_neighbour_17 : decode cX3_neighbour 17 = .ok (.if_icmp .ne 7, 3) := by decide +kernel
theorem dX3_neighbour_20 : decode cX3_neighbour 20 = .ok (.iconst (-1), 1) := by decide +kernel
theorem dX3_neighbour_21 : decode cX3_neighbour 21 = .ok (.goto 4, 3) := by decide +kernel
theorem dX3_neighbour_24 : decode cX3_neighbour 24 = .ok (.iconst 0, 1) := by decide +kernel
theorem dX3_neighbour_25 : decode cX3_neighbour 25 = .ok (.iadd, 1) := by decide +kernel
theorem dX3_neighbour_26 : decode cX3_neighbour 26 = .ok (.istore_n 3, 1) := by decide +kernel
theorem dX3_neighbour_27 : decode cX3_neighbour 27 = .ok (.iload_n 1, 1) := by decide +kernel
theorem dX3_neighbour_28 : decode cX3_neighbour 28 = .ok (.aload_n 0, 1) := by decide +kernel
theorem dX3_neighbour_29 : decode cX3_neighbour 29 = .ok (.getfield 27, 3) := by decide +kernel
theorem dX3_neighbour_32 : decode cX3_neighbour 32 = .ok (.idiv, 1) := by decide +kernel
theorem dX3_neighbour_33 : decode cX3_neighbour 33 = .ok (.iload_n 2, 1) := by decide +kernel
theorem dX3_neighbour_34 : decode cX3_neighbour 34 = .ok (.iconst 3, 1) := by decide +kernel
theorem dX3_neighbour_35 : decode cX3_neighbour 35 = .ok (.if_icmp .ne 7, 3) := by decide +kernel
theorem dX3_neighbour_38 : decode cX3_neighbour 38 = .ok (.iconst 1, 1) := by decide +kernel
theorem dX3_neighbour_39 : decode cX3_neighbour 39 = .ok (.goto 13, 3) := by decide +kernel
theorem dX3_neighbour_42 : decode cX3_neighbour 42 = .ok (.iload_n 2, 1) := by decide +kernel
theorem dX3_neighbour_43 : decode cX3_neighbour 43 = .ok (.iconst 1, 1) := by decide +kernel
theorem dX3_neighbour_44 : decode cX3_neighbour 44 = .ok (.if_icmp .ne 7, 3) := by decide +kernel
theorem dX3_neighbour_47 : decode cX3_neighbour 47 = .ok (.iconst (-1), 1) := by decide +kernel
theorem dX3_neighbour_48 : decode cX3_neighbour 48 = .ok (.goto 4, 3) := by decide +kernel
theorem dX3_neighbour_51 : decode cX3_neighbour 51 = .ok (.iconst 0, 1) := by decide +kernel
theorem dX3_neighbour_52 : decode cX3_neighbour 52 = .ok (.iadd, 1) := by decide +kernel
theorem dX3_neighbour_53 : decode cX3_neighbour 53 = .ok (.istore 4, 2) := by decide +kernel
theorem dX3_neighbour_55 : decode cX3_neighbour 55 = .ok (.iload_n 3, 1) := by decide +kernel
theorem dX3_neighbour_56 : decode cX3_neighbour 56 = .ok (.ifCond .lt 35, 3) := by decide +kernel
theorem dX3_neighbour_59 : decode cX3_neighbour 59 = .ok (.iload_n 3, 1) := by decide +kernel
theorem dX3_neighbour_60 : decode cX3_neighbour 60 = .ok (.aload_n 0, 1) := by decide +kernel
theorem dX3_neighbour_61 : decode cX3_neighbour 61 = .ok (.getfield 27, 3) := by decide +kernel
theorem dX3_neighbour_64 : decode cX3_neighbour 64 = .ok (.if_icmp .ge 27, 3) := by decide +kernel
theorem dX3_neighbour_67 : decode cX3_neighbour 67 = .ok (.iload 4, 2) := by decide +kernel
theorem dX3_neighbour_69 : decode cX3_neighbour 69 = .ok (.ifCond .lt 22, 3) := by decide +kernel
theorem dX3_neighbour_72 : decode cX3_neighbour 72 = .ok (.iload 4, 2) := by decide +kernel
theorem dX3_neighbour_74 : decode cX3_neighbour 74 = .ok (.aload_n 0, 1) := by decide +kernel
theorem dX3_neighbour_75 : decode cX3_neighbour 75 = .ok (.getfield 31, 3) := by decide +kernel
theorem dX3_neighbour_78 : decode cX3_neighbour 78 = .ok (.if_icmp .ge 13, 3) := by decide +kernel
theorem dX3_neighbour_81 : decode cX3_neighbour 81 = .ok (.aload_n 0, 1) := by decide +kernel
theorem dX3_neighbour_82 : decode cX3_neighbour 82 = .ok (.getfield 27, 3) := by decide +kernel
theorem dX3_neighbour_85 : decode cX3_neighbour 85 = .ok (.iload 4, 2) := by decide +kernel
theorem dX3_neighbour_87 : decode cX3_neighbour 87 = .ok (.imul, 1) := by decide +kernel
theorem dX3_neighbour_88 : decode cX3_neighbour 88 = .ok (.iload_n 3, 1) := by decide +kernel
theorem dX3_neighbour_89 : decode cX3_neighbour 89 = .ok (.iadd, 1) := by decide +kernel
theorem dX3_neighbour_90 : decode cX3_neighbour 90 = .ok (.ireturn, 1) := by decide +kernel
theorem dX3_neighbour_91 : decode cX3_neighbour 91 = .ok (.aload_n 0, 1) := by decide +kernel
theorem dX3_neighbour_92 : decode cX3_neighbour 92 = .ok (.getfield 3, 3) := by decide +kernel
theorem dX3_neighbour_95 : decode cX3_neighbour 95 = .ok (.getfield 34, 3) := by decide +kernel
theorem dX3_neighbour_98 : decode cX3_neighbour 98 = .ok (.ifCond .ne 35, 3) := by decide +kernel
theorem dX3_neighbour_101 : decode cX3_neighbour 101 = .ok (.aload_n 0, 1) := by decide +kernel
theorem dX3_neighbour_102 : decode cX3_neighbour 102 = .ok (.getfield 27, 3) := by decide +kernel
theorem dX3_neighbour_105 : decode cX3_neighbour 105 = .ok (.iload 4, 2) := by decide +kernel
theorem dX3_neighbour_107 : decode cX3_neighbour 107 = .ok (.aload_n 0, 1) := by decide +kernel
theorem dX3_neighbour_108 : decode cX3_neighbour 108 = .ok (.getfield 31, 3) := by decide +kernel
theorem dX3_neighbour_111 : decode cX3_neighbour 111 = .ok (.iadd, 1) := by decide +kernel
theorem dX3_neighbour_112 : decode cX3_neighbour 112 = .ok (.aload_n 0, 1) := by decide +kernel
theorem dX3_neighbour_113 : decode cX3_neighbour 113 = .ok (.getfield 31, 3) := by decide +kernel
theorem dX3_neighbour_116 : decode cX3_neighbour 116 = .ok (.irem, 1) := by decide +kernel
theorem dX3_neighbour_117 : decode cX3_neighbour 117 = .ok (.imul, 1) := by decide +kernel
theorem dX3_neighbour_118 : decode cX3_neighbour 118 = .ok (.iload_n 3, 1) := by decide +kernel
theorem dX3_neighbour_119 : decode cX3_neighbour 119 = .ok (.aload_n 0, 1) := by decide +kernel
theorem dX3_neighbour_120 : decode cX3_neighbour 120 = .ok (.getfield 27, 3) := by decide +kernel
theorem dX3_neighbour_123 : decode cX3_neighbour 123 = .ok (.iadd, 1) := by decide +kernel
theorem dX3_neighbour_124 : decode cX3_neighbour 124 = .ok (.aload_n 0, 1) := by decide +kernel
theorem dX3_neighbour_125 : decode cX3_neighbour 125 = .ok (.getfield 27, 3) := by decide +kernel
theorem dX3_neighbour_128 : decode cX3_neighbour 128 = .ok (.irem, 1) := by decide +kernel
theorem dX3_neighbour_129 : decode cX3_neighbour 129 = .ok (.iadd, 1) := by decide +kernel
theorem dX3_neighbour_130 : decode cX3_neighbour 130 = .ok (.goto 20, 3) := by decide +kernel
theorem dX3_neighbour_133 : decode cX3_neighbour 133 = .ok (.aload_n 0, 1) := by decide +kernel
theorem dX3_neighbour_134 : decode cX3_neighbour 134 = .ok (.getfield 3, 3) := by decide +kernel
theorem dX3_neighbour_137 : decode cX3_neighbour 137 = .ok (.getfield 34, 3) := by decide +kernel
theorem dX3_neighbour_140 : decode cX3_neighbour 140 = .ok (.iconst 1, 1) := by decide +kernel
theorem dX3_neighbour_141 : decode cX3_neighbour 141 = .ok (.if_icmp .ne 7, 3) := by decide +kernel
theorem dX3_neighbour_144 : decode cX3_neighbour 144 = .ok (.iload_n 1, 1) := by decide +kernel
theorem dX3_neighbour_145 : decode cX3_neighbour 145 = .ok (.goto 5, 3) := by decide +kernel
theorem dX3_neighbour_148 : decode cX3_neighbour 148 = .ok (.bipush (-4), 2) := by decide +kernel
theorem dX3_neighbour_150 : decode cX3_neighbour 150 = .ok (.ireturn, 1) := by decide +kernel
def tb_X3_neighbour : Nat → ma_In := fun pc =>
 (if pc < 72 then
 (if pc < 33 then
 (if pc < 16 then
 (if pc < 7 then
 (if pc < 2 then
 (if pc < 1 then
 (if pc = 0 then in_ild 1 1 else in_no) else
 (if pc = 1 then in_ald 0 2 else in_no)) else
 (if pc < 5 then
 (if pc = 2 then in_get YX 3 0 5 else in_no) else
 (if pc < 6 then
 (if pc = 5 then in_idv (fun x y => x - x / y * y) 6 else in_no) else
 (if pc = 6 then in_ild 2 7 else in_no)))) else
 (if pc < 11 then
 (if pc < 8 then
 (if pc = 7 then in_push (.int 2) 8 else in_no) else
 (if pc = 8 then in_if2 (fun x y => x = y) 11 15 else in_no)) else
 (if pc < 12 then
 (if pc = 11 then in_push (.int 1) 12 else in_no) else
 (if pc < 15 then
 (if pc = 12 then in_go 25 else in_no) else
 (if pc = 15 then in_ild 2 16 else in_no))))) else
 (if pc < 25 then
 (if pc < 20 then
 (if pc < 17 then
 (if pc = 16 then in_push (.int 4) 17 else in_no) else
 (if pc = 17 then in_if2 (fun x y => x = y) 20 24 else in_no)) else
 (if pc < 21 then
 (if pc = 20 then in_push (.int (-1)) 21 else in_no) else
 (if pc < 24 then
 (if pc = 21 then in_go 25 else in_no) else
 (if pc = 24 then in_push (.int 0) 25 else in_no)))) else
 (if pc < 28 then
 (if pc < 26 then
 (if pc = 25 then in_iii (fun x y => x + y) 26 else in_no) else
 (if pc < 27 then
 (if pc = 26 then in_ist 3 27 else in_no) else
 (if pc = 27 then in_ild 1 28 else in_no))) else
 (if pc < 29 then
 (if pc = 28 then in_ald 0 29 else in_no) else
 (if pc < 32 then
 (if pc = 29 then in_get YX 3 0 32 else in_no) else
 (if pc = 32 then in_idv (fun x y => x / y) 33 else in_no)))))) else
 (if pc < 51 then
 (if pc < 42 then
 (if pc < 35 then
 (if pc < 34 then
 (if pc = 33 then in_ild 2 34 else in_no) else
 (if pc = 34 then in_push (.int 3) 35 else in_no)) else
 (if pc < 38 then
 (if pc = 35 then in_if2 (fun x y => x = y) 38 42 else in_no) else
 (if pc < 39 then
 (if pc = 38 then in_push (.int 1) 39 else in_no) else
 (if pc = 39 then in_go 52 else in_no)))) else
 (if pc < 44 then
 (if pc < 43 then
 (if pc = 42 then in_ild 2 43 else in_no) else
 (if pc = 43 then in_push (.int 1) 44 else in_no)) else
 (if pc < 47 then
 (if pc = 44 then in_if2 (fun x y => x = y) 47 51 else in_no) else
 (if pc < 48 then
 (if pc = 47 then in_push (.int (-1)) 48 else in_no) else
 (if pc = 48 then in_go 52 else in_no))))) else
 (if pc < 59 then
 (if pc < 53 then
 (if pc < 52 then
 (if pc = 51 then in_push (.int 0) 52 else in_no) else
 (if pc = 52 then in_iii (fun x y => x + y) 53 else in_no)) else
 (if pc < 55 then
 (if pc = 53 then in_ist 4 55 else in_no) else
 (if pc < 56 then
 (if pc = 55 then in_ild 3 56 else in_no) else
 (if pc = 56 then in_if1 (fun x => x < 0) 91 59 else in_no)))) else
 (if pc < 64 then
 (if pc < 60 then
 (if pc = 59 then in_ild 3 60 else in_no) else
 (if pc < 61 then
 (if pc = 60 then in_ald 0 61 else in_no) else
 (if pc = 61 then in_get YX 3 0 64 else in_no))) else
 (if pc < 67 then
 (if pc = 64 then in_if2 (fun x y => y ≤ x) 91 67 else in_no) else
 (if pc < 69 then
 (if pc = 67 then in_ild 4 69 else in_no) else
 (if pc = 69 then in_if1 (fun x => x < 0) 91 72 else in_no))))))) else
 (if pc < 112 then
 (if pc < 90 then
 (if pc < 82 then
 (if pc < 75 then
 (if pc < 74 then
 (if pc = 72 then in_ild 4 74 else in_no) else
 (if pc = 74 then in_ald 0 75 else in_no)) else
 (if pc < 78 then
 (if pc = 75 then in_get YX 3 1 78 else in_no) else
 (if pc < 81 then
 (if pc = 78 then in_if2 (fun x y => y ≤ x) 91 81 else in_no) else
 (if pc = 81 then in_ald 0 82 else in_no)))) else
 (if pc < 87 then
 (if pc < 85 then
 (if pc = 82 then in_get YX 3 0 85 else in_no) else
 (if pc = 85 then in_ild 4 87 else in_no)) else
 (if pc < 88 then
 (if pc = 87 then in_iii (fun x y => x * y) 88 else in_no) else
 (if pc < 89 then
 (if pc = 88 then in_ild 3 89 else in_no) else
 (if pc = 89 then in_iii (fun x y => x + y) 90 else in_no))))) else
 (if pc < 101 then
 (if pc < 92 then
 (if pc < 91 then
 (if pc = 90 then in_ri else in_no) else
 (if pc = 91 then in_ald 0 92 else in_no)) else
 (if pc < 95 then
 (if pc = 92 then in_get YX 3 4 95 else in_no) else
 (if pc < 98 then
 (if pc = 95 then in_get YX 0 7 98 else in_no) else
 (if pc = 98 then in_if1 (fun x => x = 0) 101 133 else in_no)))) else
 (if pc < 107 then
 (if pc < 102 then
 (if pc = 101 then in_ald 0 102 else in_no) else
 (if pc < 105 then
 (if pc = 102 then in_get YX 3 0 105 else in_no) else
 (if pc = 105 then in_ild 4 107 else in_no))) else
 (if pc < 108 then
 (if pc = 107 then in_ald 0 108 else in_no) else
 (if pc < 111 then
 (if pc = 108 then in_get YX 3 1 111 else in_no) else
 (if pc = 111 then in_iii (fun x y => x + y) 112 else in_no)))))) else
 (if pc < 129 then
 (if pc < 119 then
 (if pc < 116 then
 (if pc < 113 then
 (if pc = 112 then in_ald 0 113 else in_no) else
 (if pc = 113 then in_get YX 3 1 116 else in_no)) else
 (if pc < 117 then
 (if pc = 116 then in_idv (fun x y => x - x / y * y) 117 else in_no) else
 (if pc < 118 then
 (if pc = 117 then in_iii (fun x y => x * y) 118 else in_no) else
 (if pc = 118 then in_ild 3 119 else in_no)))) else
 (if pc < 124 then
 (if pc < 120 then
 (if pc = 119 then in_ald 0 120 else in_no) else
 (if pc < 123 then
 (if pc = 120 then in_get YX 3 0 123 else in_no) else
 (if pc = 123 then in_iii (fun x y => x + y) 124 else in_no))) else
 (if pc < 125 then
 (if pc = 124 then in_ald 0 125 else in_no) else
 (if pc < 128 then
 (if pc = 125 then in_get YX 3 0 128 else in_no) else
 (if pc = 128 then in_idv (fun x y => x - x / y * y) 129 else in_no))))) else
 (if pc < 140 then
 (if pc < 133 then
 (if pc < 130 then
 (if pc = 129 then in_iii (fun x y => x + y) 130 else in_no) else
 (if pc = 130 then in_go 150 else in_no)) else
 (if pc < 134 then
 (if pc = 133 then in_ald 0 134 else in_no) else
 (if pc < 137 then
 (if pc = 134 then in_get YX 3 4 137 else in_no) else
 (if pc = 137 then in_get YX 0 7 140 else in_no)))) else
 (if pc < 145 then
 (if pc < 141 then
 (if pc = 140 then in_push (.int 1) 141 else in_no) else
 (if pc < 144 then
 (if pc = 141 then in_if2 (fun x y => x = y) 144 148 else in_no) else
 (if pc = 144 then in_ild 1 145 else in_no))) else
 (if pc < 148 then
 (if pc = 145 then in_go 150 else in_no) else
 (if pc < 150 then
 (if pc = 148 then in_push (.int (-4)) 150 else in_no) else
 (if pc = 150 then in_ri else in_no))))))))
theorem tk_X3_neighbour {l : Launch} {w : ma_Wd} {NC : Nat} {A : Nat → Prop} {p : Program} {e : Env} {s : State} {m : MethodId} {args : Array Value} {below : List Frame} {meth : Method} {c : Code} (X : ma_Cx p s m args meth c w YX NC A yX3_neighbour.cls cX3_neighbour 5 (some .int)) : ∀ pc, ma_Ok p l e rm_X3_neighbour s m args below meth c w YX NC A 5 pc (tb_X3_neighbour pc) := fun pc =>
 (mk_lt
 (mk_lt
 (mk_lt
 (mk_lt
 (mk_lt
 (mk_lt
 (mk_eq (mk_iload_n X dX3_neighbour_0 rfl rfl))
 (mk_eq (mk_aload_n X dX3_neighbour_1 rfl rfl)))
 (mk_lt
 (mk_eq (mk_get X (ci := 3) (j := 0) rfl in_X3 (Nat.le_of_ble_eq_true rfl) q164 dX3_neighbour_2 rfl))
 (mk_lt
 (mk_eq (mk_irem X dX3_neighbour_5 rfl))
 (mk_eq (mk_iload_n X dX3_neighbour_6 rfl rfl)))))
 (mk_lt
 (mk_lt
 (mk_eq (mk_iconst X dX3_neighbour_7 rfl rfl))
 (mk_eq (mk_icne X dX3_neighbour_8 rfl rfl)))
 (mk_lt
 (mk_eq (mk_iconst X dX3_neighbour_11 rfl rfl))
 (mk_lt
 (mk_eq (mk_goto X dX3_neighbour_12 rfl))
 (mk_eq (mk_iload_n X dX3_neighbour_15 rfl rfl))))))
 (mk_lt
 (mk_lt
 (mk_lt
 (mk_eq (mk_iconst X dX3_neighbour_16 rfl rfl))
 (mk_eq (mk_icne X dX3_neighbour_17 rfl rfl)))
 (mk_lt
 (mk_eq (mk_iconst X dX3_neighbour_20 rfl rfl))
 (mk_lt
 (mk_eq (mk_goto X dX3_neighbour_21 rfl))
 (mk_eq (mk_iconst X dX3_neighbour_24 rfl rfl)))))
 (mk_lt
 (mk_lt
 (mk_eq (mk_iadd X dX3_neighbour_25 rfl))
 (mk_lt
 (mk_eq (mk_istore_n X dX3_neighbour_26 rfl (Nat.le_of_ble_eq_true rfl) rfl))
 (mk_eq (mk_iload_n X dX3_neighbour_27 rfl rfl))))
 (mk_lt
 (mk_eq (mk_aload_n X dX3_neighbour_28 rfl rfl))
 (mk_lt
 (mk_eq (mk_get X (ci := 3) (j := 0) rfl in_X3 (Nat.le_of_ble_eq_true rfl) q164 dX3_neighbour_29 rfl))
 (mk_eq (mk_idiv X dX3_neighbour_32 rfl)))))))
 (mk_lt
 (mk_lt
 (mk_lt
 (mk_lt
 (mk_eq (mk_iload_n X dX3_neighbour_33 rfl rfl))
 (mk_eq (mk_iconst X dX3_neighbour_34 rfl rfl)))
 (mk_lt
 (mk_eq (mk_icne X dX3_neighbour_35 rfl rfl))
 (mk_lt
 (mk_eq (mk_iconst X dX3_neighbour_38 rfl rfl))
 (mk_eq (mk_goto X dX3_neighbour_39 rfl)))))
 (mk_lt
 (mk_lt
 (mk_eq (mk_iload_n X dX3_neighbour_42 rfl rfl))
 (mk_eq (mk_iconst X dX3_neighbour_43 rfl rfl)))
 (mk_lt
 (mk_eq (mk_icne X dX3_neighbour_44 rfl rfl))
 (mk_lt
 (mk_eq (mk_iconst X dX3_neighbour_47 rfl rfl))
 (mk_eq (mk_goto X dX3_neighbour_48 rfl))))))
 (mk_lt
 (mk_lt
 (mk_lt
 (mk_eq (mk_iconst X dX3_neighbour_51 rfl rfl))
 (mk_eq (mk_iadd X dX3_neighbour_52 rfl)))
 (mk_lt
 (mk_eq (mk_istore X dX3_neighbour_53 (Nat.le_of_ble_eq_true rfl) rfl))
 (mk_lt
 (mk_eq (mk_iload_n X dX3_neighbour_55 rfl rfl))
 (mk_eq (mk_iflt X dX3_neighbour_56 rfl rfl)))))
 (mk_lt
 (mk_lt
 (mk_eq (mk_iload_n X dX3_neighbour_59 rfl rfl))
 (mk_lt
 (mk_eq (mk_aload_n X dX3_neighbour_60 rfl rfl))
 (mk_eq (mk_get X (ci := 3) (j := 0) rfl in_X3 (Nat.le_of_ble_eq_true rfl) q164 dX3_neighbour_61 rfl))))
 (mk_lt
 (mk_eq (mk_icge X dX3_neighbour_64 rfl rfl))
 (mk_lt
 (mk_eq (mk_iload X dX3_neighbour_67 rfl))
 (mk_eq (mk_iflt X dX3_neighbour_69 rfl rfl))))))))
 (mk_lt
 (mk_lt
 (mk_lt
 (mk_lt
 (mk_lt
 (mk_eq (mk_iload X dX3_neighbour_72 rfl))
 (mk_eq (mk_aload_n X dX3_neighbour_74 rfl rfl)))
 (mk_lt
 (mk_eq (mk_get X (ci := 3) (j := 1) rfl in_X3 (Nat.le_of_ble_eq_true rfl) q166 dX3_neighbour_75 rfl))
 (mk_lt
 (mk_eq (mk_icge X dX3_neighbour_78 rfl rfl))
 (mk_eq (mk_aload_n X dX3_neighbour_81 rfl rfl)))))
 (mk_lt
 (mk_lt
 (mk_eq (mk_get X (ci := 3) (j := 0) rfl in_X3 (Nat.le_of_ble_eq_true rfl) q164 dX3_neighbour_82 rfl))
 (mk_eq (mk_iload X dX3_neighbour_85 rfl)))
 (mk_lt
 (mk_eq (mk_imul X dX3_neighbour_87 rfl))
 (mk_lt
 (mk_eq (mk_iload_n X dX3_neighbour_88 rfl rfl))
 (mk_eq (mk_iadd X dX3_neighbour_89 rfl))))))
 (mk_lt
 (mk_lt
 (mk_lt
 (mk_eq (mk_ri X dX3_neighbour_90))
 (mk_eq (mk_aload_n X dX3_neighbour_91 rfl rfl)))
 (mk_lt
 (mk_eq (mk_get X (ci := 3) (j := 4) rfl in_X3 (Nat.le_of_ble_eq_true rfl) q171 dX3_neighbour_92 rfl))
 (mk_lt
 (mk_eq (mk_getN X (ci := 0) (j := 7) rfl in_X0 (Nat.le_of_ble_eq_true rfl) (List.mem_of_getElem? (i := 30) rfl) dX3_neighbour_95 rfl))
 (mk_eq (mk_ifne X dX3_neighbour_98 rfl rfl)))))
 (mk_lt
 (mk_lt
 (mk_eq (mk_aload_n X dX3_neighbour_101 rfl rfl))
 (mk_lt
 (mk_eq (mk_get X (ci := 3) (j := 0) rfl in_X3 (Nat.le_of_ble_eq_true rfl) q164 dX3_neighbour_102 rfl))
 (mk_eq (mk_iload X dX3_neighbour_105 rfl))))
 (mk_lt
 (mk_eq (mk_aload_n X dX3_neighbour_107 rfl rfl))
 (mk_lt
 (mk_eq (mk_get X (ci := 3) (j := 1) rfl in_X3 (Nat.le_of_ble_eq_true rfl) q166 dX3_neighbour_108 rfl))
 (mk_eq (mk_iadd X dX3_neighbour_111 rfl)))))))
 (mk_lt
 (mk_lt
 (mk_lt
 (mk_lt
 (mk_eq (mk_aload_n X dX3_neighbour_112 rfl rfl))
 (mk_eq (mk_get X (ci := 3) (j := 1) rfl in_X3 (Nat.le_of_ble_eq_true rfl) q166 dX3_neighbour_113 rfl)))
 (mk_lt
 (mk_eq (mk_irem X dX3_neighbour_116 rfl))
 (mk_lt
 (mk_eq (mk_imul X dX3_neighbour_117 rfl))
 (mk_eq (mk_iload_n X dX3_neighbour_118 rfl rfl)))))
 (mk_lt
 (mk_lt
 (mk_eq (mk_aload_n X dX3_neighbour_119 rfl rfl))
 (mk_lt
 (mk_eq (mk_get X (ci := 3) (j := 0) rfl in_X3 (Nat.le_of_ble_eq_true rfl) q164 dX3_neighbour_120 rfl))
 (mk_eq (mk_iadd X dX3_neighbour_123 rfl))))
 (mk_lt
 (mk_eq (mk_aload_n X dX3_neighbour_124 rfl rfl))
 (mk_lt
 (mk_eq (mk_get X (ci := 3) (j := 0) rfl in_X3 (Nat.le_of_ble_eq_true rfl) q164 dX3_neighbour_125 rfl))
 (mk_eq (mk_irem X dX3_neighbour_128 rfl))))))
 (mk_lt
 (mk_lt
 (mk_lt
 (mk_eq (mk_iadd X dX3_neighbour_129 rfl))
 (mk_eq (mk_goto X dX3_neighbour_130 rfl)))
 (mk_lt
 (mk_eq (mk_aload_n X dX3_neighbour_133 rfl rfl))
 (mk_lt
 (mk_eq (mk_get X (ci := 3) (j := 4) rfl in_X3 (Nat.le_of_ble_eq_true rfl) q171 dX3_neighbour_134 rfl))
 (mk_eq (mk_getN X (ci := 0) (j := 7) rfl in_X0 (Nat.le_of_ble_eq_true rfl) (List.mem_of_getElem? (i := 30) rfl) dX3_neighbour_137 rfl)))))
 (mk_lt
 (mk_lt
 (mk_eq (mk_iconst X dX3_neighbour_140 rfl rfl))
 (mk_lt
 (mk_eq (mk_icne X dX3_neighbour_141 rfl rfl))
 (mk_eq (mk_iload_n X dX3_neighbour_144 rfl rfl))))
 (mk_lt
 (mk_eq (mk_goto X dX3_neighbour_145 rfl))
 (mk_lt
 (mk_eq (mk_bipush X dX3_neighbour_148 rfl rfl))
 (mk_eq (mk_ri X dX3_neighbour_150)))))))))
theorem sd_X3_neighbour {l : Launch} {w : ma_Wd} {NC : Nat} {A : Nat → Prop} (hw : ma_Wo w YX NC A) : ma_Sd l w YX NC A yX3_neighbour cX3_neighbour 5 (some .int) rm_X3_neighbour (ma_rn (tb_X3_neighbour) 5) := ma_of hw (by decide) ⟨rfl, rfl⟩ (fun X => tk_X3_neighbour  X)
theorem dX3_put_0 : decode cX3_put 0 = .ok (.aload_n 0, 1) := by decide +kernel
theorem dX3_put_1 : decode cX3_put 1 = .ok (.getfield 15, 3) := by decide +kernel
theorem dX3_put_4 : decode cX3_put 4 = .ok (.aload_n 0, 1) := by decide +kernel
theorem dX3_put_5 : decode cX3_put 5 = .ok (.iload_n 1, 1) := by decide +kernel
theorem dX3_put_6 : decode cX3_put 6 = .ok (.iload_n 2, 1) := by decide +kernel
theorem dX3_put_7 : decode cX3_put 7 = .ok (.iload_n 3, 1) := by decide +kernel
theorem dX3_put_8 : decode cX3_put 8 = .ok (.invokevirtual 23, 3) := by decide +kernel
theorem dX3_put_11 : decode cX3_put 11 = .ok (.iload 4, 2) := by decide +kernel
theorem dX3_put_13 : decode cX3_put 13 = .ok (.iastore, 1) := by decide +kernel
theorem dX3_put_14 : decode cX3_put 14 = .ok (.aload_n 0, 1) := by decide +kernel
theorem dX3_put_15 : decode cX3_put 15 = .ok (.getfield 19, 3) := by decide +kernel
theorem dX3_put_18 : decode cX3_put 18 = .ok (.aload_n 0, 1) := by decide +kernel
theorem dX3_put_19 : decode cX3_put 19 = .ok (.iload_n 1, 1) := by decide +kernel
theorem dX3_put_20 : decode cX3_put 20 = .ok (.iload_n 2, 1) := by decide +kernel
theorem dX3_put_21 : decode cX3_put 21 = .ok (.iload_n 3, 1) := by decide +kernel
theorem dX3_put_22 : decode cX3_put 22 = .ok (.invokevirtual 23, 3) := by decide +kernel
theorem dX3_put_25 : decode cX3_put 25 = .ok (.iload 5, 2) := by decide +kernel
theorem dX3_put_27 : decode cX3_put 27 = .ok (.bastore, 1) := by decide +kernel
theorem dX3_put_28 : decode cX3_put 28 = .ok (.return_, 1) := by decide +kernel
def tb_X3_put (S_X3_place : ma_Cs) : Nat → ma_In := fun pc =>
 (if pc < 14 then
 (if pc < 6 then
 (if pc < 4 then
 (if pc < 1 then
 (if pc = 0 then in_ald 0 1 else in_no) else
 (if pc = 1 then in_get YX 3 2 4 else in_no)) else
 (if pc < 5 then
 (if pc = 4 then in_ald 0 5 else in_no) else
 (if pc = 5 then in_ild 1 6 else in_no))) else
 (if pc < 8 then
 (if pc < 7 then
 (if pc = 6 then in_ild 2 7 else in_no) else
 (if pc = 7 then in_ild 3 8 else in_no)) else
 (if pc < 11 then
 (if pc = 8 then in_v4 YX 3 S_X3_place 11 else in_no) else
 (if pc < 13 then
 (if pc = 11 then in_ild 4 13 else in_no) else
 (if pc = 13 then in_iaw YX 14 else in_no))))) else
 (if pc < 21 then
 (if pc < 18 then
 (if pc < 15 then
 (if pc = 14 then in_ald 0 15 else in_no) else
 (if pc = 15 then in_get YX 3 3 18 else in_no)) else
 (if pc < 19 then
 (if pc = 18 then in_ald 0 19 else in_no) else
 (if pc < 20 then
 (if pc = 19 then in_ild 1 20 else in_no) else
 (if pc = 20 then in_ild 2 21 else in_no)))) else
 (if pc < 25 then
 (if pc < 22 then
 (if pc = 21 then in_ild 3 22 else in_no) else
 (if pc = 22 then in_v4 YX 3 S_X3_place 25 else in_no)) else
 (if pc < 27 then
 (if pc = 25 then in_ild 5 27 else in_no) else
 (if pc < 28 then
 (if pc = 27 then in_baw YX 28 else in_no) else
 (if pc = 28 then in_rv else in_no))))))
theorem tk_X3_put {l : Launch} {w : ma_Wd} {NC : Nat} {A : Nat → Prop} {S_X3_place : ma_Cs} (h_X3_place : ma_Sd l w YX NC A yX3_place cX3_place 4 (some .int) rm_X3_place S_X3_place) {p : Program} {e : Env} {s : State} {m : MethodId} {args : Array Value} {below : List Frame} {meth : Method} {c : Code} (X : ma_Cx p s m args meth c w YX NC A yX3_put.cls cX3_put 6 none) : ∀ pc, ma_Ok p l e rm_X3_put s m args below meth c w YX NC A 6 pc (tb_X3_put S_X3_place pc) := fun pc =>
 (mk_lt
 (mk_lt
 (mk_lt
 (mk_lt
 (mk_eq (mk_aload_n X dX3_put_0 rfl rfl))
 (mk_eq (mk_get X (ci := 3) (j := 2) rfl in_X3 (Nat.le_of_ble_eq_true rfl) q168 dX3_put_1 rfl)))
 (mk_lt
 (mk_eq (mk_aload_n X dX3_put_4 rfl rfl))
 (mk_eq (mk_iload_n X dX3_put_5 rfl rfl))))
 (mk_lt
 (mk_lt
 (mk_eq (mk_iload_n X dX3_put_6 rfl rfl))
 (mk_eq (mk_iload_n X dX3_put_7 rfl rfl)))
 (mk_lt
 (mk_eq (mk_V4 X h_X3_place (ci := 3) rfl (lw_V q506 q507 q508 q64 q509) ⟨rfl, by decide, by decide, rfl⟩ ⟨(Nat.le_of_ble_eq_true rfl), (Nat.le_of_ble_eq_true rfl)⟩ dX3_put_8 rfl))
 (mk_lt
 (mk_eq (mk_iload X dX3_put_11 rfl))
 (mk_eq (mk_iaw X dX3_put_13 rfl))))))
 (mk_lt
 (mk_lt
 (mk_lt
 (mk_eq (mk_aload_n X dX3_put_14 rfl rfl))
 (mk_eq (mk_get X (ci := 3) (j := 3) rfl in_X3 (Nat.le_of_ble_eq_true rfl) q169 dX3_put_15 rfl)))
 (mk_lt
 (mk_eq (mk_aload_n X dX3_put_18 rfl rfl))
 (mk_lt
 (mk_eq (mk_iload_n X dX3_put_19 rfl rfl))
 (mk_eq (mk_iload_n X dX3_put_20 rfl rfl)))))
 (mk_lt
 (mk_lt
 (mk_eq (mk_iload_n X dX3_put_21 rfl rfl))
 (mk_eq (mk_V4 X h_X3_place (ci := 3) rfl (lw_V q506 q507 q508 q64 q509) ⟨rfl, by decide, by decide, rfl⟩ ⟨(Nat.le_of_ble_eq_true rfl), (Nat.le_of_ble_eq_true rfl)⟩ dX3_put_22 rfl)))
 (mk_lt
 (mk_eq (mk_iload X dX3_put_25 rfl))
 (mk_lt
 (mk_eq (mk_baw X dX3_put_27 rfl))
 (mk_eq (mk_rv X dX3_put_28)))))))
theorem sd_X3_put {l : Launch} {w : ma_Wd} {NC : Nat} {A : Nat → Prop} {S_X3_place : ma_Cs} (hw : ma_Wo w YX NC A) (h_X3_place : ma_Sd l w YX NC A yX3_place cX3_place 4 (some .int) rm_X3_place S_X3_place) : ma_Sd l w YX NC A yX3_put cX3_put 6 none rm_X3_put (ma_rn (tb_X3_put S_X3_place) 6) := ma_of hw (by decide) ⟨rfl, rfl⟩ (fun X => tk_X3_put h_X3_place X)
theorem dX3_place_0 : decode cX3_place 0 = .ok (.iload_n 1, 1) := by decide +kernel
theorem dX3_place_1 : decode cX3_place 1 = .ok (.bipush 36, 2) := by decide +kernel
theorem dX3_place_3 : decode cX3_place 3 = .ok (.imul, 1) := by decide +kernel
theorem dX3_place_4 : decode cX3_place 4 = .ok (.iload_n 2, 1) := by decide +kernel
theorem dX3_place_5 : decode cX3_place 5 = .ok (.iadd, 1) := by decide +kernel
theorem dX3_place_6 : decode cX3_place 6 = .ok (.iconst 4, 1) := by decide +kernel
theorem dX3_place_7 : decode cX3_place 7 = .ok (.imul, 1) := by decide +kernel
theorem dX3_place_8 : decode cX3_place 8 = .ok (.iload_n 3, 1) := by decide +kernel
theorem dX3_place_9 : decode cX3_place 9 = .ok (.iadd, 1) := by decide +kernel
theorem dX3_place_10 : decode cX3_place 10 = .ok (.ireturn, 1) := by decide +kernel
def tb_X3_place : Nat → ma_In := fun pc =>
 (if pc < 6 then
 (if pc < 3 then
 (if pc < 1 then
 (if pc = 0 then in_ild 1 1 else in_no) else
 (if pc = 1 then in_push (.int 36) 3 else in_no)) else
 (if pc < 4 then
 (if pc = 3 then in_iii (fun x y => x * y) 4 else in_no) else
 (if pc < 5 then
 (if pc = 4 then in_ild 2 5 else in_no) else
 (if pc = 5 then in_iii (fun x y => x + y) 6 else in_no)))) else
 (if pc < 8 then
 (if pc < 7 then
 (if pc = 6 then in_push (.int 4) 7 else in_no) else
 (if pc = 7 then in_iii (fun x y => x * y) 8 else in_no)) else
 (if pc < 9 then
 (if pc = 8 then in_ild 3 9 else in_no) else
 (if pc < 10 then
 (if pc = 9 then in_iii (fun x y => x + y) 10 else in_no) else
 (if pc = 10 then in_ri else in_no)))))
theorem tk_X3_place {l : Launch} {w : ma_Wd} {NC : Nat} {A : Nat → Prop} {p : Program} {e : Env} {s : State} {m : MethodId} {args : Array Value} {below : List Frame} {meth : Method} {c : Code} (X : ma_Cx p s m args meth c w YX NC A yX3_place.cls cX3_place 4 (some .int)) : ∀ pc, ma_Ok p l e rm_X3_place s m args below meth c w YX NC A 4 pc (tb_X3_place pc) := fun pc =>
 (mk_lt
 (mk_lt
 (mk_lt
 (mk_eq (mk_iload_n X dX3_place_0 rfl rfl))
 (mk_eq (mk_bipush X dX3_place_1 rfl rfl)))
 (mk_lt
 (mk_eq (mk_imul X dX3_place_3 rfl))
 (mk_lt
 (mk_eq (mk_iload_n X dX3_place_4 rfl rfl))
 (mk_eq (mk_iadd X dX3_place_5 rfl)))))
 (mk_lt
 (mk_lt
 (mk_eq (mk_iconst X dX3_place_6 rfl rfl))
 (mk_eq (mk_imul X dX3_place_7 rfl)))
 (mk_lt
 (mk_eq (mk_iload_n X dX3_place_8 rfl rfl))
 (mk_lt
 (mk_eq (mk_iadd X dX3_place_9 rfl))
 (mk_eq (mk_ri X dX3_place_10))))))
theorem sd_X3_place {l : Launch} {w : ma_Wd} {NC : Nat} {A : Nat → Prop} (hw : ma_Wo w YX NC A) : ma_Sd l w YX NC A yX3_place cX3_place 4 (some .int) rm_X3_place (ma_rn (tb_X3_place) 4) := ma_of hw (by decide) ⟨rfl, rfl⟩ (fun X => tk_X3_place  X)
theorem dX3_run_0 : decode cX3_run 0 = .ok (.iconst 1, 1) := by decide +kernel
theorem dX3_run_1 : decode cX3_run 1 = .ok (.istore_n 3, 1) := by decide +kernel
theorem dX3_run_2 : decode cX3_run 2 = .ok (.iload_n 3, 1) := by decide +kernel
theorem dX3_run_3 : decode cX3_run 3 = .ok (.iload_n 1, 1) := by decide +kernel
theorem dX3_run_4 : decode cX3_run 4 = .ok (.if_icmp .gt 190, 3) := by decide +kernel
theorem dX3_run_7 : decode cX3_run 7 = .ok (.iconst 0, 1) := by decide +kernel
theorem dX3_run_8 : decode cX3_run 8 = .ok (.istore 4, 2) := by decide +kernel
theorem dX3_run_10 : decode cX3_run 10 = .ok (.iload 4, 2) := by decide +kernel
theorem dX3_run_12 : decode cX3_run 12 = .ok (.aload_n 0, 1) := by decide +kernel
theorem dX3_run_13 : decode cX3_run 13 = .ok (.getfield 27, 3) := by decide +kernel
theorem dX3_run_16 : decode cX3_run 16 = .ok (.aload_n 0, 1) := by decide +kernel
theorem dX3_run_17 : decode cX3_run 17 = .ok (.getfield 31, 3) := by decide +kernel
theorem dX3_run_20 : decode cX3_run 20 = .ok (.imul, 1) := by decide +kernel
theorem dX3_run_21 : decode cX3_run 21 = .ok (.if_icmp .ge 167, 3) := by decide +kernel
theorem dX3_run_24 : decode cX3_run 24 = .ok (.iconst 0, 1) := by decide +kernel
theorem dX3_run_25 : decode cX3_run 25 = .ok (.istore 5, 2) := by decide +kernel
theorem dX3_run_27 : decode cX3_run 27 = .ok (.iload 5, 2) := by decide +kernel
theorem dX3_run_29 : decode cX3_run 29 = .ok (.iconst 4, 1) := by decide +kernel
theorem dX3_run_30 : decode cX3_run 30 = .ok (.if_icmp .ge 72, 3) := by decide +kernel
theorem dX3_run_33 : decode cX3_run 33 = .ok (.aload_n 0, 1) := by decide +kernel
theorem dX3_run_34 : decode cX3_run 34 = .ok (.getfield 3, 3) := by decide +kernel
theorem dX3_run_37 : decode cX3_run 37 = .ok (.getfield 50, 3) := by decide +kernel
theorem dX3_run_40 : decode cX3_run 40 = .ok (.iload 5, 2) := by decide +kernel
theorem dX3_run_42 : decode cX3_run 42 = .ok (.invokevirtual 113, 3) := by decide +kernel
theorem dX3_run_45 : decode cX3_run 45 = .ok (.bipush (-4), 2) := by decide +kernel
theorem dX3_run_47 : decode cX3_run 47 = .ok (.if_icmp .ne 49, 3) := by decide +kernel
theorem dX3_run_50 : decode cX3_run 50 = .ok (.aload_n 0, 1) := by decide +kernel
theorem dX3_run_51 : decode cX3_run 51 = .ok (.iload_n 3, 1) := by decide +kernel
theorem dX3_run_52 : decode cX3_run 52 = .ok (.iload 4, 2) := by decide +kernel
theorem dX3_run_54 : decode cX3_run 54 = .ok (.iload 5, 2) := by decide +kernel
theorem dX3_run_56 : decode cX3_run 56 = .ok (.aload_n 0, 1) := by decide +kernel
theorem dX3_run_57 : decode cX3_run 57 = .ok (.aload_n 0, 1) := by decide +kernel
theorem dX3_run_58 : decode cX3_run 58 = .ok (.iload_n 3, 1) := by decide +kernel
theorem dX3_run_59 : decode cX3_run 59 = .ok (.iconst 1, 1) := by decide +kernel
theorem dX3_run_60 : decode cX3_run 60 = .ok (.isub, 1) := by decide +kernel
theorem dX3_run_61 : decode cX3_run 61 = .ok (.iload 4, 2) := by decide +kernel
theorem dX3_run_63 : decode cX3_run 63 = .ok (.iload 5, 2) := by decide +kernel
theorem dX3_run_65 : decode cX3_run 65 = .ok (.invokevirtual 47, 3) := by decide +kernel
theorem dX3_run_68 : decode cX3_run 68 = .ok (.iload_n 3, 1) := by decide +kernel
theorem dX3_run_69 : decode cX3_run 69 = .ok (.iload 4, 2) := by decide +kernel
theorem dX3_run_71 : decode cX3_run 71 = .ok (.iload 5, 2) := by decide +kernel
theorem dX3_run_73 : decode cX3_run 73 = .ok (.iload_n 2, 1) := by decide +kernel
theorem dX3_run_74 : decode cX3_run 74 = .ok (.invokevirtual 117, 3) := by decide +kernel
theorem dX3_run_77 : decode cX3_run 77 = .ok (.aload_n 0, 1) := by decide +kernel
theorem dX3_run_78 : decode cX3_run 78 = .ok (.getfield 19, 3) := by decide +kernel
theorem dX3_run_81 : decode cX3_run 81 = .ok (.aload_n 0, 1) := by decide +kernel
theorem dX3_run_82 : decode cX3_run 82 = .ok (.iload_n 3, 1) := by decide +kernel
theorem dX3_run_83 : decode cX3_run 83 = .ok (.iconst 1, 1) := by decide +kernel
theorem dX3_run_84 : decode cX3_run 84 = .ok (.isub, 1) := by decide +kernel
theorem dX3_run_85 : decode cX3_run 85 = .ok (.iload 4, 2) := by decide +kernel
theorem dX3_run_87 : decode cX3_run 87 = .ok (.iload 5, 2) := by decide +kernel
theorem dX3_run_89 : decode cX3_run 89 = .ok (.invokevirtual 23, 3) := by decide +kernel
theorem dX3_run_92 : decode cX3_run 92 = .ok (.baload, 1) := by decide +kernel
theorem dX3_run_93 : decode cX3_run 93 = .ok (.invokevirtual 121, 3) := by decide +kernel
theorem dX3_run_96 : decode cX3_run 96 = .ok (.iinc 5 1, 3) := by decide +kernel
theorem dX3_run_99 : decode cX3_run 99 = .ok (.goto (-72), 3) := by decide +kernel
theorem dX3_run_102 : decode cX3_run 102 = .ok (.iconst 0, 1) := by decide +kernel
theorem dX3_run_103 : decode cX3_run 103 = .ok (.istore 5, 2) := by decide +kernel
theorem dX3_run_105 : decode cX3_run 105 = .ok (.iload 5, 2) := by decide +kernel
theorem dX3_run_107 : decode cX3_run 107 = .ok (.aload_n 0, 1) := by decide +kernel
theorem dX3_run_108 : decode cX3_run 108 = .ok (.getfield 3, 3) := by decide +kernel
theorem dX3_run_111 : decode cX3_run 111 = .ok (.getfield 50, 3) := by decide +kernel
theorem dX3_run_114 : decode cX3_run 114 = .ok (.getfield 125, 3) := by decide +kernel
theorem dX3_run_117 : decode cX3_run 117 = .ok (.if_icmp .ge 65, 3) := by decide +kernel
theorem dX3_run_120 : decode cX3_run 120 = .ok (.aload_n 0, 1) := by decide +kernel
theorem dX3_run_121 : decode cX3_run 121 = .ok (.getfield 3, 3) := by decide +kernel
theorem dX3_run_124 : decode cX3_run 124 = .ok (.getfield 50, 3) := by decide +kernel
theorem dX3_run_127 : decode cX3_run 127 = .ok (.getfield 128, 3) := by decide +kernel
theorem dX3_run_130 : decode cX3_run 130 = .ok (.iload 5, 2) := by decide +kernel
theorem dX3_run_132 : decode cX3_run 132 = .ok (.iaload, 1) := by decide +kernel
theorem dX3_run_133 : decode cX3_run 133 = .ok (.istore 6, 2) := by decide +kernel
theorem dX3_run_135 : decode cX3_run 135 = .ok (.aload_n 0, 1) := by decide +kernel
theorem dX3_run_136 : decode cX3_run 136 = .ok (.iload 5, 2) := by decide +kernel
theorem dX3_run_138 : decode cX3_run 138 = .ok (.iload_n 3, 1) := by decide +kernel
theorem dX3_run_139 : decode cX3_run 139 = .ok (.iload 4, 2) := by decide +kernel
theorem dX3_run_141 : decode cX3_run 141 = .ok (.invokevirtual 131, 3) := by decide +kernel
theorem dX3_run_144 : decode cX3_run 144 = .ok (.istore 7, 2) := by decide +kernel
theorem dX3_run_146 : decode cX3_run 146 = .ok (.aload_n 0, 1) := by decide +kernel
theorem dX3_run_147 : decode cX3_run 147 = .ok (.iload_n 3, 1) := by decide +kernel
theorem dX3_run_148 : decode cX3_run 148 = .ok (.iload 4, 2) := by decide +kernel
theorem dX3_run_150 : decode cX3_run 150 = .ok (.iload 6, 2) := by decide +kernel
theorem dX3_run_152 : decode cX3_run 152 = .ok (.aload_n 0, 1) := by decide +kernel
theorem dX3_run_153 : decode cX3_run 153 = .ok (.aload_n 0, 1) := by decide +kernel
theorem dX3_run_154 : decode cX3_run 154 = .ok (.iload 5, 2) := by decide +kernel
theorem dX3_run_156 : decode cX3_run 156 = .ok (.iload_n 3, 1) := by decide +kernel
theorem dX3_run_157 : decode cX3_run 157 = .ok (.iload 4, 2) := by decide +kernel
theorem dX3_run_159 : decode cX3_run 159 = .ok (.invokevirtual 134, 3) := by decide +kernel
theorem dX3_run_162 : decode cX3_run 162 = .ok (.iload_n 3, 1) := by decide +kernel
theorem dX3_run_163 : decode cX3_run 163 = .ok (.iload 4, 2) := by decide +kernel
theorem dX3_run_165 : decode cX3_run 165 = .ok (.iload 6, 2) := by decide +kernel
theorem dX3_run_167 : decode cX3_run 167 = .ok (.iload_n 2, 1) := by decide +kernel
theorem dX3_run_168 : decode cX3_run 168 = .ok (.invokevirtual 117, 3) := by decide +kernel
theorem dX3_run_171 : decode cX3_run 171 = .ok (.iload 7, 2) := by decide +kernel
theorem dX3_run_173 : decode cX3_run 173 = .ok (.invokevirtual 121, 3) := by decide +kernel
theorem dX3_run_176 : decode cX3_run 176 = .ok (.iinc 5 1, 3) := by decide +kernel
theorem dX3_run_179 : decode cX3_run 179 = .ok (.goto (-74), 3) := by decide +kernel
theorem dX3_run_182 : decode cX3_run 182 = .ok (.iinc 4 1, 3) := by decide +kernel
theorem dX3_run_185 : decode cX3_run 185 = .ok (.goto (-175), 3) := by decide +kernel
theorem dX3_run_188 : decode cX3_run 188 = .ok (.iinc 3 1, 3) := by decide +kernel
theorem dX3_run_191 : decode cX3_run 191 = .ok (.goto (-189), 3) := by decide +kernel
theorem dX3_run_194 : decode cX3_run 194 = .ok (.return_, 1) := by decide +kernel
def tb_X3_run (S_X2_lineOf S_X3_at S_X3_slipped S_X3_place S_X3_put S_X3_marksOf S_X3_made : ma_Cs) : Nat → ma_In := fun pc =>
 (if pc < 87 then
 (if pc < 47 then
 (if pc < 20 then
 (if pc < 8 then
 (if pc < 3 then
 (if pc < 1 then
 (if pc = 0 then in_push (.int 1) 1 else in_no) else
 (if pc < 2 then
 (if pc = 1 then in_ist 3 2 else in_no) else
 (if pc = 2 then in_ild 3 3 else in_no))) else
 (if pc < 4 then
 (if pc = 3 then in_ild 1 4 else in_no) else
 (if pc < 7 then
 (if pc = 4 then in_if2 (fun x y => y < x) 194 7 else in_no) else
 (if pc = 7 then in_push (.int 0) 8 else in_no)))) else
 (if pc < 13 then
 (if pc < 10 then
 (if pc = 8 then in_ist 4 10 else in_no) else
 (if pc < 12 then
 (if pc = 10 then in_ild 4 12 else in_no) else
 (if pc = 12 then in_ald 0 13 else in_no))) else
 (if pc < 16 then
 (if pc = 13 then in_get YX 3 0 16 else in_no) else
 (if pc < 17 then
 (if pc = 16 then in_ald 0 17 else in_no) else
 (if pc = 17 then in_get YX 3 1 20 else in_no))))) else
 (if pc < 30 then
 (if pc < 25 then
 (if pc < 21 then
 (if pc = 20 then in_iii (fun x y => x * y) 21 else in_no) else
 (if pc < 24 then
 (if pc = 21 then in_if2 (fun x y => y ≤ x) 188 24 else in_no) else
 (if pc = 24 then in_push (.int 0) 25 else in_no))) else
 (if pc < 27 then
 (if pc = 25 then in_ist 5 27 else in_no) else
 (if pc < 29 then
 (if pc = 27 then in_ild 5 29 else in_no) else
 (if pc = 29 then in_push (.int 4) 30 else in_no)))) else
 (if pc < 37 then
 (if pc < 33 then
 (if pc = 30 then in_if2 (fun x y => y ≤ x) 102 33 else in_no) else
 (if pc < 34 then
 (if pc = 33 then in_ald 0 34 else in_no) else
 (if pc = 34 then in_get YX 3 4 37 else in_no))) else
 (if pc < 42 then
 (if pc < 40 then
 (if pc = 37 then in_get YX 0 4 40 else in_no) else
 (if pc = 40 then in_ild 5 42 else in_no)) else
 (if pc < 45 then
 (if pc = 42 then in_v2 YX 2 S_X2_lineOf 45 else in_no) else
 (if pc = 45 then in_push (.int (-4)) 47 else in_no)))))) else
 (if pc < 65 then
 (if pc < 57 then
 (if pc < 52 then
 (if pc < 50 then
 (if pc = 47 then in_if2 (fun x y => x = y) 50 96 else in_no) else
 (if pc < 51 then
 (if pc = 50 then in_ald 0 51 else in_no) else
 (if pc = 51 then in_ild 3 52 else in_no))) else
 (if pc < 54 then
 (if pc = 52 then in_ild 4 54 else in_no) else
 (if pc < 56 then
 (if pc = 54 then in_ild 5 56 else in_no) else
 (if pc = 56 then in_ald 0 57 else in_no)))) else
 (if pc < 60 then
 (if pc < 58 then
 (if pc = 57 then in_ald 0 58 else in_no) else
 (if pc < 59 then
 (if pc = 58 then in_ild 3 59 else in_no) else
 (if pc = 59 then in_push (.int 1) 60 else in_no))) else
 (if pc < 61 then
 (if pc = 60 then in_iii (fun x y => x - y) 61 else in_no) else
 (if pc < 63 then
 (if pc = 61 then in_ild 4 63 else in_no) else
 (if pc = 63 then in_ild 5 65 else in_no))))) else
 (if pc < 77 then
 (if pc < 71 then
 (if pc < 68 then
 (if pc = 65 then in_v4 YX 3 S_X3_at 68 else in_no) else
 (if pc < 69 then
 (if pc = 68 then in_ild 3 69 else in_no) else
 (if pc = 69 then in_ild 4 71 else in_no))) else
 (if pc < 73 then
 (if pc = 71 then in_ild 5 73 else in_no) else
 (if pc < 74 then
 (if pc = 73 then in_ild 2 74 else in_no) else
 (if pc = 74 then in_v6 YX 3 S_X3_slipped 77 else in_no)))) else
 (if pc < 82 then
 (if pc < 78 then
 (if pc = 77 then in_ald 0 78 else in_no) else
 (if pc < 81 then
 (if pc = 78 then in_get YX 3 3 81 else in_no) else
 (if pc = 81 then in_ald 0 82 else in_no))) else
 (if pc < 84 then
 (if pc < 83 then
 (if pc = 82 then in_ild 3 83 else in_no) else
 (if pc = 83 then in_push (.int 1) 84 else in_no)) else
 (if pc < 85 then
 (if pc = 84 then in_iii (fun x y => x - y) 85 else in_no) else
 (if pc = 85 then in_ild 4 87 else in_no))))))) else
 (if pc < 141 then
 (if pc < 114 then
 (if pc < 102 then
 (if pc < 93 then
 (if pc < 89 then
 (if pc = 87 then in_ild 5 89 else in_no) else
 (if pc < 92 then
 (if pc = 89 then in_v4 YX 3 S_X3_place 92 else in_no) else
 (if pc = 92 then in_bar YX 93 else in_no))) else
 (if pc < 96 then
 (if pc = 93 then in_v6 YX 3 S_X3_put 96 else in_no) else
 (if pc < 99 then
 (if pc = 96 then in_inc 5 1 99 else in_no) else
 (if pc = 99 then in_go 27 else in_no)))) else
 (if pc < 107 then
 (if pc < 103 then
 (if pc = 102 then in_push (.int 0) 103 else in_no) else
 (if pc < 105 then
 (if pc = 103 then in_ist 5 105 else in_no) else
 (if pc = 105 then in_ild 5 107 else in_no))) else
 (if pc < 108 then
 (if pc = 107 then in_ald 0 108 else in_no) else
 (if pc < 111 then
 (if pc = 108 then in_get YX 3 4 111 else in_no) else
 (if pc = 111 then in_get YX 0 4 114 else in_no))))) else
 (if pc < 130 then
 (if pc < 121 then
 (if pc < 117 then
 (if pc = 114 then in_get YX 2 0 117 else in_no) else
 (if pc < 120 then
 (if pc = 117 then in_if2 (fun x y => y ≤ x) 182 120 else in_no) else
 (if pc = 120 then in_ald 0 121 else in_no))) else
 (if pc < 124 then
 (if pc = 121 then in_get YX 3 4 124 else in_no) else
 (if pc < 127 then
 (if pc = 124 then in_get YX 0 4 127 else in_no) else
 (if pc = 127 then in_get YX 2 1 130 else in_no)))) else
 (if pc < 135 then
 (if pc < 132 then
 (if pc = 130 then in_ild 5 132 else in_no) else
 (if pc < 133 then
 (if pc = 132 then in_iar YX 133 else in_no) else
 (if pc = 133 then in_ist 6 135 else in_no))) else
 (if pc < 138 then
 (if pc < 136 then
 (if pc = 135 then in_ald 0 136 else in_no) else
 (if pc = 136 then in_ild 5 138 else in_no)) else
 (if pc < 139 then
 (if pc = 138 then in_ild 3 139 else in_no) else
 (if pc = 139 then in_ild 4 141 else in_no)))))) else
 (if pc < 163 then
 (if pc < 152 then
 (if pc < 147 then
 (if pc < 144 then
 (if pc = 141 then in_v4 YX 3 S_X3_marksOf 144 else in_no) else
 (if pc < 146 then
 (if pc = 144 then in_ist 7 146 else in_no) else
 (if pc = 146 then in_ald 0 147 else in_no))) else
 (if pc < 148 then
 (if pc = 147 then in_ild 3 148 else in_no) else
 (if pc < 150 then
 (if pc = 148 then in_ild 4 150 else in_no) else
 (if pc = 150 then in_ild 6 152 else in_no)))) else
 (if pc < 156 then
 (if pc < 153 then
 (if pc = 152 then in_ald 0 153 else in_no) else
 (if pc < 154 then
 (if pc = 153 then in_ald 0 154 else in_no) else
 (if pc = 154 then in_ild 5 156 else in_no))) else
 (if pc < 159 then
 (if pc < 157 then
 (if pc = 156 then in_ild 3 157 else in_no) else
 (if pc = 157 then in_ild 4 159 else in_no)) else
 (if pc < 162 then
 (if pc = 159 then in_v4 YX 3 S_X3_made 162 else in_no) else
 (if pc = 162 then in_ild 3 163 else in_no))))) else
 (if pc < 176 then
 (if pc < 168 then
 (if pc < 165 then
 (if pc = 163 then in_ild 4 165 else in_no) else
 (if pc < 167 then
 (if pc = 165 then in_ild 6 167 else in_no) else
 (if pc = 167 then in_ild 2 168 else in_no))) else
 (if pc < 171 then
 (if pc = 168 then in_v6 YX 3 S_X3_slipped 171 else in_no) else
 (if pc < 173 then
 (if pc = 171 then in_ild 7 173 else in_no) else
 (if pc = 173 then in_v6 YX 3 S_X3_put 176 else in_no)))) else
 (if pc < 185 then
 (if pc < 179 then
 (if pc = 176 then in_inc 5 1 179 else in_no) else
 (if pc < 182 then
 (if pc = 179 then in_go 105 else in_no) else
 (if pc = 182 then in_inc 4 1 185 else in_no))) else
 (if pc < 191 then
 (if pc < 188 then
 (if pc = 185 then in_go 10 else in_no) else
 (if pc = 188 then in_inc 3 1 191 else in_no)) else
 (if pc < 194 then
 (if pc = 191 then in_go 2 else in_no) else
 (if pc = 194 then in_rv else in_no))))))))
theorem tk_X3_run {l : Launch} {w : ma_Wd} {NC : Nat} {A : Nat → Prop} {S_X2_lineOf S_X3_at S_X3_slipped S_X3_place S_X3_put S_X3_marksOf S_X3_made : ma_Cs} (h_X2_lineOf : ma_Sd l w YX NC A yX2_lineOf cX2_lineOf 3 (some .int) rm_X2_lineOf S_X2_lineOf) (h_X3_at : ma_Sd l w YX NC A yX3_at cX3_at 4 (some .int) rm_X3_at S_X3_at) (h_X3_slipped : ma_Sd l w YX NC A yX3_slipped cX3_slipped 11 (some .int) rm_X3_slipped S_X3_slipped) (h_X3_place : ma_Sd l w YX NC A yX3_place cX3_place 4 (some .int) rm_X3_place S_X3_place) (h_X3_put : ma_Sd l w YX NC A yX3_put cX3_put 6 none rm_X3_put S_X3_put) (h_X3_marksOf : ma_Sd l w YX NC A yX3_marksOf cX3_marksOf 6 (some .boolean) rm_X3_marksOf S_X3_marksOf) (h_X3_made : ma_Sd l w YX NC A yX3_made cX3_made 11 (some .int) rm_X3_made S_X3_made) {p : Program} {e : Env} {s : State} {m : MethodId} {args : Array Value} {below : List Frame} {meth : Method} {c : Code} (X : ma_Cx p s m args meth c w YX NC A yX3_run.cls cX3_run 8 none) : ∀ pc, ma_Ok p l e rm_X3_run s m args below meth c w YX NC A 8 pc (tb_X3_run S_X2_lineOf S_X3_at S_X3_slipped S_X3_place S_X3_put S_X3_marksOf S_X3_made pc) := fun pc =>
 (mk_lt
 (mk_lt
 (mk_lt
 (mk_lt
 (mk_lt
 (mk_lt
 (mk_eq (mk_iconst X dX3_run_0 rfl rfl))
 (mk_lt
 (mk_eq (mk_istore_n X dX3_run_1 rfl (Nat.le_of_ble_eq_true rfl) rfl))
 (mk_eq (mk_iload_n X dX3_run_2 rfl rfl))))
 (mk_lt
 (mk_eq (mk_iload_n X dX3_run_3 rfl rfl))
 (mk_lt
 (mk_eq (mk_icgt X dX3_run_4 rfl rfl))
 (mk_eq (mk_iconst X dX3_run_7 rfl rfl)))))
 (mk_lt
 (mk_lt
 (mk_eq (mk_istore X dX3_run_8 (Nat.le_of_ble_eq_true rfl) rfl))
 (mk_lt
 (mk_eq (mk_iload X dX3_run_10 rfl))
 (mk_eq (mk_aload_n X dX3_run_12 rfl rfl))))
 (mk_lt
 (mk_eq (mk_get X (ci := 3) (j := 0) rfl in_X3 (Nat.le_of_ble_eq_true rfl) q164 dX3_run_13 rfl))
 (mk_lt
 (mk_eq (mk_aload_n X dX3_run_16 rfl rfl))
 (mk_eq (mk_get X (ci := 3) (j := 1) rfl in_X3 (Nat.le_of_ble_eq_true rfl) q166 dX3_run_17 rfl))))))
 (mk_lt
 (mk_lt
 (mk_lt
 (mk_eq (mk_imul X dX3_run_20 rfl))
 (mk_lt
 (mk_eq (mk_icge X dX3_run_21 rfl rfl))
 (mk_eq (mk_iconst X dX3_run_24 rfl rfl))))
 (mk_lt
 (mk_eq (mk_istore X dX3_run_25 (Nat.le_of_ble_eq_true rfl) rfl))
 (mk_lt
 (mk_eq (mk_iload X dX3_run_27 rfl))
 (mk_eq (mk_iconst X dX3_run_29 rfl rfl)))))
 (mk_lt
 (mk_lt
 (mk_eq (mk_icge X dX3_run_30 rfl rfl))
 (mk_lt
 (mk_eq (mk_aload_n X dX3_run_33 rfl rfl))
 (mk_eq (mk_get X (ci := 3) (j := 4) rfl in_X3 (Nat.le_of_ble_eq_true rfl) q171 dX3_run_34 rfl))))
 (mk_lt
 (mk_lt
 (mk_eq (mk_getN X (ci := 0) (j := 4) rfl in_X0 (Nat.le_of_ble_eq_true rfl) (List.mem_of_getElem? (i := 27) rfl) dX3_run_37 rfl))
 (mk_eq (mk_iload X dX3_run_40 rfl)))
 (mk_lt
 (mk_eq (mk_V2 X h_X2_lineOf (ci := 2) rfl (lw_V q514 q405 q406 q63 q407) ⟨rfl, by decide, by decide, rfl⟩ ⟨(Nat.le_of_ble_eq_true rfl), (Nat.le_of_ble_eq_true rfl)⟩ dX3_run_42 rfl))
 (mk_eq (mk_bipush X dX3_run_45 rfl rfl)))))))
 (mk_lt
 (mk_lt
 (mk_lt
 (mk_lt
 (mk_eq (mk_icne X dX3_run_47 rfl rfl))
 (mk_lt
 (mk_eq (mk_aload_n X dX3_run_50 rfl rfl))
 (mk_eq (mk_iload_n X dX3_run_51 rfl rfl))))
 (mk_lt
 (mk_eq (mk_iload X dX3_run_52 rfl))
 (mk_lt
 (mk_eq (mk_iload X dX3_run_54 rfl))
 (mk_eq (mk_aload_n X dX3_run_56 rfl rfl)))))
 (mk_lt
 (mk_lt
 (mk_eq (mk_aload_n X dX3_run_57 rfl rfl))
 (mk_lt
 (mk_eq (mk_iload_n X dX3_run_58 rfl rfl))
 (mk_eq (mk_iconst X dX3_run_59 rfl rfl))))
 (mk_lt
 (mk_eq (mk_isub X dX3_run_60 rfl))
 (mk_lt
 (mk_eq (mk_iload X dX3_run_61 rfl))
 (mk_eq (mk_iload X dX3_run_63 rfl))))))
 (mk_lt
 (mk_lt
 (mk_lt
 (mk_eq (mk_V4 X h_X3_at (ci := 3) rfl (lw_V q515 q516 q517 q64 q518) ⟨rfl, by decide, by decide, rfl⟩ ⟨(Nat.le_of_ble_eq_true rfl), (Nat.le_of_ble_eq_true rfl)⟩ dX3_run_65 rfl))
 (mk_lt
 (mk_eq (mk_iload_n X dX3_run_68 rfl rfl))
 (mk_eq (mk_iload X dX3_run_69 rfl))))
 (mk_lt
 (mk_eq (mk_iload X dX3_run_71 rfl))
 (mk_lt
 (mk_eq (mk_iload_n X dX3_run_73 rfl rfl))
 (mk_eq (mk_V6 X h_X3_slipped (ci := 3) rfl (lw_V q519 q521 qs16 q64 q522) ⟨rfl, by decide, by decide, rfl⟩ ⟨(Nat.le_of_ble_eq_true rfl), (Nat.le_of_ble_eq_true rfl)⟩ dX3_run_74 rfl)))))
 (mk_lt
 (mk_lt
 (mk_eq (mk_aload_n X dX3_run_77 rfl rfl))
 (mk_lt
 (mk_eq (mk_get X (ci := 3) (j := 3) rfl in_X3 (Nat.le_of_ble_eq_true rfl) q169 dX3_run_78 rfl))
 (mk_eq (mk_aload_n X dX3_run_81 rfl rfl))))
 (mk_lt
 (mk_lt
 (mk_eq (mk_iload_n X dX3_run_82 rfl rfl))
 (mk_eq (mk_iconst X dX3_run_83 rfl rfl)))
 (mk_lt
 (mk_eq (mk_isub X dX3_run_84 rfl))
 (mk_eq (mk_iload X dX3_run_85 rfl))))))))
 (mk_lt
 (mk_lt
 (mk_lt
 (mk_lt
 (mk_lt
 (mk_eq (mk_iload X dX3_run_87 rfl))
 (mk_lt
 (mk_eq (mk_V4 X h_X3_place (ci := 3) rfl (lw_V q506 q507 q508 q64 q509) ⟨rfl, by decide, by decide, rfl⟩ ⟨(Nat.le_of_ble_eq_true rfl), (Nat.le_of_ble_eq_true rfl)⟩ dX3_run_89 rfl))
 (mk_eq (mk_bar X dX3_run_92 rfl))))
 (mk_lt
 (mk_eq (mk_V6 X h_X3_put (ci := 3) rfl (lw_V q502 q504 qs15 q64 q505) ⟨rfl, by decide, by decide, rfl⟩ ⟨(Nat.le_of_ble_eq_true rfl), (Nat.le_of_ble_eq_true rfl)⟩ dX3_run_93 rfl))
 (mk_lt
 (mk_eq (mk_iinc X dX3_run_96 rfl (Nat.le_of_ble_eq_true rfl) rfl))
 (mk_eq (mk_goto X dX3_run_99 rfl)))))
 (mk_lt
 (mk_lt
 (mk_eq (mk_iconst X dX3_run_102 rfl rfl))
 (mk_lt
 (mk_eq (mk_istore X dX3_run_103 (Nat.le_of_ble_eq_true rfl) rfl))
 (mk_eq (mk_iload X dX3_run_105 rfl))))
 (mk_lt
 (mk_eq (mk_aload_n X dX3_run_107 rfl rfl))
 (mk_lt
 (mk_eq (mk_get X (ci := 3) (j := 4) rfl in_X3 (Nat.le_of_ble_eq_true rfl) q171 dX3_run_108 rfl))
 (mk_eq (mk_getN X (ci := 0) (j := 4) rfl in_X0 (Nat.le_of_ble_eq_true rfl) (List.mem_of_getElem? (i := 27) rfl) dX3_run_111 rfl))))))
 (mk_lt
 (mk_lt
 (mk_lt
 (mk_eq (mk_getN X (ci := 2) (j := 0) rfl in_X2 (Nat.le_of_ble_eq_true rfl) (List.mem_of_getElem? (i := 19) rfl) dX3_run_114 rfl))
 (mk_lt
 (mk_eq (mk_icge X dX3_run_117 rfl rfl))
 (mk_eq (mk_aload_n X dX3_run_120 rfl rfl))))
 (mk_lt
 (mk_eq (mk_get X (ci := 3) (j := 4) rfl in_X3 (Nat.le_of_ble_eq_true rfl) q171 dX3_run_121 rfl))
 (mk_lt
 (mk_eq (mk_getN X (ci := 0) (j := 4) rfl in_X0 (Nat.le_of_ble_eq_true rfl) (List.mem_of_getElem? (i := 27) rfl) dX3_run_124 rfl))
 (mk_eq (mk_getN X (ci := 2) (j := 1) rfl in_X2 (Nat.le_of_ble_eq_true rfl) (List.mem_of_getElem? (i := 20) rfl) dX3_run_127 rfl)))))
 (mk_lt
 (mk_lt
 (mk_eq (mk_iload X dX3_run_130 rfl))
 (mk_lt
 (mk_eq (mk_iar X dX3_run_132 rfl))
 (mk_eq (mk_istore X dX3_run_133 (Nat.le_of_ble_eq_true rfl) rfl))))
 (mk_lt
 (mk_lt
 (mk_eq (mk_aload_n X dX3_run_135 rfl rfl))
 (mk_eq (mk_iload X dX3_run_136 rfl)))
 (mk_lt
 (mk_eq (mk_iload_n X dX3_run_138 rfl rfl))
 (mk_eq (mk_iload X dX3_run_139 rfl)))))))
 (mk_lt
 (mk_lt
 (mk_lt
 (mk_lt
 (mk_eq (mk_V4 X h_X3_marksOf (ci := 3) rfl (lw_V q528 q530 qs17 q64 q531) ⟨rfl, by decide, by decide, rfl⟩ ⟨(Nat.le_of_ble_eq_true rfl), (Nat.le_of_ble_eq_true rfl)⟩ dX3_run_141 rfl))
 (mk_lt
 (mk_eq (mk_istore X dX3_run_144 (Nat.le_of_ble_eq_true rfl) rfl))
 (mk_eq (mk_aload_n X dX3_run_146 rfl rfl))))
 (mk_lt
 (mk_eq (mk_iload_n X dX3_run_147 rfl rfl))
 (mk_lt
 (mk_eq (mk_iload X dX3_run_148 rfl))
 (mk_eq (mk_iload X dX3_run_150 rfl)))))
 (mk_lt
 (mk_lt
 (mk_eq (mk_aload_n X dX3_run_152 rfl rfl))
 (mk_lt
 (mk_eq (mk_aload_n X dX3_run_153 rfl rfl))
 (mk_eq (mk_iload X dX3_run_154 rfl))))
 (mk_lt
 (mk_lt
 (mk_eq (mk_iload_n X dX3_run_156 rfl rfl))
 (mk_eq (mk_iload X dX3_run_157 rfl)))
 (mk_lt
 (mk_eq (mk_V4 X h_X3_made (ci := 3) rfl (lw_V q540 q541 q542 q64 q543) ⟨rfl, by decide, by decide, rfl⟩ ⟨(Nat.le_of_ble_eq_true rfl), (Nat.le_of_ble_eq_true rfl)⟩ dX3_run_159 rfl))
 (mk_eq (mk_iload_n X dX3_run_162 rfl rfl))))))
 (mk_lt
 (mk_lt
 (mk_lt
 (mk_eq (mk_iload X dX3_run_163 rfl))
 (mk_lt
 (mk_eq (mk_iload X dX3_run_165 rfl))
 (mk_eq (mk_iload_n X dX3_run_167 rfl rfl))))
 (mk_lt
 (mk_eq (mk_V6 X h_X3_slipped (ci := 3) rfl (lw_V q519 q521 qs16 q64 q522) ⟨rfl, by decide, by decide, rfl⟩ ⟨(Nat.le_of_ble_eq_true rfl), (Nat.le_of_ble_eq_true rfl)⟩ dX3_run_168 rfl))
 (mk_lt
 (mk_eq (mk_iload X dX3_run_171 rfl))
 (mk_eq (mk_V6 X h_X3_put (ci := 3) rfl (lw_V q502 q504 qs15 q64 q505) ⟨rfl, by decide, by decide, rfl⟩ ⟨(Nat.le_of_ble_eq_true rfl), (Nat.le_of_ble_eq_true rfl)⟩ dX3_run_173 rfl)))))
 (mk_lt
 (mk_lt
 (mk_eq (mk_iinc X dX3_run_176 rfl (Nat.le_of_ble_eq_true rfl) rfl))
 (mk_lt
 (mk_eq (mk_goto X dX3_run_179 rfl))
 (mk_eq (mk_iinc X dX3_run_182 rfl (Nat.le_of_ble_eq_true rfl) rfl))))
 (mk_lt
 (mk_lt
 (mk_eq (mk_goto X dX3_run_185 rfl))
 (mk_eq (mk_iinc X dX3_run_188 rfl (Nat.le_of_ble_eq_true rfl) rfl)))
 (mk_lt
 (mk_eq (mk_goto X dX3_run_191 rfl))
 (mk_eq (mk_rv X dX3_run_194)))))))))
theorem sd_X3_run {l : Launch} {w : ma_Wd} {NC : Nat} {A : Nat → Prop} {S_X2_lineOf S_X3_at S_X3_slipped S_X3_place S_X3_put S_X3_marksOf S_X3_made : ma_Cs} (hw : ma_Wo w YX NC A) (h_X2_lineOf : ma_Sd l w YX NC A yX2_lineOf cX2_lineOf 3 (some .int) rm_X2_lineOf S_X2_lineOf) (h_X3_at : ma_Sd l w YX NC A yX3_at cX3_at 4 (some .int) rm_X3_at S_X3_at) (h_X3_slipped : ma_Sd l w YX NC A yX3_slipped cX3_slipped 11 (some .int) rm_X3_slipped S_X3_slipped) (h_X3_place : ma_Sd l w YX NC A yX3_place cX3_place 4 (some .int) rm_X3_place S_X3_place) (h_X3_put : ma_Sd l w YX NC A yX3_put cX3_put 6 none rm_X3_put S_X3_put) (h_X3_marksOf : ma_Sd l w YX NC A yX3_marksOf cX3_marksOf 6 (some .boolean) rm_X3_marksOf S_X3_marksOf) (h_X3_made : ma_Sd l w YX NC A yX3_made cX3_made 11 (some .int) rm_X3_made S_X3_made) : ma_Sd l w YX NC A yX3_run cX3_run 8 none rm_X3_run (ma_rn (tb_X3_run S_X2_lineOf S_X3_at S_X3_slipped S_X3_place S_X3_put S_X3_marksOf S_X3_made) 8) := ma_of hw (by decide) ⟨rfl, rfl⟩ (fun X => tk_X3_run h_X2_lineOf h_X3_at h_X3_slipped h_X3_place h_X3_put h_X3_marksOf h_X3_made X)
theorem dX3_at_0 : decode cX3_at 0 = .ok (.aload_n 0, 1) := by decide +kernel
theorem dX3_at_1 : decode cX3_at 1 = .ok (.getfield 15, 3) := by decide +kernel
theorem dX3_at_4 : decode cX3_at 4 = .ok (.aload_n 0, 1) := by decide +kernel
theorem dX3_at_5 : decode cX3_at 5 = .ok (.iload_n 1, 1) := by decide +kernel
theorem dX3_at_6 : decode cX3_at 6 = .ok (.iload_n 2, 1) := by decide +kernel
theorem dX3_at_7 : decode cX3_at 7 = .ok (.iload_n 3, 1) := by decide +kernel
theorem dX3_at_8 : decode cX3_at 8 = .ok (.invokevirtual 23, 3) := by decide +kernel
theorem dX3_at_11 : decode cX3_at 11 = .ok (.iaload, 1) := by decide +kernel
theorem dX3_at_12 : decode cX3_at 12 = .ok (.ireturn, 1) := by decide +kernel
def tb_X3_at (S_X3_place : ma_Cs) : Nat → ma_In := fun pc =>
 (if pc < 6 then
 (if pc < 4 then
 (if pc < 1 then
 (if pc = 0 then in_ald 0 1 else in_no) else
 (if pc = 1 then in_get YX 3 2 4 else in_no)) else
 (if pc < 5 then
 (if pc = 4 then in_ald 0 5 else in_no) else
 (if pc = 5 then in_ild 1 6 else in_no))) else
 (if pc < 8 then
 (if pc < 7 then
 (if pc = 6 then in_ild 2 7 else in_no) else
 (if pc = 7 then in_ild 3 8 else in_no)) else
 (if pc < 11 then
 (if pc = 8 then in_v4 YX 3 S_X3_place 11 else in_no) else
 (if pc < 12 then
 (if pc = 11 then in_iar YX 12 else in_no) else
 (if pc = 12 then in_ri else in_no)))))
theorem tk_X3_at {l : Launch} {w : ma_Wd} {NC : Nat} {A : Nat → Prop} {S_X3_place : ma_Cs} (h_X3_place : ma_Sd l w YX NC A yX3_place cX3_place 4 (some .int) rm_X3_place S_X3_place) {p : Program} {e : Env} {s : State} {m : MethodId} {args : Array Value} {below : List Frame} {meth : Method} {c : Code} (X : ma_Cx p s m args meth c w YX NC A yX3_at.cls cX3_at 4 (some .int)) : ∀ pc, ma_Ok p l e rm_X3_at s m args below meth c w YX NC A 4 pc (tb_X3_at S_X3_place pc) := fun pc =>
 (mk_lt
 (mk_lt
 (mk_lt
 (mk_eq (mk_aload_n X dX3_at_0 rfl rfl))
 (mk_eq (mk_get X (ci := 3) (j := 2) rfl in_X3 (Nat.le_of_ble_eq_true rfl) q168 dX3_at_1 rfl)))
 (mk_lt
 (mk_eq (mk_aload_n X dX3_at_4 rfl rfl))
 (mk_eq (mk_iload_n X dX3_at_5 rfl rfl))))
 (mk_lt
 (mk_lt
 (mk_eq (mk_iload_n X dX3_at_6 rfl rfl))
 (mk_eq (mk_iload_n X dX3_at_7 rfl rfl)))
 (mk_lt
 (mk_eq (mk_V4 X h_X3_place (ci := 3) rfl (lw_V q506 q507 q508 q64 q509) ⟨rfl, by decide, by decide, rfl⟩ ⟨(Nat.le_of_ble_eq_true rfl), (Nat.le_of_ble_eq_true rfl)⟩ dX3_at_8 rfl))
 (mk_lt
 (mk_eq (mk_iar X dX3_at_11 rfl))
 (mk_eq (mk_ri X dX3_at_12))))))
theorem sd_X3_at {l : Launch} {w : ma_Wd} {NC : Nat} {A : Nat → Prop} {S_X3_place : ma_Cs} (hw : ma_Wo w YX NC A) (h_X3_place : ma_Sd l w YX NC A yX3_place cX3_place 4 (some .int) rm_X3_place S_X3_place) : ma_Sd l w YX NC A yX3_at cX3_at 4 (some .int) rm_X3_at (ma_rn (tb_X3_at S_X3_place) 4) := ma_of hw (by decide) ⟨rfl, rfl⟩ (fun X => tk_X3_at h_X3_place X)
theorem dX3_slipped_0 : decode cX3_slipped 0 = .ok (.iload_n 1, 1) := by decide +kernel
theorem dX3_slipped_1 : decode cX3_slipped 1 = .ok (.istore 6, 2) := by decide +kernel
theorem dX3_slipped_3 : decode cX3_slipped 3 = .ok (.iconst 0, 1) := by decide +kernel
theorem dX3_slipped_4 : decode cX3_slipped 4 = .ok (.istore 7, 2) := by decide +kernel
theorem dX3_slipped_6 : decode cX3_slipped 6 = .ok (.iload 7, 2) := by decide +kernel
theorem dX3_slipped_8 : decode cX3_slipped 8 = .ok (.aload_n 0, 1) := by decide +kernel
theorem dX3_slipped_9 : decode cX3_slipped 9 = .ok (.getfield 3, 3) := by decide +kernel
theorem dX3_slipped_12 : decode cX3_slipped 12 = .ok (.getfield 98, 3) := by decide +kernel
theorem dX3_slipped_15 : decode cX3_slipped 15 = .ok (.if_icmp .ge 129, 3) := by decide +kernel
theorem dX3_slipped_18 : decode cX3_slipped 18 = .ok (.iload 5, 2) := by decide +kernel
theorem dX3_slipped_20 : decode cX3_slipped 20 = .ok (.bipush (-4), 2) := by decide +kernel
theorem dX3_slipped_22 : decode cX3_slipped 22 = .ok (.if_icmp .lt 122, 3) := by decide +kernel
theorem dX3_slipped_25 : decode cX3_slipped 25 = .ok (.iload 7, 2) := by decide +kernel
theorem dX3_slipped_27 : decode cX3_slipped 27 = .ok (.iload 5, 2) := by decide +kernel
theorem dX3_slipped_29 : decode cX3_slipped 29 = .ok (.if_icmp .eq 57, 3) := by decide +kernel
theorem dX3_slipped_32 : decode cX3_slipped 32 = .ok (.aload_n 0, 1) := by decide +kernel
theorem dX3_slipped_33 : decode cX3_slipped 33 = .ok (.getfield 3, 3) := by decide +kernel
theorem dX3_slipped_36 : decode cX3_slipped 36 = .ok (.getfield 101, 3) := by decide +kernel
theorem dX3_slipped_39 : decode cX3_slipped 39 = .ok (.iload 7, 2) := by decide +kernel
theorem dX3_slipped_41 : decode cX3_slipped 41 = .ok (.iaload, 1) := by decide +kernel
theorem dX3_slipped_42 : decode cX3_slipped 42 = .ok (.iload_n 2, 1) := by decide +kernel
theorem dX3_slipped_43 : decode cX3_slipped 43 = .ok (.if_icmp .ne 43, 3) := by decide +kernel
theorem dX3_slipped_46 : decode cX3_slipped 46 = .ok (.aload_n 0, 1) := by decide +kernel
theorem dX3_slipped_47 : decode cX3_slipped 47 = .ok (.getfield 3, 3) := by decide +kernel
theorem dX3_slipped_50 : decode cX3_slipped 50 = .ok (.getfield 104, 3) := by decide +kernel
theorem dX3_slipped_53 : decode cX3_slipped 53 = .ok (.iload 7, 2) := by decide +kernel
theorem dX3_slipped_55 : decode cX3_slipped 55 = .ok (.iaload, 1) := by decide +kernel
theorem dX3_slipped_56 : decode cX3_slipped 56 = .ok (.iload_n 3, 1) := by decide +kernel
theorem dX3_slipped_57 : decode cX3_slipped 57 = .ok (.if_icmp .ne 29, 3) := by decide +kernel
theorem dX3_slipped_60 : decode cX3_slipped 60 = .ok (.aload_n 0, 1) := by decide +kernel
theorem dX3_slipped_61 : decode cX3_slipped 61 = .ok (.getfield 3, 3) := by decide +kernel
theorem dX3_slipped_64 : decode cX3_slipped 64 = .ok (.getfield 107, 3) := by decide +kernel
theorem dX3_slipped_67 : decode cX3_slipped 67 = .ok (.iload 7, 2) := by decide +kernel
theorem dX3_slipped_69 : decode cX3_slipped 69 = .ok (.iaload, 1) := by decide +kernel
theorem dX3_slipped_70 : decode cX3_slipped 70 = .ok (.iload 4, 2) := by decide +kernel
theorem dX3_slipped_72 : decode cX3_slipped 72 = .ok (.if_icmp .ne 14, 3) := by decide +kernel
theorem dX3_slipped_75 : decode cX3_slipped 75 = .ok (.iload 6, 2) := by decide +kernel
theorem dX3_slipped_77 : decode cX3_slipped 77 = .ok (.ldc 68, 2) := by decide +kernel
theorem dX3_slipped_79 : decode cX3_slipped 79 = .ok (.if_icmp .eq 7, 3) := by decide +kernel
theorem dX3_slipped_82 : decode cX3_slipped 82 = .ok (.iconst 1, 1) := by decide +kernel
theorem dX3_slipped_83 : decode cX3_slipped 83 = .ok (.goto 4, 3) := by decide +kernel
theorem dX3_slipped_86 : decode cX3_slipped 86 = .ok (.iconst 0, 1) := by decide +kernel
theorem dX3_slipped_87 : decode cX3_slipped 87 = .ok (.istore 8, 2) := by decide +kernel
theorem dX3_slipped_89 : decode cX3_slipped 89 = .ok (.iload 6, 2) := by decide +kernel
theorem dX3_slipped_91 : decode cX3_slipped 91 = .ok (.i2l, 1) := by decide +kernel
theorem dX3_slipped_92 : decode cX3_slipped 92 = .ok (.aload_n 0, 1) := by decide +kernel
theorem dX3_slipped_93 : decode cX3_slipped 93 = .ok (.getfield 3, 3) := by decide +kernel
theorem dX3_slipped_96 : decode cX3_slipped 96 = .ok (.getfield 110, 3) := by decide +kernel
theorem dX3_slipped_99 : decode cX3_slipped 99 = .ok (.iload 7, 2) := by decide +kernel
theorem dX3_slipped_101 : decode cX3_slipped 101 = .ok (.iaload, 1) := by decide +kernel
theorem dX3_slipped_102 : decode cX3_slipped 102 = .ok (.i2l, 1) := by decide +kernel
theorem dX3_slipped_103 : decode cX3_slipped 103 = .ok (.ladd, 1) := by decide +kernel
theorem dX3_slipped_104 : decode cX3_slipped 104 = .ok (.lstore 9, 2) := by decide +kernel
theorem dX3_slipped_106 : decode cX3_slipped 106 = .ok (.iload 8, 2) := by decide +kernel
theorem dX3_slipped_108 : decode cX3_slipped 108 = .ok (.ifCond .ne 8, 3) := by decide +kernel
theorem dX3_slipped_111 : decode cX3_slipped 111 = .ok (.iload 6, 2) := by decide +kernel
theorem dX3_slipped_113 : decode cX3_slipped 113 = .ok (.goto 23, 3) := by decide +kernel
theorem dX3_slipped_116 : decode cX3_slipped 116 = .ok (.lload 9, 2) := by decide +kernel
theorem dX3_slipped_118 : decode cX3_slipped 118 = .ok (.invokestatic 69, 3) := by decide +kernel
theorem dX3_slipped_121 : decode cX3_slipped 121 = .ok (.ldc2_w 92, 3) := by decide +kernel
theorem dX3_slipped_124 : decode cX3_slipped 124 = .ok (.lcmp, 1) := by decide +kernel
theorem dX3_slipped_125 : decode cX3_slipped 125 = .ok (.ifCond .le 8, 3) := by decide +kernel
theorem dX3_slipped_128 : decode cX3_slipped 128 = .ok (.ldc 68, 2) := by decide +kernel
theorem dX3_slipped_130 : decode cX3_slipped 130 = .ok (.goto 6, 3) := by decide +kernel
theorem dX3_slipped_133 : decode cX3_slipped 133 = .ok (.lload 9, 2) := by decide +kernel
theorem dX3_slipped_135 : decode cX3_slipped 135 = .ok (.l2i, 1) := by decide +kernel
theorem dX3_slipped_136 : decode cX3_slipped 136 = .ok (.istore 6, 2) := by decide +kernel
theorem dX3_slipped_138 : decode cX3_slipped 138 = .ok (.iinc 7 1, 3) := by decide +kernel
theorem dX3_slipped_141 : decode cX3_slipped 141 = .ok (.goto (-135), 3) := by decide +kernel
theorem dX3_slipped_144 : decode cX3_slipped 144 = .ok (.iload 6, 2) := by decide +kernel
theorem dX3_slipped_146 : decode cX3_slipped 146 = .ok (.ireturn, 1) := by decide +kernel
def tb_X3_slipped (S_J0_abs : ma_Cs) : Nat → ma_In := fun pc =>
 (if pc < 72 then
 (if pc < 36 then
 (if pc < 15 then
 (if pc < 6 then
 (if pc < 3 then
 (if pc < 1 then
 (if pc = 0 then in_ild 1 1 else in_no) else
 (if pc = 1 then in_ist 6 3 else in_no)) else
 (if pc < 4 then
 (if pc = 3 then in_push (.int 0) 4 else in_no) else
 (if pc = 4 then in_ist 7 6 else in_no))) else
 (if pc < 9 then
 (if pc < 8 then
 (if pc = 6 then in_ild 7 8 else in_no) else
 (if pc = 8 then in_ald 0 9 else in_no)) else
 (if pc < 12 then
 (if pc = 9 then in_get YX 3 4 12 else in_no) else
 (if pc = 12 then in_get YX 0 10 15 else in_no)))) else
 (if pc < 25 then
 (if pc < 20 then
 (if pc < 18 then
 (if pc = 15 then in_if2 (fun x y => y ≤ x) 144 18 else in_no) else
 (if pc = 18 then in_ild 5 20 else in_no)) else
 (if pc < 22 then
 (if pc = 20 then in_push (.int (-4)) 22 else in_no) else
 (if pc = 22 then in_if2 (fun x y => x < y) 144 25 else in_no))) else
 (if pc < 29 then
 (if pc < 27 then
 (if pc = 25 then in_ild 7 27 else in_no) else
 (if pc = 27 then in_ild 5 29 else in_no)) else
 (if pc < 32 then
 (if pc = 29 then in_if2 (fun x y => x = y) 86 32 else in_no) else
 (if pc < 33 then
 (if pc = 32 then in_ald 0 33 else in_no) else
 (if pc = 33 then in_get YX 3 4 36 else in_no)))))) else
 (if pc < 55 then
 (if pc < 43 then
 (if pc < 41 then
 (if pc < 39 then
 (if pc = 36 then in_get YX 0 11 39 else in_no) else
 (if pc = 39 then in_ild 7 41 else in_no)) else
 (if pc < 42 then
 (if pc = 41 then in_iar YX 42 else in_no) else
 (if pc = 42 then in_ild 2 43 else in_no))) else
 (if pc < 47 then
 (if pc < 46 then
 (if pc = 43 then in_if2 (fun x y => x = y) 46 86 else in_no) else
 (if pc = 46 then in_ald 0 47 else in_no)) else
 (if pc < 50 then
 (if pc = 47 then in_get YX 3 4 50 else in_no) else
 (if pc < 53 then
 (if pc = 50 then in_get YX 0 12 53 else in_no) else
 (if pc = 53 then in_ild 7 55 else in_no))))) else
 (if pc < 61 then
 (if pc < 57 then
 (if pc < 56 then
 (if pc = 55 then in_iar YX 56 else in_no) else
 (if pc = 56 then in_ild 3 57 else in_no)) else
 (if pc < 60 then
 (if pc = 57 then in_if2 (fun x y => x = y) 60 86 else in_no) else
 (if pc = 60 then in_ald 0 61 else in_no))) else
 (if pc < 67 then
 (if pc < 64 then
 (if pc = 61 then in_get YX 3 4 64 else in_no) else
 (if pc = 64 then in_get YX 0 13 67 else in_no)) else
 (if pc < 69 then
 (if pc = 67 then in_ild 7 69 else in_no) else
 (if pc < 70 then
 (if pc = 69 then in_iar YX 70 else in_no) else
 (if pc = 70 then in_ild 4 72 else in_no))))))) else
 (if pc < 106 then
 (if pc < 91 then
 (if pc < 82 then
 (if pc < 77 then
 (if pc < 75 then
 (if pc = 72 then in_if2 (fun x y => x = y) 75 86 else in_no) else
 (if pc = 75 then in_ild 6 77 else in_no)) else
 (if pc < 79 then
 (if pc = 77 then in_push (.int 2000000000) 79 else in_no) else
 (if pc = 79 then in_if2 (fun x y => x = y) 86 82 else in_no))) else
 (if pc < 86 then
 (if pc < 83 then
 (if pc = 82 then in_push (.int 1) 83 else in_no) else
 (if pc = 83 then in_go 87 else in_no)) else
 (if pc < 87 then
 (if pc = 86 then in_push (.int 0) 87 else in_no) else
 (if pc < 89 then
 (if pc = 87 then in_ist 8 89 else in_no) else
 (if pc = 89 then in_ild 6 91 else in_no))))) else
 (if pc < 99 then
 (if pc < 93 then
 (if pc < 92 then
 (if pc = 91 then in_il (fun x => x.toInt64) 92 else in_no) else
 (if pc = 92 then in_ald 0 93 else in_no)) else
 (if pc < 96 then
 (if pc = 93 then in_get YX 3 4 96 else in_no) else
 (if pc = 96 then in_get YX 0 14 99 else in_no))) else
 (if pc < 102 then
 (if pc < 101 then
 (if pc = 99 then in_ild 7 101 else in_no) else
 (if pc = 101 then in_iar YX 102 else in_no)) else
 (if pc < 103 then
 (if pc = 102 then in_il (fun x => x.toInt64) 103 else in_no) else
 (if pc < 104 then
 (if pc = 103 then in_lll (fun x y => x + y) 104 else in_no) else
 (if pc = 104 then in_lst 9 106 else in_no)))))) else
 (if pc < 128 then
 (if pc < 116 then
 (if pc < 111 then
 (if pc < 108 then
 (if pc = 106 then in_ild 8 108 else in_no) else
 (if pc = 108 then in_if1 (fun x => x = 0) 111 116 else in_no)) else
 (if pc < 113 then
 (if pc = 111 then in_ild 6 113 else in_no) else
 (if pc = 113 then in_go 136 else in_no))) else
 (if pc < 121 then
 (if pc < 118 then
 (if pc = 116 then in_lld 9 118 else in_no) else
 (if pc = 118 then in_s1 S_J0_abs 121 else in_no)) else
 (if pc < 124 then
 (if pc = 121 then in_push (.long 1000000000) 124 else in_no) else
 (if pc < 125 then
 (if pc = 124 then in_lli lg_cmp 125 else in_no) else
 (if pc = 125 then in_if1 (fun x => x ≤ 0) 133 128 else in_no))))) else
 (if pc < 136 then
 (if pc < 133 then
 (if pc < 130 then
 (if pc = 128 then in_push (.int 2000000000) 130 else in_no) else
 (if pc = 130 then in_go 136 else in_no)) else
 (if pc < 135 then
 (if pc = 133 then in_lld 9 135 else in_no) else
 (if pc = 135 then in_li (fun x => x.toInt32) 136 else in_no))) else
 (if pc < 141 then
 (if pc < 138 then
 (if pc = 136 then in_ist 6 138 else in_no) else
 (if pc = 138 then in_inc 7 1 141 else in_no)) else
 (if pc < 144 then
 (if pc = 141 then in_go 6 else in_no) else
 (if pc < 146 then
 (if pc = 144 then in_ild 6 146 else in_no) else
 (if pc = 146 then in_ri else in_no))))))))
theorem tk_X3_slipped {l : Launch} {w : ma_Wd} {NC : Nat} {A : Nat → Prop} {S_J0_abs : ma_Cs} (h_J0_abs : ma_Sd l w YX NC A yJ0_abs cJ0_abs 2 (some .long) rm_J0_abs S_J0_abs) {p : Program} {e : Env} {s : State} {m : MethodId} {args : Array Value} {below : List Frame} {meth : Method} {c : Code} (X : ma_Cx p s m args meth c w YX NC A yX3_slipped.cls cX3_slipped 11 (some .int)) : ∀ pc, ma_Ok p l e rm_X3_slipped s m args below meth c w YX NC A 11 pc (tb_X3_slipped S_J0_abs pc) := fun pc =>
 (mk_lt
 (mk_lt
 (mk_lt
 (mk_lt
 (mk_lt
 (mk_lt
 (mk_eq (mk_iload_n X dX3_slipped_0 rfl rfl))
 (mk_eq (mk_istore X dX3_slipped_1 (Nat.le_of_ble_eq_true rfl) rfl)))
 (mk_lt
 (mk_eq (mk_iconst X dX3_slipped_3 rfl rfl))
 (mk_eq (mk_istore X dX3_slipped_4 (Nat.le_of_ble_eq_true rfl) rfl))))
 (mk_lt
 (mk_lt
 (mk_eq (mk_iload X dX3_slipped_6 rfl))
 (mk_eq (mk_aload_n X dX3_slipped_8 rfl rfl)))
 (mk_lt
 (mk_eq (mk_get X (ci := 3) (j := 4) rfl in_X3 (Nat.le_of_ble_eq_true rfl) q171 dX3_slipped_9 rfl))
 (mk_eq (mk_getN X (ci := 0) (j := 10) rfl in_X0 (Nat.le_of_ble_eq_true rfl) (List.mem_of_getElem? (i := 33) rfl) dX3_slipped_12 rfl)))))
 (mk_lt
 (mk_lt
 (mk_lt
 (mk_eq (mk_icge X dX3_slipped_15 rfl rfl))
 (mk_eq (mk_iload X dX3_slipped_18 rfl)))
 (mk_lt
 (mk_eq (mk_bipush X dX3_slipped_20 rfl rfl))
 (mk_eq (mk_iclt X dX3_slipped_22 rfl rfl))))
 (mk_lt
 (mk_lt
 (mk_eq (mk_iload X dX3_slipped_25 rfl))
 (mk_eq (mk_iload X dX3_slipped_27 rfl)))
 (mk_lt
 (mk_eq (mk_iceq X dX3_slipped_29 rfl rfl))
 (mk_lt
 (mk_eq (mk_aload_n X dX3_slipped_32 rfl rfl))
 (mk_eq (mk_get X (ci := 3) (j := 4) rfl in_X3 (Nat.le_of_ble_eq_true rfl) q171 dX3_slipped_33 rfl)))))))
 (mk_lt
 (mk_lt
 (mk_lt
 (mk_lt
 (mk_eq (mk_getN X (ci := 0) (j := 11) rfl in_X0 (Nat.le_of_ble_eq_true rfl) (List.mem_of_getElem? (i := 34) rfl) dX3_slipped_36 rfl))
 (mk_eq (mk_iload X dX3_slipped_39 rfl)))
 (mk_lt
 (mk_eq (mk_iar X dX3_slipped_41 rfl))
 (mk_eq (mk_iload_n X dX3_slipped_42 rfl rfl))))
 (mk_lt
 (mk_lt
 (mk_eq (mk_icne X dX3_slipped_43 rfl rfl))
 (mk_eq (mk_aload_n X dX3_slipped_46 rfl rfl)))
 (mk_lt
 (mk_eq (mk_get X (ci := 3) (j := 4) rfl in_X3 (Nat.le_of_ble_eq_true rfl) q171 dX3_slipped_47 rfl))
 (mk_lt
 (mk_eq (mk_getN X (ci := 0) (j := 12) rfl in_X0 (Nat.le_of_ble_eq_true rfl) (List.mem_of_getElem? (i := 35) rfl) dX3_slipped_50 rfl))
 (mk_eq (mk_iload X dX3_slipped_53 rfl))))))
 (mk_lt
 (mk_lt
 (mk_lt
 (mk_eq (mk_iar X dX3_slipped_55 rfl))
 (mk_eq (mk_iload_n X dX3_slipped_56 rfl rfl)))
 (mk_lt
 (mk_eq (mk_icne X dX3_slipped_57 rfl rfl))
 (mk_eq (mk_aload_n X dX3_slipped_60 rfl rfl))))
 (mk_lt
 (mk_lt
 (mk_eq (mk_get X (ci := 3) (j := 4) rfl in_X3 (Nat.le_of_ble_eq_true rfl) q171 dX3_slipped_61 rfl))
 (mk_eq (mk_getN X (ci := 0) (j := 13) rfl in_X0 (Nat.le_of_ble_eq_true rfl) (List.mem_of_getElem? (i := 36) rfl) dX3_slipped_64 rfl)))
 (mk_lt
 (mk_eq (mk_iload X dX3_slipped_67 rfl))
 (mk_lt
 (mk_eq (mk_iar X dX3_slipped_69 rfl))
 (mk_eq (mk_iload X dX3_slipped_70 rfl))))))))
 (mk_lt
 (mk_lt
 (mk_lt
 (mk_lt
 (mk_lt
 (mk_eq (mk_icne X dX3_slipped_72 rfl rfl))
 (mk_eq (mk_iload X dX3_slipped_75 rfl)))
 (mk_lt
 (mk_eq (mk_ldc X dX3_slipped_77 q523 rfl))
 (mk_eq (mk_iceq X dX3_slipped_79 rfl rfl))))
 (mk_lt
 (mk_lt
 (mk_eq (mk_iconst X dX3_slipped_82 rfl rfl))
 (mk_eq (mk_goto X dX3_slipped_83 rfl)))
 (mk_lt
 (mk_eq (mk_iconst X dX3_slipped_86 rfl rfl))
 (mk_lt
 (mk_eq (mk_istore X dX3_slipped_87 (Nat.le_of_ble_eq_true rfl) rfl))
 (mk_eq (mk_iload X dX3_slipped_89 rfl))))))
 (mk_lt
 (mk_lt
 (mk_lt
 (mk_eq (mk_i2l X dX3_slipped_91 rfl))
 (mk_eq (mk_aload_n X dX3_slipped_92 rfl rfl)))
 (mk_lt
 (mk_eq (mk_get X (ci := 3) (j := 4) rfl in_X3 (Nat.le_of_ble_eq_true rfl) q171 dX3_slipped_93 rfl))
 (mk_eq (mk_getN X (ci := 0) (j := 14) rfl in_X0 (Nat.le_of_ble_eq_true rfl) (List.mem_of_getElem? (i := 37) rfl) dX3_slipped_96 rfl))))
 (mk_lt
 (mk_lt
 (mk_eq (mk_iload X dX3_slipped_99 rfl))
 (mk_eq (mk_iar X dX3_slipped_101 rfl)))
 (mk_lt
 (mk_eq (mk_i2l X dX3_slipped_102 rfl))
 (mk_lt
 (mk_eq (mk_ladd X dX3_slipped_103 rfl))
 (mk_eq (mk_lstore X dX3_slipped_104 (Nat.le_of_ble_eq_true rfl) rfl)))))))
 (mk_lt
 (mk_lt
 (mk_lt
 (mk_lt
 (mk_eq (mk_iload X dX3_slipped_106 rfl))
 (mk_eq (mk_ifne X dX3_slipped_108 rfl rfl)))
 (mk_lt
 (mk_eq (mk_iload X dX3_slipped_111 rfl))
 (mk_eq (mk_goto X dX3_slipped_113 rfl))))
 (mk_lt
 (mk_lt
 (mk_eq (mk_lload X dX3_slipped_116 rfl))
 (mk_eq (mk_S1 X h_J0_abs (lw_S q524 q525 q67 q526) ⟨by decide, by decide, rfl⟩ ⟨(Nat.le_of_ble_eq_true rfl), (Nat.le_of_ble_eq_true rfl)⟩ dX3_slipped_118 rfl)))
 (mk_lt
 (mk_eq (mk_ldc2 X dX3_slipped_121 q527 rfl))
 (mk_lt
 (mk_eq (mk_lcmp X dX3_slipped_124 rfl))
 (mk_eq (mk_ifle X dX3_slipped_125 rfl rfl))))))
 (mk_lt
 (mk_lt
 (mk_lt
 (mk_eq (mk_ldc X dX3_slipped_128 q523 rfl))
 (mk_eq (mk_goto X dX3_slipped_130 rfl)))
 (mk_lt
 (mk_eq (mk_lload X dX3_slipped_133 rfl))
 (mk_eq (mk_l2i X dX3_slipped_135 rfl))))
 (mk_lt
 (mk_lt
 (mk_eq (mk_istore X dX3_slipped_136 (Nat.le_of_ble_eq_true rfl) rfl))
 (mk_eq (mk_iinc X dX3_slipped_138 rfl (Nat.le_of_ble_eq_true rfl) rfl)))
 (mk_lt
 (mk_eq (mk_goto X dX3_slipped_141 rfl))
 (mk_lt
 (mk_eq (mk_iload X dX3_slipped_144 rfl))
 (mk_eq (mk_ri X dX3_slipped_146)))))))))
theorem sd_X3_slipped {l : Launch} {w : ma_Wd} {NC : Nat} {A : Nat → Prop} {S_J0_abs : ma_Cs} (hw : ma_Wo w YX NC A) (h_J0_abs : ma_Sd l w YX NC A yJ0_abs cJ0_abs 2 (some .long) rm_J0_abs S_J0_abs) : ma_Sd l w YX NC A yX3_slipped cX3_slipped 11 (some .int) rm_X3_slipped (ma_rn (tb_X3_slipped S_J0_abs) 11) := ma_of hw (by decide) ⟨rfl, rfl⟩ (fun X => tk_X3_slipped h_J0_abs X)
theorem dX3_marksOf_0 : decode cX3_marksOf 0 = .ok (.iconst 0, 1) := by decide +kernel
theorem dX3_marksOf_1 : decode cX3_marksOf 1 = .ok (.istore 4, 2) := by decide +kernel
theorem dX3_marksOf_3 : decode cX3_marksOf 3 = .ok (.aload_n 0, 1) := by decide +kernel
theorem dX3_marksOf_4 : decode cX3_marksOf 4 = .ok (.getfield 3, 3) := by decide +kernel
theorem dX3_marksOf_7 : decode cX3_marksOf 7 = .ok (.getfield 50, 3) := by decide +kernel
theorem dX3_marksOf_10 : decode cX3_marksOf 10 = .ok (.getfield 54, 3) := by decide +kernel
theorem dX3_marksOf_13 : decode cX3_marksOf 13 = .ok (.iload_n 1, 1) := by decide +kernel
theorem dX3_marksOf_14 : decode cX3_marksOf 14 = .ok (.iaload, 1) := by decide +kernel
theorem dX3_marksOf_15 : decode cX3_marksOf 15 = .ok (.istore 5, 2) := by decide +kernel
theorem dX3_marksOf_17 : decode cX3_marksOf 17 = .ok (.iload 5, 2) := by decide +kernel
theorem dX3_marksOf_19 : decode cX3_marksOf 19 = .ok (.aload_n 0, 1) := by decide +kernel
theorem dX3_marksOf_20 : decode cX3_marksOf 20 = .ok (.getfield 3, 3) := by decide +kernel
theorem dX3_marksOf_23 : decode cX3_marksOf 23 = .ok (.getfield 50, 3) := by decide +kernel
theorem dX3_marksOf_26 : decode cX3_marksOf 26 = .ok (.getfield 54, 3) := by decide +kernel
theorem dX3_marksOf_29 : decode cX3_marksOf 29 = .ok (.iload_n 1, 1) := by decide +kernel
theorem dX3_marksOf_30 : decode cX3_marksOf 30 = .ok (.iconst 1, 1) := by decide +kernel
theorem dX3_marksOf_31 : decode cX3_marksOf 31 = .ok (.iadd, 1) := by decide +kernel
theorem dX3_marksOf_32 : decode cX3_marksOf 32 = .ok (.iaload, 1) := by decide +kernel
theorem dX3_marksOf_33 : decode cX3_marksOf 33 = .ok (.if_icmp .ge 81, 3) := by decide +kernel
theorem dX3_marksOf_36 : decode cX3_marksOf 36 = .ok (.iload 4, 2) := by decide +kernel
theorem dX3_marksOf_38 : decode cX3_marksOf 38 = .ok (.aload_n 0, 1) := by decide +kernel
theorem dX3_marksOf_39 : decode cX3_marksOf 39 = .ok (.iload_n 2, 1) := by decide +kernel
theorem dX3_marksOf_40 : decode cX3_marksOf 40 = .ok (.iload_n 3, 1) := by decide +kernel
theorem dX3_marksOf_41 : decode cX3_marksOf 41 = .ok (.aload_n 0, 1) := by decide +kernel
theorem dX3_marksOf_42 : decode cX3_marksOf 42 = .ok (.getfield 3, 3) := by decide +kernel
theorem dX3_marksOf_45 : decode cX3_marksOf 45 = .ok (.getfield 50, 3) := by decide +kernel
theorem dX3_marksOf_48 : decode cX3_marksOf 48 = .ok (.getfield 59, 3) := by decide +kernel
theorem dX3_marksOf_51 : decode cX3_marksOf 51 = .ok (.iload 5, 2) := by decide +kernel
theorem dX3_marksOf_53 : decode cX3_marksOf 53 = .ok (.iaload, 1) := by decide +kernel
theorem dX3_marksOf_54 : decode cX3_marksOf 54 = .ok (.invokevirtual 94, 3) := by decide +kernel
theorem dX3_marksOf_57 : decode cX3_marksOf 57 = .ok (.ifCond .ne 43, 3) := by decide +kernel
theorem dX3_marksOf_60 : decode cX3_marksOf 60 = .ok (.aload_n 0, 1) := by decide +kernel
theorem dX3_marksOf_61 : decode cX3_marksOf 61 = .ok (.getfield 3, 3) := by decide +kernel
theorem dX3_marksOf_64 : decode cX3_marksOf 64 = .ok (.getfield 50, 3) := by decide +kernel
theorem dX3_marksOf_67 : decode cX3_marksOf 67 = .ok (.getfield 65, 3) := by decide +kernel
theorem dX3_marksOf_70 : decode cX3_marksOf 70 = .ok (.iload 5, 2) := by decide +kernel
theorem dX3_marksOf_72 : decode cX3_marksOf 72 = .ok (.iaload, 1) := by decide +kernel
theorem dX3_marksOf_73 : decode cX3_marksOf 73 = .ok (.bipush (-4), 2) := by decide +kernel
theorem dX3_marksOf_75 : decode cX3_marksOf 75 = .ok (.if_icmp .eq 29, 3) := by decide +kernel
theorem dX3_marksOf_78 : decode cX3_marksOf 78 = .ok (.aload_n 0, 1) := by decide +kernel
theorem dX3_marksOf_79 : decode cX3_marksOf 79 = .ok (.iload_n 2, 1) := by decide +kernel
theorem dX3_marksOf_80 : decode cX3_marksOf 80 = .ok (.iload_n 3, 1) := by decide +kernel
theorem dX3_marksOf_81 : decode cX3_marksOf 81 = .ok (.aload_n 0, 1) := by decide +kernel
theorem dX3_marksOf_82 : decode cX3_marksOf 82 = .ok (.getfield 3, 3) := by decide +kernel
theorem dX3_marksOf_85 : decode cX3_marksOf 85 = .ok (.getfield 50, 3) := by decide +kernel
theorem dX3_marksOf_88 : decode cX3_marksOf 88 = .ok (.getfield 65, 3) := by decide +kernel
theorem dX3_marksOf_91 : decode cX3_marksOf 91 = .ok (.iload 5, 2) := by decide +kernel
theorem dX3_marksOf_93 : decode cX3_marksOf 93 = .ok (.iaload, 1) := by decide +kernel
theorem dX3_marksOf_94 : decode cX3_marksOf 94 = .ok (.invokevirtual 94, 3) := by decide +kernel
theorem dX3_marksOf_97 : decode cX3_marksOf 97 = .ok (.ifCond .eq 7, 3) := by decide +kernel
theorem dX3_marksOf_100 : decode cX3_marksOf 100 = .ok (.iconst 1, 1) := by decide +kernel
theorem dX3_marksOf_101 : decode cX3_marksOf 101 = .ok (.goto 4, 3) := by decide +kernel
theorem dX3_marksOf_104 : decode cX3_marksOf 104 = .ok (.iconst 0, 1) := by decide +kernel
theorem dX3_marksOf_105 : decode cX3_marksOf 105 = .ok (.ior, 1) := by decide +kernel
theorem dX3_marksOf_106 : decode cX3_marksOf 106 = .ok (.istore 4, 2) := by decide +kernel
theorem dX3_marksOf_108 : decode cX3_marksOf 108 = .ok (.iinc 5 1, 3) := by decide +kernel
theorem dX3_marksOf_111 : decode cX3_marksOf 111 = .ok (.goto (-94), 3) := by decide +kernel
theorem dX3_marksOf_114 : decode cX3_marksOf 114 = .ok (.iload 4, 2) := by decide +kernel
theorem dX3_marksOf_116 : decode cX3_marksOf 116 = .ok (.ireturn, 1) := by decide +kernel
def tb_X3_marksOf (S_X3_marks : ma_Cs) : Nat → ma_In := fun pc =>
 (if pc < 54 then
 (if pc < 29 then
 (if pc < 14 then
 (if pc < 4 then
 (if pc < 1 then
 (if pc = 0 then in_push (.int 0) 1 else in_no) else
 (if pc < 3 then
 (if pc = 1 then in_ist 4 3 else in_no) else
 (if pc = 3 then in_ald 0 4 else in_no))) else
 (if pc < 10 then
 (if pc < 7 then
 (if pc = 4 then in_get YX 3 4 7 else in_no) else
 (if pc = 7 then in_get YX 0 4 10 else in_no)) else
 (if pc < 13 then
 (if pc = 10 then in_get YX 2 2 13 else in_no) else
 (if pc = 13 then in_ild 1 14 else in_no)))) else
 (if pc < 19 then
 (if pc < 15 then
 (if pc = 14 then in_iar YX 15 else in_no) else
 (if pc < 17 then
 (if pc = 15 then in_ist 5 17 else in_no) else
 (if pc = 17 then in_ild 5 19 else in_no))) else
 (if pc < 23 then
 (if pc < 20 then
 (if pc = 19 then in_ald 0 20 else in_no) else
 (if pc = 20 then in_get YX 3 4 23 else in_no)) else
 (if pc < 26 then
 (if pc = 23 then in_get YX 0 4 26 else in_no) else
 (if pc = 26 then in_get YX 2 2 29 else in_no))))) else
 (if pc < 39 then
 (if pc < 32 then
 (if pc < 30 then
 (if pc = 29 then in_ild 1 30 else in_no) else
 (if pc < 31 then
 (if pc = 30 then in_push (.int 1) 31 else in_no) else
 (if pc = 31 then in_iii (fun x y => x + y) 32 else in_no))) else
 (if pc < 36 then
 (if pc < 33 then
 (if pc = 32 then in_iar YX 33 else in_no) else
 (if pc = 33 then in_if2 (fun x y => y ≤ x) 114 36 else in_no)) else
 (if pc < 38 then
 (if pc = 36 then in_ild 4 38 else in_no) else
 (if pc = 38 then in_ald 0 39 else in_no)))) else
 (if pc < 45 then
 (if pc < 41 then
 (if pc < 40 then
 (if pc = 39 then in_ild 2 40 else in_no) else
 (if pc = 40 then in_ild 3 41 else in_no)) else
 (if pc < 42 then
 (if pc = 41 then in_ald 0 42 else in_no) else
 (if pc = 42 then in_get YX 3 4 45 else in_no))) else
 (if pc < 51 then
 (if pc < 48 then
 (if pc = 45 then in_get YX 0 4 48 else in_no) else
 (if pc = 48 then in_get YX 2 7 51 else in_no)) else
 (if pc < 53 then
 (if pc = 51 then in_ild 5 53 else in_no) else
 (if pc = 53 then in_iar YX 54 else in_no)))))) else
 (if pc < 85 then
 (if pc < 72 then
 (if pc < 61 then
 (if pc < 57 then
 (if pc = 54 then in_v4 YX 3 S_X3_marks 57 else in_no) else
 (if pc < 60 then
 (if pc = 57 then in_if1 (fun x => x = 0) 60 100 else in_no) else
 (if pc = 60 then in_ald 0 61 else in_no))) else
 (if pc < 67 then
 (if pc < 64 then
 (if pc = 61 then in_get YX 3 4 64 else in_no) else
 (if pc = 64 then in_get YX 0 4 67 else in_no)) else
 (if pc < 70 then
 (if pc = 67 then in_get YX 2 8 70 else in_no) else
 (if pc = 70 then in_ild 5 72 else in_no)))) else
 (if pc < 79 then
 (if pc < 75 then
 (if pc < 73 then
 (if pc = 72 then in_iar YX 73 else in_no) else
 (if pc = 73 then in_push (.int (-4)) 75 else in_no)) else
 (if pc < 78 then
 (if pc = 75 then in_if2 (fun x y => x = y) 104 78 else in_no) else
 (if pc = 78 then in_ald 0 79 else in_no))) else
 (if pc < 81 then
 (if pc < 80 then
 (if pc = 79 then in_ild 2 80 else in_no) else
 (if pc = 80 then in_ild 3 81 else in_no)) else
 (if pc < 82 then
 (if pc = 81 then in_ald 0 82 else in_no) else
 (if pc = 82 then in_get YX 3 4 85 else in_no))))) else
 (if pc < 101 then
 (if pc < 93 then
 (if pc < 88 then
 (if pc = 85 then in_get YX 0 4 88 else in_no) else
 (if pc < 91 then
 (if pc = 88 then in_get YX 2 8 91 else in_no) else
 (if pc = 91 then in_ild 5 93 else in_no))) else
 (if pc < 97 then
 (if pc < 94 then
 (if pc = 93 then in_iar YX 94 else in_no) else
 (if pc = 94 then in_v4 YX 3 S_X3_marks 97 else in_no)) else
 (if pc < 100 then
 (if pc = 97 then in_if1 (fun x => x = 0) 104 100 else in_no) else
 (if pc = 100 then in_push (.int 1) 101 else in_no)))) else
 (if pc < 108 then
 (if pc < 105 then
 (if pc < 104 then
 (if pc = 101 then in_go 105 else in_no) else
 (if pc = 104 then in_push (.int 0) 105 else in_no)) else
 (if pc < 106 then
 (if pc = 105 then in_iii (fun x y => x ||| y) 106 else in_no) else
 (if pc = 106 then in_ist 4 108 else in_no))) else
 (if pc < 114 then
 (if pc < 111 then
 (if pc = 108 then in_inc 5 1 111 else in_no) else
 (if pc = 111 then in_go 17 else in_no)) else
 (if pc < 116 then
 (if pc = 114 then in_ild 4 116 else in_no) else
 (if pc = 116 then in_rz else in_no)))))))
theorem tk_X3_marksOf {l : Launch} {w : ma_Wd} {NC : Nat} {A : Nat → Prop} {S_X3_marks : ma_Cs} (h_X3_marks : ma_Sd l w YX NC A yX3_marks cX3_marks 5 (some .boolean) rm_X3_marks S_X3_marks) {p : Program} {e : Env} {s : State} {m : MethodId} {args : Array Value} {below : List Frame} {meth : Method} {c : Code} (X : ma_Cx p s m args meth c w YX NC A yX3_marksOf.cls cX3_marksOf 6 (some .boolean)) : ∀ pc, ma_Ok p l e rm_X3_marksOf s m args below meth c w YX NC A 6 pc (tb_X3_marksOf S_X3_marks pc) := fun pc =>
 (mk_lt
 (mk_lt
 (mk_lt
 (mk_lt
 (mk_lt
 (mk_eq (mk_iconst X dX3_marksOf_0 rfl rfl))
 (mk_lt
 (mk_eq (mk_istore X dX3_marksOf_1 (Nat.le_of_ble_eq_true rfl) rfl))
 (mk_eq (mk_aload_n X dX3_marksOf_3 rfl rfl))))
 (mk_lt
 (mk_lt
 (mk_eq (mk_get X (ci := 3) (j := 4) rfl in_X3 (Nat.le_of_ble_eq_true rfl) q171 dX3_marksOf_4 rfl))
 (mk_eq (mk_getN X (ci := 0) (j := 4) rfl in_X0 (Nat.le_of_ble_eq_true rfl) (List.mem_of_getElem? (i := 27) rfl) dX3_marksOf_7 rfl)))
 (mk_lt
 (mk_eq (mk_getN X (ci := 2) (j := 2) rfl in_X2 (Nat.le_of_ble_eq_true rfl) (List.mem_of_getElem? (i := 21) rfl) dX3_marksOf_10 rfl))
 (mk_eq (mk_iload_n X dX3_marksOf_13 rfl rfl)))))
 (mk_lt
 (mk_lt
 (mk_eq (mk_iar X dX3_marksOf_14 rfl))
 (mk_lt
 (mk_eq (mk_istore X dX3_marksOf_15 (Nat.le_of_ble_eq_true rfl) rfl))
 (mk_eq (mk_iload X dX3_marksOf_17 rfl))))
 (mk_lt
 (mk_lt
 (mk_eq (mk_aload_n X dX3_marksOf_19 rfl rfl))
 (mk_eq (mk_get X (ci := 3) (j := 4) rfl in_X3 (Nat.le_of_ble_eq_true rfl) q171 dX3_marksOf_20 rfl)))
 (mk_lt
 (mk_eq (mk_getN X (ci := 0) (j := 4) rfl in_X0 (Nat.le_of_ble_eq_true rfl) (List.mem_of_getElem? (i := 27) rfl) dX3_marksOf_23 rfl))
 (mk_eq (mk_getN X (ci := 2) (j := 2) rfl in_X2 (Nat.le_of_ble_eq_true rfl) (List.mem_of_getElem? (i := 21) rfl) dX3_marksOf_26 rfl))))))
 (mk_lt
 (mk_lt
 (mk_lt
 (mk_eq (mk_iload_n X dX3_marksOf_29 rfl rfl))
 (mk_lt
 (mk_eq (mk_iconst X dX3_marksOf_30 rfl rfl))
 (mk_eq (mk_iadd X dX3_marksOf_31 rfl))))
 (mk_lt
 (mk_lt
 (mk_eq (mk_iar X dX3_marksOf_32 rfl))
 (mk_eq (mk_icge X dX3_marksOf_33 rfl rfl)))
 (mk_lt
 (mk_eq (mk_iload X dX3_marksOf_36 rfl))
 (mk_eq (mk_aload_n X dX3_marksOf_38 rfl rfl)))))
 (mk_lt
 (mk_lt
 (mk_lt
 (mk_eq (mk_iload_n X dX3_marksOf_39 rfl rfl))
 (mk_eq (mk_iload_n X dX3_marksOf_40 rfl rfl)))
 (mk_lt
 (mk_eq (mk_aload_n X dX3_marksOf_41 rfl rfl))
 (mk_eq (mk_get X (ci := 3) (j := 4) rfl in_X3 (Nat.le_of_ble_eq_true rfl) q171 dX3_marksOf_42 rfl))))
 (mk_lt
 (mk_lt
 (mk_eq (mk_getN X (ci := 0) (j := 4) rfl in_X0 (Nat.le_of_ble_eq_true rfl) (List.mem_of_getElem? (i := 27) rfl) dX3_marksOf_45 rfl))
 (mk_eq (mk_getN X (ci := 2) (j := 7) rfl in_X2 (Nat.le_of_ble_eq_true rfl) (List.mem_of_getElem? (i := 25) rfl) dX3_marksOf_48 rfl)))
 (mk_lt
 (mk_eq (mk_iload X dX3_marksOf_51 rfl))
 (mk_eq (mk_iar X dX3_marksOf_53 rfl)))))))
 (mk_lt
 (mk_lt
 (mk_lt
 (mk_lt
 (mk_eq (mk_V4 X h_X3_marks (ci := 3) rfl (lw_V q532 q534 qs18 q64 q535) ⟨rfl, by decide, by decide, rfl⟩ ⟨(Nat.le_of_ble_eq_true rfl), (Nat.le_of_ble_eq_true rfl)⟩ dX3_marksOf_54 rfl))
 (mk_lt
 (mk_eq (mk_ifne X dX3_marksOf_57 rfl rfl))
 (mk_eq (mk_aload_n X dX3_marksOf_60 rfl rfl))))
 (mk_lt
 (mk_lt
 (mk_eq (mk_get X (ci := 3) (j := 4) rfl in_X3 (Nat.le_of_ble_eq_true rfl) q171 dX3_marksOf_61 rfl))
 (mk_eq (mk_getN X (ci := 0) (j := 4) rfl in_X0 (Nat.le_of_ble_eq_true rfl) (List.mem_of_getElem? (i := 27) rfl) dX3_marksOf_64 rfl)))
 (mk_lt
 (mk_eq (mk_getN X (ci := 2) (j := 8) rfl in_X2 (Nat.le_of_ble_eq_true rfl) (List.mem_of_getElem? (i := 26) rfl) dX3_marksOf_67 rfl))
 (mk_eq (mk_iload X dX3_marksOf_70 rfl)))))
 (mk_lt
 (mk_lt
 (mk_lt
 (mk_eq (mk_iar X dX3_marksOf_72 rfl))
 (mk_eq (mk_bipush X dX3_marksOf_73 rfl rfl)))
 (mk_lt
 (mk_eq (mk_iceq X dX3_marksOf_75 rfl rfl))
 (mk_eq (mk_aload_n X dX3_marksOf_78 rfl rfl))))
 (mk_lt
 (mk_lt
 (mk_eq (mk_iload_n X dX3_marksOf_79 rfl rfl))
 (mk_eq (mk_iload_n X dX3_marksOf_80 rfl rfl)))
 (mk_lt
 (mk_eq (mk_aload_n X dX3_marksOf_81 rfl rfl))
 (mk_eq (mk_get X (ci := 3) (j := 4) rfl in_X3 (Nat.le_of_ble_eq_true rfl) q171 dX3_marksOf_82 rfl))))))
 (mk_lt
 (mk_lt
 (mk_lt
 (mk_eq (mk_getN X (ci := 0) (j := 4) rfl in_X0 (Nat.le_of_ble_eq_true rfl) (List.mem_of_getElem? (i := 27) rfl) dX3_marksOf_85 rfl))
 (mk_lt
 (mk_eq (mk_getN X (ci := 2) (j := 8) rfl in_X2 (Nat.le_of_ble_eq_true rfl) (List.mem_of_getElem? (i := 26) rfl) dX3_marksOf_88 rfl))
 (mk_eq (mk_iload X dX3_marksOf_91 rfl))))
 (mk_lt
 (mk_lt
 (mk_eq (mk_iar X dX3_marksOf_93 rfl))
 (mk_eq (mk_V4 X h_X3_marks (ci := 3) rfl (lw_V q532 q534 qs18 q64 q535) ⟨rfl, by decide, by decide, rfl⟩ ⟨(Nat.le_of_ble_eq_true rfl), (Nat.le_of_ble_eq_true rfl)⟩ dX3_marksOf_94 rfl)))
 (mk_lt
 (mk_eq (mk_ifeq X dX3_marksOf_97 rfl rfl))
 (mk_eq (mk_iconst X dX3_marksOf_100 rfl rfl)))))
 (mk_lt
 (mk_lt
 (mk_lt
 (mk_eq (mk_goto X dX3_marksOf_101 rfl))
 (mk_eq (mk_iconst X dX3_marksOf_104 rfl rfl)))
 (mk_lt
 (mk_eq (mk_ior X dX3_marksOf_105 rfl))
 (mk_eq (mk_istore X dX3_marksOf_106 (Nat.le_of_ble_eq_true rfl) rfl))))
 (mk_lt
 (mk_lt
 (mk_eq (mk_iinc X dX3_marksOf_108 rfl (Nat.le_of_ble_eq_true rfl) rfl))
 (mk_eq (mk_goto X dX3_marksOf_111 rfl)))
 (mk_lt
 (mk_eq (mk_iload X dX3_marksOf_114 rfl))
 (mk_eq (mk_rz X dX3_marksOf_116))))))))
theorem sd_X3_marksOf {l : Launch} {w : ma_Wd} {NC : Nat} {A : Nat → Prop} {S_X3_marks : ma_Cs} (hw : ma_Wo w YX NC A) (h_X3_marks : ma_Sd l w YX NC A yX3_marks cX3_marks 5 (some .boolean) rm_X3_marks S_X3_marks) : ma_Sd l w YX NC A yX3_marksOf cX3_marksOf 6 (some .boolean) rm_X3_marksOf (ma_rn (tb_X3_marksOf S_X3_marks) 6) := ma_of hw (by decide) ⟨rfl, rfl⟩ (fun X => tk_X3_marksOf h_X3_marks X)
theorem dX3_marks_0 : decode cX3_marks 0 = .ok (.aload_n 0, 1) := by decide +kernel
theorem dX3_marks_1 : decode cX3_marks 1 = .ok (.iload_n 2, 1) := by decide +kernel
theorem dX3_marks_2 : decode cX3_marks 2 = .ok (.iload_n 3, 1) := by decide +kernel
theorem dX3_marks_3 : decode cX3_marks 3 = .ok (.bipush 16, 2) := by decide +kernel
theorem dX3_marks_5 : decode cX3_marks 5 = .ok (.irem, 1) := by decide +kernel
theorem dX3_marks_6 : decode cX3_marks 6 = .ok (.iconst 2, 1) := by decide +kernel
theorem dX3_marks_7 : decode cX3_marks 7 = .ok (.idiv, 1) := by decide +kernel
theorem dX3_marks_8 : decode cX3_marks 8 = .ok (.invokevirtual 37, 3) := by decide +kernel
theorem dX3_marks_11 : decode cX3_marks 11 = .ok (.istore 4, 2) := by decide +kernel
theorem dX3_marks_13 : decode cX3_marks 13 = .ok (.iload 4, 2) := by decide +kernel
theorem dX3_marks_15 : decode cX3_marks 15 = .ok (.bipush (-4), 2) := by decide +kernel
theorem dX3_marks_17 : decode cX3_marks 17 = .ok (.if_icmp .eq 31, 3) := by decide +kernel
theorem dX3_marks_20 : decode cX3_marks 20 = .ok (.aload_n 0, 1) := by decide +kernel
theorem dX3_marks_21 : decode cX3_marks 21 = .ok (.getfield 19, 3) := by decide +kernel
theorem dX3_marks_24 : decode cX3_marks 24 = .ok (.aload_n 0, 1) := by decide +kernel
theorem dX3_marks_25 : decode cX3_marks 25 = .ok (.aload_n 0, 1) := by decide +kernel
theorem dX3_marks_26 : decode cX3_marks 26 = .ok (.iload_n 1, 1) := by decide +kernel
theorem dX3_marks_27 : decode cX3_marks 27 = .ok (.iload_n 3, 1) := by decide +kernel
theorem dX3_marks_28 : decode cX3_marks 28 = .ok (.invokevirtual 44, 3) := by decide +kernel
theorem dX3_marks_31 : decode cX3_marks 31 = .ok (.iload 4, 2) := by decide +kernel
theorem dX3_marks_33 : decode cX3_marks 33 = .ok (.iload_n 3, 1) := by decide +kernel
theorem dX3_marks_34 : decode cX3_marks 34 = .ok (.bipush 16, 2) := by decide +kernel
theorem dX3_marks_36 : decode cX3_marks 36 = .ok (.idiv, 1) := by decide +kernel
theorem dX3_marks_37 : decode cX3_marks 37 = .ok (.invokevirtual 23, 3) := by decide +kernel
theorem dX3_marks_40 : decode cX3_marks 40 = .ok (.baload, 1) := by decide +kernel
theorem dX3_marks_41 : decode cX3_marks 41 = .ok (.ifCond .eq 7, 3) := by decide +kernel
theorem dX3_marks_44 : decode cX3_marks 44 = .ok (.iconst 1, 1) := by decide +kernel
theorem dX3_marks_45 : decode cX3_marks 45 = .ok (.goto 4, 3) := by decide +kernel
theorem dX3_marks_48 : decode cX3_marks 48 = .ok (.iconst 0, 1) := by decide +kernel
theorem dX3_marks_49 : decode cX3_marks 49 = .ok (.ireturn, 1) := by decide +kernel
def tb_X3_marks (S_X3_neighbour S_X3_stepOf S_X3_place : ma_Cs) : Nat → ma_In := fun pc =>
 (if pc < 25 then
 (if pc < 8 then
 (if pc < 3 then
 (if pc < 1 then
 (if pc = 0 then in_ald 0 1 else in_no) else
 (if pc < 2 then
 (if pc = 1 then in_ild 2 2 else in_no) else
 (if pc = 2 then in_ild 3 3 else in_no))) else
 (if pc < 6 then
 (if pc < 5 then
 (if pc = 3 then in_push (.int 16) 5 else in_no) else
 (if pc = 5 then in_idv (fun x y => x - x / y * y) 6 else in_no)) else
 (if pc < 7 then
 (if pc = 6 then in_push (.int 2) 7 else in_no) else
 (if pc = 7 then in_idv (fun x y => x / y) 8 else in_no)))) else
 (if pc < 17 then
 (if pc < 13 then
 (if pc < 11 then
 (if pc = 8 then in_v3 YX 3 S_X3_neighbour 11 else in_no) else
 (if pc = 11 then in_ist 4 13 else in_no)) else
 (if pc < 15 then
 (if pc = 13 then in_ild 4 15 else in_no) else
 (if pc = 15 then in_push (.int (-4)) 17 else in_no))) else
 (if pc < 21 then
 (if pc < 20 then
 (if pc = 17 then in_if2 (fun x y => x = y) 48 20 else in_no) else
 (if pc = 20 then in_ald 0 21 else in_no)) else
 (if pc < 24 then
 (if pc = 21 then in_get YX 3 3 24 else in_no) else
 (if pc = 24 then in_ald 0 25 else in_no))))) else
 (if pc < 36 then
 (if pc < 28 then
 (if pc < 26 then
 (if pc = 25 then in_ald 0 26 else in_no) else
 (if pc < 27 then
 (if pc = 26 then in_ild 1 27 else in_no) else
 (if pc = 27 then in_ild 3 28 else in_no))) else
 (if pc < 33 then
 (if pc < 31 then
 (if pc = 28 then in_v3 YX 3 S_X3_stepOf 31 else in_no) else
 (if pc = 31 then in_ild 4 33 else in_no)) else
 (if pc < 34 then
 (if pc = 33 then in_ild 3 34 else in_no) else
 (if pc = 34 then in_push (.int 16) 36 else in_no)))) else
 (if pc < 44 then
 (if pc < 40 then
 (if pc < 37 then
 (if pc = 36 then in_idv (fun x y => x / y) 37 else in_no) else
 (if pc = 37 then in_v4 YX 3 S_X3_place 40 else in_no)) else
 (if pc < 41 then
 (if pc = 40 then in_bar YX 41 else in_no) else
 (if pc = 41 then in_if1 (fun x => x = 0) 48 44 else in_no))) else
 (if pc < 48 then
 (if pc < 45 then
 (if pc = 44 then in_push (.int 1) 45 else in_no) else
 (if pc = 45 then in_go 49 else in_no)) else
 (if pc < 49 then
 (if pc = 48 then in_push (.int 0) 49 else in_no) else
 (if pc = 49 then in_rz else in_no))))))
theorem tk_X3_marks {l : Launch} {w : ma_Wd} {NC : Nat} {A : Nat → Prop} {S_X3_neighbour S_X3_stepOf S_X3_place : ma_Cs} (h_X3_neighbour : ma_Sd l w YX NC A yX3_neighbour cX3_neighbour 5 (some .int) rm_X3_neighbour S_X3_neighbour) (h_X3_stepOf : ma_Sd l w YX NC A yX3_stepOf cX3_stepOf 3 (some .int) rm_X3_stepOf S_X3_stepOf) (h_X3_place : ma_Sd l w YX NC A yX3_place cX3_place 4 (some .int) rm_X3_place S_X3_place) {p : Program} {e : Env} {s : State} {m : MethodId} {args : Array Value} {below : List Frame} {meth : Method} {c : Code} (X : ma_Cx p s m args meth c w YX NC A yX3_marks.cls cX3_marks 5 (some .boolean)) : ∀ pc, ma_Ok p l e rm_X3_marks s m args below meth c w YX NC A 5 pc (tb_X3_marks S_X3_neighbour S_X3_stepOf S_X3_place pc) := fun pc =>
 (mk_lt
 (mk_lt
 (mk_lt
 (mk_lt
 (mk_eq (mk_aload_n X dX3_marks_0 rfl rfl))
 (mk_lt
 (mk_eq (mk_iload_n X dX3_marks_1 rfl rfl))
 (mk_eq (mk_iload_n X dX3_marks_2 rfl rfl))))
 (mk_lt
 (mk_lt
 (mk_eq (mk_bipush X dX3_marks_3 rfl rfl))
 (mk_eq (mk_irem X dX3_marks_5 rfl)))
 (mk_lt
 (mk_eq (mk_iconst X dX3_marks_6 rfl rfl))
 (mk_eq (mk_idiv X dX3_marks_7 rfl)))))
 (mk_lt
 (mk_lt
 (mk_lt
 (mk_eq (mk_V3 X h_X3_neighbour (ci := 3) rfl (lw_V q495 q496 q497 q64 q498) ⟨rfl, by decide, by decide, rfl⟩ ⟨(Nat.le_of_ble_eq_true rfl), (Nat.le_of_ble_eq_true rfl)⟩ dX3_marks_8 rfl))
 (mk_eq (mk_istore X dX3_marks_11 (Nat.le_of_ble_eq_true rfl) rfl)))
 (mk_lt
 (mk_eq (mk_iload X dX3_marks_13 rfl))
 (mk_eq (mk_bipush X dX3_marks_15 rfl rfl))))
 (mk_lt
 (mk_lt
 (mk_eq (mk_iceq X dX3_marks_17 rfl rfl))
 (mk_eq (mk_aload_n X dX3_marks_20 rfl rfl)))
 (mk_lt
 (mk_eq (mk_get X (ci := 3) (j := 3) rfl in_X3 (Nat.le_of_ble_eq_true rfl) q169 dX3_marks_21 rfl))
 (mk_eq (mk_aload_n X dX3_marks_24 rfl rfl))))))
 (mk_lt
 (mk_lt
 (mk_lt
 (mk_eq (mk_aload_n X dX3_marks_25 rfl rfl))
 (mk_lt
 (mk_eq (mk_iload_n X dX3_marks_26 rfl rfl))
 (mk_eq (mk_iload_n X dX3_marks_27 rfl rfl))))
 (mk_lt
 (mk_lt
 (mk_eq (mk_V3 X h_X3_stepOf (ci := 3) rfl (lw_V q536 q538 qs19 q64 q539) ⟨rfl, by decide, by decide, rfl⟩ ⟨(Nat.le_of_ble_eq_true rfl), (Nat.le_of_ble_eq_true rfl)⟩ dX3_marks_28 rfl))
 (mk_eq (mk_iload X dX3_marks_31 rfl)))
 (mk_lt
 (mk_eq (mk_iload_n X dX3_marks_33 rfl rfl))
 (mk_eq (mk_bipush X dX3_marks_34 rfl rfl)))))
 (mk_lt
 (mk_lt
 (mk_lt
 (mk_eq (mk_idiv X dX3_marks_36 rfl))
 (mk_eq (mk_V4 X h_X3_place (ci := 3) rfl (lw_V q506 q507 q508 q64 q509) ⟨rfl, by decide, by decide, rfl⟩ ⟨(Nat.le_of_ble_eq_true rfl), (Nat.le_of_ble_eq_true rfl)⟩ dX3_marks_37 rfl)))
 (mk_lt
 (mk_eq (mk_bar X dX3_marks_40 rfl))
 (mk_eq (mk_ifeq X dX3_marks_41 rfl rfl))))
 (mk_lt
 (mk_lt
 (mk_eq (mk_iconst X dX3_marks_44 rfl rfl))
 (mk_eq (mk_goto X dX3_marks_45 rfl)))
 (mk_lt
 (mk_eq (mk_iconst X dX3_marks_48 rfl rfl))
 (mk_eq (mk_rz X dX3_marks_49)))))))
theorem sd_X3_marks {l : Launch} {w : ma_Wd} {NC : Nat} {A : Nat → Prop} {S_X3_neighbour S_X3_stepOf S_X3_place : ma_Cs} (hw : ma_Wo w YX NC A) (h_X3_neighbour : ma_Sd l w YX NC A yX3_neighbour cX3_neighbour 5 (some .int) rm_X3_neighbour S_X3_neighbour) (h_X3_stepOf : ma_Sd l w YX NC A yX3_stepOf cX3_stepOf 3 (some .int) rm_X3_stepOf S_X3_stepOf) (h_X3_place : ma_Sd l w YX NC A yX3_place cX3_place 4 (some .int) rm_X3_place S_X3_place) : ma_Sd l w YX NC A yX3_marks cX3_marks 5 (some .boolean) rm_X3_marks (ma_rn (tb_X3_marks S_X3_neighbour S_X3_stepOf S_X3_place) 5) := ma_of hw (by decide) ⟨rfl, rfl⟩ (fun X => tk_X3_marks h_X3_neighbour h_X3_stepOf h_X3_place X)
theorem dX3_stepOf_0 : decode cX3_stepOf 0 = .ok (.iload_n 2, 1) := by decide +kernel
theorem dX3_stepOf_1 : decode cX3_stepOf 1 = .ok (.iconst 2, 1) := by decide +kernel
theorem dX3_stepOf_2 : decode cX3_stepOf 2 = .ok (.irem, 1) := by decide +kernel
theorem dX3_stepOf_3 : decode cX3_stepOf 3 = .ok (.iconst 1, 1) := by decide +kernel
theorem dX3_stepOf_4 : decode cX3_stepOf 4 = .ok (.if_icmp .ne 7, 3) := by decide +kernel
theorem dX3_stepOf_7 : decode cX3_stepOf 7 = .ok (.iload_n 1, 1) := by decide +kernel
theorem dX3_stepOf_8 : decode cX3_stepOf 8 = .ok (.goto 6, 3) := by decide +kernel
theorem dX3_stepOf_11 : decode cX3_stepOf 11 = .ok (.iload_n 1, 1) := by decide +kernel
theorem dX3_stepOf_12 : decode cX3_stepOf 12 = .ok (.iconst 1, 1) := by decide +kernel
theorem dX3_stepOf_13 : decode cX3_stepOf 13 = .ok (.isub, 1) := by decide +kernel
theorem dX3_stepOf_14 : decode cX3_stepOf 14 = .ok (.ireturn, 1) := by decide +kernel
def tb_X3_stepOf : Nat → ma_In := fun pc =>
 (if pc < 7 then
 (if pc < 2 then
 (if pc < 1 then
 (if pc = 0 then in_ild 2 1 else in_no) else
 (if pc = 1 then in_push (.int 2) 2 else in_no)) else
 (if pc < 3 then
 (if pc = 2 then in_idv (fun x y => x - x / y * y) 3 else in_no) else
 (if pc < 4 then
 (if pc = 3 then in_push (.int 1) 4 else in_no) else
 (if pc = 4 then in_if2 (fun x y => x = y) 7 11 else in_no)))) else
 (if pc < 12 then
 (if pc < 8 then
 (if pc = 7 then in_ild 1 8 else in_no) else
 (if pc < 11 then
 (if pc = 8 then in_go 14 else in_no) else
 (if pc = 11 then in_ild 1 12 else in_no))) else
 (if pc < 13 then
 (if pc = 12 then in_push (.int 1) 13 else in_no) else
 (if pc < 14 then
 (if pc = 13 then in_iii (fun x y => x - y) 14 else in_no) else
 (if pc = 14 then in_ri else in_no)))))
theorem tk_X3_stepOf {l : Launch} {w : ma_Wd} {NC : Nat} {A : Nat → Prop} {p : Program} {e : Env} {s : State} {m : MethodId} {args : Array Value} {below : List Frame} {meth : Method} {c : Code} (X : ma_Cx p s m args meth c w YX NC A yX3_stepOf.cls cX3_stepOf 3 (some .int)) : ∀ pc, ma_Ok p l e rm_X3_stepOf s m args below meth c w YX NC A 3 pc (tb_X3_stepOf pc) := fun pc =>
 (mk_lt
 (mk_lt
 (mk_lt
 (mk_eq (mk_iload_n X dX3_stepOf_0 rfl rfl))
 (mk_eq (mk_iconst X dX3_stepOf_1 rfl rfl)))
 (mk_lt
 (mk_eq (mk_irem X dX3_stepOf_2 rfl))
 (mk_lt
 (mk_eq (mk_iconst X dX3_stepOf_3 rfl rfl))
 (mk_eq (mk_icne X dX3_stepOf_4 rfl rfl)))))
 (mk_lt
 (mk_lt
 (mk_eq (mk_iload_n X dX3_stepOf_7 rfl rfl))
 (mk_lt
 (mk_eq (mk_goto X dX3_stepOf_8 rfl))
 (mk_eq (mk_iload_n X dX3_stepOf_11 rfl rfl))))
 (mk_lt
 (mk_eq (mk_iconst X dX3_stepOf_12 rfl rfl))
 (mk_lt
 (mk_eq (mk_isub X dX3_stepOf_13 rfl))
 (mk_eq (mk_ri X dX3_stepOf_14))))))
theorem sd_X3_stepOf {l : Launch} {w : ma_Wd} {NC : Nat} {A : Nat → Prop} (hw : ma_Wo w YX NC A) : ma_Sd l w YX NC A yX3_stepOf cX3_stepOf 3 (some .int) rm_X3_stepOf (ma_rn (tb_X3_stepOf) 3) := ma_of hw (by decide) ⟨rfl, rfl⟩ (fun X => tk_X3_stepOf  X)
theorem dX3_made_0 : decode cX3_made 0 = .ok (.lconst 0, 1) := by decide +kernel
theorem dX3_made_1 : decode cX3_made 1 = .ok (.lstore 4, 2) := by decide +kernel
theorem dX3_made_3 : decode cX3_made 3 = .ok (.aload_n 0, 1) := by decide +kernel
theorem dX3_made_4 : decode cX3_made 4 = .ok (.getfield 3, 3) := by decide +kernel
theorem dX3_made_7 : decode cX3_made 7 = .ok (.getfield 50, 3) := by decide +kernel
theorem dX3_made_10 : decode cX3_made 10 = .ok (.getfield 54, 3) := by decide +kernel
theorem dX3_made_13 : decode cX3_made 13 = .ok (.iload_n 1, 1) := by decide +kernel
theorem dX3_made_14 : decode cX3_made 14 = .ok (.iaload, 1) := by decide +kernel
theorem dX3_made_15 : decode cX3_made 15 = .ok (.istore 6, 2) := by decide +kernel
theorem dX3_made_17 : decode cX3_made 17 = .ok (.iload 6, 2) := by decide +kernel
theorem dX3_made_19 : decode cX3_made 19 = .ok (.aload_n 0, 1) := by decide +kernel
theorem dX3_made_20 : decode cX3_made 20 = .ok (.getfield 3, 3) := by decide +kernel
theorem dX3_made_23 : decode cX3_made 23 = .ok (.getfield 50, 3) := by decide +kernel
theorem dX3_made_26 : decode cX3_made 26 = .ok (.getfield 54, 3) := by decide +kernel
theorem dX3_made_29 : decode cX3_made 29 = .ok (.iload_n 1, 1) := by decide +kernel
theorem dX3_made_30 : decode cX3_made 30 = .ok (.iconst 1, 1) := by decide +kernel
theorem dX3_made_31 : decode cX3_made 31 = .ok (.iadd, 1) := by decide +kernel
theorem dX3_made_32 : decode cX3_made 32 = .ok (.iaload, 1) := by decide +kernel
theorem dX3_made_33 : decode cX3_made 33 = .ok (.if_icmp .ge 163, 3) := by decide +kernel
theorem dX3_made_36 : decode cX3_made 36 = .ok (.aload_n 0, 1) := by decide +kernel
theorem dX3_made_37 : decode cX3_made 37 = .ok (.iload_n 2, 1) := by decide +kernel
theorem dX3_made_38 : decode cX3_made 38 = .ok (.iload_n 3, 1) := by decide +kernel
theorem dX3_made_39 : decode cX3_made 39 = .ok (.aload_n 0, 1) := by decide +kernel
theorem dX3_made_40 : decode cX3_made 40 = .ok (.getfield 3, 3) := by decide +kernel
theorem dX3_made_43 : decode cX3_made 43 = .ok (.getfield 50, 3) := by decide +kernel
theorem dX3_made_46 : decode cX3_made 46 = .ok (.getfield 59, 3) := by decide +kernel
theorem dX3_made_49 : decode cX3_made 49 = .ok (.iload 6, 2) := by decide +kernel
theorem dX3_made_51 : decode cX3_made 51 = .ok (.iaload, 1) := by decide +kernel
theorem dX3_made_52 : decode cX3_made 52 = .ok (.invokevirtual 62, 3) := by decide +kernel
theorem dX3_made_55 : decode cX3_made 55 = .ok (.istore 7, 2) := by decide +kernel
theorem dX3_made_57 : decode cX3_made 57 = .ok (.aload_n 0, 1) := by decide +kernel
theorem dX3_made_58 : decode cX3_made 58 = .ok (.getfield 3, 3) := by decide +kernel
theorem dX3_made_61 : decode cX3_made 61 = .ok (.getfield 50, 3) := by decide +kernel
theorem dX3_made_64 : decode cX3_made 64 = .ok (.getfield 65, 3) := by decide +kernel
theorem dX3_made_67 : decode cX3_made 67 = .ok (.iload 6, 2) := by decide +kernel
theorem dX3_made_69 : decode cX3_made 69 = .ok (.iaload, 1) := by decide +kernel
theorem dX3_made_70 : decode cX3_made 70 = .ok (.bipush (-4), 2) := by decide +kernel
theorem dX3_made_72 : decode cX3_made 72 = .ok (.if_icmp .ne 7, 3) := by decide +kernel
theorem dX3_made_75 : decode cX3_made 75 = .ok (.iconst 1, 1) := by decide +kernel
theorem dX3_made_76 : decode cX3_made 76 = .ok (.goto 22, 3) := by decide +kernel
theorem dX3_made_79 : decode cX3_made 79 = .ok (.aload_n 0, 1) := by decide +kernel
theorem dX3_made_80 : decode cX3_made 80 = .ok (.iload_n 2, 1) := by decide +kernel
theorem dX3_made_81 : decode cX3_made 81 = .ok (.iload_n 3, 1) := by decide +kernel
theorem dX3_made_82 : decode cX3_made 82 = .ok (.aload_n 0, 1) := by decide +kernel
theorem dX3_made_83 : decode cX3_made 83 = .ok (.getfield 3, 3) := by decide +kernel
theorem dX3_made_86 : decode cX3_made 86 = .ok (.getfield 50, 3) := by decide +kernel
theorem dX3_made_89 : decode cX3_made 89 = .ok (.getfield 65, 3) := by decide +kernel
theorem dX3_made_92 : decode cX3_made 92 = .ok (.iload 6, 2) := by decide +kernel
theorem dX3_made_94 : decode cX3_made 94 = .ok (.iaload, 1) := by decide +kernel
theorem dX3_made_95 : decode cX3_made 95 = .ok (.invokevirtual 62, 3) := by decide +kernel
theorem dX3_made_98 : decode cX3_made 98 = .ok (.istore 8, 2) := by decide +kernel
theorem dX3_made_100 : decode cX3_made 100 = .ok (.iload 7, 2) := by decide +kernel
theorem dX3_made_102 : decode cX3_made 102 = .ok (.ldc 68, 2) := by decide +kernel
theorem dX3_made_104 : decode cX3_made 104 = .ok (.if_icmp .eq 10, 3) := by decide +kernel
theorem dX3_made_107 : decode cX3_made 107 = .ok (.iload 8, 2) := by decide +kernel
theorem dX3_made_109 : decode cX3_made 109 = .ok (.ldc 68, 2) := by decide +kernel
theorem dX3_made_111 : decode cX3_made 111 = .ok (.if_icmp .ne 6, 3) := by decide +kernel
theorem dX3_made_114 : decode cX3_made 114 = .ok (.ldc 68, 2) := by decide +kernel
theorem dX3_made_116 : decode cX3_made 116 = .ok (.ireturn, 1) := by decide +kernel
theorem dX3_made_117 : decode cX3_made 117 = .ok (.iload 7, 2) := by decide +kernel
theorem dX3_made_119 : decode cX3_made 119 = .ok (.i2l, 1) := by decide +kernel
theorem dX3_made_120 : decode cX3_made 120 = .ok (.iload 8, 2) := by decide +kernel
theorem dX3_made_122 : decode cX3_made 122 = .ok (.i2l, 1) := by decide +kernel
theorem dX3_made_123 : decode cX3_made 123 = .ok (.lmul, 1) := by decide +kernel
theorem dX3_made_124 : decode cX3_made 124 = .ok (.lstore 9, 2) := by decide +kernel
theorem dX3_made_126 : decode cX3_made 126 = .ok (.lload 9, 2) := by decide +kernel
theorem dX3_made_128 : decode cX3_made 128 = .ok (.invokestatic 69, 3) := by decide +kernel
theorem dX3_made_131 : decode cX3_made 131 = .ok (.ldc2_w 75, 3) := by decide +kernel
theorem dX3_made_134 : decode cX3_made 134 = .ok (.lcmp, 1) := by decide +kernel
theorem dX3_made_135 : decode cX3_made 135 = .ok (.ifCond .gt 30, 3) := by decide +kernel
theorem dX3_made_138 : decode cX3_made 138 = .ok (.lload 9, 2) := by decide +kernel
theorem dX3_made_140 : decode cX3_made 140 = .ok (.aload_n 0, 1) := by decide +kernel
theorem dX3_made_141 : decode cX3_made 141 = .ok (.getfield 3, 3) := by decide +kernel
theorem dX3_made_144 : decode cX3_made 144 = .ok (.getfield 50, 3) := by decide +kernel
theorem dX3_made_147 : decode cX3_made 147 = .ok (.getfield 77, 3) := by decide +kernel
theorem dX3_made_150 : decode cX3_made 150 = .ok (.iload 6, 2) := by decide +kernel
theorem dX3_made_152 : decode cX3_made 152 = .ok (.iaload, 1) := by decide +kernel
theorem dX3_made_153 : decode cX3_made 153 = .ok (.i2l, 1) := by decide +kernel
theorem dX3_made_154 : decode cX3_made 154 = .ok (.lmul, 1) := by decide +kernel
theorem dX3_made_155 : decode cX3_made 155 = .ok (.invokestatic 69, 3) := by decide +kernel
theorem dX3_made_158 : decode cX3_made 158 = .ok (.ldc2_w 75, 3) := by decide +kernel
theorem dX3_made_161 : decode cX3_made 161 = .ok (.lcmp, 1) := by decide +kernel
theorem dX3_made_162 : decode cX3_made 162 = .ok (.ifCond .le 6, 3) := by decide +kernel
theorem dX3_made_165 : decode cX3_made 165 = .ok (.ldc 68, 2) := by decide +kernel
theorem dX3_made_167 : decode cX3_made 167 = .ok (.ireturn, 1) := by decide +kernel
theorem dX3_made_168 : decode cX3_made 168 = .ok (.lload 4, 2) := by decide +kernel
theorem dX3_made_170 : decode cX3_made 170 = .ok (.lload 9, 2) := by decide +kernel
theorem dX3_made_172 : decode cX3_made 172 = .ok (.aload_n 0, 1) := by decide +kernel
theorem dX3_made_173 : decode cX3_made 173 = .ok (.getfield 3, 3) := by decide +kernel
theorem dX3_made_176 : decode cX3_made 176 = .ok (.getfield 50, 3) := by decide +kernel
theorem dX3_made_179 : decode cX3_made 179 = .ok (.getfield 77, 3) := by decide +kernel
theorem dX3_made_182 : decode cX3_made 182 = .ok (.iload 6, 2) := by decide +kernel
theorem dX3_made_184 : decode cX3_made 184 = .ok (.iaload, 1) := by decide +kernel
theorem dX3_made_185 : decode cX3_made 185 = .ok (.i2l, 1) := by decide +kernel
theorem dX3_made_186 : decode cX3_made 186 = .ok (.lmul, 1) := by decide +kernel
theorem dX3_made_187 : decode cX3_made 187 = .ok (.ladd, 1) := by decide +kernel
theorem dX3_made_188 : decode cX3_made 188 = .ok (.lstore 4, 2) := by decide +kernel
theorem dX3_made_190 : decode cX3_made 190 = .ok (.iinc 6 1, 3) := by decide +kernel
theorem dX3_made_193 : decode cX3_made 193 = .ok (.goto (-176), 3) := by decide +kernel
theorem dX3_made_196 : decode cX3_made 196 = .ok (.lload 4, 2) := by decide +kernel
theorem dX3_made_198 : decode cX3_made 198 = .ok (.invokestatic 69, 3) := by decide +kernel
theorem dX3_made_201 : decode cX3_made 201 = .ok (.ldc2_w 75, 3) := by decide +kernel
theorem dX3_made_204 : decode cX3_made 204 = .ok (.lcmp, 1) := by decide +kernel
theorem dX3_made_205 : decode cX3_made 205 = .ok (.ifCond .le 6, 3) := by decide +kernel
theorem dX3_made_208 : decode cX3_made 208 = .ok (.ldc 68, 2) := by decide +kernel
theorem dX3_made_210 : decode cX3_made 210 = .ok (.ireturn, 1) := by decide +kernel
theorem dX3_made_211 : decode cX3_made 211 = .ok (.aload_n 0, 1) := by decide +kernel
theorem dX3_made_212 : decode cX3_made 212 = .ok (.getfield 3, 3) := by decide +kernel
theorem dX3_made_215 : decode cX3_made 215 = .ok (.getfield 50, 3) := by decide +kernel
theorem dX3_made_218 : decode cX3_made 218 = .ok (.getfield 80, 3) := by decide +kernel
theorem dX3_made_221 : decode cX3_made 221 = .ok (.iload_n 1, 1) := by decide +kernel
theorem dX3_made_222 : decode cX3_made 222 = .ok (.iaload, 1) := by decide +kernel
theorem dX3_made_223 : decode cX3_made 223 = .ok (.i2l, 1) := by decide +kernel
theorem dX3_made_224 : decode cX3_made 224 = .ok (.lstore 6, 2) := by decide +kernel
theorem dX3_made_226 : decode cX3_made 226 = .ok (.aload_n 0, 1) := by decide +kernel
theorem dX3_made_227 : decode cX3_made 227 = .ok (.getfield 3, 3) := by decide +kernel
theorem dX3_made_230 : decode cX3_made 230 = .ok (.getfield 50, 3) := by decide +kernel
theorem dX3_made_233 : decode cX3_made 233 = .ok (.getfield 83, 3) := by decide +kernel
theorem dX3_made_236 : decode cX3_made 236 = .ok (.iload_n 1, 1) := by decide +kernel
theorem dX3_made_237 : decode cX3_made 237 = .ok (.baload, 1) := by decide +kernel
theorem dX3_made_238 : decode cX3_made 238 = .ok (.ifCond .eq 24, 3) := by decide +kernel
theorem dX3_made_241 : decode cX3_made 241 = .ok (.ldc2_w 86, 3) := by decide +kernel
theorem dX3_made_244 : decode cX3_made 244 = .ok (.lload 4, 2) := by decide +kernel
theorem dX3_made_246 : decode cX3_made 246 = .ok (.lmul, 1) := by decide +kernel
theorem dX3_made_247 : decode cX3_made 247 = .ok (.lload 6, 2) := by decide +kernel
theorem dX3_made_249 : decode cX3_made 249 = .ok (.ladd, 1) := by decide +kernel
theorem dX3_made_250 : decode cX3_made 250 = .ok (.ldc2_w 86, 3) := by decide +kernel
theorem dX3_made_253 : decode cX3_made 253 = .ok (.lload 6, 2) := by decide +kernel
theorem dX3_made_255 : decode cX3_made 255 = .ok (.lmul, 1) := by decide +kernel
theorem dX3_made_256 : decode cX3_made 256 = .ok (.invokestatic 88, 3) := by decide +kernel
theorem dX3_made_259 : decode cX3_made 259 = .ok (.goto 10, 3) := by decide +kernel
theorem dX3_made_262 : decode cX3_made 262 = .ok (.lload 4, 2) := by decide +kernel
theorem dX3_made_264 : decode cX3_made 264 = .ok (.lload 6, 2) := by decide +kernel
theorem dX3_made_266 : decode cX3_made 266 = .ok (.invokestatic 88, 3) := by decide +kernel
theorem dX3_made_269 : decode cX3_made 269 = .ok (.lstore 8, 2) := by decide +kernel
theorem dX3_made_271 : decode cX3_made 271 = .ok (.lload 8, 2) := by decide +kernel
theorem dX3_made_273 : decode cX3_made 273 = .ok (.invokestatic 69, 3) := by decide +kernel
theorem dX3_made_276 : decode cX3_made 276 = .ok (.ldc2_w 92, 3) := by decide +kernel
theorem dX3_made_279 : decode cX3_made 279 = .ok (.lcmp, 1) := by decide +kernel
theorem dX3_made_280 : decode cX3_made 280 = .ok (.ifCond .le 8, 3) := by decide +kernel
theorem dX3_made_283 : decode cX3_made 283 = .ok (.ldc 68, 2) := by decide +kernel
theorem dX3_made_285 : decode cX3_made 285 = .ok (.goto 6, 3) := by decide +kernel
theorem dX3_made_288 : decode cX3_made 288 = .ok (.lload 8, 2) := by decide +kernel
theorem dX3_made_290 : decode cX3_made 290 = .ok (.l2i, 1) := by decide +kernel
theorem dX3_made_291 : decode cX3_made 291 = .ok (.ireturn, 1) := by decide +kernel
def tb_X3_made (S_X3_valueOf S_J0_abs S_J0_floorDiv_2 : ma_Cs) : Nat → ma_In := fun pc =>
 (if pc < 141 then
 (if pc < 70 then
 (if pc < 33 then
 (if pc < 17 then
 (if pc < 7 then
 (if pc < 3 then
 (if pc < 1 then
 (if pc = 0 then in_push (.long 0) 1 else in_no) else
 (if pc = 1 then in_lst 4 3 else in_no)) else
 (if pc < 4 then
 (if pc = 3 then in_ald 0 4 else in_no) else
 (if pc = 4 then in_get YX 3 4 7 else in_no))) else
 (if pc < 13 then
 (if pc < 10 then
 (if pc = 7 then in_get YX 0 4 10 else in_no) else
 (if pc = 10 then in_get YX 2 2 13 else in_no)) else
 (if pc < 14 then
 (if pc = 13 then in_ild 1 14 else in_no) else
 (if pc < 15 then
 (if pc = 14 then in_iar YX 15 else in_no) else
 (if pc = 15 then in_ist 6 17 else in_no))))) else
 (if pc < 26 then
 (if pc < 20 then
 (if pc < 19 then
 (if pc = 17 then in_ild 6 19 else in_no) else
 (if pc = 19 then in_ald 0 20 else in_no)) else
 (if pc < 23 then
 (if pc = 20 then in_get YX 3 4 23 else in_no) else
 (if pc = 23 then in_get YX 0 4 26 else in_no))) else
 (if pc < 30 then
 (if pc < 29 then
 (if pc = 26 then in_get YX 2 2 29 else in_no) else
 (if pc = 29 then in_ild 1 30 else in_no)) else
 (if pc < 31 then
 (if pc = 30 then in_push (.int 1) 31 else in_no) else
 (if pc < 32 then
 (if pc = 31 then in_iii (fun x y => x + y) 32 else in_no) else
 (if pc = 32 then in_iar YX 33 else in_no)))))) else
 (if pc < 51 then
 (if pc < 39 then
 (if pc < 37 then
 (if pc < 36 then
 (if pc = 33 then in_if2 (fun x y => y ≤ x) 196 36 else in_no) else
 (if pc = 36 then in_ald 0 37 else in_no)) else
 (if pc < 38 then
 (if pc = 37 then in_ild 2 38 else in_no) else
 (if pc = 38 then in_ild 3 39 else in_no))) else
 (if pc < 43 then
 (if pc < 40 then
 (if pc = 39 then in_ald 0 40 else in_no) else
 (if pc = 40 then in_get YX 3 4 43 else in_no)) else
 (if pc < 46 then
 (if pc = 43 then in_get YX 0 4 46 else in_no) else
 (if pc < 49 then
 (if pc = 46 then in_get YX 2 7 49 else in_no) else
 (if pc = 49 then in_ild 6 51 else in_no))))) else
 (if pc < 58 then
 (if pc < 55 then
 (if pc < 52 then
 (if pc = 51 then in_iar YX 52 else in_no) else
 (if pc = 52 then in_v4 YX 3 S_X3_valueOf 55 else in_no)) else
 (if pc < 57 then
 (if pc = 55 then in_ist 7 57 else in_no) else
 (if pc = 57 then in_ald 0 58 else in_no))) else
 (if pc < 64 then
 (if pc < 61 then
 (if pc = 58 then in_get YX 3 4 61 else in_no) else
 (if pc = 61 then in_get YX 0 4 64 else in_no)) else
 (if pc < 67 then
 (if pc = 64 then in_get YX 2 8 67 else in_no) else
 (if pc < 69 then
 (if pc = 67 then in_ild 6 69 else in_no) else
 (if pc = 69 then in_iar YX 70 else in_no))))))) else
 (if pc < 107 then
 (if pc < 86 then
 (if pc < 79 then
 (if pc < 75 then
 (if pc < 72 then
 (if pc = 70 then in_push (.int (-4)) 72 else in_no) else
 (if pc = 72 then in_if2 (fun x y => x = y) 75 79 else in_no)) else
 (if pc < 76 then
 (if pc = 75 then in_push (.int 1) 76 else in_no) else
 (if pc = 76 then in_go 98 else in_no))) else
 (if pc < 81 then
 (if pc < 80 then
 (if pc = 79 then in_ald 0 80 else in_no) else
 (if pc = 80 then in_ild 2 81 else in_no)) else
 (if pc < 82 then
 (if pc = 81 then in_ild 3 82 else in_no) else
 (if pc < 83 then
 (if pc = 82 then in_ald 0 83 else in_no) else
 (if pc = 83 then in_get YX 3 4 86 else in_no))))) else
 (if pc < 95 then
 (if pc < 92 then
 (if pc < 89 then
 (if pc = 86 then in_get YX 0 4 89 else in_no) else
 (if pc = 89 then in_get YX 2 8 92 else in_no)) else
 (if pc < 94 then
 (if pc = 92 then in_ild 6 94 else in_no) else
 (if pc = 94 then in_iar YX 95 else in_no))) else
 (if pc < 100 then
 (if pc < 98 then
 (if pc = 95 then in_v4 YX 3 S_X3_valueOf 98 else in_no) else
 (if pc = 98 then in_ist 8 100 else in_no)) else
 (if pc < 102 then
 (if pc = 100 then in_ild 7 102 else in_no) else
 (if pc < 104 then
 (if pc = 102 then in_push (.int 2000000000) 104 else in_no) else
 (if pc = 104 then in_if2 (fun x y => x = y) 114 107 else in_no)))))) else
 (if pc < 123 then
 (if pc < 116 then
 (if pc < 111 then
 (if pc < 109 then
 (if pc = 107 then in_ild 8 109 else in_no) else
 (if pc = 109 then in_push (.int 2000000000) 111 else in_no)) else
 (if pc < 114 then
 (if pc = 111 then in_if2 (fun x y => x = y) 114 117 else in_no) else
 (if pc = 114 then in_push (.int 2000000000) 116 else in_no))) else
 (if pc < 119 then
 (if pc < 117 then
 (if pc = 116 then in_ri else in_no) else
 (if pc = 117 then in_ild 7 119 else in_no)) else
 (if pc < 120 then
 (if pc = 119 then in_il (fun x => x.toInt64) 120 else in_no) else
 (if pc < 122 then
 (if pc = 120 then in_ild 8 122 else in_no) else
 (if pc = 122 then in_il (fun x => x.toInt64) 123 else in_no))))) else
 (if pc < 131 then
 (if pc < 126 then
 (if pc < 124 then
 (if pc = 123 then in_lll (fun x y => x * y) 124 else in_no) else
 (if pc = 124 then in_lst 9 126 else in_no)) else
 (if pc < 128 then
 (if pc = 126 then in_lld 9 128 else in_no) else
 (if pc = 128 then in_s1 S_J0_abs 131 else in_no))) else
 (if pc < 135 then
 (if pc < 134 then
 (if pc = 131 then in_push (.long 1000000000000000) 134 else in_no) else
 (if pc = 134 then in_lli lg_cmp 135 else in_no)) else
 (if pc < 138 then
 (if pc = 135 then in_if1 (fun x => 0 < x) 165 138 else in_no) else
 (if pc < 140 then
 (if pc = 138 then in_lld 9 140 else in_no) else
 (if pc = 140 then in_ald 0 141 else in_no)))))))) else
 (if pc < 215 then
 (if pc < 179 then
 (if pc < 161 then
 (if pc < 152 then
 (if pc < 147 then
 (if pc < 144 then
 (if pc = 141 then in_get YX 3 4 144 else in_no) else
 (if pc = 144 then in_get YX 0 4 147 else in_no)) else
 (if pc < 150 then
 (if pc = 147 then in_get YX 2 6 150 else in_no) else
 (if pc = 150 then in_ild 6 152 else in_no))) else
 (if pc < 154 then
 (if pc < 153 then
 (if pc = 152 then in_iar YX 153 else in_no) else
 (if pc = 153 then in_il (fun x => x.toInt64) 154 else in_no)) else
 (if pc < 155 then
 (if pc = 154 then in_lll (fun x y => x * y) 155 else in_no) else
 (if pc < 158 then
 (if pc = 155 then in_s1 S_J0_abs 158 else in_no) else
 (if pc = 158 then in_push (.long 1000000000000000) 161 else in_no))))) else
 (if pc < 168 then
 (if pc < 165 then
 (if pc < 162 then
 (if pc = 161 then in_lli lg_cmp 162 else in_no) else
 (if pc = 162 then in_if1 (fun x => x ≤ 0) 168 165 else in_no)) else
 (if pc < 167 then
 (if pc = 165 then in_push (.int 2000000000) 167 else in_no) else
 (if pc = 167 then in_ri else in_no))) else
 (if pc < 172 then
 (if pc < 170 then
 (if pc = 168 then in_lld 4 170 else in_no) else
 (if pc = 170 then in_lld 9 172 else in_no)) else
 (if pc < 173 then
 (if pc = 172 then in_ald 0 173 else in_no) else
 (if pc < 176 then
 (if pc = 173 then in_get YX 3 4 176 else in_no) else
 (if pc = 176 then in_get YX 0 4 179 else in_no)))))) else
 (if pc < 196 then
 (if pc < 186 then
 (if pc < 184 then
 (if pc < 182 then
 (if pc = 179 then in_get YX 2 6 182 else in_no) else
 (if pc = 182 then in_ild 6 184 else in_no)) else
 (if pc < 185 then
 (if pc = 184 then in_iar YX 185 else in_no) else
 (if pc = 185 then in_il (fun x => x.toInt64) 186 else in_no))) else
 (if pc < 188 then
 (if pc < 187 then
 (if pc = 186 then in_lll (fun x y => x * y) 187 else in_no) else
 (if pc = 187 then in_lll (fun x y => x + y) 188 else in_no)) else
 (if pc < 190 then
 (if pc = 188 then in_lst 4 190 else in_no) else
 (if pc < 193 then
 (if pc = 190 then in_inc 6 1 193 else in_no) else
 (if pc = 193 then in_go 17 else in_no))))) else
 (if pc < 205 then
 (if pc < 201 then
 (if pc < 198 then
 (if pc = 196 then in_lld 4 198 else in_no) else
 (if pc = 198 then in_s1 S_J0_abs 201 else in_no)) else
 (if pc < 204 then
 (if pc = 201 then in_push (.long 1000000000000000) 204 else in_no) else
 (if pc = 204 then in_lli lg_cmp 205 else in_no))) else
 (if pc < 210 then
 (if pc < 208 then
 (if pc = 205 then in_if1 (fun x => x ≤ 0) 211 208 else in_no) else
 (if pc = 208 then in_push (.int 2000000000) 210 else in_no)) else
 (if pc < 211 then
 (if pc = 210 then in_ri else in_no) else
 (if pc < 212 then
 (if pc = 211 then in_ald 0 212 else in_no) else
 (if pc = 212 then in_get YX 3 4 215 else in_no))))))) else
 (if pc < 250 then
 (if pc < 233 then
 (if pc < 223 then
 (if pc < 221 then
 (if pc < 218 then
 (if pc = 215 then in_get YX 0 4 218 else in_no) else
 (if pc = 218 then in_get YX 2 3 221 else in_no)) else
 (if pc < 222 then
 (if pc = 221 then in_ild 1 222 else in_no) else
 (if pc = 222 then in_iar YX 223 else in_no))) else
 (if pc < 226 then
 (if pc < 224 then
 (if pc = 223 then in_il (fun x => x.toInt64) 224 else in_no) else
 (if pc = 224 then in_lst 6 226 else in_no)) else
 (if pc < 227 then
 (if pc = 226 then in_ald 0 227 else in_no) else
 (if pc < 230 then
 (if pc = 227 then in_get YX 3 4 230 else in_no) else
 (if pc = 230 then in_get YX 0 4 233 else in_no))))) else
 (if pc < 241 then
 (if pc < 237 then
 (if pc < 236 then
 (if pc = 233 then in_get YX 2 4 236 else in_no) else
 (if pc = 236 then in_ild 1 237 else in_no)) else
 (if pc < 238 then
 (if pc = 237 then in_bar YX 238 else in_no) else
 (if pc = 238 then in_if1 (fun x => x = 0) 262 241 else in_no))) else
 (if pc < 246 then
 (if pc < 244 then
 (if pc = 241 then in_push (.long 2) 244 else in_no) else
 (if pc = 244 then in_lld 4 246 else in_no)) else
 (if pc < 247 then
 (if pc = 246 then in_lll (fun x y => x * y) 247 else in_no) else
 (if pc < 249 then
 (if pc = 247 then in_lld 6 249 else in_no) else
 (if pc = 249 then in_lll (fun x y => x + y) 250 else in_no)))))) else
 (if pc < 271 then
 (if pc < 259 then
 (if pc < 255 then
 (if pc < 253 then
 (if pc = 250 then in_push (.long 2) 253 else in_no) else
 (if pc = 253 then in_lld 6 255 else in_no)) else
 (if pc < 256 then
 (if pc = 255 then in_lll (fun x y => x * y) 256 else in_no) else
 (if pc = 256 then in_s2 S_J0_floorDiv_2 259 else in_no))) else
 (if pc < 264 then
 (if pc < 262 then
 (if pc = 259 then in_go 269 else in_no) else
 (if pc = 262 then in_lld 4 264 else in_no)) else
 (if pc < 266 then
 (if pc = 264 then in_lld 6 266 else in_no) else
 (if pc < 269 then
 (if pc = 266 then in_s2 S_J0_floorDiv_2 269 else in_no) else
 (if pc = 269 then in_lst 8 271 else in_no))))) else
 (if pc < 283 then
 (if pc < 276 then
 (if pc < 273 then
 (if pc = 271 then in_lld 8 273 else in_no) else
 (if pc = 273 then in_s1 S_J0_abs 276 else in_no)) else
 (if pc < 279 then
 (if pc = 276 then in_push (.long 1000000000) 279 else in_no) else
 (if pc < 280 then
 (if pc = 279 then in_lli lg_cmp 280 else in_no) else
 (if pc = 280 then in_if1 (fun x => x ≤ 0) 288 283 else in_no)))) else
 (if pc < 288 then
 (if pc < 285 then
 (if pc = 283 then in_push (.int 2000000000) 285 else in_no) else
 (if pc = 285 then in_go 291 else in_no)) else
 (if pc < 290 then
 (if pc = 288 then in_lld 8 290 else in_no) else
 (if pc < 291 then
 (if pc = 290 then in_li (fun x => x.toInt32) 291 else in_no) else
 (if pc = 291 then in_ri else in_no)))))))))
theorem tk_X3_made {l : Launch} {w : ma_Wd} {NC : Nat} {A : Nat → Prop} {S_X3_valueOf S_J0_abs S_J0_floorDiv_2 : ma_Cs} (h_X3_valueOf : ma_Sd l w YX NC A yX3_valueOf cX3_valueOf 5 (some .int) rm_X3_valueOf S_X3_valueOf) (h_J0_abs : ma_Sd l w YX NC A yJ0_abs cJ0_abs 2 (some .long) rm_J0_abs S_J0_abs) (h_J0_floorDiv_2 : ma_Sd l w YX NC A yJ0_floorDiv_2 cJ0_floorDiv_2 6 (some .long) rm_J0_floorDiv_2 S_J0_floorDiv_2) {p : Program} {e : Env} {s : State} {m : MethodId} {args : Array Value} {below : List Frame} {meth : Method} {c : Code} (X : ma_Cx p s m args meth c w YX NC A yX3_made.cls cX3_made 11 (some .int)) : ∀ pc, ma_Ok p l e rm_X3_made s m args below meth c w YX NC A 11 pc (tb_X3_made S_X3_valueOf S_J0_abs S_J0_floorDiv_2 pc) := fun pc =>
 (mk_lt
 (mk_lt
 (mk_lt
 (mk_lt
 (mk_lt
 (mk_lt
 (mk_lt
 (mk_eq (mk_lconst X dX3_made_0 rfl rfl))
 (mk_eq (mk_lstore X dX3_made_1 (Nat.le_of_ble_eq_true rfl) rfl)))
 (mk_lt
 (mk_eq (mk_aload_n X dX3_made_3 rfl rfl))
 (mk_eq (mk_get X (ci := 3) (j := 4) rfl in_X3 (Nat.le_of_ble_eq_true rfl) q171 dX3_made_4 rfl))))
 (mk_lt
 (mk_lt
 (mk_eq (mk_getN X (ci := 0) (j := 4) rfl in_X0 (Nat.le_of_ble_eq_true rfl) (List.mem_of_getElem? (i := 27) rfl) dX3_made_7 rfl))
 (mk_eq (mk_getN X (ci := 2) (j := 2) rfl in_X2 (Nat.le_of_ble_eq_true rfl) (List.mem_of_getElem? (i := 21) rfl) dX3_made_10 rfl)))
 (mk_lt
 (mk_eq (mk_iload_n X dX3_made_13 rfl rfl))
 (mk_lt
 (mk_eq (mk_iar X dX3_made_14 rfl))
 (mk_eq (mk_istore X dX3_made_15 (Nat.le_of_ble_eq_true rfl) rfl))))))
 (mk_lt
 (mk_lt
 (mk_lt
 (mk_eq (mk_iload X dX3_made_17 rfl))
 (mk_eq (mk_aload_n X dX3_made_19 rfl rfl)))
 (mk_lt
 (mk_eq (mk_get X (ci := 3) (j := 4) rfl in_X3 (Nat.le_of_ble_eq_true rfl) q171 dX3_made_20 rfl))
 (mk_eq (mk_getN X (ci := 0) (j := 4) rfl in_X0 (Nat.le_of_ble_eq_true rfl) (List.mem_of_getElem? (i := 27) rfl) dX3_made_23 rfl))))
 (mk_lt
 (mk_lt
 (mk_eq (mk_getN X (ci := 2) (j := 2) rfl in_X2 (Nat.le_of_ble_eq_true rfl) (List.mem_of_getElem? (i := 21) rfl) dX3_made_26 rfl))
 (mk_eq (mk_iload_n X dX3_made_29 rfl rfl)))
 (mk_lt
 (mk_eq (mk_iconst X dX3_made_30 rfl rfl))
 (mk_lt
 (mk_eq (mk_iadd X dX3_made_31 rfl))
 (mk_eq (mk_iar X dX3_made_32 rfl)))))))
 (mk_lt
 (mk_lt
 (mk_lt
 (mk_lt
 (mk_eq (mk_icge X dX3_made_33 rfl rfl))
 (mk_eq (mk_aload_n X dX3_made_36 rfl rfl)))
 (mk_lt
 (mk_eq (mk_iload_n X dX3_made_37 rfl rfl))
 (mk_eq (mk_iload_n X dX3_made_38 rfl rfl))))
 (mk_lt
 (mk_lt
 (mk_eq (mk_aload_n X dX3_made_39 rfl rfl))
 (mk_eq (mk_get X (ci := 3) (j := 4) rfl in_X3 (Nat.le_of_ble_eq_true rfl) q171 dX3_made_40 rfl)))
 (mk_lt
 (mk_eq (mk_getN X (ci := 0) (j := 4) rfl in_X0 (Nat.le_of_ble_eq_true rfl) (List.mem_of_getElem? (i := 27) rfl) dX3_made_43 rfl))
 (mk_lt
 (mk_eq (mk_getN X (ci := 2) (j := 7) rfl in_X2 (Nat.le_of_ble_eq_true rfl) (List.mem_of_getElem? (i := 25) rfl) dX3_made_46 rfl))
 (mk_eq (mk_iload X dX3_made_49 rfl))))))
 (mk_lt
 (mk_lt
 (mk_lt
 (mk_eq (mk_iar X dX3_made_51 rfl))
 (mk_eq (mk_V4 X h_X3_valueOf (ci := 3) rfl (lw_V q544 q546 qs20 q64 q547) ⟨rfl, by decide, by decide, rfl⟩ ⟨(Nat.le_of_ble_eq_true rfl), (Nat.le_of_ble_eq_true rfl)⟩ dX3_made_52 rfl)))
 (mk_lt
 (mk_eq (mk_istore X dX3_made_55 (Nat.le_of_ble_eq_true rfl) rfl))
 (mk_eq (mk_aload_n X dX3_made_57 rfl rfl))))
 (mk_lt
 (mk_lt
 (mk_eq (mk_get X (ci := 3) (j := 4) rfl in_X3 (Nat.le_of_ble_eq_true rfl) q171 dX3_made_58 rfl))
 (mk_eq (mk_getN X (ci := 0) (j := 4) rfl in_X0 (Nat.le_of_ble_eq_true rfl) (List.mem_of_getElem? (i := 27) rfl) dX3_made_61 rfl)))
 (mk_lt
 (mk_eq (mk_getN X (ci := 2) (j := 8) rfl in_X2 (Nat.le_of_ble_eq_true rfl) (List.mem_of_getElem? (i := 26) rfl) dX3_made_64 rfl))
 (mk_lt
 (mk_eq (mk_iload X dX3_made_67 rfl))
 (mk_eq (mk_iar X dX3_made_69 rfl))))))))
 (mk_lt
 (mk_lt
 (mk_lt
 (mk_lt
 (mk_lt
 (mk_eq (mk_bipush X dX3_made_70 rfl rfl))
 (mk_eq (mk_icne X dX3_made_72 rfl rfl)))
 (mk_lt
 (mk_eq (mk_iconst X dX3_made_75 rfl rfl))
 (mk_eq (mk_goto X dX3_made_76 rfl))))
 (mk_lt
 (mk_lt
 (mk_eq (mk_aload_n X dX3_made_79 rfl rfl))
 (mk_eq (mk_iload_n X dX3_made_80 rfl rfl)))
 (mk_lt
 (mk_eq (mk_iload_n X dX3_made_81 rfl rfl))
 (mk_lt
 (mk_eq (mk_aload_n X dX3_made_82 rfl rfl))
 (mk_eq (mk_get X (ci := 3) (j := 4) rfl in_X3 (Nat.le_of_ble_eq_true rfl) q171 dX3_made_83 rfl))))))
 (mk_lt
 (mk_lt
 (mk_lt
 (mk_eq (mk_getN X (ci := 0) (j := 4) rfl in_X0 (Nat.le_of_ble_eq_true rfl) (List.mem_of_getElem? (i := 27) rfl) dX3_made_86 rfl))
 (mk_eq (mk_getN X (ci := 2) (j := 8) rfl in_X2 (Nat.le_of_ble_eq_true rfl) (List.mem_of_getElem? (i := 26) rfl) dX3_made_89 rfl)))
 (mk_lt
 (mk_eq (mk_iload X dX3_made_92 rfl))
 (mk_eq (mk_iar X dX3_made_94 rfl))))
 (mk_lt
 (mk_lt
 (mk_eq (mk_V4 X h_X3_valueOf (ci := 3) rfl (lw_V q544 q546 qs20 q64 q547) ⟨rfl, by decide, by decide, rfl⟩ ⟨(Nat.le_of_ble_eq_true rfl), (Nat.le_of_ble_eq_true rfl)⟩ dX3_made_95 rfl))
 (mk_eq (mk_istore X dX3_made_98 (Nat.le_of_ble_eq_true rfl) rfl)))
 (mk_lt
 (mk_eq (mk_iload X dX3_made_100 rfl))
 (mk_lt
 (mk_eq (mk_ldc X dX3_made_102 q523 rfl))
 (mk_eq (mk_iceq X dX3_made_104 rfl rfl)))))))
 (mk_lt
 (mk_lt
 (mk_lt
 (mk_lt
 (mk_eq (mk_iload X dX3_made_107 rfl))
 (mk_eq (mk_ldc X dX3_made_109 q523 rfl)))
 (mk_lt
 (mk_eq (mk_icne X dX3_made_111 rfl rfl))
 (mk_eq (mk_ldc X dX3_made_114 q523 rfl))))
 (mk_lt
 (mk_lt
 (mk_eq (mk_ri X dX3_made_116))
 (mk_eq (mk_iload X dX3_made_117 rfl)))
 (mk_lt
 (mk_eq (mk_i2l X dX3_made_119 rfl))
 (mk_lt
 (mk_eq (mk_iload X dX3_made_120 rfl))
 (mk_eq (mk_i2l X dX3_made_122 rfl))))))
 (mk_lt
 (mk_lt
 (mk_lt
 (mk_eq (mk_lmul X dX3_made_123 rfl))
 (mk_eq (mk_lstore X dX3_made_124 (Nat.le_of_ble_eq_true rfl) rfl)))
 (mk_lt
 (mk_eq (mk_lload X dX3_made_126 rfl))
 (mk_eq (mk_S1 X h_J0_abs (lw_S q524 q525 q67 q526) ⟨by decide, by decide, rfl⟩ ⟨(Nat.le_of_ble_eq_true rfl), (Nat.le_of_ble_eq_true rfl)⟩ dX3_made_128 rfl))))
 (mk_lt
 (mk_lt
 (mk_eq (mk_ldc2 X dX3_made_131 q548 rfl))
 (mk_eq (mk_lcmp X dX3_made_134 rfl)))
 (mk_lt
 (mk_eq (mk_ifgt X dX3_made_135 rfl rfl))
 (mk_lt
 (mk_eq (mk_lload X dX3_made_138 rfl))
 (mk_eq (mk_aload_n X dX3_made_140 rfl rfl)))))))))
 (mk_lt
 (mk_lt
 (mk_lt
 (mk_lt
 (mk_lt
 (mk_lt
 (mk_eq (mk_get X (ci := 3) (j := 4) rfl in_X3 (Nat.le_of_ble_eq_true rfl) q171 dX3_made_141 rfl))
 (mk_eq (mk_getN X (ci := 0) (j := 4) rfl in_X0 (Nat.le_of_ble_eq_true rfl) (List.mem_of_getElem? (i := 27) rfl) dX3_made_144 rfl)))
 (mk_lt
 (mk_eq (mk_getN X (ci := 2) (j := 6) rfl in_X2 (Nat.le_of_ble_eq_true rfl) (List.mem_of_getElem? (i := 24) rfl) dX3_made_147 rfl))
 (mk_eq (mk_iload X dX3_made_150 rfl))))
 (mk_lt
 (mk_lt
 (mk_eq (mk_iar X dX3_made_152 rfl))
 (mk_eq (mk_i2l X dX3_made_153 rfl)))
 (mk_lt
 (mk_eq (mk_lmul X dX3_made_154 rfl))
 (mk_lt
 (mk_eq (mk_S1 X h_J0_abs (lw_S q524 q525 q67 q526) ⟨by decide, by decide, rfl⟩ ⟨(Nat.le_of_ble_eq_true rfl), (Nat.le_of_ble_eq_true rfl)⟩ dX3_made_155 rfl))
 (mk_eq (mk_ldc2 X dX3_made_158 q548 rfl))))))
 (mk_lt
 (mk_lt
 (mk_lt
 (mk_eq (mk_lcmp X dX3_made_161 rfl))
 (mk_eq (mk_ifle X dX3_made_162 rfl rfl)))
 (mk_lt
 (mk_eq (mk_ldc X dX3_made_165 q523 rfl))
 (mk_eq (mk_ri X dX3_made_167))))
 (mk_lt
 (mk_lt
 (mk_eq (mk_lload X dX3_made_168 rfl))
 (mk_eq (mk_lload X dX3_made_170 rfl)))
 (mk_lt
 (mk_eq (mk_aload_n X dX3_made_172 rfl rfl))
 (mk_lt
 (mk_eq (mk_get X (ci := 3) (j := 4) rfl in_X3 (Nat.le_of_ble_eq_true rfl) q171 dX3_made_173 rfl))
 (mk_eq (mk_getN X (ci := 0) (j := 4) rfl in_X0 (Nat.le_of_ble_eq_true rfl) (List.mem_of_getElem? (i := 27) rfl) dX3_made_176 rfl)))))))
 (mk_lt
 (mk_lt
 (mk_lt
 (mk_lt
 (mk_eq (mk_getN X (ci := 2) (j := 6) rfl in_X2 (Nat.le_of_ble_eq_true rfl) (List.mem_of_getElem? (i := 24) rfl) dX3_made_179 rfl))
 (mk_eq (mk_iload X dX3_made_182 rfl)))
 (mk_lt
 (mk_eq (mk_iar X dX3_made_184 rfl))
 (mk_eq (mk_i2l X dX3_made_185 rfl))))
 (mk_lt
 (mk_lt
 (mk_eq (mk_lmul X dX3_made_186 rfl))
 (mk_eq (mk_ladd X dX3_made_187 rfl)))
 (mk_lt
 (mk_eq (mk_lstore X dX3_made_188 (Nat.le_of_ble_eq_true rfl) rfl))
 (mk_lt
 (mk_eq (mk_iinc X dX3_made_190 rfl (Nat.le_of_ble_eq_true rfl) rfl))
 (mk_eq (mk_goto X dX3_made_193 rfl))))))
 (mk_lt
 (mk_lt
 (mk_lt
 (mk_eq (mk_lload X dX3_made_196 rfl))
 (mk_eq (mk_S1 X h_J0_abs (lw_S q524 q525 q67 q526) ⟨by decide, by decide, rfl⟩ ⟨(Nat.le_of_ble_eq_true rfl), (Nat.le_of_ble_eq_true rfl)⟩ dX3_made_198 rfl)))
 (mk_lt
 (mk_eq (mk_ldc2 X dX3_made_201 q548 rfl))
 (mk_eq (mk_lcmp X dX3_made_204 rfl))))
 (mk_lt
 (mk_lt
 (mk_eq (mk_ifle X dX3_made_205 rfl rfl))
 (mk_eq (mk_ldc X dX3_made_208 q523 rfl)))
 (mk_lt
 (mk_eq (mk_ri X dX3_made_210))
 (mk_lt
 (mk_eq (mk_aload_n X dX3_made_211 rfl rfl))
 (mk_eq (mk_get X (ci := 3) (j := 4) rfl in_X3 (Nat.le_of_ble_eq_true rfl) q171 dX3_made_212 rfl))))))))
 (mk_lt
 (mk_lt
 (mk_lt
 (mk_lt
 (mk_lt
 (mk_eq (mk_getN X (ci := 0) (j := 4) rfl in_X0 (Nat.le_of_ble_eq_true rfl) (List.mem_of_getElem? (i := 27) rfl) dX3_made_215 rfl))
 (mk_eq (mk_getN X (ci := 2) (j := 3) rfl in_X2 (Nat.le_of_ble_eq_true rfl) (List.mem_of_getElem? (i := 22) rfl) dX3_made_218 rfl)))
 (mk_lt
 (mk_eq (mk_iload_n X dX3_made_221 rfl rfl))
 (mk_eq (mk_iar X dX3_made_222 rfl))))
 (mk_lt
 (mk_lt
 (mk_eq (mk_i2l X dX3_made_223 rfl))
 (mk_eq (mk_lstore X dX3_made_224 (Nat.le_of_ble_eq_true rfl) rfl)))
 (mk_lt
 (mk_eq (mk_aload_n X dX3_made_226 rfl rfl))
 (mk_lt
 (mk_eq (mk_get X (ci := 3) (j := 4) rfl in_X3 (Nat.le_of_ble_eq_true rfl) q171 dX3_made_227 rfl))
 (mk_eq (mk_getN X (ci := 0) (j := 4) rfl in_X0 (Nat.le_of_ble_eq_true rfl) (List.mem_of_getElem? (i := 27) rfl) dX3_made_230 rfl))))))
 (mk_lt
 (mk_lt
 (mk_lt
 (mk_eq (mk_getN X (ci := 2) (j := 4) rfl in_X2 (Nat.le_of_ble_eq_true rfl) (List.mem_of_getElem? (i := 23) rfl) dX3_made_233 rfl))
 (mk_eq (mk_iload_n X dX3_made_236 rfl rfl)))
 (mk_lt
 (mk_eq (mk_bar X dX3_made_237 rfl))
 (mk_eq (mk_ifeq X dX3_made_238 rfl rfl))))
 (mk_lt
 (mk_lt
 (mk_eq (mk_ldc2 X dX3_made_241 q549 rfl))
 (mk_eq (mk_lload X dX3_made_244 rfl)))
 (mk_lt
 (mk_eq (mk_lmul X dX3_made_246 rfl))
 (mk_lt
 (mk_eq (mk_lload X dX3_made_247 rfl))
 (mk_eq (mk_ladd X dX3_made_249 rfl)))))))
 (mk_lt
 (mk_lt
 (mk_lt
 (mk_lt
 (mk_eq (mk_ldc2 X dX3_made_250 q549 rfl))
 (mk_eq (mk_lload X dX3_made_253 rfl)))
 (mk_lt
 (mk_eq (mk_lmul X dX3_made_255 rfl))
 (mk_eq (mk_S2 X h_J0_floorDiv_2 (lw_S q550 q551 q67 q552) ⟨by decide, by decide, rfl⟩ ⟨(Nat.le_of_ble_eq_true rfl), (Nat.le_of_ble_eq_true rfl)⟩ dX3_made_256 rfl))))
 (mk_lt
 (mk_lt
 (mk_eq (mk_goto X dX3_made_259 rfl))
 (mk_eq (mk_lload X dX3_made_262 rfl)))
 (mk_lt
 (mk_eq (mk_lload X dX3_made_264 rfl))
 (mk_lt
 (mk_eq (mk_S2 X h_J0_floorDiv_2 (lw_S q550 q551 q67 q552) ⟨by decide, by decide, rfl⟩ ⟨(Nat.le_of_ble_eq_true rfl), (Nat.le_of_ble_eq_true rfl)⟩ dX3_made_266 rfl))
 (mk_eq (mk_lstore X dX3_made_269 (Nat.le_of_ble_eq_true rfl) rfl))))))
 (mk_lt
 (mk_lt
 (mk_lt
 (mk_eq (mk_lload X dX3_made_271 rfl))
 (mk_eq (mk_S1 X h_J0_abs (lw_S q524 q525 q67 q526) ⟨by decide, by decide, rfl⟩ ⟨(Nat.le_of_ble_eq_true rfl), (Nat.le_of_ble_eq_true rfl)⟩ dX3_made_273 rfl)))
 (mk_lt
 (mk_eq (mk_ldc2 X dX3_made_276 q527 rfl))
 (mk_lt
 (mk_eq (mk_lcmp X dX3_made_279 rfl))
 (mk_eq (mk_ifle X dX3_made_280 rfl rfl)))))
 (mk_lt
 (mk_lt
 (mk_eq (mk_ldc X dX3_made_283 q523 rfl))
 (mk_eq (mk_goto X dX3_made_285 rfl)))
 (mk_lt
 (mk_eq (mk_lload X dX3_made_288 rfl))
 (mk_lt
 (mk_eq (mk_l2i X dX3_made_290 rfl))
 (mk_eq (mk_ri X dX3_made_291))))))))))
theorem sd_X3_made {l : Launch} {w : ma_Wd} {NC : Nat} {A : Nat → Prop} {S_X3_valueOf S_J0_abs S_J0_floorDiv_2 : ma_Cs} (hw : ma_Wo w YX NC A) (h_X3_valueOf : ma_Sd l w YX NC A yX3_valueOf cX3_valueOf 5 (some .int) rm_X3_valueOf S_X3_valueOf) (h_J0_abs : ma_Sd l w YX NC A yJ0_abs cJ0_abs 2 (some .long) rm_J0_abs S_J0_abs) (h_J0_floorDiv_2 : ma_Sd l w YX NC A yJ0_floorDiv_2 cJ0_floorDiv_2 6 (some .long) rm_J0_floorDiv_2 S_J0_floorDiv_2) : ma_Sd l w YX NC A yX3_made cX3_made 11 (some .int) rm_X3_made (ma_rn (tb_X3_made S_X3_valueOf S_J0_abs S_J0_floorDiv_2) 11) := ma_of hw (by decide) ⟨rfl, rfl⟩ (fun X => tk_X3_made h_X3_valueOf h_J0_abs h_J0_floorDiv_2 X)
theorem dX3_valueOf_0 : decode cX3_valueOf 0 = .ok (.aload_n 0, 1) := by decide +kernel
theorem dX3_valueOf_1 : decode cX3_valueOf 1 = .ok (.iload_n 2, 1) := by decide +kernel
theorem dX3_valueOf_2 : decode cX3_valueOf 2 = .ok (.iload_n 3, 1) := by decide +kernel
theorem dX3_valueOf_3 : decode cX3_valueOf 3 = .ok (.bipush 16, 2) := by decide +kernel
theorem dX3_valueOf_5 : decode cX3_valueOf 5 = .ok (.irem, 1) := by decide +kernel
theorem dX3_valueOf_6 : decode cX3_valueOf 6 = .ok (.iconst 2, 1) := by decide +kernel
theorem dX3_valueOf_7 : decode cX3_valueOf 7 = .ok (.idiv, 1) := by decide +kernel
theorem dX3_valueOf_8 : decode cX3_valueOf 8 = .ok (.invokevirtual 37, 3) := by decide +kernel
theorem dX3_valueOf_11 : decode cX3_valueOf 11 = .ok (.istore 4, 2) := by decide +kernel
theorem dX3_valueOf_13 : decode cX3_valueOf 13 = .ok (.iload 4, 2) := by decide +kernel
theorem dX3_valueOf_15 : decode cX3_valueOf 15 = .ok (.bipush (-4), 2) := by decide +kernel
theorem dX3_valueOf_17 : decode cX3_valueOf 17 = .ok (.if_icmp .ne 18, 3) := by decide +kernel
theorem dX3_valueOf_20 : decode cX3_valueOf 20 = .ok (.aload_n 0, 1) := by decide +kernel
theorem dX3_valueOf_21 : decode cX3_valueOf 21 = .ok (.getfield 3, 3) := by decide +kernel
theorem dX3_valueOf_24 : decode cX3_valueOf 24 = .ok (.getfield 41, 3) := by decide +kernel
theorem dX3_valueOf_27 : decode cX3_valueOf 27 = .ok (.iload_n 3, 1) := by decide +kernel
theorem dX3_valueOf_28 : decode cX3_valueOf 28 = .ok (.bipush 16, 2) := by decide +kernel
theorem dX3_valueOf_30 : decode cX3_valueOf 30 = .ok (.idiv, 1) := by decide +kernel
theorem dX3_valueOf_31 : decode cX3_valueOf 31 = .ok (.iaload, 1) := by decide +kernel
theorem dX3_valueOf_32 : decode cX3_valueOf 32 = .ok (.goto 19, 3) := by decide +kernel
theorem dX3_valueOf_35 : decode cX3_valueOf 35 = .ok (.aload_n 0, 1) := by decide +kernel
theorem dX3_valueOf_36 : decode cX3_valueOf 36 = .ok (.aload_n 0, 1) := by decide +kernel
theorem dX3_valueOf_37 : decode cX3_valueOf 37 = .ok (.iload_n 1, 1) := by decide +kernel
theorem dX3_valueOf_38 : decode cX3_valueOf 38 = .ok (.iload_n 3, 1) := by decide +kernel
theorem dX3_valueOf_39 : decode cX3_valueOf 39 = .ok (.invokevirtual 44, 3) := by decide +kernel
theorem dX3_valueOf_42 : decode cX3_valueOf 42 = .ok (.iload 4, 2) := by decide +kernel
theorem dX3_valueOf_44 : decode cX3_valueOf 44 = .ok (.iload_n 3, 1) := by decide +kernel
theorem dX3_valueOf_45 : decode cX3_valueOf 45 = .ok (.bipush 16, 2) := by decide +kernel
theorem dX3_valueOf_47 : decode cX3_valueOf 47 = .ok (.idiv, 1) := by decide +kernel
theorem dX3_valueOf_48 : decode cX3_valueOf 48 = .ok (.invokevirtual 47, 3) := by decide +kernel
theorem dX3_valueOf_51 : decode cX3_valueOf 51 = .ok (.ireturn, 1) := by decide +kernel
def tb_X3_valueOf (S_X3_neighbour S_X3_stepOf S_X3_at : ma_Cs) : Nat → ma_In := fun pc =>
 (if pc < 27 then
 (if pc < 8 then
 (if pc < 3 then
 (if pc < 1 then
 (if pc = 0 then in_ald 0 1 else in_no) else
 (if pc < 2 then
 (if pc = 1 then in_ild 2 2 else in_no) else
 (if pc = 2 then in_ild 3 3 else in_no))) else
 (if pc < 6 then
 (if pc < 5 then
 (if pc = 3 then in_push (.int 16) 5 else in_no) else
 (if pc = 5 then in_idv (fun x y => x - x / y * y) 6 else in_no)) else
 (if pc < 7 then
 (if pc = 6 then in_push (.int 2) 7 else in_no) else
 (if pc = 7 then in_idv (fun x y => x / y) 8 else in_no)))) else
 (if pc < 17 then
 (if pc < 13 then
 (if pc < 11 then
 (if pc = 8 then in_v3 YX 3 S_X3_neighbour 11 else in_no) else
 (if pc = 11 then in_ist 4 13 else in_no)) else
 (if pc < 15 then
 (if pc = 13 then in_ild 4 15 else in_no) else
 (if pc = 15 then in_push (.int (-4)) 17 else in_no))) else
 (if pc < 21 then
 (if pc < 20 then
 (if pc = 17 then in_if2 (fun x y => x = y) 20 35 else in_no) else
 (if pc = 20 then in_ald 0 21 else in_no)) else
 (if pc < 24 then
 (if pc = 21 then in_get YX 3 4 24 else in_no) else
 (if pc = 24 then in_get YX 0 8 27 else in_no))))) else
 (if pc < 38 then
 (if pc < 32 then
 (if pc < 30 then
 (if pc < 28 then
 (if pc = 27 then in_ild 3 28 else in_no) else
 (if pc = 28 then in_push (.int 16) 30 else in_no)) else
 (if pc < 31 then
 (if pc = 30 then in_idv (fun x y => x / y) 31 else in_no) else
 (if pc = 31 then in_iar YX 32 else in_no))) else
 (if pc < 36 then
 (if pc < 35 then
 (if pc = 32 then in_go 51 else in_no) else
 (if pc = 35 then in_ald 0 36 else in_no)) else
 (if pc < 37 then
 (if pc = 36 then in_ald 0 37 else in_no) else
 (if pc = 37 then in_ild 1 38 else in_no)))) else
 (if pc < 45 then
 (if pc < 42 then
 (if pc < 39 then
 (if pc = 38 then in_ild 3 39 else in_no) else
 (if pc = 39 then in_v3 YX 3 S_X3_stepOf 42 else in_no)) else
 (if pc < 44 then
 (if pc = 42 then in_ild 4 44 else in_no) else
 (if pc = 44 then in_ild 3 45 else in_no))) else
 (if pc < 48 then
 (if pc < 47 then
 (if pc = 45 then in_push (.int 16) 47 else in_no) else
 (if pc = 47 then in_idv (fun x y => x / y) 48 else in_no)) else
 (if pc < 51 then
 (if pc = 48 then in_v4 YX 3 S_X3_at 51 else in_no) else
 (if pc = 51 then in_ri else in_no))))))
theorem tk_X3_valueOf {l : Launch} {w : ma_Wd} {NC : Nat} {A : Nat → Prop} {S_X3_neighbour S_X3_stepOf S_X3_at : ma_Cs} (h_X3_neighbour : ma_Sd l w YX NC A yX3_neighbour cX3_neighbour 5 (some .int) rm_X3_neighbour S_X3_neighbour) (h_X3_stepOf : ma_Sd l w YX NC A yX3_stepOf cX3_stepOf 3 (some .int) rm_X3_stepOf S_X3_stepOf) (h_X3_at : ma_Sd l w YX NC A yX3_at cX3_at 4 (some .int) rm_X3_at S_X3_at) {p : Program} {e : Env} {s : State} {m : MethodId} {args : Array Value} {below : List Frame} {meth : Method} {c : Code} (X : ma_Cx p s m args meth c w YX NC A yX3_valueOf.cls cX3_valueOf 5 (some .int)) : ∀ pc, ma_Ok p l e rm_X3_valueOf s m args below meth c w YX NC A 5 pc (tb_X3_valueOf S_X3_neighbour S_X3_stepOf S_X3_at pc) := fun pc =>
 (mk_lt
 (mk_lt
 (mk_lt
 (mk_lt
 (mk_eq (mk_aload_n X dX3_valueOf_0 rfl rfl))
 (mk_lt
 (mk_eq (mk_iload_n X dX3_valueOf_1 rfl rfl))
 (mk_eq (mk_iload_n X dX3_valueOf_2 rfl rfl))))
 (mk_lt
 (mk_lt
 (mk_eq (mk_bipush X dX3_valueOf_3 rfl rfl))
 (mk_eq (mk_irem X dX3_valueOf_5 rfl)))
 (mk_lt
 (mk_eq (mk_iconst X dX3_valueOf_6 rfl rfl))
 (mk_eq (mk_idiv X dX3_valueOf_7 rfl)))))
 (mk_lt
 (mk_lt
 (mk_lt
 (mk_eq (mk_V3 X h_X3_neighbour (ci := 3) rfl (lw_V q495 q496 q497 q64 q498) ⟨rfl, by decide, by decide, rfl⟩ ⟨(Nat.le_of_ble_eq_true rfl), (Nat.le_of_ble_eq_true rfl)⟩ dX3_valueOf_8 rfl))
 (mk_eq (mk_istore X dX3_valueOf_11 (Nat.le_of_ble_eq_true rfl) rfl)))
 (mk_lt
 (mk_eq (mk_iload X dX3_valueOf_13 rfl))
 (mk_eq (mk_bipush X dX3_valueOf_15 rfl rfl))))
 (mk_lt
 (mk_lt
 (mk_eq (mk_icne X dX3_valueOf_17 rfl rfl))
 (mk_eq (mk_aload_n X dX3_valueOf_20 rfl rfl)))
 (mk_lt
 (mk_eq (mk_get X (ci := 3) (j := 4) rfl in_X3 (Nat.le_of_ble_eq_true rfl) q171 dX3_valueOf_21 rfl))
 (mk_eq (mk_getN X (ci := 0) (j := 8) rfl in_X0 (Nat.le_of_ble_eq_true rfl) (List.mem_of_getElem? (i := 31) rfl) dX3_valueOf_24 rfl))))))
 (mk_lt
 (mk_lt
 (mk_lt
 (mk_lt
 (mk_eq (mk_iload_n X dX3_valueOf_27 rfl rfl))
 (mk_eq (mk_bipush X dX3_valueOf_28 rfl rfl)))
 (mk_lt
 (mk_eq (mk_idiv X dX3_valueOf_30 rfl))
 (mk_eq (mk_iar X dX3_valueOf_31 rfl))))
 (mk_lt
 (mk_lt
 (mk_eq (mk_goto X dX3_valueOf_32 rfl))
 (mk_eq (mk_aload_n X dX3_valueOf_35 rfl rfl)))
 (mk_lt
 (mk_eq (mk_aload_n X dX3_valueOf_36 rfl rfl))
 (mk_eq (mk_iload_n X dX3_valueOf_37 rfl rfl)))))
 (mk_lt
 (mk_lt
 (mk_lt
 (mk_eq (mk_iload_n X dX3_valueOf_38 rfl rfl))
 (mk_eq (mk_V3 X h_X3_stepOf (ci := 3) rfl (lw_V q536 q538 qs19 q64 q539) ⟨rfl, by decide, by decide, rfl⟩ ⟨(Nat.le_of_ble_eq_true rfl), (Nat.le_of_ble_eq_true rfl)⟩ dX3_valueOf_39 rfl)))
 (mk_lt
 (mk_eq (mk_iload X dX3_valueOf_42 rfl))
 (mk_eq (mk_iload_n X dX3_valueOf_44 rfl rfl))))
 (mk_lt
 (mk_lt
 (mk_eq (mk_bipush X dX3_valueOf_45 rfl rfl))
 (mk_eq (mk_idiv X dX3_valueOf_47 rfl)))
 (mk_lt
 (mk_eq (mk_V4 X h_X3_at (ci := 3) rfl (lw_V q515 q516 q517 q64 q518) ⟨rfl, by decide, by decide, rfl⟩ ⟨(Nat.le_of_ble_eq_true rfl), (Nat.le_of_ble_eq_true rfl)⟩ dX3_valueOf_48 rfl))
 (mk_eq (mk_ri X dX3_valueOf_51)))))))
theorem sd_X3_valueOf {l : Launch} {w : ma_Wd} {NC : Nat} {A : Nat → Prop} {S_X3_neighbour S_X3_stepOf S_X3_at : ma_Cs} (hw : ma_Wo w YX NC A) (h_X3_neighbour : ma_Sd l w YX NC A yX3_neighbour cX3_neighbour 5 (some .int) rm_X3_neighbour S_X3_neighbour) (h_X3_stepOf : ma_Sd l w YX NC A yX3_stepOf cX3_stepOf 3 (some .int) rm_X3_stepOf S_X3_stepOf) (h_X3_at : ma_Sd l w YX NC A yX3_at cX3_at 4 (some .int) rm_X3_at S_X3_at) : ma_Sd l w YX NC A yX3_valueOf cX3_valueOf 5 (some .int) rm_X3_valueOf (ma_rn (tb_X3_valueOf S_X3_neighbour S_X3_stepOf S_X3_at) 5) := ma_of hw (by decide) ⟨rfl, rfl⟩ (fun X => tk_X3_valueOf h_X3_neighbour h_X3_stepOf h_X3_at X)
