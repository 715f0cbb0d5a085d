/-! tables: X2_lineOf X2_copy X2_hasProduct X2_isOwn X2_factors -/
set_option maxRecDepth 100000
set_option maxHeartbeats 4000000
theorem dX2_lineOf_0 : decode cX2_lineOf 0 = .ok (.iconst 0, 1) := by decide +kernel
theorem dX2_lineOf_1 : decode cX2_lineOf 1 = .ok (.istore_n 2, 1) := by decide +kernel
theorem dX2_lineOf_2 : decode cX2_lineOf 2 = .ok (.iload_n 2, 1) := by decide +kernel
theorem dX2_lineOf_3 : decode cX2_lineOf 3 = .ok (.aload_n 0, 1) := by decide +kernel
theorem dX2_lineOf_4 : decode cX2_lineOf 4 = .ok (.getfield 34, 3) := by decide +kernel
theorem dX2_lineOf_7 : decode cX2_lineOf 7 = .ok (.if_icmp .ge 21, 3) := by decide +kernel
theorem dX2_lineOf_10 : decode cX2_lineOf 10 = .ok (.aload_n 0, 1) := by decide +kernel
theorem dX2_lineOf_11 : decode cX2_lineOf 11 = .ok (.getfield 9, 3) := by decide +kernel
theorem dX2_lineOf_14 : decode cX2_lineOf 14 = .ok (.iload_n 2, 1) := by decide +kernel
theorem dX2_lineOf_15 : decode cX2_lineOf 15 = .ok (.iaload, 1) := by decide +kernel
theorem dX2_lineOf_16 : decode cX2_lineOf 16 = .ok (.iload_n 1, 1) := by decide +kernel
theorem dX2_lineOf_17 : decode cX2_lineOf 17 = .ok (.if_icmp .ne 5, 3) := by decide +kernel
theorem dX2_lineOf_20 : decode cX2_lineOf 20 = .ok (.iload_n 2, 1) := by decide +kernel
theorem dX2_lineOf_21 : decode cX2_lineOf 21 = .ok (.ireturn, 1) := by decide +kernel
theorem dX2_lineOf_22 : decode cX2_lineOf 22 = .ok (.iinc 2 1, 3) := by decide +kernel
theorem dX2_lineOf_25 : decode cX2_lineOf 25 = .ok (.goto (-23), 3) := by decide +kernel
theorem dX2_lineOf_28 : decode cX2_lineOf 28 = .ok (.bipush (-4), 2) := by decide +kernel
theorem dX2_lineOf_30 : decode cX2_lineOf 30 = .ok (.ireturn, 1) := by decide +kernel
def tb_X2_lineOf : Nat → ma_In := fun pc =>
 (if pc < 15 then
 (if pc < 4 then
 (if pc < 2 then
 (if pc < 1 then
 (if pc = 0 then in_push (.int 0) 1 else in_no) else
 (if pc = 1 then in_ist 2 2 else in_no)) else
 (if pc < 3 then
 (if pc = 2 then in_ild 2 3 else in_no) else
 (if pc = 3 then in_ald 0 4 else in_no))) else
 (if pc < 10 then
 (if pc < 7 then
 (if pc = 4 then in_get YX 2 0 7 else in_no) else
 (if pc = 7 then in_if2 (fun x y => y ≤ x) 28 10 else in_no)) else
 (if pc < 11 then
 (if pc = 10 then in_ald 0 11 else in_no) else
 (if pc < 14 then
 (if pc = 11 then in_get YX 2 1 14 else in_no) else
 (if pc = 14 then in_ild 2 15 else in_no))))) else
 (if pc < 21 then
 (if pc < 17 then
 (if pc < 16 then
 (if pc = 15 then in_iar YX 16 else in_no) else
 (if pc = 16 then in_ild 1 17 else in_no)) else
 (if pc < 20 then
 (if pc = 17 then in_if2 (fun x y => x = y) 20 22 else in_no) else
 (if pc = 20 then in_ild 2 21 else in_no))) else
 (if pc < 25 then
 (if pc < 22 then
 (if pc = 21 then in_ri else in_no) else
 (if pc = 22 then in_inc 2 1 25 else in_no)) else
 (if pc < 28 then
 (if pc = 25 then in_go 2 else in_no) else
 (if pc < 30 then
 (if pc = 28 then in_push (.int (-4)) 30 else in_no) else
 (if pc = 30 then in_ri else in_no))))))
theorem tk_X2_lineOf {l : Launch} {w : ma_Wd} {NC : Nat} {A : Nat → Prop} {p : Program} {e : Env} {s : State} {m : MethodId} {args : Array Value} {below : List Frame} {meth : Method} {c : Code} (X : ma_Cx p s m args meth c w YX NC A yX2_lineOf.cls cX2_lineOf 3 (some .int)) : ∀ pc, ma_Ok p l e rm_X2_lineOf s m args below meth c w YX NC A 3 pc (tb_X2_lineOf pc) := fun pc =>
 (mk_lt
 (mk_lt
 (mk_lt
 (mk_lt
 (mk_eq (mk_iconst X dX2_lineOf_0 rfl rfl))
 (mk_eq (mk_istore_n X dX2_lineOf_1 rfl (Nat.le_of_ble_eq_true rfl) rfl)))
 (mk_lt
 (mk_eq (mk_iload_n X dX2_lineOf_2 rfl rfl))
 (mk_eq (mk_aload_n X dX2_lineOf_3 rfl rfl))))
 (mk_lt
 (mk_lt
 (mk_eq (mk_get X (ci := 2) (j := 0) rfl in_X2 (Nat.le_of_ble_eq_true rfl) q107 dX2_lineOf_4 rfl))
 (mk_eq (mk_icge X dX2_lineOf_7 rfl rfl)))
 (mk_lt
 (mk_eq (mk_aload_n X dX2_lineOf_10 rfl rfl))
 (mk_lt
 (mk_eq (mk_get X (ci := 2) (j := 1) rfl in_X2 (Nat.le_of_ble_eq_true rfl) q111 dX2_lineOf_11 rfl))
 (mk_eq (mk_iload_n X dX2_lineOf_14 rfl rfl))))))
 (mk_lt
 (mk_lt
 (mk_lt
 (mk_eq (mk_iar X dX2_lineOf_15 rfl))
 (mk_eq (mk_iload_n X dX2_lineOf_16 rfl rfl)))
 (mk_lt
 (mk_eq (mk_icne X dX2_lineOf_17 rfl rfl))
 (mk_eq (mk_iload_n X dX2_lineOf_20 rfl rfl))))
 (mk_lt
 (mk_lt
 (mk_eq (mk_ri X dX2_lineOf_21))
 (mk_eq (mk_iinc X dX2_lineOf_22 rfl (Nat.le_of_ble_eq_true rfl) rfl)))
 (mk_lt
 (mk_eq (mk_goto X dX2_lineOf_25 rfl))
 (mk_lt
 (mk_eq (mk_bipush X dX2_lineOf_28 rfl rfl))
 (mk_eq (mk_ri X dX2_lineOf_30)))))))
theorem sd_X2_lineOf {l : Launch} {w : ma_Wd} {NC : Nat} {A : Nat → Prop} (hw : ma_Wo w YX NC A) : ma_Sd l w YX NC A yX2_lineOf cX2_lineOf 3 (some .int) rm_X2_lineOf (ma_rn (tb_X2_lineOf) 3) := ma_of hw (by decide) ⟨rfl, rfl⟩ (fun X => tk_X2_lineOf  X)
theorem dX2_copy_0 : decode cX2_copy 0 = .ok (.aload_n 0, 1) := by decide +kernel
theorem dX2_copy_1 : decode cX2_copy 1 = .ok (.aload_n 1, 1) := by decide +kernel
theorem dX2_copy_2 : decode cX2_copy 2 = .ok (.getfield 34, 3) := by decide +kernel
theorem dX2_copy_5 : decode cX2_copy 5 = .ok (.putfield 34, 3) := by decide +kernel
theorem dX2_copy_8 : decode cX2_copy 8 = .ok (.aload_n 0, 1) := by decide +kernel
theorem dX2_copy_9 : decode cX2_copy 9 = .ok (.aload_n 1, 1) := by decide +kernel
theorem dX2_copy_10 : decode cX2_copy 10 = .ok (.getfield 38, 3) := by decide +kernel
theorem dX2_copy_13 : decode cX2_copy 13 = .ok (.putfield 38, 3) := by decide +kernel
theorem dX2_copy_16 : decode cX2_copy 16 = .ok (.aload_n 1, 1) := by decide +kernel
theorem dX2_copy_17 : decode cX2_copy 17 = .ok (.getfield 9, 3) := by decide +kernel
theorem dX2_copy_20 : decode cX2_copy 20 = .ok (.iconst 0, 1) := by decide +kernel
theorem dX2_copy_21 : decode cX2_copy 21 = .ok (.aload_n 0, 1) := by decide +kernel
theorem dX2_copy_22 : decode cX2_copy 22 = .ok (.getfield 9, 3) := by decide +kernel
theorem dX2_copy_25 : decode cX2_copy 25 = .ok (.iconst 0, 1) := by decide +kernel
theorem dX2_copy_26 : decode cX2_copy 26 = .ok (.iconst 4, 1) := by decide +kernel
theorem dX2_copy_27 : decode cX2_copy 27 = .ok (.invokestatic 41, 3) := by decide +kernel
theorem dX2_copy_30 : decode cX2_copy 30 = .ok (.aload_n 1, 1) := by decide +kernel
theorem dX2_copy_31 : decode cX2_copy 31 = .ok (.getfield 15, 3) := by decide +kernel
theorem dX2_copy_34 : decode cX2_copy 34 = .ok (.iconst 0, 1) := by decide +kernel
theorem dX2_copy_35 : decode cX2_copy 35 = .ok (.aload_n 0, 1) := by decide +kernel
theorem dX2_copy_36 : decode cX2_copy 36 = .ok (.getfield 15, 3) := by decide +kernel
theorem dX2_copy_39 : decode cX2_copy 39 = .ok (.iconst 0, 1) := by decide +kernel
theorem dX2_copy_40 : decode cX2_copy 40 = .ok (.iconst 5, 1) := by decide +kernel
theorem dX2_copy_41 : decode cX2_copy 41 = .ok (.invokestatic 41, 3) := by decide +kernel
theorem dX2_copy_44 : decode cX2_copy 44 = .ok (.aload_n 1, 1) := by decide +kernel
theorem dX2_copy_45 : decode cX2_copy 45 = .ok (.getfield 18, 3) := by decide +kernel
theorem dX2_copy_48 : decode cX2_copy 48 = .ok (.iconst 0, 1) := by decide +kernel
theorem dX2_copy_49 : decode cX2_copy 49 = .ok (.aload_n 0, 1) := by decide +kernel
theorem dX2_copy_50 : decode cX2_copy 50 = .ok (.getfield 18, 3) := by decide +kernel
theorem dX2_copy_53 : decode cX2_copy 53 = .ok (.iconst 0, 1) := by decide +kernel
theorem dX2_copy_54 : decode cX2_copy 54 = .ok (.iconst 4, 1) := by decide +kernel
theorem dX2_copy_55 : decode cX2_copy 55 = .ok (.invokestatic 41, 3) := by decide +kernel
theorem dX2_copy_58 : decode cX2_copy 58 = .ok (.aload_n 1, 1) := by decide +kernel
theorem dX2_copy_59 : decode cX2_copy 59 = .ok (.getfield 21, 3) := by decide +kernel
theorem dX2_copy_62 : decode cX2_copy 62 = .ok (.iconst 0, 1) := by decide +kernel
theorem dX2_copy_63 : decode cX2_copy 63 = .ok (.aload_n 0, 1) := by decide +kernel
theorem dX2_copy_64 : decode cX2_copy 64 = .ok (.getfield 21, 3) := by decide +kernel
theorem dX2_copy_67 : decode cX2_copy 67 = .ok (.iconst 0, 1) := by decide +kernel
theorem dX2_copy_68 : decode cX2_copy 68 = .ok (.iconst 4, 1) := by decide +kernel
theorem dX2_copy_69 : decode cX2_copy 69 = .ok (.invokestatic 41, 3) := by decide +kernel
theorem dX2_copy_72 : decode cX2_copy 72 = .ok (.aload_n 1, 1) := by decide +kernel
theorem dX2_copy_73 : decode cX2_copy 73 = .ok (.getfield 25, 3) := by decide +kernel
theorem dX2_copy_76 : decode cX2_copy 76 = .ok (.iconst 0, 1) := by decide +kernel
theorem dX2_copy_77 : decode cX2_copy 77 = .ok (.aload_n 0, 1) := by decide +kernel
theorem dX2_copy_78 : decode cX2_copy 78 = .ok (.getfield 25, 3) := by decide +kernel
theorem dX2_copy_81 : decode cX2_copy 81 = .ok (.iconst 0, 1) := by decide +kernel
theorem dX2_copy_82 : decode cX2_copy 82 = .ok (.bipush 80, 2) := by decide +kernel
theorem dX2_copy_84 : decode cX2_copy 84 = .ok (.invokestatic 41, 3) := by decide +kernel
theorem dX2_copy_87 : decode cX2_copy 87 = .ok (.aload_n 1, 1) := by decide +kernel
theorem dX2_copy_88 : decode cX2_copy 88 = .ok (.getfield 28, 3) := by decide +kernel
theorem dX2_copy_91 : decode cX2_copy 91 = .ok (.iconst 0, 1) := by decide +kernel
theorem dX2_copy_92 : decode cX2_copy 92 = .ok (.aload_n 0, 1) := by decide +kernel
theorem dX2_copy_93 : decode cX2_copy 93 = .ok (.getfield 28, 3) := by decide +kernel
theorem dX2_copy_96 : decode cX2_copy 96 = .ok (.iconst 0, 1) := by decide +kernel
theorem dX2_copy_97 : decode cX2_copy 97 = .ok (.bipush 80, 2) := by decide +kernel
theorem dX2_copy_99 : decode cX2_copy 99 = .ok (.invokestatic 41, 3) := by decide +kernel
theorem dX2_copy_102 : decode cX2_copy 102 = .ok (.aload_n 1, 1) := by decide +kernel
theorem dX2_copy_103 : decode cX2_copy 103 = .ok (.getfield 31, 3) := by decide +kernel
theorem dX2_copy_106 : decode cX2_copy 106 = .ok (.iconst 0, 1) := by decide +kernel
theorem dX2_copy_107 : decode cX2_copy 107 = .ok (.aload_n 0, 1) := by decide +kernel
theorem dX2_copy_108 : decode cX2_copy 108 = .ok (.getfield 31, 3) := by decide +kernel
theorem dX2_copy_111 : decode cX2_copy 111 = .ok (.iconst 0, 1) := by decide +kernel
theorem dX2_copy_112 : decode cX2_copy 112 = .ok (.bipush 80, 2) := by decide +kernel
theorem dX2_copy_114 : decode cX2_copy 114 = .ok (.invokestatic 41, 3) := by decide +kernel
theorem dX2_copy_117 : decode cX2_copy 117 = .ok (.return_, 1) := by decide +kernel
def tb_X2_copy : Nat → ma_In := fun pc =>
 (if pc < 58 then
 (if pc < 30 then
 (if pc < 16 then
 (if pc < 8 then
 (if pc < 2 then
 (if pc < 1 then
 (if pc = 0 then in_ald 0 1 else in_no) else
 (if pc = 1 then in_ald 1 2 else in_no)) else
 (if pc < 5 then
 (if pc = 2 then in_get YX 2 0 5 else in_no) else
 (if pc = 5 then in_put YX 2 0 8 else in_no))) else
 (if pc < 10 then
 (if pc < 9 then
 (if pc = 8 then in_ald 0 9 else in_no) else
 (if pc = 9 then in_ald 1 10 else in_no)) else
 (if pc < 13 then
 (if pc = 10 then in_get YX 2 5 13 else in_no) else
 (if pc = 13 then in_put YX 2 5 16 else in_no)))) else
 (if pc < 22 then
 (if pc < 20 then
 (if pc < 17 then
 (if pc = 16 then in_ald 1 17 else in_no) else
 (if pc = 17 then in_get YX 2 1 20 else in_no)) else
 (if pc < 21 then
 (if pc = 20 then in_push (.int 0) 21 else in_no) else
 (if pc = 21 then in_ald 0 22 else in_no))) else
 (if pc < 26 then
 (if pc < 25 then
 (if pc = 22 then in_get YX 2 1 25 else in_no) else
 (if pc = 25 then in_push (.int 0) 26 else in_no)) else
 (if pc < 27 then
 (if pc = 26 then in_push (.int 4) 27 else in_no) else
 (if pc = 27 then in_cpy YX 30 else in_no))))) else
 (if pc < 44 then
 (if pc < 36 then
 (if pc < 34 then
 (if pc < 31 then
 (if pc = 30 then in_ald 1 31 else in_no) else
 (if pc = 31 then in_get YX 2 2 34 else in_no)) else
 (if pc < 35 then
 (if pc = 34 then in_push (.int 0) 35 else in_no) else
 (if pc = 35 then in_ald 0 36 else in_no))) else
 (if pc < 40 then
 (if pc < 39 then
 (if pc = 36 then in_get YX 2 2 39 else in_no) else
 (if pc = 39 then in_push (.int 0) 40 else in_no)) else
 (if pc < 41 then
 (if pc = 40 then in_push (.int 5) 41 else in_no) else
 (if pc = 41 then in_cpy YX 44 else in_no)))) else
 (if pc < 50 then
 (if pc < 48 then
 (if pc < 45 then
 (if pc = 44 then in_ald 1 45 else in_no) else
 (if pc = 45 then in_get YX 2 3 48 else in_no)) else
 (if pc < 49 then
 (if pc = 48 then in_push (.int 0) 49 else in_no) else
 (if pc = 49 then in_ald 0 50 else in_no))) else
 (if pc < 54 then
 (if pc < 53 then
 (if pc = 50 then in_get YX 2 3 53 else in_no) else
 (if pc = 53 then in_push (.int 0) 54 else in_no)) else
 (if pc < 55 then
 (if pc = 54 then in_push (.int 4) 55 else in_no) else
 (if pc = 55 then in_cpy YX 58 else in_no)))))) else
 (if pc < 87 then
 (if pc < 72 then
 (if pc < 64 then
 (if pc < 62 then
 (if pc < 59 then
 (if pc = 58 then in_ald 1 59 else in_no) else
 (if pc = 59 then in_get YX 2 4 62 else in_no)) else
 (if pc < 63 then
 (if pc = 62 then in_push (.int 0) 63 else in_no) else
 (if pc = 63 then in_ald 0 64 else in_no))) else
 (if pc < 68 then
 (if pc < 67 then
 (if pc = 64 then in_get YX 2 4 67 else in_no) else
 (if pc = 67 then in_push (.int 0) 68 else in_no)) else
 (if pc < 69 then
 (if pc = 68 then in_push (.int 4) 69 else in_no) else
 (if pc = 69 then in_cpy YX 72 else in_no)))) else
 (if pc < 78 then
 (if pc < 76 then
 (if pc < 73 then
 (if pc = 72 then in_ald 1 73 else in_no) else
 (if pc = 73 then in_get YX 2 6 76 else in_no)) else
 (if pc < 77 then
 (if pc = 76 then in_push (.int 0) 77 else in_no) else
 (if pc = 77 then in_ald 0 78 else in_no))) else
 (if pc < 82 then
 (if pc < 81 then
 (if pc = 78 then in_get YX 2 6 81 else in_no) else
 (if pc = 81 then in_push (.int 0) 82 else in_no)) else
 (if pc < 84 then
 (if pc = 82 then in_push (.int 80) 84 else in_no) else
 (if pc = 84 then in_cpy YX 87 else in_no))))) else
 (if pc < 102 then
 (if pc < 93 then
 (if pc < 91 then
 (if pc < 88 then
 (if pc = 87 then in_ald 1 88 else in_no) else
 (if pc = 88 then in_get YX 2 7 91 else in_no)) else
 (if pc < 92 then
 (if pc = 91 then in_push (.int 0) 92 else in_no) else
 (if pc = 92 then in_ald 0 93 else in_no))) else
 (if pc < 97 then
 (if pc < 96 then
 (if pc = 93 then in_get YX 2 7 96 else in_no) else
 (if pc = 96 then in_push (.int 0) 97 else in_no)) else
 (if pc < 99 then
 (if pc = 97 then in_push (.int 80) 99 else in_no) else
 (if pc = 99 then in_cpy YX 102 else in_no)))) else
 (if pc < 108 then
 (if pc < 106 then
 (if pc < 103 then
 (if pc = 102 then in_ald 1 103 else in_no) else
 (if pc = 103 then in_get YX 2 8 106 else in_no)) else
 (if pc < 107 then
 (if pc = 106 then in_push (.int 0) 107 else in_no) else
 (if pc = 107 then in_ald 0 108 else in_no))) else
 (if pc < 112 then
 (if pc < 111 then
 (if pc = 108 then in_get YX 2 8 111 else in_no) else
 (if pc = 111 then in_push (.int 0) 112 else in_no)) else
 (if pc < 114 then
 (if pc = 112 then in_push (.int 80) 114 else in_no) else
 (if pc < 117 then
 (if pc = 114 then in_cpy YX 117 else in_no) else
 (if pc = 117 then in_rv else in_no))))))))
theorem tk_X2_copy {l : Launch} {w : ma_Wd} {NC : Nat} {A : Nat → Prop} {p : Program} {e : Env} {s : State} {m : MethodId} {args : Array Value} {below : List Frame} {meth : Method} {c : Code} (X : ma_Cx p s m args meth c w YX NC A yX2_copy.cls cX2_copy 2 none) : ∀ pc, ma_Ok p l e rm_X2_copy s m args below meth c w YX NC A 2 pc (tb_X2_copy pc) := fun pc =>
 (mk_lt
 (mk_lt
 (mk_lt
 (mk_lt
 (mk_lt
 (mk_lt
 (mk_eq (mk_aload_n X dX2_copy_0 rfl rfl))
 (mk_eq (mk_aload_n X dX2_copy_1 rfl rfl)))
 (mk_lt
 (mk_eq (mk_get X (ci := 2) (j := 0) rfl in_X2 (Nat.le_of_ble_eq_true rfl) q107 dX2_copy_2 rfl))
 (mk_eq (mk_put X (ci := 2) (j := 0) rfl in_X2 tyX2_ok nmX2 (Nat.le_of_ble_eq_true rfl) rfl rfl q107 dX2_copy_5 rfl))))
 (mk_lt
 (mk_lt
 (mk_eq (mk_aload_n X dX2_copy_8 rfl rfl))
 (mk_eq (mk_aload_n X dX2_copy_9 rfl rfl)))
 (mk_lt
 (mk_eq (mk_get X (ci := 2) (j := 5) rfl in_X2 (Nat.le_of_ble_eq_true rfl) q126 dX2_copy_10 rfl))
 (mk_eq (mk_put X (ci := 2) (j := 5) rfl in_X2 tyX2_ok nmX2 (Nat.le_of_ble_eq_true rfl) rfl rfl q126 dX2_copy_13 rfl)))))
 (mk_lt
 (mk_lt
 (mk_lt
 (mk_eq (mk_aload_n X dX2_copy_16 rfl rfl))
 (mk_eq (mk_get X (ci := 2) (j := 1) rfl in_X2 (Nat.le_of_ble_eq_true rfl) q111 dX2_copy_17 rfl)))
 (mk_lt
 (mk_eq (mk_iconst X dX2_copy_20 rfl rfl))
 (mk_eq (mk_aload_n X dX2_copy_21 rfl rfl))))
 (mk_lt
 (mk_lt
 (mk_eq (mk_get X (ci := 2) (j := 1) rfl in_X2 (Nat.le_of_ble_eq_true rfl) q111 dX2_copy_22 rfl))
 (mk_eq (mk_iconst X dX2_copy_25 rfl rfl)))
 (mk_lt
 (mk_eq (mk_iconst X dX2_copy_26 rfl rfl))
 (mk_eq (mk_cpy X q447 q449 q448 q68 ⟨(Nat.le_of_ble_eq_true rfl), (Nat.le_of_ble_eq_true rfl)⟩ dX2_copy_27 rfl))))))
 (mk_lt
 (mk_lt
 (mk_lt
 (mk_lt
 (mk_eq (mk_aload_n X dX2_copy_30 rfl rfl))
 (mk_eq (mk_get X (ci := 2) (j := 2) rfl in_X2 (Nat.le_of_ble_eq_true rfl) q114 dX2_copy_31 rfl)))
 (mk_lt
 (mk_eq (mk_iconst X dX2_copy_34 rfl rfl))
 (mk_eq (mk_aload_n X dX2_copy_35 rfl rfl))))
 (mk_lt
 (mk_lt
 (mk_eq (mk_get X (ci := 2) (j := 2) rfl in_X2 (Nat.le_of_ble_eq_true rfl) q114 dX2_copy_36 rfl))
 (mk_eq (mk_iconst X dX2_copy_39 rfl rfl)))
 (mk_lt
 (mk_eq (mk_iconst X dX2_copy_40 rfl rfl))
 (mk_eq (mk_cpy X q447 q449 q448 q68 ⟨(Nat.le_of_ble_eq_true rfl), (Nat.le_of_ble_eq_true rfl)⟩ dX2_copy_41 rfl)))))
 (mk_lt
 (mk_lt
 (mk_lt
 (mk_eq (mk_aload_n X dX2_copy_44 rfl rfl))
 (mk_eq (mk_get X (ci := 2) (j := 3) rfl in_X2 (Nat.le_of_ble_eq_true rfl) q118 dX2_copy_45 rfl)))
 (mk_lt
 (mk_eq (mk_iconst X dX2_copy_48 rfl rfl))
 (mk_eq (mk_aload_n X dX2_copy_49 rfl rfl))))
 (mk_lt
 (mk_lt
 (mk_eq (mk_get X (ci := 2) (j := 3) rfl in_X2 (Nat.le_of_ble_eq_true rfl) q118 dX2_copy_50 rfl))
 (mk_eq (mk_iconst X dX2_copy_53 rfl rfl)))
 (mk_lt
 (mk_eq (mk_iconst X dX2_copy_54 rfl rfl))
 (mk_eq (mk_cpy X q447 q449 q448 q68 ⟨(Nat.le_of_ble_eq_true rfl), (Nat.le_of_ble_eq_true rfl)⟩ dX2_copy_55 rfl)))))))
 (mk_lt
 (mk_lt
 (mk_lt
 (mk_lt
 (mk_lt
 (mk_eq (mk_aload_n X dX2_copy_58 rfl rfl))
 (mk_eq (mk_get X (ci := 2) (j := 4) rfl in_X2 (Nat.le_of_ble_eq_true rfl) q122 dX2_copy_59 rfl)))
 (mk_lt
 (mk_eq (mk_iconst X dX2_copy_62 rfl rfl))
 (mk_eq (mk_aload_n X dX2_copy_63 rfl rfl))))
 (mk_lt
 (mk_lt
 (mk_eq (mk_get X (ci := 2) (j := 4) rfl in_X2 (Nat.le_of_ble_eq_true rfl) q122 dX2_copy_64 rfl))
 (mk_eq (mk_iconst X dX2_copy_67 rfl rfl)))
 (mk_lt
 (mk_eq (mk_iconst X dX2_copy_68 rfl rfl))
 (mk_eq (mk_cpy X q447 q449 q448 q68 ⟨(Nat.le_of_ble_eq_true rfl), (Nat.le_of_ble_eq_true rfl)⟩ dX2_copy_69 rfl)))))
 (mk_lt
 (mk_lt
 (mk_lt
 (mk_eq (mk_aload_n X dX2_copy_72 rfl rfl))
 (mk_eq (mk_get X (ci := 2) (j := 6) rfl in_X2 (Nat.le_of_ble_eq_true rfl) q128 dX2_copy_73 rfl)))
 (mk_lt
 (mk_eq (mk_iconst X dX2_copy_76 rfl rfl))
 (mk_eq (mk_aload_n X dX2_copy_77 rfl rfl))))
 (mk_lt
 (mk_lt
 (mk_eq (mk_get X (ci := 2) (j := 6) rfl in_X2 (Nat.le_of_ble_eq_true rfl) q128 dX2_copy_78 rfl))
 (mk_eq (mk_iconst X dX2_copy_81 rfl rfl)))
 (mk_lt
 (mk_eq (mk_bipush X dX2_copy_82 rfl rfl))
 (mk_eq (mk_cpy X q447 q449 q448 q68 ⟨(Nat.le_of_ble_eq_true rfl), (Nat.le_of_ble_eq_true rfl)⟩ dX2_copy_84 rfl))))))
 (mk_lt
 (mk_lt
 (mk_lt
 (mk_lt
 (mk_eq (mk_aload_n X dX2_copy_87 rfl rfl))
 (mk_eq (mk_get X (ci := 2) (j := 7) rfl in_X2 (Nat.le_of_ble_eq_true rfl) q131 dX2_copy_88 rfl)))
 (mk_lt
 (mk_eq (mk_iconst X dX2_copy_91 rfl rfl))
 (mk_eq (mk_aload_n X dX2_copy_92 rfl rfl))))
 (mk_lt
 (mk_lt
 (mk_eq (mk_get X (ci := 2) (j := 7) rfl in_X2 (Nat.le_of_ble_eq_true rfl) q131 dX2_copy_93 rfl))
 (mk_eq (mk_iconst X dX2_copy_96 rfl rfl)))
 (mk_lt
 (mk_eq (mk_bipush X dX2_copy_97 rfl rfl))
 (mk_eq (mk_cpy X q447 q449 q448 q68 ⟨(Nat.le_of_ble_eq_true rfl), (Nat.le_of_ble_eq_true rfl)⟩ dX2_copy_99 rfl)))))
 (mk_lt
 (mk_lt
 (mk_lt
 (mk_eq (mk_aload_n X dX2_copy_102 rfl rfl))
 (mk_eq (mk_get X (ci := 2) (j := 8) rfl in_X2 (Nat.le_of_ble_eq_true rfl) q134 dX2_copy_103 rfl)))
 (mk_lt
 (mk_eq (mk_iconst X dX2_copy_106 rfl rfl))
 (mk_eq (mk_aload_n X dX2_copy_107 rfl rfl))))
 (mk_lt
 (mk_lt
 (mk_eq (mk_get X (ci := 2) (j := 8) rfl in_X2 (Nat.le_of_ble_eq_true rfl) q134 dX2_copy_108 rfl))
 (mk_eq (mk_iconst X dX2_copy_111 rfl rfl)))
 (mk_lt
 (mk_eq (mk_bipush X dX2_copy_112 rfl rfl))
 (mk_lt
 (mk_eq (mk_cpy X q447 q449 q448 q68 ⟨(Nat.le_of_ble_eq_true rfl), (Nat.le_of_ble_eq_true rfl)⟩ dX2_copy_114 rfl))
 (mk_eq (mk_rv X dX2_copy_117)))))))))
theorem sd_X2_copy {l : Launch} {w : ma_Wd} {NC : Nat} {A : Nat → Prop} (hw : ma_Wo w YX NC A) : ma_Sd l w YX NC A yX2_copy cX2_copy 2 none rm_X2_copy (ma_rn (tb_X2_copy) 2) := ma_of hw (by decide) ⟨rfl, rfl⟩ (fun X => tk_X2_copy  X)
theorem dX2_hasProduct_0 : decode cX2_hasProduct 0 = .ok (.iconst 0, 1) := by decide +kernel
theorem dX2_hasProduct_1 : decode cX2_hasProduct 1 = .ok (.istore_n 2, 1) := by decide +kernel
theorem dX2_hasProduct_2 : decode cX2_hasProduct 2 = .ok (.aload_n 0, 1) := by decide +kernel
theorem dX2_hasProduct_3 : decode cX2_hasProduct 3 = .ok (.getfield 15, 3) := by decide +kernel
theorem dX2_hasProduct_6 : decode cX2_hasProduct 6 = .ok (.iload_n 1, 1) := by decide +kernel
theorem dX2_hasProduct_7 : decode cX2_hasProduct 7 = .ok (.iaload, 1) := by decide +kernel
theorem dX2_hasProduct_8 : decode cX2_hasProduct 8 = .ok (.istore_n 3, 1) := by decide +kernel
theorem dX2_hasProduct_9 : decode cX2_hasProduct 9 = .ok (.iload_n 3, 1) := by decide +kernel
theorem dX2_hasProduct_10 : decode cX2_hasProduct 10 = .ok (.aload_n 0, 1) := by decide +kernel
theorem dX2_hasProduct_11 : decode cX2_hasProduct 11 = .ok (.getfield 15, 3) := by decide +kernel
theorem dX2_hasProduct_14 : decode cX2_hasProduct 14 = .ok (.iload_n 1, 1) := by decide +kernel
theorem dX2_hasProduct_15 : decode cX2_hasProduct 15 = .ok (.iconst 1, 1) := by decide +kernel
theorem dX2_hasProduct_16 : decode cX2_hasProduct 16 = .ok (.iadd, 1) := by decide +kernel
theorem dX2_hasProduct_17 : decode cX2_hasProduct 17 = .ok (.iaload, 1) := by decide +kernel
theorem dX2_hasProduct_18 : decode cX2_hasProduct 18 = .ok (.if_icmp .ge 28, 3) := by decide +kernel
theorem dX2_hasProduct_21 : decode cX2_hasProduct 21 = .ok (.iload_n 2, 1) := by decide +kernel
theorem dX2_hasProduct_22 : decode cX2_hasProduct 22 = .ok (.aload_n 0, 1) := by decide +kernel
theorem dX2_hasProduct_23 : decode cX2_hasProduct 23 = .ok (.getfield 31, 3) := by decide +kernel
theorem dX2_hasProduct_26 : decode cX2_hasProduct 26 = .ok (.iload_n 3, 1) := by decide +kernel
theorem dX2_hasProduct_27 : decode cX2_hasProduct 27 = .ok (.iaload, 1) := by decide +kernel
theorem dX2_hasProduct_28 : decode cX2_hasProduct 28 = .ok (.bipush (-4), 2) := by decide +kernel
theorem dX2_hasProduct_30 : decode cX2_hasProduct 30 = .ok (.if_icmp .eq 7, 3) := by decide +kernel
theorem dX2_hasProduct_33 : decode cX2_hasProduct 33 = .ok (.iconst 1, 1) := by decide +kernel
theorem dX2_hasProduct_34 : decode cX2_hasProduct 34 = .ok (.goto 4, 3) := by decide +kernel
theorem dX2_hasProduct_37 : decode cX2_hasProduct 37 = .ok (.iconst 0, 1) := by decide +kernel
theorem dX2_hasProduct_38 : decode cX2_hasProduct 38 = .ok (.ior, 1) := by decide +kernel
theorem dX2_hasProduct_39 : decode cX2_hasProduct 39 = .ok (.istore_n 2, 1) := by decide +kernel
theorem dX2_hasProduct_40 : decode cX2_hasProduct 40 = .ok (.iinc 3 1, 3) := by decide +kernel
theorem dX2_hasProduct_43 : decode cX2_hasProduct 43 = .ok (.goto (-34), 3) := by decide +kernel
theorem dX2_hasProduct_46 : decode cX2_hasProduct 46 = .ok (.iload_n 2, 1) := by decide +kernel
theorem dX2_hasProduct_47 : decode cX2_hasProduct 47 = .ok (.ireturn, 1) := by decide +kernel
def tb_X2_hasProduct : Nat → ma_In := fun pc =>
 (if pc < 21 then
 (if pc < 9 then
 (if pc < 3 then
 (if pc < 1 then
 (if pc = 0 then in_push (.int 0) 1 else in_no) else
 (if pc < 2 then
 (if pc = 1 then in_ist 2 2 else in_no) else
 (if pc = 2 then in_ald 0 3 else in_no))) else
 (if pc < 7 then
 (if pc < 6 then
 (if pc = 3 then in_get YX 2 2 6 else in_no) else
 (if pc = 6 then in_ild 1 7 else in_no)) else
 (if pc < 8 then
 (if pc = 7 then in_iar YX 8 else in_no) else
 (if pc = 8 then in_ist 3 9 else in_no)))) else
 (if pc < 15 then
 (if pc < 11 then
 (if pc < 10 then
 (if pc = 9 then in_ild 3 10 else in_no) else
 (if pc = 10 then in_ald 0 11 else in_no)) else
 (if pc < 14 then
 (if pc = 11 then in_get YX 2 2 14 else in_no) else
 (if pc = 14 then in_ild 1 15 else in_no))) else
 (if pc < 17 then
 (if pc < 16 then
 (if pc = 15 then in_push (.int 1) 16 else in_no) else
 (if pc = 16 then in_iii (fun x y => x + y) 17 else in_no)) else
 (if pc < 18 then
 (if pc = 17 then in_iar YX 18 else in_no) else
 (if pc = 18 then in_if2 (fun x y => y ≤ x) 46 21 else in_no))))) else
 (if pc < 34 then
 (if pc < 27 then
 (if pc < 23 then
 (if pc < 22 then
 (if pc = 21 then in_ild 2 22 else in_no) else
 (if pc = 22 then in_ald 0 23 else in_no)) else
 (if pc < 26 then
 (if pc = 23 then in_get YX 2 8 26 else in_no) else
 (if pc = 26 then in_ild 3 27 else in_no))) else
 (if pc < 30 then
 (if pc < 28 then
 (if pc = 27 then in_iar YX 28 else in_no) else
 (if pc = 28 then in_push (.int (-4)) 30 else in_no)) else
 (if pc < 33 then
 (if pc = 30 then in_if2 (fun x y => x = y) 37 33 else in_no) else
 (if pc = 33 then in_push (.int 1) 34 else in_no)))) else
 (if pc < 40 then
 (if pc < 38 then
 (if pc < 37 then
 (if pc = 34 then in_go 38 else in_no) else
 (if pc = 37 then in_push (.int 0) 38 else in_no)) else
 (if pc < 39 then
 (if pc = 38 then in_iii (fun x y => x ||| y) 39 else in_no) else
 (if pc = 39 then in_ist 2 40 else in_no))) else
 (if pc < 46 then
 (if pc < 43 then
 (if pc = 40 then in_inc 3 1 43 else in_no) else
 (if pc = 43 then in_go 9 else in_no)) else
 (if pc < 47 then
 (if pc = 46 then in_ild 2 47 else in_no) else
 (if pc = 47 then in_rz else in_no))))))
theorem tk_X2_hasProduct {l : Launch} {w : ma_Wd} {NC : Nat} {A : Nat → Prop} {p : Program} {e : Env} {s : State} {m : MethodId} {args : Array Value} {below : List Frame} {meth : Method} {c : Code} (X : ma_Cx p s m args meth c w YX NC A yX2_hasProduct.cls cX2_hasProduct 4 (some .boolean)) : ∀ pc, ma_Ok p l e rm_X2_hasProduct s m args below meth c w YX NC A 4 pc (tb_X2_hasProduct pc) := fun pc =>
 (mk_lt
 (mk_lt
 (mk_lt
 (mk_lt
 (mk_eq (mk_iconst X dX2_hasProduct_0 rfl rfl))
 (mk_lt
 (mk_eq (mk_istore_n X dX2_hasProduct_1 rfl (Nat.le_of_ble_eq_true rfl) rfl))
 (mk_eq (mk_aload_n X dX2_hasProduct_2 rfl rfl))))
 (mk_lt
 (mk_lt
 (mk_eq (mk_get X (ci := 2) (j := 2) rfl in_X2 (Nat.le_of_ble_eq_true rfl) q114 dX2_hasProduct_3 rfl))
 (mk_eq (mk_iload_n X dX2_hasProduct_6 rfl rfl)))
 (mk_lt
 (mk_eq (mk_iar X dX2_hasProduct_7 rfl))
 (mk_eq (mk_istore_n X dX2_hasProduct_8 rfl (Nat.le_of_ble_eq_true rfl) rfl)))))
 (mk_lt
 (mk_lt
 (mk_lt
 (mk_eq (mk_iload_n X dX2_hasProduct_9 rfl rfl))
 (mk_eq (mk_aload_n X dX2_hasProduct_10 rfl rfl)))
 (mk_lt
 (mk_eq (mk_get X (ci := 2) (j := 2) rfl in_X2 (Nat.le_of_ble_eq_true rfl) q114 dX2_hasProduct_11 rfl))
 (mk_eq (mk_iload_n X dX2_hasProduct_14 rfl rfl))))
 (mk_lt
 (mk_lt
 (mk_eq (mk_iconst X dX2_hasProduct_15 rfl rfl))
 (mk_eq (mk_iadd X dX2_hasProduct_16 rfl)))
 (mk_lt
 (mk_eq (mk_iar X dX2_hasProduct_17 rfl))
 (mk_eq (mk_icge X dX2_hasProduct_18 rfl rfl))))))
 (mk_lt
 (mk_lt
 (mk_lt
 (mk_lt
 (mk_eq (mk_iload_n X dX2_hasProduct_21 rfl rfl))
 (mk_eq (mk_aload_n X dX2_hasProduct_22 rfl rfl)))
 (mk_lt
 (mk_eq (mk_get X (ci := 2) (j := 8) rfl in_X2 (Nat.le_of_ble_eq_true rfl) q134 dX2_hasProduct_23 rfl))
 (mk_eq (mk_iload_n X dX2_hasProduct_26 rfl rfl))))
 (mk_lt
 (mk_lt
 (mk_eq (mk_iar X dX2_hasProduct_27 rfl))
 (mk_eq (mk_bipush X dX2_hasProduct_28 rfl rfl)))
 (mk_lt
 (mk_eq (mk_iceq X dX2_hasProduct_30 rfl rfl))
 (mk_eq (mk_iconst X dX2_hasProduct_33 rfl rfl)))))
 (mk_lt
 (mk_lt
 (mk_lt
 (mk_eq (mk_goto X dX2_hasProduct_34 rfl))
 (mk_eq (mk_iconst X dX2_hasProduct_37 rfl rfl)))
 (mk_lt
 (mk_eq (mk_ior X dX2_hasProduct_38 rfl))
 (mk_eq (mk_istore_n X dX2_hasProduct_39 rfl (Nat.le_of_ble_eq_true rfl) rfl))))
 (mk_lt
 (mk_lt
 (mk_eq (mk_iinc X dX2_hasProduct_40 rfl (Nat.le_of_ble_eq_true rfl) rfl))
 (mk_eq (mk_goto X dX2_hasProduct_43 rfl)))
 (mk_lt
 (mk_eq (mk_iload_n X dX2_hasProduct_46 rfl rfl))
 (mk_eq (mk_rz X dX2_hasProduct_47)))))))
theorem sd_X2_hasProduct {l : Launch} {w : ma_Wd} {NC : Nat} {A : Nat → Prop} (hw : ma_Wo w YX NC A) : ma_Sd l w YX NC A yX2_hasProduct cX2_hasProduct 4 (some .boolean) rm_X2_hasProduct (ma_rn (tb_X2_hasProduct) 4) := ma_of hw (by decide) ⟨rfl, rfl⟩ (fun X => tk_X2_hasProduct  X)
theorem dX2_isOwn_0 : decode cX2_isOwn 0 = .ok (.iconst 1, 1) := by decide +kernel
theorem dX2_isOwn_1 : decode cX2_isOwn 1 = .ok (.istore_n 2, 1) := by decide +kernel
theorem dX2_isOwn_2 : decode cX2_isOwn 2 = .ok (.aload_n 0, 1) := by decide +kernel
theorem dX2_isOwn_3 : decode cX2_isOwn 3 = .ok (.getfield 15, 3) := by decide +kernel
theorem dX2_isOwn_6 : decode cX2_isOwn 6 = .ok (.iload_n 1, 1) := by decide +kernel
theorem dX2_isOwn_7 : decode cX2_isOwn 7 = .ok (.iaload, 1) := by decide +kernel
theorem dX2_isOwn_8 : decode cX2_isOwn 8 = .ok (.istore_n 3, 1) := by decide +kernel
theorem dX2_isOwn_9 : decode cX2_isOwn 9 = .ok (.iload_n 3, 1) := by decide +kernel
theorem dX2_isOwn_10 : decode cX2_isOwn 10 = .ok (.aload_n 0, 1) := by decide +kernel
theorem dX2_isOwn_11 : decode cX2_isOwn 11 = .ok (.getfield 15, 3) := by decide +kernel
theorem dX2_isOwn_14 : decode cX2_isOwn 14 = .ok (.iload_n 1, 1) := by decide +kernel
theorem dX2_isOwn_15 : decode cX2_isOwn 15 = .ok (.iconst 1, 1) := by decide +kernel
theorem dX2_isOwn_16 : decode cX2_isOwn 16 = .ok (.iadd, 1) := by decide +kernel
theorem dX2_isOwn_17 : decode cX2_isOwn 17 = .ok (.iaload, 1) := by decide +kernel
theorem dX2_isOwn_18 : decode cX2_isOwn 18 = .ok (.if_icmp .ge 46, 3) := by decide +kernel
theorem dX2_isOwn_21 : decode cX2_isOwn 21 = .ok (.iload_n 2, 1) := by decide +kernel
theorem dX2_isOwn_22 : decode cX2_isOwn 22 = .ok (.aload_n 0, 1) := by decide +kernel
theorem dX2_isOwn_23 : decode cX2_isOwn 23 = .ok (.getfield 28, 3) := by decide +kernel
theorem dX2_isOwn_26 : decode cX2_isOwn 26 = .ok (.iload_n 3, 1) := by decide +kernel
theorem dX2_isOwn_27 : decode cX2_isOwn 27 = .ok (.iaload, 1) := by decide +kernel
theorem dX2_isOwn_28 : decode cX2_isOwn 28 = .ok (.bipush 16, 2) := by decide +kernel
theorem dX2_isOwn_30 : decode cX2_isOwn 30 = .ok (.idiv, 1) := by decide +kernel
theorem dX2_isOwn_31 : decode cX2_isOwn 31 = .ok (.aload_n 0, 1) := by decide +kernel
theorem dX2_isOwn_32 : decode cX2_isOwn 32 = .ok (.getfield 9, 3) := by decide +kernel
theorem dX2_isOwn_35 : decode cX2_isOwn 35 = .ok (.iload_n 1, 1) := by decide +kernel
theorem dX2_isOwn_36 : decode cX2_isOwn 36 = .ok (.iaload, 1) := by decide +kernel
theorem dX2_isOwn_37 : decode cX2_isOwn 37 = .ok (.if_icmp .ne 18, 3) := by decide +kernel
theorem dX2_isOwn_40 : decode cX2_isOwn 40 = .ok (.aload_n 0, 1) := by decide +kernel
theorem dX2_isOwn_41 : decode cX2_isOwn 41 = .ok (.getfield 28, 3) := by decide +kernel
theorem dX2_isOwn_44 : decode cX2_isOwn 44 = .ok (.iload_n 3, 1) := by decide +kernel
theorem dX2_isOwn_45 : decode cX2_isOwn 45 = .ok (.iaload, 1) := by decide +kernel
theorem dX2_isOwn_46 : decode cX2_isOwn 46 = .ok (.iconst 2, 1) := by decide +kernel
theorem dX2_isOwn_47 : decode cX2_isOwn 47 = .ok (.irem, 1) := by decide +kernel
theorem dX2_isOwn_48 : decode cX2_isOwn 48 = .ok (.ifCond .ne 7, 3) := by decide +kernel
theorem dX2_isOwn_51 : decode cX2_isOwn 51 = .ok (.iconst 1, 1) := by decide +kernel
theorem dX2_isOwn_52 : decode cX2_isOwn 52 = .ok (.goto 4, 3) := by decide +kernel
theorem dX2_isOwn_55 : decode cX2_isOwn 55 = .ok (.iconst 0, 1) := by decide +kernel
theorem dX2_isOwn_56 : decode cX2_isOwn 56 = .ok (.iand, 1) := by decide +kernel
theorem dX2_isOwn_57 : decode cX2_isOwn 57 = .ok (.istore_n 2, 1) := by decide +kernel
theorem dX2_isOwn_58 : decode cX2_isOwn 58 = .ok (.iinc 3 1, 3) := by decide +kernel
theorem dX2_isOwn_61 : decode cX2_isOwn 61 = .ok (.goto (-52), 3) := by decide +kernel
theorem dX2_isOwn_64 : decode cX2_isOwn 64 = .ok (.iload_n 2, 1) := by decide +kernel
theorem dX2_isOwn_65 : decode cX2_isOwn 65 = .ok (.ireturn, 1) := by decide +kernel
def tb_X2_isOwn : Nat → ma_In := fun pc =>
 (if pc < 30 then
 (if pc < 14 then
 (if pc < 7 then
 (if pc < 2 then
 (if pc < 1 then
 (if pc = 0 then in_push (.int 1) 1 else in_no) else
 (if pc = 1 then in_ist 2 2 else in_no)) else
 (if pc < 3 then
 (if pc = 2 then in_ald 0 3 else in_no) else
 (if pc < 6 then
 (if pc = 3 then in_get YX 2 2 6 else in_no) else
 (if pc = 6 then in_ild 1 7 else in_no)))) else
 (if pc < 9 then
 (if pc < 8 then
 (if pc = 7 then in_iar YX 8 else in_no) else
 (if pc = 8 then in_ist 3 9 else in_no)) else
 (if pc < 10 then
 (if pc = 9 then in_ild 3 10 else in_no) else
 (if pc < 11 then
 (if pc = 10 then in_ald 0 11 else in_no) else
 (if pc = 11 then in_get YX 2 2 14 else in_no))))) else
 (if pc < 21 then
 (if pc < 16 then
 (if pc < 15 then
 (if pc = 14 then in_ild 1 15 else in_no) else
 (if pc = 15 then in_push (.int 1) 16 else in_no)) else
 (if pc < 17 then
 (if pc = 16 then in_iii (fun x y => x + y) 17 else in_no) else
 (if pc < 18 then
 (if pc = 17 then in_iar YX 18 else in_no) else
 (if pc = 18 then in_if2 (fun x y => y ≤ x) 64 21 else in_no)))) else
 (if pc < 26 then
 (if pc < 22 then
 (if pc = 21 then in_ild 2 22 else in_no) else
 (if pc < 23 then
 (if pc = 22 then in_ald 0 23 else in_no) else
 (if pc = 23 then in_get YX 2 7 26 else in_no))) else
 (if pc < 27 then
 (if pc = 26 then in_ild 3 27 else in_no) else
 (if pc < 28 then
 (if pc = 27 then in_iar YX 28 else in_no) else
 (if pc = 28 then in_push (.int 16) 30 else in_no)))))) else
 (if pc < 47 then
 (if pc < 37 then
 (if pc < 32 then
 (if pc < 31 then
 (if pc = 30 then in_idv (fun x y => x / y) 31 else in_no) else
 (if pc = 31 then in_ald 0 32 else in_no)) else
 (if pc < 35 then
 (if pc = 32 then in_get YX 2 1 35 else in_no) else
 (if pc < 36 then
 (if pc = 35 then in_ild 1 36 else in_no) else
 (if pc = 36 then in_iar YX 37 else in_no)))) else
 (if pc < 44 then
 (if pc < 40 then
 (if pc = 37 then in_if2 (fun x y => x = y) 40 55 else in_no) else
 (if pc < 41 then
 (if pc = 40 then in_ald 0 41 else in_no) else
 (if pc = 41 then in_get YX 2 7 44 else in_no))) else
 (if pc < 45 then
 (if pc = 44 then in_ild 3 45 else in_no) else
 (if pc < 46 then
 (if pc = 45 then in_iar YX 46 else in_no) else
 (if pc = 46 then in_push (.int 2) 47 else in_no))))) else
 (if pc < 56 then
 (if pc < 51 then
 (if pc < 48 then
 (if pc = 47 then in_idv (fun x y => x - x / y * y) 48 else in_no) else
 (if pc = 48 then in_if1 (fun x => x = 0) 51 55 else in_no)) else
 (if pc < 52 then
 (if pc = 51 then in_push (.int 1) 52 else in_no) else
 (if pc < 55 then
 (if pc = 52 then in_go 56 else in_no) else
 (if pc = 55 then in_push (.int 0) 56 else in_no)))) else
 (if pc < 61 then
 (if pc < 57 then
 (if pc = 56 then in_iii (fun x y => x &&& y) 57 else in_no) else
 (if pc < 58 then
 (if pc = 57 then in_ist 2 58 else in_no) else
 (if pc = 58 then in_inc 3 1 61 else in_no))) else
 (if pc < 64 then
 (if pc = 61 then in_go 9 else in_no) else
 (if pc < 65 then
 (if pc = 64 then in_ild 2 65 else in_no) else
 (if pc = 65 then in_rz else in_no)))))))
theorem tk_X2_isOwn {l : Launch} {w : ma_Wd} {NC : Nat} {A : Nat → Prop} {p : Program} {e : Env} {s : State} {m : MethodId} {args : Array Value} {below : List Frame} {meth : Method} {c : Code} (X : ma_Cx p s m args meth c w YX NC A yX2_isOwn.cls cX2_isOwn 4 (some .boolean)) : ∀ pc, ma_Ok p l e rm_X2_isOwn s m args below meth c w YX NC A 4 pc (tb_X2_isOwn pc) := fun pc =>
 (mk_lt
 (mk_lt
 (mk_lt
 (mk_lt
 (mk_lt
 (mk_eq (mk_iconst X dX2_isOwn_0 rfl rfl))
 (mk_eq (mk_istore_n X dX2_isOwn_1 rfl (Nat.le_of_ble_eq_true rfl) rfl)))
 (mk_lt
 (mk_eq (mk_aload_n X dX2_isOwn_2 rfl rfl))
 (mk_lt
 (mk_eq (mk_get X (ci := 2) (j := 2) rfl in_X2 (Nat.le_of_ble_eq_true rfl) q114 dX2_isOwn_3 rfl))
 (mk_eq (mk_iload_n X dX2_isOwn_6 rfl rfl)))))
 (mk_lt
 (mk_lt
 (mk_eq (mk_iar X dX2_isOwn_7 rfl))
 (mk_eq (mk_istore_n X dX2_isOwn_8 rfl (Nat.le_of_ble_eq_true rfl) rfl)))
 (mk_lt
 (mk_eq (mk_iload_n X dX2_isOwn_9 rfl rfl))
 (mk_lt
 (mk_eq (mk_aload_n X dX2_isOwn_10 rfl rfl))
 (mk_eq (mk_get X (ci := 2) (j := 2) rfl in_X2 (Nat.le_of_ble_eq_true rfl) q114 dX2_isOwn_11 rfl))))))
 (mk_lt
 (mk_lt
 (mk_lt
 (mk_eq (mk_iload_n X dX2_isOwn_14 rfl rfl))
 (mk_eq (mk_iconst X dX2_isOwn_15 rfl rfl)))
 (mk_lt
 (mk_eq (mk_iadd X dX2_isOwn_16 rfl))
 (mk_lt
 (mk_eq (mk_iar X dX2_isOwn_17 rfl))
 (mk_eq (mk_icge X dX2_isOwn_18 rfl rfl)))))
 (mk_lt
 (mk_lt
 (mk_eq (mk_iload_n X dX2_isOwn_21 rfl rfl))
 (mk_lt
 (mk_eq (mk_aload_n X dX2_isOwn_22 rfl rfl))
 (mk_eq (mk_get X (ci := 2) (j := 7) rfl in_X2 (Nat.le_of_ble_eq_true rfl) q131 dX2_isOwn_23 rfl))))
 (mk_lt
 (mk_eq (mk_iload_n X dX2_isOwn_26 rfl rfl))
 (mk_lt
 (mk_eq (mk_iar X dX2_isOwn_27 rfl))
 (mk_eq (mk_bipush X dX2_isOwn_28 rfl rfl)))))))
 (mk_lt
 (mk_lt
 (mk_lt
 (mk_lt
 (mk_eq (mk_idiv X dX2_isOwn_30 rfl))
 (mk_eq (mk_aload_n X dX2_isOwn_31 rfl rfl)))
 (mk_lt
 (mk_eq (mk_get X (ci := 2) (j := 1) rfl in_X2 (Nat.le_of_ble_eq_true rfl) q111 dX2_isOwn_32 rfl))
 (mk_lt
 (mk_eq (mk_iload_n X dX2_isOwn_35 rfl rfl))
 (mk_eq (mk_iar X dX2_isOwn_36 rfl)))))
 (mk_lt
 (mk_lt
 (mk_eq (mk_icne X dX2_isOwn_37 rfl rfl))
 (mk_lt
 (mk_eq (mk_aload_n X dX2_isOwn_40 rfl rfl))
 (mk_eq (mk_get X (ci := 2) (j := 7) rfl in_X2 (Nat.le_of_ble_eq_true rfl) q131 dX2_isOwn_41 rfl))))
 (mk_lt
 (mk_eq (mk_iload_n X dX2_isOwn_44 rfl rfl))
 (mk_lt
 (mk_eq (mk_iar X dX2_isOwn_45 rfl))
 (mk_eq (mk_iconst X dX2_isOwn_46 rfl rfl))))))
 (mk_lt
 (mk_lt
 (mk_lt
 (mk_eq (mk_irem X dX2_isOwn_47 rfl))
 (mk_eq (mk_ifne X dX2_isOwn_48 rfl rfl)))
 (mk_lt
 (mk_eq (mk_iconst X dX2_isOwn_51 rfl rfl))
 (mk_lt
 (mk_eq (mk_goto X dX2_isOwn_52 rfl))
 (mk_eq (mk_iconst X dX2_isOwn_55 rfl rfl)))))
 (mk_lt
 (mk_lt
 (mk_eq (mk_iand X dX2_isOwn_56 rfl))
 (mk_lt
 (mk_eq (mk_istore_n X dX2_isOwn_57 rfl (Nat.le_of_ble_eq_true rfl) rfl))
 (mk_eq (mk_iinc X dX2_isOwn_58 rfl (Nat.le_of_ble_eq_true rfl) rfl))))
 (mk_lt
 (mk_eq (mk_goto X dX2_isOwn_61 rfl))
 (mk_lt
 (mk_eq (mk_iload_n X dX2_isOwn_64 rfl rfl))
 (mk_eq (mk_rz X dX2_isOwn_65))))))))
theorem sd_X2_isOwn {l : Launch} {w : ma_Wd} {NC : Nat} {A : Nat → Prop} (hw : ma_Wo w YX NC A) : ma_Sd l w YX NC A yX2_isOwn cX2_isOwn 4 (some .boolean) rm_X2_isOwn (ma_rn (tb_X2_isOwn) 4) := ma_of hw (by decide) ⟨rfl, rfl⟩ (fun X => tk_X2_isOwn  X)
theorem dX2_factors_0 : decode cX2_factors 0 = .ok (.iconst 0, 1) := by decide +kernel
theorem dX2_factors_1 : decode cX2_factors 1 = .ok (.istore_n 3, 1) := by decide +kernel
theorem dX2_factors_2 : decode cX2_factors 2 = .ok (.aload_n 0, 1) := by decide +kernel
theorem dX2_factors_3 : decode cX2_factors 3 = .ok (.getfield 15, 3) := by decide +kernel
theorem dX2_factors_6 : decode cX2_factors 6 = .ok (.iload_n 1, 1) := by decide +kernel
theorem dX2_factors_7 : decode cX2_factors 7 = .ok (.iaload, 1) := by decide +kernel
theorem dX2_factors_8 : decode cX2_factors 8 = .ok (.istore 4, 2) := by decide +kernel
theorem dX2_factors_10 : decode cX2_factors 10 = .ok (.iload 4, 2) := by decide +kernel
theorem dX2_factors_12 : decode cX2_factors 12 = .ok (.aload_n 0, 1) := by decide +kernel
theorem dX2_factors_13 : decode cX2_factors 13 = .ok (.getfield 15, 3) := by decide +kernel
theorem dX2_factors_16 : decode cX2_factors 16 = .ok (.iload_n 1, 1) := by decide +kernel
theorem dX2_factors_17 : decode cX2_factors 17 = .ok (.iconst 1, 1) := by decide +kernel
theorem dX2_factors_18 : decode cX2_factors 18 = .ok (.iadd, 1) := by decide +kernel
theorem dX2_factors_19 : decode cX2_factors 19 = .ok (.iaload, 1) := by decide +kernel
theorem dX2_factors_20 : decode cX2_factors 20 = .ok (.if_icmp .ge 36, 3) := by decide +kernel
theorem dX2_factors_23 : decode cX2_factors 23 = .ok (.iload_n 3, 1) := by decide +kernel
theorem dX2_factors_24 : decode cX2_factors 24 = .ok (.iload_n 2, 1) := by decide +kernel
theorem dX2_factors_25 : decode cX2_factors 25 = .ok (.ifCond .eq 16, 3) := by decide +kernel
theorem dX2_factors_28 : decode cX2_factors 28 = .ok (.aload_n 0, 1) := by decide +kernel
theorem dX2_factors_29 : decode cX2_factors 29 = .ok (.getfield 25, 3) := by decide +kernel
theorem dX2_factors_32 : decode cX2_factors 32 = .ok (.iload 4, 2) := by decide +kernel
theorem dX2_factors_34 : decode cX2_factors 34 = .ok (.iaload, 1) := by decide +kernel
theorem dX2_factors_35 : decode cX2_factors 35 = .ok (.invokestatic 47, 3) := by decide +kernel
theorem dX2_factors_38 : decode cX2_factors 38 = .ok (.goto 10, 3) := by decide +kernel
theorem dX2_factors_41 : decode cX2_factors 41 = .ok (.aload_n 0, 1) := by decide +kernel
theorem dX2_factors_42 : decode cX2_factors 42 = .ok (.getfield 25, 3) := by decide +kernel
theorem dX2_factors_45 : decode cX2_factors 45 = .ok (.iload 4, 2) := by decide +kernel
theorem dX2_factors_47 : decode cX2_factors 47 = .ok (.iaload, 1) := by decide +kernel
theorem dX2_factors_48 : decode cX2_factors 48 = .ok (.iadd, 1) := by decide +kernel
theorem dX2_factors_49 : decode cX2_factors 49 = .ok (.istore_n 3, 1) := by decide +kernel
theorem dX2_factors_50 : decode cX2_factors 50 = .ok (.iinc 4 1, 3) := by decide +kernel
theorem dX2_factors_53 : decode cX2_factors 53 = .ok (.goto (-43), 3) := by decide +kernel
theorem dX2_factors_56 : decode cX2_factors 56 = .ok (.iload_n 3, 1) := by decide +kernel
theorem dX2_factors_57 : decode cX2_factors 57 = .ok (.ireturn, 1) := by decide +kernel
def tb_X2_factors (S_J0_abs_2 : ma_Cs) : Nat → ma_In := fun pc =>
 (if pc < 25 then
 (if pc < 12 then
 (if pc < 6 then
 (if pc < 2 then
 (if pc < 1 then
 (if pc = 0 then in_push (.int 0) 1 else in_no) else
 (if pc = 1 then in_ist 3 2 else in_no)) else
 (if pc < 3 then
 (if pc = 2 then in_ald 0 3 else in_no) else
 (if pc = 3 then in_get YX 2 2 6 else in_no))) else
 (if pc < 8 then
 (if pc < 7 then
 (if pc = 6 then in_ild 1 7 else in_no) else
 (if pc = 7 then in_iar YX 8 else in_no)) else
 (if pc < 10 then
 (if pc = 8 then in_ist 4 10 else in_no) else
 (if pc = 10 then in_ild 4 12 else in_no)))) else
 (if pc < 18 then
 (if pc < 16 then
 (if pc < 13 then
 (if pc = 12 then in_ald 0 13 else in_no) else
 (if pc = 13 then in_get YX 2 2 16 else in_no)) else
 (if pc < 17 then
 (if pc = 16 then in_ild 1 17 else in_no) else
 (if pc = 17 then in_push (.int 1) 18 else in_no))) else
 (if pc < 20 then
 (if pc < 19 then
 (if pc = 18 then in_iii (fun x y => x + y) 19 else in_no) else
 (if pc = 19 then in_iar YX 20 else in_no)) else
 (if pc < 23 then
 (if pc = 20 then in_if2 (fun x y => y ≤ x) 56 23 else in_no) else
 (if pc < 24 then
 (if pc = 23 then in_ild 3 24 else in_no) else
 (if pc = 24 then in_ild 2 25 else in_no)))))) else
 (if pc < 42 then
 (if pc < 34 then
 (if pc < 29 then
 (if pc < 28 then
 (if pc = 25 then in_if1 (fun x => x = 0) 41 28 else in_no) else
 (if pc = 28 then in_ald 0 29 else in_no)) else
 (if pc < 32 then
 (if pc = 29 then in_get YX 2 6 32 else in_no) else
 (if pc = 32 then in_ild 4 34 else in_no))) else
 (if pc < 38 then
 (if pc < 35 then
 (if pc = 34 then in_iar YX 35 else in_no) else
 (if pc = 35 then in_s1 S_J0_abs_2 38 else in_no)) else
 (if pc < 41 then
 (if pc = 38 then in_go 48 else in_no) else
 (if pc = 41 then in_ald 0 42 else in_no)))) else
 (if pc < 49 then
 (if pc < 47 then
 (if pc < 45 then
 (if pc = 42 then in_get YX 2 6 45 else in_no) else
 (if pc = 45 then in_ild 4 47 else in_no)) else
 (if pc < 48 then
 (if pc = 47 then in_iar YX 48 else in_no) else
 (if pc = 48 then in_iii (fun x y => x + y) 49 else in_no))) else
 (if pc < 53 then
 (if pc < 50 then
 (if pc = 49 then in_ist 3 50 else in_no) else
 (if pc = 50 then in_inc 4 1 53 else in_no)) else
 (if pc < 56 then
 (if pc = 53 then in_go 10 else in_no) else
 (if pc < 57 then
 (if pc = 56 then in_ild 3 57 else in_no) else
 (if pc = 57 then in_ri else in_no)))))))
theorem tk_X2_factors {l : Launch} {w : ma_Wd} {NC : Nat} {A : Nat → Prop} {S_J0_abs_2 : ma_Cs} (h_J0_abs_2 : ma_Sd l w YX NC A yJ0_abs_2 cJ0_abs_2 1 (some .int) rm_J0_abs_2 S_J0_abs_2) {p : Program} {e : Env} {s : State} {m : MethodId} {args : Array Value} {below : List Frame} {meth : Method} {c : Code} (X : ma_Cx p s m args meth c w YX NC A yX2_factors.cls cX2_factors 5 (some .int)) : ∀ pc, ma_Ok p l e rm_X2_factors s m args below meth c w YX NC A 5 pc (tb_X2_factors S_J0_abs_2 pc) := fun pc =>
 (mk_lt
 (mk_lt
 (mk_lt
 (mk_lt
 (mk_lt
 (mk_eq (mk_iconst X dX2_factors_0 rfl rfl))
 (mk_eq (mk_istore_n X dX2_factors_1 rfl (Nat.le_of_ble_eq_true rfl) rfl)))
 (mk_lt
 (mk_eq (mk_aload_n X dX2_factors_2 rfl rfl))
 (mk_eq (mk_get X (ci := 2) (j := 2) rfl in_X2 (Nat.le_of_ble_eq_true rfl) q114 dX2_factors_3 rfl))))
 (mk_lt
 (mk_lt
 (mk_eq (mk_iload_n X dX2_factors_6 rfl rfl))
 (mk_eq (mk_iar X dX2_factors_7 rfl)))
 (mk_lt
 (mk_eq (mk_istore X dX2_factors_8 (Nat.le_of_ble_eq_true rfl) rfl))
 (mk_eq (mk_iload X dX2_factors_10 rfl)))))
 (mk_lt
 (mk_lt
 (mk_lt
 (mk_eq (mk_aload_n X dX2_factors_12 rfl rfl))
 (mk_eq (mk_get X (ci := 2) (j := 2) rfl in_X2 (Nat.le_of_ble_eq_true rfl) q114 dX2_factors_13 rfl)))
 (mk_lt
 (mk_eq (mk_iload_n X dX2_factors_16 rfl rfl))
 (mk_eq (mk_iconst X dX2_factors_17 rfl rfl))))
 (mk_lt
 (mk_lt
 (mk_eq (mk_iadd X dX2_factors_18 rfl))
 (mk_eq (mk_iar X dX2_factors_19 rfl)))
 (mk_lt
 (mk_eq (mk_icge X dX2_factors_20 rfl rfl))
 (mk_lt
 (mk_eq (mk_iload_n X dX2_factors_23 rfl rfl))
 (mk_eq (mk_iload_n X dX2_factors_24 rfl rfl)))))))
 (mk_lt
 (mk_lt
 (mk_lt
 (mk_lt
 (mk_eq (mk_ifeq X dX2_factors_25 rfl rfl))
 (mk_eq (mk_aload_n X dX2_factors_28 rfl rfl)))
 (mk_lt
 (mk_eq (mk_get X (ci := 2) (j := 6) rfl in_X2 (Nat.le_of_ble_eq_true rfl) q128 dX2_factors_29 rfl))
 (mk_eq (mk_iload X dX2_factors_32 rfl))))
 (mk_lt
 (mk_lt
 (mk_eq (mk_iar X dX2_factors_34 rfl))
 (mk_eq (mk_S1 X h_J0_abs_2 (lw_S q592 q593 q67 q594) ⟨by decide, by decide, rfl⟩ ⟨(Nat.le_of_ble_eq_true rfl), (Nat.le_of_ble_eq_true rfl)⟩ dX2_factors_35 rfl)))
 (mk_lt
 (mk_eq (mk_goto X dX2_factors_38 rfl))
 (mk_eq (mk_aload_n X dX2_factors_41 rfl rfl)))))
 (mk_lt
 (mk_lt
 (mk_lt
 (mk_eq (mk_get X (ci := 2) (j := 6) rfl in_X2 (Nat.le_of_ble_eq_true rfl) q128 dX2_factors_42 rfl))
 (mk_eq (mk_iload X dX2_factors_45 rfl)))
 (mk_lt
 (mk_eq (mk_iar X dX2_factors_47 rfl))
 (mk_eq (mk_iadd X dX2_factors_48 rfl))))
 (mk_lt
 (mk_lt
 (mk_eq (mk_istore_n X dX2_factors_49 rfl (Nat.le_of_ble_eq_true rfl) rfl))
 (mk_eq (mk_iinc X dX2_factors_50 rfl (Nat.le_of_ble_eq_true rfl) rfl)))
 (mk_lt
 (mk_eq (mk_goto X dX2_factors_53 rfl))
 (mk_lt
 (mk_eq (mk_iload_n X dX2_factors_56 rfl rfl))
 (mk_eq (mk_ri X dX2_factors_57))))))))
theorem sd_X2_factors {l : Launch} {w : ma_Wd} {NC : Nat} {A : Nat → Prop} {S_J0_abs_2 : ma_Cs} (hw : ma_Wo w YX NC A) (h_J0_abs_2 : ma_Sd l w YX NC A yJ0_abs_2 cJ0_abs_2 1 (some .int) rm_J0_abs_2 S_J0_abs_2) : ma_Sd l w YX NC A yX2_factors cX2_factors 5 (some .int) rm_X2_factors (ma_rn (tb_X2_factors S_J0_abs_2) 5) := ma_of hw (by decide) ⟨rfl, rfl⟩ (fun X => tk_X2_factors h_J0_abs_2 X)
