/-! tables: X3_beginCoarse X3_meanOf -/
set_option maxRecDepth 100000
set_option maxHeartbeats 4000000
theorem dX3_beginCoarse_0 : decode cX3_beginCoarse 0 = .ok (.aload_n 0, 1) := by decide +kernel
theorem dX3_beginCoarse_1 : decode cX3_beginCoarse 1 = .ok (.aload_n 1, 1) := by decide +kernel
theorem dX3_beginCoarse_2 : decode cX3_beginCoarse 2 = .ok (.getfield 27, 3) := by decide +kernel
theorem dX3_beginCoarse_5 : decode cX3_beginCoarse 5 = .ok (.iconst 2, 1) := by decide +kernel
theorem dX3_beginCoarse_6 : decode cX3_beginCoarse 6 = .ok (.idiv, 1) := by decide +kernel
theorem dX3_beginCoarse_7 : decode cX3_beginCoarse 7 = .ok (.putfield 27, 3) := by decide +kernel
theorem dX3_beginCoarse_10 : decode cX3_beginCoarse 10 = .ok (.aload_n 0, 1) := by decide +kernel
theorem dX3_beginCoarse_11 : decode cX3_beginCoarse 11 = .ok (.aload_n 1, 1) := by decide +kernel
theorem dX3_beginCoarse_12 : decode cX3_beginCoarse 12 = .ok (.getfield 31, 3) := by decide +kernel
theorem dX3_beginCoarse_15 : decode cX3_beginCoarse 15 = .ok (.iconst 2, 1) := by decide +kernel
theorem dX3_beginCoarse_16 : decode cX3_beginCoarse 16 = .ok (.idiv, 1) := by decide +kernel
theorem dX3_beginCoarse_17 : decode cX3_beginCoarse 17 = .ok (.putfield 31, 3) := by decide +kernel
theorem dX3_beginCoarse_20 : decode cX3_beginCoarse 20 = .ok (.iconst 0, 1) := by decide +kernel
theorem dX3_beginCoarse_21 : decode cX3_beginCoarse 21 = .ok (.istore_n 2, 1) := by decide +kernel
theorem dX3_beginCoarse_22 : decode cX3_beginCoarse 22 = .ok (.iload_n 2, 1) := by decide +kernel
theorem dX3_beginCoarse_23 : decode cX3_beginCoarse 23 = .ok (.aload_n 0, 1) := by decide +kernel
theorem dX3_beginCoarse_24 : decode cX3_beginCoarse 24 = .ok (.getfield 27, 3) := by decide +kernel
theorem dX3_beginCoarse_27 : decode cX3_beginCoarse 27 = .ok (.aload_n 0, 1) := by decide +kernel
theorem dX3_beginCoarse_28 : decode cX3_beginCoarse 28 = .ok (.getfield 31, 3) := by decide +kernel
theorem dX3_beginCoarse_31 : decode cX3_beginCoarse 31 = .ok (.imul, 1) := by decide +kernel
theorem dX3_beginCoarse_32 : decode cX3_beginCoarse 32 = .ok (.if_icmp .ge 38, 3) := by decide +kernel
theorem dX3_beginCoarse_35 : decode cX3_beginCoarse 35 = .ok (.iconst 0, 1) := by decide +kernel
theorem dX3_beginCoarse_36 : decode cX3_beginCoarse 36 = .ok (.istore_n 3, 1) := by decide +kernel
theorem dX3_beginCoarse_37 : decode cX3_beginCoarse 37 = .ok (.iload_n 3, 1) := by decide +kernel
theorem dX3_beginCoarse_38 : decode cX3_beginCoarse 38 = .ok (.iconst 4, 1) := by decide +kernel
theorem dX3_beginCoarse_39 : decode cX3_beginCoarse 39 = .ok (.if_icmp .ge 25, 3) := by decide +kernel
theorem dX3_beginCoarse_42 : decode cX3_beginCoarse 42 = .ok (.aload_n 0, 1) := by decide +kernel
theorem dX3_beginCoarse_43 : decode cX3_beginCoarse 43 = .ok (.iconst 0, 1) := by decide +kernel
theorem dX3_beginCoarse_44 : decode cX3_beginCoarse 44 = .ok (.iload_n 2, 1) := by decide +kernel
theorem dX3_beginCoarse_45 : decode cX3_beginCoarse 45 = .ok (.iload_n 3, 1) := by decide +kernel
theorem dX3_beginCoarse_46 : decode cX3_beginCoarse 46 = .ok (.aload_n 0, 1) := by decide +kernel
theorem dX3_beginCoarse_47 : decode cX3_beginCoarse 47 = .ok (.aload_n 1, 1) := by decide +kernel
theorem dX3_beginCoarse_48 : decode cX3_beginCoarse 48 = .ok (.iconst 0, 1) := by decide +kernel
theorem dX3_beginCoarse_49 : decode cX3_beginCoarse 49 = .ok (.iload_n 2, 1) := by decide +kernel
theorem dX3_beginCoarse_50 : decode cX3_beginCoarse 50 = .ok (.iload_n 3, 1) := by decide +kernel
theorem dX3_beginCoarse_51 : decode cX3_beginCoarse 51 = .ok (.invokevirtual 158, 3) := by decide +kernel
theorem dX3_beginCoarse_54 : decode cX3_beginCoarse 54 = .ok (.iconst 0, 1) := by decide +kernel
theorem dX3_beginCoarse_55 : decode cX3_beginCoarse 55 = .ok (.invokevirtual 121, 3) := by decide +kernel
theorem dX3_beginCoarse_58 : decode cX3_beginCoarse 58 = .ok (.iinc 3 1, 3) := by decide +kernel
theorem dX3_beginCoarse_61 : decode cX3_beginCoarse 61 = .ok (.goto (-24), 3) := by decide +kernel
theorem dX3_beginCoarse_64 : decode cX3_beginCoarse 64 = .ok (.iinc 2 1, 3) := by decide +kernel
theorem dX3_beginCoarse_67 : decode cX3_beginCoarse 67 = .ok (.goto (-45), 3) := by decide +kernel
theorem dX3_beginCoarse_70 : decode cX3_beginCoarse 70 = .ok (.return_, 1) := by decide +kernel
def tb_X3_beginCoarse (S_X3_meanOf S_X3_put : ma_Cs) : Nat → ma_In := fun pc =>
 (if pc < 35 then
 (if pc < 16 then
 (if pc < 7 then
 (if pc < 2 then
 (if pc < 1 then
 (if pc = 0 then in_ald 0 1 else in_no) else
 (if pc = 1 then in_ald 1 2 else in_no)) else
 (if pc < 5 then
 (if pc = 2 then in_get YX 3 0 5 else in_no) else
 (if pc < 6 then
 (if pc = 5 then in_push (.int 2) 6 else in_no) else
 (if pc = 6 then in_idv (fun x y => x / y) 7 else in_no)))) else
 (if pc < 11 then
 (if pc < 10 then
 (if pc = 7 then in_put YX 3 0 10 else in_no) else
 (if pc = 10 then in_ald 0 11 else in_no)) else
 (if pc < 12 then
 (if pc = 11 then in_ald 1 12 else in_no) else
 (if pc < 15 then
 (if pc = 12 then in_get YX 3 1 15 else in_no) else
 (if pc = 15 then in_push (.int 2) 16 else in_no))))) else
 (if pc < 23 then
 (if pc < 20 then
 (if pc < 17 then
 (if pc = 16 then in_idv (fun x y => x / y) 17 else in_no) else
 (if pc = 17 then in_put YX 3 1 20 else in_no)) else
 (if pc < 21 then
 (if pc = 20 then in_push (.int 0) 21 else in_no) else
 (if pc < 22 then
 (if pc = 21 then in_ist 2 22 else in_no) else
 (if pc = 22 then in_ild 2 23 else in_no)))) else
 (if pc < 28 then
 (if pc < 24 then
 (if pc = 23 then in_ald 0 24 else in_no) else
 (if pc < 27 then
 (if pc = 24 then in_get YX 3 0 27 else in_no) else
 (if pc = 27 then in_ald 0 28 else in_no))) else
 (if pc < 31 then
 (if pc = 28 then in_get YX 3 1 31 else in_no) else
 (if pc < 32 then
 (if pc = 31 then in_iii (fun x y => x * y) 32 else in_no) else
 (if pc = 32 then in_if2 (fun x y => y ≤ x) 70 35 else in_no)))))) else
 (if pc < 48 then
 (if pc < 42 then
 (if pc < 37 then
 (if pc < 36 then
 (if pc = 35 then in_push (.int 0) 36 else in_no) else
 (if pc = 36 then in_ist 3 37 else in_no)) else
 (if pc < 38 then
 (if pc = 37 then in_ild 3 38 else in_no) else
 (if pc < 39 then
 (if pc = 38 then in_push (.int 4) 39 else in_no) else
 (if pc = 39 then in_if2 (fun x y => y ≤ x) 64 42 else in_no)))) else
 (if pc < 45 then
 (if pc < 43 then
 (if pc = 42 then in_ald 0 43 else in_no) else
 (if pc < 44 then
 (if pc = 43 then in_push (.int 0) 44 else in_no) else
 (if pc = 44 then in_ild 2 45 else in_no))) else
 (if pc < 46 then
 (if pc = 45 then in_ild 3 46 else in_no) else
 (if pc < 47 then
 (if pc = 46 then in_ald 0 47 else in_no) else
 (if pc = 47 then in_ald 1 48 else in_no))))) else
 (if pc < 55 then
 (if pc < 50 then
 (if pc < 49 then
 (if pc = 48 then in_push (.int 0) 49 else in_no) else
 (if pc = 49 then in_ild 2 50 else in_no)) else
 (if pc < 51 then
 (if pc = 50 then in_ild 3 51 else in_no) else
 (if pc < 54 then
 (if pc = 51 then in_v5 YX 3 S_X3_meanOf 54 else in_no) else
 (if pc = 54 then in_push (.int 0) 55 else in_no)))) else
 (if pc < 64 then
 (if pc < 58 then
 (if pc = 55 then in_v6 YX 3 S_X3_put 58 else in_no) else
 (if pc < 61 then
 (if pc = 58 then in_inc 3 1 61 else in_no) else
 (if pc = 61 then in_go 37 else in_no))) else
 (if pc < 67 then
 (if pc = 64 then in_inc 2 1 67 else in_no) else
 (if pc < 70 then
 (if pc = 67 then in_go 22 else in_no) else
 (if pc = 70 then in_rv else in_no)))))))
theorem tk_X3_beginCoarse {l : Launch} {w : ma_Wd} {NC : Nat} {A : Nat → Prop} {S_X3_meanOf S_X3_put : ma_Cs} (h_X3_meanOf : ma_Sd l w YX NC A yX3_meanOf cX3_meanOf 11 (some .int) rm_X3_meanOf S_X3_meanOf) (h_X3_put : ma_Sd l w YX NC A yX3_put cX3_put 6 none rm_X3_put S_X3_put) {p : Program} {e : Env} {s : State} {m : MethodId} {args : Array Value} {below : List Frame} {meth : Method} {c : Code} (X : ma_Cx p s m args meth c w YX NC A yX3_beginCoarse.cls cX3_beginCoarse 4 none) : ∀ pc, ma_Ok p l e rm_X3_beginCoarse s m args below meth c w YX NC A 4 pc (tb_X3_beginCoarse S_X3_meanOf S_X3_put pc) := fun pc =>
 (mk_lt
 (mk_lt
 (mk_lt
 (mk_lt
 (mk_lt
 (mk_eq (mk_aload_n X dX3_beginCoarse_0 rfl rfl))
 (mk_eq (mk_aload_n X dX3_beginCoarse_1 rfl rfl)))
 (mk_lt
 (mk_eq (mk_get X (ci := 3) (j := 0) rfl in_X3 (Nat.le_of_ble_eq_true rfl) q164 dX3_beginCoarse_2 rfl))
 (mk_lt
 (mk_eq (mk_iconst X dX3_beginCoarse_5 rfl rfl))
 (mk_eq (mk_idiv X dX3_beginCoarse_6 rfl)))))
 (mk_lt
 (mk_lt
 (mk_eq (mk_put X (ci := 3) (j := 0) rfl in_X3 tyX3_ok nmX3 (Nat.le_of_ble_eq_true rfl) rfl rfl q164 dX3_beginCoarse_7 rfl))
 (mk_eq (mk_aload_n X dX3_beginCoarse_10 rfl rfl)))
 (mk_lt
 (mk_eq (mk_aload_n X dX3_beginCoarse_11 rfl rfl))
 (mk_lt
 (mk_eq (mk_get X (ci := 3) (j := 1) rfl in_X3 (Nat.le_of_ble_eq_true rfl) q166 dX3_beginCoarse_12 rfl))
 (mk_eq (mk_iconst X dX3_beginCoarse_15 rfl rfl))))))
 (mk_lt
 (mk_lt
 (mk_lt
 (mk_eq (mk_idiv X dX3_beginCoarse_16 rfl))
 (mk_eq (mk_put X (ci := 3) (j := 1) rfl in_X3 tyX3_ok nmX3 (Nat.le_of_ble_eq_true rfl) rfl rfl q166 dX3_beginCoarse_17 rfl)))
 (mk_lt
 (mk_eq (mk_iconst X dX3_beginCoarse_20 rfl rfl))
 (mk_lt
 (mk_eq (mk_istore_n X dX3_beginCoarse_21 rfl (Nat.le_of_ble_eq_true rfl) rfl))
 (mk_eq (mk_iload_n X dX3_beginCoarse_22 rfl rfl)))))
 (mk_lt
 (mk_lt
 (mk_eq (mk_aload_n X dX3_beginCoarse_23 rfl rfl))
 (mk_lt
 (mk_eq (mk_get X (ci := 3) (j := 0) rfl in_X3 (Nat.le_of_ble_eq_true rfl) q164 dX3_beginCoarse_24 rfl))
 (mk_eq (mk_aload_n X dX3_beginCoarse_27 rfl rfl))))
 (mk_lt
 (mk_eq (mk_get X (ci := 3) (j := 1) rfl in_X3 (Nat.le_of_ble_eq_true rfl) q166 dX3_beginCoarse_28 rfl))
 (mk_lt
 (mk_eq (mk_imul X dX3_beginCoarse_31 rfl))
 (mk_eq (mk_icge X dX3_beginCoarse_32 rfl rfl)))))))
 (mk_lt
 (mk_lt
 (mk_lt
 (mk_lt
 (mk_eq (mk_iconst X dX3_beginCoarse_35 rfl rfl))
 (mk_eq (mk_istore_n X dX3_beginCoarse_36 rfl (Nat.le_of_ble_eq_true rfl) rfl)))
 (mk_lt
 (mk_eq (mk_iload_n X dX3_beginCoarse_37 rfl rfl))
 (mk_lt
 (mk_eq (mk_iconst X dX3_beginCoarse_38 rfl rfl))
 (mk_eq (mk_icge X dX3_beginCoarse_39 rfl rfl)))))
 (mk_lt
 (mk_lt
 (mk_eq (mk_aload_n X dX3_beginCoarse_42 rfl rfl))
 (mk_lt
 (mk_eq (mk_iconst X dX3_beginCoarse_43 rfl rfl))
 (mk_eq (mk_iload_n X dX3_beginCoarse_44 rfl rfl))))
 (mk_lt
 (mk_eq (mk_iload_n X dX3_beginCoarse_45 rfl rfl))
 (mk_lt
 (mk_eq (mk_aload_n X dX3_beginCoarse_46 rfl rfl))
 (mk_eq (mk_aload_n X dX3_beginCoarse_47 rfl rfl))))))
 (mk_lt
 (mk_lt
 (mk_lt
 (mk_eq (mk_iconst X dX3_beginCoarse_48 rfl rfl))
 (mk_eq (mk_iload_n X dX3_beginCoarse_49 rfl rfl)))
 (mk_lt
 (mk_eq (mk_iload_n X dX3_beginCoarse_50 rfl rfl))
 (mk_lt
 (mk_eq (mk_V5 X h_X3_meanOf (ci := 3) rfl (lw_V q702 q704 qs27 q64 q705) ⟨rfl, by decide, by decide, rfl⟩ ⟨(Nat.le_of_ble_eq_true rfl), (Nat.le_of_ble_eq_true rfl)⟩ dX3_beginCoarse_51 rfl))
 (mk_eq (mk_iconst X dX3_beginCoarse_54 rfl rfl)))))
 (mk_lt
 (mk_lt
 (mk_eq (mk_V6 X h_X3_put (ci := 3) rfl (lw_V q502 q504 qs15 q64 q505) ⟨rfl, by decide, by decide, rfl⟩ ⟨(Nat.le_of_ble_eq_true rfl), (Nat.le_of_ble_eq_true rfl)⟩ dX3_beginCoarse_55 rfl))
 (mk_lt
 (mk_eq (mk_iinc X dX3_beginCoarse_58 rfl (Nat.le_of_ble_eq_true rfl) rfl))
 (mk_eq (mk_goto X dX3_beginCoarse_61 rfl))))
 (mk_lt
 (mk_eq (mk_iinc X dX3_beginCoarse_64 rfl (Nat.le_of_ble_eq_true rfl) rfl))
 (mk_lt
 (mk_eq (mk_goto X dX3_beginCoarse_67 rfl))
 (mk_eq (mk_rv X dX3_beginCoarse_70))))))))
theorem sd_X3_beginCoarse {l : Launch} {w : ma_Wd} {NC : Nat} {A : Nat → Prop} {S_X3_meanOf S_X3_put : ma_Cs} (hw : ma_Wo w YX NC A) (h_X3_meanOf : ma_Sd l w YX NC A yX3_meanOf cX3_meanOf 11 (some .int) rm_X3_meanOf S_X3_meanOf) (h_X3_put : ma_Sd l w YX NC A yX3_put cX3_put 6 none rm_X3_put S_X3_put) : ma_Sd l w YX NC A yX3_beginCoarse cX3_beginCoarse 4 none rm_X3_beginCoarse (ma_rn (tb_X3_beginCoarse S_X3_meanOf S_X3_put) 4) := ma_of hw (by decide) ⟨rfl, rfl⟩ (fun X => tk_X3_beginCoarse h_X3_meanOf h_X3_put X)
theorem dX3_meanOf_0 : decode cX3_meanOf 0 = .ok (.iload_n 3, 1) := by decide +kernel
theorem dX3_meanOf_1 : decode cX3_meanOf 1 = .ok (.aload_n 0, 1) := by decide +kernel
theorem dX3_meanOf_2 : decode cX3_meanOf 2 = .ok (.getfield 27, 3) := by decide +kernel
theorem dX3_meanOf_5 : decode cX3_meanOf 5 = .ok (.irem, 1) := by decide +kernel
theorem dX3_meanOf_6 : decode cX3_meanOf 6 = .ok (.iconst 2, 1) := by decide +kernel
theorem dX3_meanOf_7 : decode cX3_meanOf 7 = .ok (.imul, 1) := by decide +kernel
theorem dX3_meanOf_8 : decode cX3_meanOf 8 = .ok (.istore 5, 2) := by decide +kernel
theorem dX3_meanOf_10 : decode cX3_meanOf 10 = .ok (.iload_n 3, 1) := by decide +kernel
theorem dX3_meanOf_11 : decode cX3_meanOf 11 = .ok (.aload_n 0, 1) := by decide +kernel
theorem dX3_meanOf_12 : decode cX3_meanOf 12 = .ok (.getfield 27, 3) := by decide +kernel
theorem dX3_meanOf_15 : decode cX3_meanOf 15 = .ok (.idiv, 1) := by decide +kernel
theorem dX3_meanOf_16 : decode cX3_meanOf 16 = .ok (.iconst 2, 1) := by decide +kernel
theorem dX3_meanOf_17 : decode cX3_meanOf 17 = .ok (.imul, 1) := by decide +kernel
theorem dX3_meanOf_18 : decode cX3_meanOf 18 = .ok (.istore 6, 2) := by decide +kernel
theorem dX3_meanOf_20 : decode cX3_meanOf 20 = .ok (.lconst 0, 1) := by decide +kernel
theorem dX3_meanOf_21 : decode cX3_meanOf 21 = .ok (.lstore 7, 2) := by decide +kernel
theorem dX3_meanOf_23 : decode cX3_meanOf 23 = .ok (.iconst 0, 1) := by decide +kernel
theorem dX3_meanOf_24 : decode cX3_meanOf 24 = .ok (.istore 9, 2) := by decide +kernel
theorem dX3_meanOf_26 : decode cX3_meanOf 26 = .ok (.iload 9, 2) := by decide +kernel
theorem dX3_meanOf_28 : decode cX3_meanOf 28 = .ok (.iconst 4, 1) := by decide +kernel
theorem dX3_meanOf_29 : decode cX3_meanOf 29 = .ok (.if_icmp .ge 56, 3) := by decide +kernel
theorem dX3_meanOf_32 : decode cX3_meanOf 32 = .ok (.aload_n 1, 1) := by decide +kernel
theorem dX3_meanOf_33 : decode cX3_meanOf 33 = .ok (.iload_n 2, 1) := by decide +kernel
theorem dX3_meanOf_34 : decode cX3_meanOf 34 = .ok (.aload_n 1, 1) := by decide +kernel
theorem dX3_meanOf_35 : decode cX3_meanOf 35 = .ok (.getfield 27, 3) := by decide +kernel
theorem dX3_meanOf_38 : decode cX3_meanOf 38 = .ok (.iload 6, 2) := by decide +kernel
theorem dX3_meanOf_40 : decode cX3_meanOf 40 = .ok (.iload 9, 2) := by decide +kernel
theorem dX3_meanOf_42 : decode cX3_meanOf 42 = .ok (.iconst 2, 1) := by decide +kernel
theorem dX3_meanOf_43 : decode cX3_meanOf 43 = .ok (.idiv, 1) := by decide +kernel
theorem dX3_meanOf_44 : decode cX3_meanOf 44 = .ok (.iadd, 1) := by decide +kernel
theorem dX3_meanOf_45 : decode cX3_meanOf 45 = .ok (.imul, 1) := by decide +kernel
theorem dX3_meanOf_46 : decode cX3_meanOf 46 = .ok (.iload 5, 2) := by decide +kernel
theorem dX3_meanOf_48 : decode cX3_meanOf 48 = .ok (.iadd, 1) := by decide +kernel
theorem dX3_meanOf_49 : decode cX3_meanOf 49 = .ok (.iload 9, 2) := by decide +kernel
theorem dX3_meanOf_51 : decode cX3_meanOf 51 = .ok (.iconst 2, 1) := by decide +kernel
theorem dX3_meanOf_52 : decode cX3_meanOf 52 = .ok (.irem, 1) := by decide +kernel
theorem dX3_meanOf_53 : decode cX3_meanOf 53 = .ok (.iadd, 1) := by decide +kernel
theorem dX3_meanOf_54 : decode cX3_meanOf 54 = .ok (.iload 4, 2) := by decide +kernel
theorem dX3_meanOf_56 : decode cX3_meanOf 56 = .ok (.invokevirtual 47, 3) := by decide +kernel
theorem dX3_meanOf_59 : decode cX3_meanOf 59 = .ok (.istore 10, 2) := by decide +kernel
theorem dX3_meanOf_61 : decode cX3_meanOf 61 = .ok (.iload 10, 2) := by decide +kernel
theorem dX3_meanOf_63 : decode cX3_meanOf 63 = .ok (.ldc 68, 2) := by decide +kernel
theorem dX3_meanOf_65 : decode cX3_meanOf 65 = .ok (.if_icmp .ne 6, 3) := by decide +kernel
theorem dX3_meanOf_68 : decode cX3_meanOf 68 = .ok (.ldc 68, 2) := by decide +kernel
theorem dX3_meanOf_70 : decode cX3_meanOf 70 = .ok (.ireturn, 1) := by decide +kernel
theorem dX3_meanOf_71 : decode cX3_meanOf 71 = .ok (.lload 7, 2) := by decide +kernel
theorem dX3_meanOf_73 : decode cX3_meanOf 73 = .ok (.iload 10, 2) := by decide +kernel
theorem dX3_meanOf_75 : decode cX3_meanOf 75 = .ok (.i2l, 1) := by decide +kernel
theorem dX3_meanOf_76 : decode cX3_meanOf 76 = .ok (.ladd, 1) := by decide +kernel
theorem dX3_meanOf_77 : decode cX3_meanOf 77 = .ok (.lstore 7, 2) := by decide +kernel
theorem dX3_meanOf_79 : decode cX3_meanOf 79 = .ok (.iinc 9 1, 3) := by decide +kernel
theorem dX3_meanOf_82 : decode cX3_meanOf 82 = .ok (.goto (-56), 3) := by decide +kernel
theorem dX3_meanOf_85 : decode cX3_meanOf 85 = .ok (.lload 7, 2) := by decide +kernel
theorem dX3_meanOf_87 : decode cX3_meanOf 87 = .ok (.ldc2_w 156, 3) := by decide +kernel
theorem dX3_meanOf_90 : decode cX3_meanOf 90 = .ok (.invokestatic 88, 3) := by decide +kernel
theorem dX3_meanOf_93 : decode cX3_meanOf 93 = .ok (.l2i, 1) := by decide +kernel
theorem dX3_meanOf_94 : decode cX3_meanOf 94 = .ok (.ireturn, 1) := by decide +kernel
def tb_X3_meanOf (S_X3_at S_J0_floorDiv_2 : ma_Cs) : Nat → ma_In := fun pc =>
 (if pc < 43 then
 (if pc < 20 then
 (if pc < 10 then
 (if pc < 5 then
 (if pc < 1 then
 (if pc = 0 then in_ild 3 1 else in_no) else
 (if pc < 2 then
 (if pc = 1 then in_ald 0 2 else in_no) else
 (if pc = 2 then in_get YX 3 0 5 else in_no))) else
 (if pc < 7 then
 (if pc < 6 then
 (if pc = 5 then in_idv (fun x y => x - x / y * y) 6 else in_no) else
 (if pc = 6 then in_push (.int 2) 7 else in_no)) else
 (if pc < 8 then
 (if pc = 7 then in_iii (fun x y => x * y) 8 else in_no) else
 (if pc = 8 then in_ist 5 10 else in_no)))) else
 (if pc < 15 then
 (if pc < 11 then
 (if pc = 10 then in_ild 3 11 else in_no) else
 (if pc < 12 then
 (if pc = 11 then in_ald 0 12 else in_no) else
 (if pc = 12 then in_get YX 3 0 15 else in_no))) else
 (if pc < 17 then
 (if pc < 16 then
 (if pc = 15 then in_idv (fun x y => x / y) 16 else in_no) else
 (if pc = 16 then in_push (.int 2) 17 else in_no)) else
 (if pc < 18 then
 (if pc = 17 then in_iii (fun x y => x * y) 18 else in_no) else
 (if pc = 18 then in_ist 6 20 else in_no))))) else
 (if pc < 32 then
 (if pc < 24 then
 (if pc < 21 then
 (if pc = 20 then in_push (.long 0) 21 else in_no) else
 (if pc < 23 then
 (if pc = 21 then in_lst 7 23 else in_no) else
 (if pc = 23 then in_push (.int 0) 24 else in_no))) else
 (if pc < 28 then
 (if pc < 26 then
 (if pc = 24 then in_ist 9 26 else in_no) else
 (if pc = 26 then in_ild 9 28 else in_no)) else
 (if pc < 29 then
 (if pc = 28 then in_push (.int 4) 29 else in_no) else
 (if pc = 29 then in_if2 (fun x y => y ≤ x) 85 32 else in_no)))) else
 (if pc < 35 then
 (if pc < 33 then
 (if pc = 32 then in_ald 1 33 else in_no) else
 (if pc < 34 then
 (if pc = 33 then in_ild 2 34 else in_no) else
 (if pc = 34 then in_ald 1 35 else in_no))) else
 (if pc < 40 then
 (if pc < 38 then
 (if pc = 35 then in_get YX 3 0 38 else in_no) else
 (if pc = 38 then in_ild 6 40 else in_no)) else
 (if pc < 42 then
 (if pc = 40 then in_ild 9 42 else in_no) else
 (if pc = 42 then in_push (.int 2) 43 else in_no)))))) else
 (if pc < 65 then
 (if pc < 52 then
 (if pc < 46 then
 (if pc < 44 then
 (if pc = 43 then in_idv (fun x y => x / y) 44 else in_no) else
 (if pc < 45 then
 (if pc = 44 then in_iii (fun x y => x + y) 45 else in_no) else
 (if pc = 45 then in_iii (fun x y => x * y) 46 else in_no))) else
 (if pc < 49 then
 (if pc < 48 then
 (if pc = 46 then in_ild 5 48 else in_no) else
 (if pc = 48 then in_iii (fun x y => x + y) 49 else in_no)) else
 (if pc < 51 then
 (if pc = 49 then in_ild 9 51 else in_no) else
 (if pc = 51 then in_push (.int 2) 52 else in_no)))) else
 (if pc < 56 then
 (if pc < 53 then
 (if pc = 52 then in_idv (fun x y => x - x / y * y) 53 else in_no) else
 (if pc < 54 then
 (if pc = 53 then in_iii (fun x y => x + y) 54 else in_no) else
 (if pc = 54 then in_ild 4 56 else in_no))) else
 (if pc < 61 then
 (if pc < 59 then
 (if pc = 56 then in_v4 YX 3 S_X3_at 59 else in_no) else
 (if pc = 59 then in_ist 10 61 else in_no)) else
 (if pc < 63 then
 (if pc = 61 then in_ild 10 63 else in_no) else
 (if pc = 63 then in_push (.int 2000000000) 65 else in_no))))) else
 (if pc < 77 then
 (if pc < 71 then
 (if pc < 68 then
 (if pc = 65 then in_if2 (fun x y => x = y) 68 71 else in_no) else
 (if pc < 70 then
 (if pc = 68 then in_push (.int 2000000000) 70 else in_no) else
 (if pc = 70 then in_ri else in_no))) else
 (if pc < 75 then
 (if pc < 73 then
 (if pc = 71 then in_lld 7 73 else in_no) else
 (if pc = 73 then in_ild 10 75 else in_no)) else
 (if pc < 76 then
 (if pc = 75 then in_il (fun x => x.toInt64) 76 else in_no) else
 (if pc = 76 then in_lll (fun x y => x + y) 77 else in_no)))) else
 (if pc < 87 then
 (if pc < 82 then
 (if pc < 79 then
 (if pc = 77 then in_lst 7 79 else in_no) else
 (if pc = 79 then in_inc 9 1 82 else in_no)) else
 (if pc < 85 then
 (if pc = 82 then in_go 26 else in_no) else
 (if pc = 85 then in_lld 7 87 else in_no))) else
 (if pc < 93 then
 (if pc < 90 then
 (if pc = 87 then in_push (.long 4) 90 else in_no) else
 (if pc = 90 then in_s2 S_J0_floorDiv_2 93 else in_no)) else
 (if pc < 94 then
 (if pc = 93 then in_li (fun x => x.toInt32) 94 else in_no) else
 (if pc = 94 then in_ri else in_no)))))))
theorem tk_X3_meanOf {l : Launch} {w : ma_Wd} {NC : Nat} {A : Nat → Prop} {S_X3_at S_J0_floorDiv_2 : ma_Cs} (h_X3_at : ma_Sd l w YX NC A yX3_at cX3_at 4 (some .int) rm_X3_at S_X3_at) (h_J0_floorDiv_2 : ma_Sd l w YX NC A yJ0_floorDiv_2 cJ0_floorDiv_2 6 (some .long) rm_J0_floorDiv_2 S_J0_floorDiv_2) {p : Program} {e : Env} {s : State} {m : MethodId} {args : Array Value} {below : List Frame} {meth : Method} {c : Code} (X : ma_Cx p s m args meth c w YX NC A yX3_meanOf.cls cX3_meanOf 11 (some .int)) : ∀ pc, ma_Ok p l e rm_X3_meanOf s m args below meth c w YX NC A 11 pc (tb_X3_meanOf S_X3_at S_J0_floorDiv_2 pc) := fun pc =>
 (mk_lt
 (mk_lt
 (mk_lt
 (mk_lt
 (mk_lt
 (mk_eq (mk_iload_n X dX3_meanOf_0 rfl rfl))
 (mk_lt
 (mk_eq (mk_aload_n X dX3_meanOf_1 rfl rfl))
 (mk_eq (mk_get X (ci := 3) (j := 0) rfl in_X3 (Nat.le_of_ble_eq_true rfl) q164 dX3_meanOf_2 rfl))))
 (mk_lt
 (mk_lt
 (mk_eq (mk_irem X dX3_meanOf_5 rfl))
 (mk_eq (mk_iconst X dX3_meanOf_6 rfl rfl)))
 (mk_lt
 (mk_eq (mk_imul X dX3_meanOf_7 rfl))
 (mk_eq (mk_istore X dX3_meanOf_8 (Nat.le_of_ble_eq_true rfl) rfl)))))
 (mk_lt
 (mk_lt
 (mk_eq (mk_iload_n X dX3_meanOf_10 rfl rfl))
 (mk_lt
 (mk_eq (mk_aload_n X dX3_meanOf_11 rfl rfl))
 (mk_eq (mk_get X (ci := 3) (j := 0) rfl in_X3 (Nat.le_of_ble_eq_true rfl) q164 dX3_meanOf_12 rfl))))
 (mk_lt
 (mk_lt
 (mk_eq (mk_idiv X dX3_meanOf_15 rfl))
 (mk_eq (mk_iconst X dX3_meanOf_16 rfl rfl)))
 (mk_lt
 (mk_eq (mk_imul X dX3_meanOf_17 rfl))
 (mk_eq (mk_istore X dX3_meanOf_18 (Nat.le_of_ble_eq_true rfl) rfl))))))
 (mk_lt
 (mk_lt
 (mk_lt
 (mk_eq (mk_lconst X dX3_meanOf_20 rfl rfl))
 (mk_lt
 (mk_eq (mk_lstore X dX3_meanOf_21 (Nat.le_of_ble_eq_true rfl) rfl))
 (mk_eq (mk_iconst X dX3_meanOf_23 rfl rfl))))
 (mk_lt
 (mk_lt
 (mk_eq (mk_istore X dX3_meanOf_24 (Nat.le_of_ble_eq_true rfl) rfl))
 (mk_eq (mk_iload X dX3_meanOf_26 rfl)))
 (mk_lt
 (mk_eq (mk_iconst X dX3_meanOf_28 rfl rfl))
 (mk_eq (mk_icge X dX3_meanOf_29 rfl rfl)))))
 (mk_lt
 (mk_lt
 (mk_eq (mk_aload_n X dX3_meanOf_32 rfl rfl))
 (mk_lt
 (mk_eq (mk_iload_n X dX3_meanOf_33 rfl rfl))
 (mk_eq (mk_aload_n X dX3_meanOf_34 rfl rfl))))
 (mk_lt
 (mk_lt
 (mk_eq (mk_get X (ci := 3) (j := 0) rfl in_X3 (Nat.le_of_ble_eq_true rfl) q164 dX3_meanOf_35 rfl))
 (mk_eq (mk_iload X dX3_meanOf_38 rfl)))
 (mk_lt
 (mk_eq (mk_iload X dX3_meanOf_40 rfl))
 (mk_eq (mk_iconst X dX3_meanOf_42 rfl rfl)))))))
 (mk_lt
 (mk_lt
 (mk_lt
 (mk_lt
 (mk_eq (mk_idiv X dX3_meanOf_43 rfl))
 (mk_lt
 (mk_eq (mk_iadd X dX3_meanOf_44 rfl))
 (mk_eq (mk_imul X dX3_meanOf_45 rfl))))
 (mk_lt
 (mk_lt
 (mk_eq (mk_iload X dX3_meanOf_46 rfl))
 (mk_eq (mk_iadd X dX3_meanOf_48 rfl)))
 (mk_lt
 (mk_eq (mk_iload X dX3_meanOf_49 rfl))
 (mk_eq (mk_iconst X dX3_meanOf_51 rfl rfl)))))
 (mk_lt
 (mk_lt
 (mk_eq (mk_irem X dX3_meanOf_52 rfl))
 (mk_lt
 (mk_eq (mk_iadd X dX3_meanOf_53 rfl))
 (mk_eq (mk_iload X dX3_meanOf_54 rfl))))
 (mk_lt
 (mk_lt
 (mk_eq (mk_V4 X h_X3_at (ci := 3) rfl (lw_V q515 q516 q517 q64 q518) ⟨rfl, by decide, by decide, rfl⟩ ⟨(Nat.le_of_ble_eq_true rfl), (Nat.le_of_ble_eq_true rfl)⟩ dX3_meanOf_56 rfl))
 (mk_eq (mk_istore X dX3_meanOf_59 (Nat.le_of_ble_eq_true rfl) rfl)))
 (mk_lt
 (mk_eq (mk_iload X dX3_meanOf_61 rfl))
 (mk_eq (mk_ldc X dX3_meanOf_63 q523 rfl))))))
 (mk_lt
 (mk_lt
 (mk_lt
 (mk_eq (mk_icne X dX3_meanOf_65 rfl rfl))
 (mk_lt
 (mk_eq (mk_ldc X dX3_meanOf_68 q523 rfl))
 (mk_eq (mk_ri X dX3_meanOf_70))))
 (mk_lt
 (mk_lt
 (mk_eq (mk_lload X dX3_meanOf_71 rfl))
 (mk_eq (mk_iload X dX3_meanOf_73 rfl)))
 (mk_lt
 (mk_eq (mk_i2l X dX3_meanOf_75 rfl))
 (mk_eq (mk_ladd X dX3_meanOf_76 rfl)))))
 (mk_lt
 (mk_lt
 (mk_lt
 (mk_eq (mk_lstore X dX3_meanOf_77 (Nat.le_of_ble_eq_true rfl) rfl))
 (mk_eq (mk_iinc X dX3_meanOf_79 rfl (Nat.le_of_ble_eq_true rfl) rfl)))
 (mk_lt
 (mk_eq (mk_goto X dX3_meanOf_82 rfl))
 (mk_eq (mk_lload X dX3_meanOf_85 rfl))))
 (mk_lt
 (mk_lt
 (mk_eq (mk_ldc2 X dX3_meanOf_87 q706 rfl))
 (mk_eq (mk_S2 X h_J0_floorDiv_2 (lw_S q550 q551 q67 q552) ⟨by decide, by decide, rfl⟩ ⟨(Nat.le_of_ble_eq_true rfl), (Nat.le_of_ble_eq_true rfl)⟩ dX3_meanOf_90 rfl)))
 (mk_lt
 (mk_eq (mk_l2i X dX3_meanOf_93 rfl))
 (mk_eq (mk_ri X dX3_meanOf_94))))))))
theorem sd_X3_meanOf {l : Launch} {w : ma_Wd} {NC : Nat} {A : Nat → Prop} {S_X3_at S_J0_floorDiv_2 : ma_Cs} (hw : ma_Wo w YX NC A) (h_X3_at : ma_Sd l w YX NC A yX3_at cX3_at 4 (some .int) rm_X3_at S_X3_at) (h_J0_floorDiv_2 : ma_Sd l w YX NC A yJ0_floorDiv_2 cJ0_floorDiv_2 6 (some .long) rm_J0_floorDiv_2 S_J0_floorDiv_2) : ma_Sd l w YX NC A yX3_meanOf cX3_meanOf 11 (some .int) rm_X3_meanOf (ma_rn (tb_X3_meanOf S_X3_at S_J0_floorDiv_2) 11) := ma_of hw (by decide) ⟨rfl, rfl⟩ (fun X => tk_X3_meanOf h_X3_at h_J0_floorDiv_2 X)
