/-! tables: X5_second X5_put X5_judge X5_pace X5_give X5_when X5_ownEnds X5_ends X5_lastOf X5_slowest X5_given X5_gives X5_known -/
set_option maxRecDepth 100000
set_option maxHeartbeats 4000000
theorem dX5_second_0 : decode cX5_second 0 = .ok (.iload_n 1, 1) := by decide +kernel
theorem dX5_second_1 : decode cX5_second 1 = .ok (.i2l, 1) := by decide +kernel
theorem dX5_second_2 : decode cX5_second 2 = .ok (.lconst 1, 1) := by decide +kernel
theorem dX5_second_3 : decode cX5_second 3 = .ok (.ldc2_w 272, 3) := by decide +kernel
theorem dX5_second_6 : decode cX5_second 6 = .ok (.invokestatic 128, 3) := by decide +kernel
theorem dX5_second_9 : decode cX5_second 9 = .ok (.ifCond .eq 11, 3) := by decide +kernel
theorem dX5_second_12 : decode cX5_second 12 = .ok (.aload_n 0, 1) := by decide +kernel
theorem dX5_second_13 : decode cX5_second 13 = .ok (.iload_n 2, 1) := by decide +kernel
theorem dX5_second_14 : decode cX5_second 14 = .ok (.invokevirtual 269, 3) := by decide +kernel
theorem dX5_second_17 : decode cX5_second 17 = .ok (.ifCond .ne 5, 3) := by decide +kernel
theorem dX5_second_20 : decode cX5_second 20 = .ok (.iconst (-1), 1) := by decide +kernel
theorem dX5_second_21 : decode cX5_second 21 = .ok (.ireturn, 1) := by decide +kernel
theorem dX5_second_22 : decode cX5_second 22 = .ok (.aload_n 0, 1) := by decide +kernel
theorem dX5_second_23 : decode cX5_second 23 = .ok (.aload_n 0, 1) := by decide +kernel
theorem dX5_second_24 : decode cX5_second 24 = .ok (.getfield 84, 3) := by decide +kernel
theorem dX5_second_27 : decode cX5_second 27 = .ok (.aload_n 0, 1) := by decide +kernel
theorem dX5_second_28 : decode cX5_second 28 = .ok (.invokevirtual 278, 3) := by decide +kernel
theorem dX5_second_31 : decode cX5_second 31 = .ok (.invokevirtual 281, 3) := by decide +kernel
theorem dX5_second_34 : decode cX5_second 34 = .ok (.iconst 0, 1) := by decide +kernel
theorem dX5_second_35 : decode cX5_second 35 = .ok (.istore_n 3, 1) := by decide +kernel
theorem dX5_second_36 : decode cX5_second 36 = .ok (.iconst 0, 1) := by decide +kernel
theorem dX5_second_37 : decode cX5_second 37 = .ok (.istore 4, 2) := by decide +kernel
theorem dX5_second_39 : decode cX5_second 39 = .ok (.iload 4, 2) := by decide +kernel
theorem dX5_second_41 : decode cX5_second 41 = .ok (.iconst 4, 1) := by decide +kernel
theorem dX5_second_42 : decode cX5_second 42 = .ok (.if_icmp .ge 47, 3) := by decide +kernel
theorem dX5_second_45 : decode cX5_second 45 = .ok (.iload_n 3, 1) := by decide +kernel
theorem dX5_second_46 : decode cX5_second 46 = .ok (.aload_n 0, 1) := by decide +kernel
theorem dX5_second_47 : decode cX5_second 47 = .ok (.aload_n 0, 1) := by decide +kernel
theorem dX5_second_48 : decode cX5_second 48 = .ok (.getfield 84, 3) := by decide +kernel
theorem dX5_second_51 : decode cX5_second 51 = .ok (.iload 4, 2) := by decide +kernel
theorem dX5_second_53 : decode cX5_second 53 = .ok (.iload_n 1, 1) := by decide +kernel
theorem dX5_second_54 : decode cX5_second 54 = .ok (.iload_n 2, 1) := by decide +kernel
theorem dX5_second_55 : decode cX5_second 55 = .ok (.invokevirtual 248, 3) := by decide +kernel
theorem dX5_second_58 : decode cX5_second 58 = .ok (.aload_n 0, 1) := by decide +kernel
theorem dX5_second_59 : decode cX5_second 59 = .ok (.getfield 84, 3) := by decide +kernel
theorem dX5_second_62 : decode cX5_second 62 = .ok (.iload_n 1, 1) := by decide +kernel
theorem dX5_second_63 : decode cX5_second 63 = .ok (.iload_n 2, 1) := by decide +kernel
theorem dX5_second_64 : decode cX5_second 64 = .ok (.iload 4, 2) := by decide +kernel
theorem dX5_second_66 : decode cX5_second 66 = .ok (.invokestatic 217, 3) := by decide +kernel
theorem dX5_second_69 : decode cX5_second 69 = .ok (.iaload, 1) := by decide +kernel
theorem dX5_second_70 : decode cX5_second 70 = .ok (.if_icmp .eq 10, 3) := by decide +kernel
theorem dX5_second_73 : decode cX5_second 73 = .ok (.iconst 1, 1) := by decide +kernel
theorem dX5_second_74 : decode cX5_second 74 = .ok (.iload 4, 2) := by decide +kernel
theorem dX5_second_76 : decode cX5_second 76 = .ok (.ishl, 1) := by decide +kernel
theorem dX5_second_77 : decode cX5_second 77 = .ok (.goto 4, 3) := by decide +kernel
theorem dX5_second_80 : decode cX5_second 80 = .ok (.iconst 0, 1) := by decide +kernel
theorem dX5_second_81 : decode cX5_second 81 = .ok (.ior, 1) := by decide +kernel
theorem dX5_second_82 : decode cX5_second 82 = .ok (.istore_n 3, 1) := by decide +kernel
theorem dX5_second_83 : decode cX5_second 83 = .ok (.iinc 4 1, 3) := by decide +kernel
theorem dX5_second_86 : decode cX5_second 86 = .ok (.goto (-47), 3) := by decide +kernel
theorem dX5_second_89 : decode cX5_second 89 = .ok (.iload_n 3, 1) := by decide +kernel
theorem dX5_second_90 : decode cX5_second 90 = .ok (.ireturn, 1) := by decide +kernel
def tb_X5_second (S_X5_in S_X5_isCell S_X5_all S_X5_hall S_X5_made S_X5_place : ma_Cs) : Nat → ma_In := fun pc =>
 (if pc < 46 then
 (if pc < 23 then
 (if pc < 12 then
 (if pc < 3 then
 (if pc < 1 then
 (if pc = 0 then in_ild 1 1 else in_no) else
 (if pc < 2 then
 (if pc = 1 then in_il (fun x => x.toInt64) 2 else in_no) else
 (if pc = 2 then in_push (.long 1) 3 else in_no))) else
 (if pc < 6 then
 (if pc = 3 then in_push (.long 12) 6 else in_no) else
 (if pc < 9 then
 (if pc = 6 then in_s3 S_X5_in 9 else in_no) else
 (if pc = 9 then in_if1 (fun x => x = 0) 20 12 else in_no)))) else
 (if pc < 17 then
 (if pc < 13 then
 (if pc = 12 then in_ald 0 13 else in_no) else
 (if pc < 14 then
 (if pc = 13 then in_ild 2 14 else in_no) else
 (if pc = 14 then in_v2 YM 5 S_X5_isCell 17 else in_no))) else
 (if pc < 21 then
 (if pc < 20 then
 (if pc = 17 then in_if1 (fun x => x = 0) 20 22 else in_no) else
 (if pc = 20 then in_push (.int (-1)) 21 else in_no)) else
 (if pc < 22 then
 (if pc = 21 then in_ri else in_no) else
 (if pc = 22 then in_ald 0 23 else in_no))))) else
 (if pc < 35 then
 (if pc < 28 then
 (if pc < 24 then
 (if pc = 23 then in_ald 0 24 else in_no) else
 (if pc < 27 then
 (if pc = 24 then in_get YM 5 37 27 else in_no) else
 (if pc = 27 then in_ald 0 28 else in_no))) else
 (if pc < 31 then
 (if pc = 28 then in_v1 YM 5 S_X5_all 31 else in_no) else
 (if pc < 34 then
 (if pc = 31 then in_v3 YM 5 S_X5_hall 34 else in_no) else
 (if pc = 34 then in_push (.int 0) 35 else in_no)))) else
 (if pc < 39 then
 (if pc < 36 then
 (if pc = 35 then in_ist 3 36 else in_no) else
 (if pc < 37 then
 (if pc = 36 then in_push (.int 0) 37 else in_no) else
 (if pc = 37 then in_ist 4 39 else in_no))) else
 (if pc < 42 then
 (if pc < 41 then
 (if pc = 39 then in_ild 4 41 else in_no) else
 (if pc = 41 then in_push (.int 4) 42 else in_no)) else
 (if pc < 45 then
 (if pc = 42 then in_if2 (fun x y => y ≤ x) 89 45 else in_no) else
 (if pc = 45 then in_ild 3 46 else in_no)))))) else
 (if pc < 69 then
 (if pc < 55 then
 (if pc < 51 then
 (if pc < 47 then
 (if pc = 46 then in_ald 0 47 else in_no) else
 (if pc < 48 then
 (if pc = 47 then in_ald 0 48 else in_no) else
 (if pc = 48 then in_get YM 5 37 51 else in_no))) else
 (if pc < 53 then
 (if pc = 51 then in_ild 4 53 else in_no) else
 (if pc < 54 then
 (if pc = 53 then in_ild 1 54 else in_no) else
 (if pc = 54 then in_ild 2 55 else in_no)))) else
 (if pc < 62 then
 (if pc < 58 then
 (if pc = 55 then in_v5 YM 5 S_X5_made 58 else in_no) else
 (if pc < 59 then
 (if pc = 58 then in_ald 0 59 else in_no) else
 (if pc = 59 then in_get YM 5 37 62 else in_no))) else
 (if pc < 64 then
 (if pc < 63 then
 (if pc = 62 then in_ild 1 63 else in_no) else
 (if pc = 63 then in_ild 2 64 else in_no)) else
 (if pc < 66 then
 (if pc = 64 then in_ild 4 66 else in_no) else
 (if pc = 66 then in_s3 S_X5_place 69 else in_no))))) else
 (if pc < 80 then
 (if pc < 74 then
 (if pc < 70 then
 (if pc = 69 then in_iar YM 70 else in_no) else
 (if pc < 73 then
 (if pc = 70 then in_if2 (fun x y => x = y) 80 73 else in_no) else
 (if pc = 73 then in_push (.int 1) 74 else in_no))) else
 (if pc < 76 then
 (if pc = 74 then in_ild 4 76 else in_no) else
 (if pc < 77 then
 (if pc = 76 then in_iii (fun x y => x <<< (y &&& 31)) 77 else in_no) else
 (if pc = 77 then in_go 81 else in_no)))) else
 (if pc < 83 then
 (if pc < 81 then
 (if pc = 80 then in_push (.int 0) 81 else in_no) else
 (if pc < 82 then
 (if pc = 81 then in_iii (fun x y => x ||| y) 82 else in_no) else
 (if pc = 82 then in_ist 3 83 else in_no))) else
 (if pc < 89 then
 (if pc < 86 then
 (if pc = 83 then in_inc 4 1 86 else in_no) else
 (if pc = 86 then in_go 39 else in_no)) else
 (if pc < 90 then
 (if pc = 89 then in_ild 3 90 else in_no) else
 (if pc = 90 then in_ri else in_no)))))))
theorem tk_X5_second {l : Launch} {w : ma_Wd} {NC : Nat} {A : Nat → Prop} {S_X5_in S_X5_isCell S_X5_all S_X5_hall S_X5_made S_X5_place : ma_Cs} (h_X5_in : ma_Sd l w YM NC A yX5_in cX5_in 6 (some .boolean) rm_X5_in S_X5_in) (h_X5_isCell : ma_Sd l w YM NC A yX5_isCell cX5_isCell 2 (some .boolean) rm_X5_isCell S_X5_isCell) (h_X5_all : ma_Sd l w YM NC A yX5_all cX5_all 1 (some .int) rm_X5_all S_X5_all) (h_X5_hall : ma_Sd l w YM NC A yX5_hall cX5_hall 5 none rm_X5_hall S_X5_hall) (h_X5_made : ma_Sd l w YM NC A yX5_made cX5_made 14 (some .int) rm_X5_made S_X5_made) (h_X5_place : ma_Sd l w YM NC A yX5_place cX5_place 3 (some .int) rm_X5_place S_X5_place) {p : Program} {e : Env} {s : State} {m : MethodId} {args : Array Value} {below : List Frame} {meth : Method} {c : Code} (X : ma_Cx p s m args meth c w YM NC A yX5_second.cls cX5_second 5 (some .int)) : ∀ pc, ma_Ok p l e rm_X5_second s m args below meth c w YM NC A 5 pc (tb_X5_second S_X5_in S_X5_isCell S_X5_all S_X5_hall S_X5_made S_X5_place pc) := fun pc =>
 (mk_lt
 (mk_lt
 (mk_lt
 (mk_lt
 (mk_lt
 (mk_eq (mk_iload_n X dX5_second_0 rfl rfl))
 (mk_lt
 (mk_eq (mk_i2l X dX5_second_1 rfl))
 (mk_eq (mk_lconst X dX5_second_2 rfl rfl))))
 (mk_lt
 (mk_eq (mk_ldc2 X dX5_second_3 q989 rfl))
 (mk_lt
 (mk_eq (mk_S3 X h_X5_in (lw_S q892 q893 q66 q894) ⟨by decide, by decide, rfl⟩ ⟨(Nat.le_of_ble_eq_true rfl), (Nat.le_of_ble_eq_true rfl)⟩ dX5_second_6 rfl))
 (mk_eq (mk_ifeq X dX5_second_9 rfl rfl)))))
 (mk_lt
 (mk_lt
 (mk_eq (mk_aload_n X dX5_second_12 rfl rfl))
 (mk_lt
 (mk_eq (mk_iload_n X dX5_second_13 rfl rfl))
 (mk_eq (mk_V2 X h_X5_isCell (ci := 5) rfl (lw_V q977 q979 qs39 q66 q980) ⟨rfl, by decide, by decide, rfl⟩ ⟨(Nat.le_of_ble_eq_true rfl), (Nat.le_of_ble_eq_true rfl)⟩ dX5_second_14 rfl))))
 (mk_lt
 (mk_lt
 (mk_eq (mk_ifne X dX5_second_17 rfl rfl))
 (mk_eq (mk_iconst X dX5_second_20 rfl rfl)))
 (mk_lt
 (mk_eq (mk_ri X dX5_second_21))
 (mk_eq (mk_aload_n X dX5_second_22 rfl rfl))))))
 (mk_lt
 (mk_lt
 (mk_lt
 (mk_eq (mk_aload_n X dX5_second_23 rfl rfl))
 (mk_lt
 (mk_eq (mk_get X (ci := 5) (j := 37) rfl in_X5 (Nat.le_of_ble_eq_true rfl) q784 dX5_second_24 rfl))
 (mk_eq (mk_aload_n X dX5_second_27 rfl rfl))))
 (mk_lt
 (mk_eq (mk_V1 X h_X5_all (ci := 5) rfl (lw_V q991 q993 qs41 q66 q994) ⟨rfl, by decide, by decide, rfl⟩ ⟨(Nat.le_of_ble_eq_true rfl), (Nat.le_of_ble_eq_true rfl)⟩ dX5_second_28 rfl))
 (mk_lt
 (mk_eq (mk_V3 X h_X5_hall (ci := 5) rfl (lw_V q995 q997 qs42 q66 q998) ⟨rfl, by decide, by decide, rfl⟩ ⟨(Nat.le_of_ble_eq_true rfl), (Nat.le_of_ble_eq_true rfl)⟩ dX5_second_31 rfl))
 (mk_eq (mk_iconst X dX5_second_34 rfl rfl)))))
 (mk_lt
 (mk_lt
 (mk_eq (mk_istore_n X dX5_second_35 rfl (Nat.le_of_ble_eq_true rfl) rfl))
 (mk_lt
 (mk_eq (mk_iconst X dX5_second_36 rfl rfl))
 (mk_eq (mk_istore X dX5_second_37 (Nat.le_of_ble_eq_true rfl) rfl))))
 (mk_lt
 (mk_lt
 (mk_eq (mk_iload X dX5_second_39 rfl))
 (mk_eq (mk_iconst X dX5_second_41 rfl rfl)))
 (mk_lt
 (mk_eq (mk_icge X dX5_second_42 rfl rfl))
 (mk_eq (mk_iload_n X dX5_second_45 rfl rfl)))))))
 (mk_lt
 (mk_lt
 (mk_lt
 (mk_lt
 (mk_eq (mk_aload_n X dX5_second_46 rfl rfl))
 (mk_lt
 (mk_eq (mk_aload_n X dX5_second_47 rfl rfl))
 (mk_eq (mk_get X (ci := 5) (j := 37) rfl in_X5 (Nat.le_of_ble_eq_true rfl) q784 dX5_second_48 rfl))))
 (mk_lt
 (mk_eq (mk_iload X dX5_second_51 rfl))
 (mk_lt
 (mk_eq (mk_iload_n X dX5_second_53 rfl rfl))
 (mk_eq (mk_iload_n X dX5_second_54 rfl rfl)))))
 (mk_lt
 (mk_lt
 (mk_eq (mk_V5 X h_X5_made (ci := 5) rfl (lw_V q1017 q1019 qs46 q66 q1020) ⟨rfl, by decide, by decide, rfl⟩ ⟨(Nat.le_of_ble_eq_true rfl), (Nat.le_of_ble_eq_true rfl)⟩ dX5_second_55 rfl))
 (mk_lt
 (mk_eq (mk_aload_n X dX5_second_58 rfl rfl))
 (mk_eq (mk_get X (ci := 5) (j := 37) rfl in_X5 (Nat.le_of_ble_eq_true rfl) q784 dX5_second_59 rfl))))
 (mk_lt
 (mk_lt
 (mk_eq (mk_iload_n X dX5_second_62 rfl rfl))
 (mk_eq (mk_iload_n X dX5_second_63 rfl rfl)))
 (mk_lt
 (mk_eq (mk_iload X dX5_second_64 rfl))
 (mk_eq (mk_S3 X h_X5_place (lw_S q999 q1000 q66 q1001) ⟨by decide, by decide, rfl⟩ ⟨(Nat.le_of_ble_eq_true rfl), (Nat.le_of_ble_eq_true rfl)⟩ dX5_second_66 rfl))))))
 (mk_lt
 (mk_lt
 (mk_lt
 (mk_eq (mk_iar X dX5_second_69 rfl))
 (mk_lt
 (mk_eq (mk_iceq X dX5_second_70 rfl rfl))
 (mk_eq (mk_iconst X dX5_second_73 rfl rfl))))
 (mk_lt
 (mk_eq (mk_iload X dX5_second_74 rfl))
 (mk_lt
 (mk_eq (mk_ishl X dX5_second_76 rfl))
 (mk_eq (mk_goto X dX5_second_77 rfl)))))
 (mk_lt
 (mk_lt
 (mk_eq (mk_iconst X dX5_second_80 rfl rfl))
 (mk_lt
 (mk_eq (mk_ior X dX5_second_81 rfl))
 (mk_eq (mk_istore_n X dX5_second_82 rfl (Nat.le_of_ble_eq_true rfl) rfl))))
 (mk_lt
 (mk_lt
 (mk_eq (mk_iinc X dX5_second_83 rfl (Nat.le_of_ble_eq_true rfl) rfl))
 (mk_eq (mk_goto X dX5_second_86 rfl)))
 (mk_lt
 (mk_eq (mk_iload_n X dX5_second_89 rfl rfl))
 (mk_eq (mk_ri X dX5_second_90))))))))
theorem sd_X5_second {l : Launch} {w : ma_Wd} {NC : Nat} {A : Nat → Prop} {S_X5_in S_X5_isCell S_X5_all S_X5_hall S_X5_made S_X5_place : ma_Cs} (hw : ma_Wo w YM NC A) (h_X5_in : ma_Sd l w YM NC A yX5_in cX5_in 6 (some .boolean) rm_X5_in S_X5_in) (h_X5_isCell : ma_Sd l w YM NC A yX5_isCell cX5_isCell 2 (some .boolean) rm_X5_isCell S_X5_isCell) (h_X5_all : ma_Sd l w YM NC A yX5_all cX5_all 1 (some .int) rm_X5_all S_X5_all) (h_X5_hall : ma_Sd l w YM NC A yX5_hall cX5_hall 5 none rm_X5_hall S_X5_hall) (h_X5_made : ma_Sd l w YM NC A yX5_made cX5_made 14 (some .int) rm_X5_made S_X5_made) (h_X5_place : ma_Sd l w YM NC A yX5_place cX5_place 3 (some .int) rm_X5_place S_X5_place) : ma_Sd l w YM NC A yX5_second cX5_second 5 (some .int) rm_X5_second (ma_rn (tb_X5_second S_X5_in S_X5_isCell S_X5_all S_X5_hall S_X5_made S_X5_place) 5) := ma_of hw (by decide) ⟨rfl, rfl⟩ (fun X => tk_X5_second h_X5_in h_X5_isCell h_X5_all h_X5_hall h_X5_made h_X5_place X)
theorem dX5_put_0 : decode cX5_put 0 = .ok (.aload_n 0, 1) := by decide +kernel
theorem dX5_put_1 : decode cX5_put 1 = .ok (.iload_n 1, 1) := by decide +kernel
theorem dX5_put_2 : decode cX5_put 2 = .ok (.invokevirtual 269, 3) := by decide +kernel
theorem dX5_put_5 : decode cX5_put 5 = .ok (.ifCond .eq 17, 3) := by decide +kernel
theorem dX5_put_8 : decode cX5_put 8 = .ok (.iload_n 2, 1) := by decide +kernel
theorem dX5_put_9 : decode cX5_put 9 = .ok (.i2l, 1) := by decide +kernel
theorem dX5_put_10 : decode cX5_put 10 = .ok (.ldc2_w 303, 3) := by decide +kernel
theorem dX5_put_13 : decode cX5_put 13 = .ok (.ldc2_w 242, 3) := by decide +kernel
theorem dX5_put_16 : decode cX5_put 16 = .ok (.invokestatic 128, 3) := by decide +kernel
theorem dX5_put_19 : decode cX5_put 19 = .ok (.ifCond .ne 7, 3) := by decide +kernel
theorem dX5_put_22 : decode cX5_put 22 = .ok (.ldc_w 277, 3) := by decide +kernel
theorem dX5_put_25 : decode cX5_put 25 = .ok (.ireturn, 1) := by decide +kernel
theorem dX5_put_26 : decode cX5_put 26 = .ok (.aload_n 0, 1) := by decide +kernel
theorem dX5_put_27 : decode cX5_put 27 = .ok (.getfield 72, 3) := by decide +kernel
theorem dX5_put_30 : decode cX5_put 30 = .ok (.iload_n 1, 1) := by decide +kernel
theorem dX5_put_31 : decode cX5_put 31 = .ok (.iaload, 1) := by decide +kernel
theorem dX5_put_32 : decode cX5_put 32 = .ok (.istore_n 3, 1) := by decide +kernel
theorem dX5_put_33 : decode cX5_put 33 = .ok (.aload_n 0, 1) := by decide +kernel
theorem dX5_put_34 : decode cX5_put 34 = .ok (.getfield 72, 3) := by decide +kernel
theorem dX5_put_37 : decode cX5_put 37 = .ok (.iload_n 1, 1) := by decide +kernel
theorem dX5_put_38 : decode cX5_put 38 = .ok (.iload_n 2, 1) := by decide +kernel
theorem dX5_put_39 : decode cX5_put 39 = .ok (.iastore, 1) := by decide +kernel
theorem dX5_put_40 : decode cX5_put 40 = .ok (.iload_n 3, 1) := by decide +kernel
theorem dX5_put_41 : decode cX5_put 41 = .ok (.ireturn, 1) := by decide +kernel
def tb_X5_put (S_X5_isCell S_X5_in : ma_Cs) : Nat → ma_In := fun pc =>
 (if pc < 26 then
 (if pc < 10 then
 (if pc < 5 then
 (if pc < 1 then
 (if pc = 0 then in_ald 0 1 else in_no) else
 (if pc < 2 then
 (if pc = 1 then in_ild 1 2 else in_no) else
 (if pc = 2 then in_v2 YM 5 S_X5_isCell 5 else in_no))) else
 (if pc < 8 then
 (if pc = 5 then in_if1 (fun x => x = 0) 22 8 else in_no) else
 (if pc < 9 then
 (if pc = 8 then in_ild 2 9 else in_no) else
 (if pc = 9 then in_il (fun x => x.toInt64) 10 else in_no)))) else
 (if pc < 19 then
 (if pc < 13 then
 (if pc = 10 then in_push (.long (-1000000000)) 13 else in_no) else
 (if pc < 16 then
 (if pc = 13 then in_push (.long 1000000000) 16 else in_no) else
 (if pc = 16 then in_s3 S_X5_in 19 else in_no))) else
 (if pc < 22 then
 (if pc = 19 then in_if1 (fun x => x = 0) 22 26 else in_no) else
 (if pc < 25 then
 (if pc = 22 then in_push (.int (-2000000000)) 25 else in_no) else
 (if pc = 25 then in_ri else in_no))))) else
 (if pc < 34 then
 (if pc < 31 then
 (if pc < 27 then
 (if pc = 26 then in_ald 0 27 else in_no) else
 (if pc < 30 then
 (if pc = 27 then in_get YM 5 27 30 else in_no) else
 (if pc = 30 then in_ild 1 31 else in_no))) else
 (if pc < 32 then
 (if pc = 31 then in_iar YM 32 else in_no) else
 (if pc < 33 then
 (if pc = 32 then in_ist 3 33 else in_no) else
 (if pc = 33 then in_ald 0 34 else in_no)))) else
 (if pc < 39 then
 (if pc < 37 then
 (if pc = 34 then in_get YM 5 27 37 else in_no) else
 (if pc < 38 then
 (if pc = 37 then in_ild 1 38 else in_no) else
 (if pc = 38 then in_ild 2 39 else in_no))) else
 (if pc < 40 then
 (if pc = 39 then in_iaw YM 40 else in_no) else
 (if pc < 41 then
 (if pc = 40 then in_ild 3 41 else in_no) else
 (if pc = 41 then in_ri else in_no))))))
theorem tk_X5_put {l : Launch} {w : ma_Wd} {NC : Nat} {A : Nat → Prop} {S_X5_isCell S_X5_in : ma_Cs} (h_X5_isCell : ma_Sd l w YM NC A yX5_isCell cX5_isCell 2 (some .boolean) rm_X5_isCell S_X5_isCell) (h_X5_in : ma_Sd l w YM NC A yX5_in cX5_in 6 (some .boolean) rm_X5_in S_X5_in) {p : Program} {e : Env} {s : State} {m : MethodId} {args : Array Value} {below : List Frame} {meth : Method} {c : Code} (X : ma_Cx p s m args meth c w YM NC A yX5_put.cls cX5_put 4 (some .int)) : ∀ pc, ma_Ok p l e rm_X5_put s m args below meth c w YM NC A 4 pc (tb_X5_put S_X5_isCell S_X5_in pc) := fun pc =>
 (mk_lt
 (mk_lt
 (mk_lt
 (mk_lt
 (mk_eq (mk_aload_n X dX5_put_0 rfl rfl))
 (mk_lt
 (mk_eq (mk_iload_n X dX5_put_1 rfl rfl))
 (mk_eq (mk_V2 X h_X5_isCell (ci := 5) rfl (lw_V q977 q979 qs39 q66 q980) ⟨rfl, by decide, by decide, rfl⟩ ⟨(Nat.le_of_ble_eq_true rfl), (Nat.le_of_ble_eq_true rfl)⟩ dX5_put_2 rfl))))
 (mk_lt
 (mk_eq (mk_ifeq X dX5_put_5 rfl rfl))
 (mk_lt
 (mk_eq (mk_iload_n X dX5_put_8 rfl rfl))
 (mk_eq (mk_i2l X dX5_put_9 rfl)))))
 (mk_lt
 (mk_lt
 (mk_eq (mk_ldc2 X dX5_put_10 q1106 rfl))
 (mk_lt
 (mk_eq (mk_ldc2 X dX5_put_13 q1034 rfl))
 (mk_eq (mk_S3 X h_X5_in (lw_S q892 q893 q66 q894) ⟨by decide, by decide, rfl⟩ ⟨(Nat.le_of_ble_eq_true rfl), (Nat.le_of_ble_eq_true rfl)⟩ dX5_put_16 rfl))))
 (mk_lt
 (mk_eq (mk_ifne X dX5_put_19 rfl rfl))
 (mk_lt
 (mk_eq (mk_ldcw X dX5_put_22 q990 rfl))
 (mk_eq (mk_ri X dX5_put_25))))))
 (mk_lt
 (mk_lt
 (mk_lt
 (mk_eq (mk_aload_n X dX5_put_26 rfl rfl))
 (mk_lt
 (mk_eq (mk_get X (ci := 5) (j := 27) rfl in_X5 (Nat.le_of_ble_eq_true rfl) q774 dX5_put_27 rfl))
 (mk_eq (mk_iload_n X dX5_put_30 rfl rfl))))
 (mk_lt
 (mk_eq (mk_iar X dX5_put_31 rfl))
 (mk_lt
 (mk_eq (mk_istore_n X dX5_put_32 rfl (Nat.le_of_ble_eq_true rfl) rfl))
 (mk_eq (mk_aload_n X dX5_put_33 rfl rfl)))))
 (mk_lt
 (mk_lt
 (mk_eq (mk_get X (ci := 5) (j := 27) rfl in_X5 (Nat.le_of_ble_eq_true rfl) q774 dX5_put_34 rfl))
 (mk_lt
 (mk_eq (mk_iload_n X dX5_put_37 rfl rfl))
 (mk_eq (mk_iload_n X dX5_put_38 rfl rfl))))
 (mk_lt
 (mk_eq (mk_iaw X dX5_put_39 rfl))
 (mk_lt
 (mk_eq (mk_iload_n X dX5_put_40 rfl rfl))
 (mk_eq (mk_ri X dX5_put_41)))))))
theorem sd_X5_put {l : Launch} {w : ma_Wd} {NC : Nat} {A : Nat → Prop} {S_X5_isCell S_X5_in : ma_Cs} (hw : ma_Wo w YM NC A) (h_X5_isCell : ma_Sd l w YM NC A yX5_isCell cX5_isCell 2 (some .boolean) rm_X5_isCell S_X5_isCell) (h_X5_in : ma_Sd l w YM NC A yX5_in cX5_in 6 (some .boolean) rm_X5_in S_X5_in) : ma_Sd l w YM NC A yX5_put cX5_put 4 (some .int) rm_X5_put (ma_rn (tb_X5_put S_X5_isCell S_X5_in) 4) := ma_of hw (by decide) ⟨rfl, rfl⟩ (fun X => tk_X5_put h_X5_isCell h_X5_in X)
theorem dX5_judge_0 : decode cX5_judge 0 = .ok (.iload_n 1, 1) := by decide +kernel
theorem dX5_judge_1 : decode cX5_judge 1 = .ok (.i2l, 1) := by decide +kernel
theorem dX5_judge_2 : decode cX5_judge 2 = .ok (.lconst 1, 1) := by decide +kernel
theorem dX5_judge_3 : decode cX5_judge 3 = .ok (.ldc2_w 272, 3) := by decide +kernel
theorem dX5_judge_6 : decode cX5_judge 6 = .ok (.invokestatic 128, 3) := by decide +kernel
theorem dX5_judge_9 : decode cX5_judge 9 = .ok (.ifCond .eq 10, 3) := by decide +kernel
theorem dX5_judge_12 : decode cX5_judge 12 = .ok (.iload_n 2, 1) := by decide +kernel
theorem dX5_judge_13 : decode cX5_judge 13 = .ok (.invokestatic 146, 3) := by decide +kernel
theorem dX5_judge_16 : decode cX5_judge 16 = .ok (.ifCond .ne 5, 3) := by decide +kernel
theorem dX5_judge_19 : decode cX5_judge 19 = .ok (.iconst (-1), 1) := by decide +kernel
theorem dX5_judge_20 : decode cX5_judge 20 = .ok (.ireturn, 1) := by decide +kernel
theorem dX5_judge_21 : decode cX5_judge 21 = .ok (.aload_n 0, 1) := by decide +kernel
theorem dX5_judge_22 : decode cX5_judge 22 = .ok (.aload_n 0, 1) := by decide +kernel
theorem dX5_judge_23 : decode cX5_judge 23 = .ok (.getfield 84, 3) := by decide +kernel
theorem dX5_judge_26 : decode cX5_judge 26 = .ok (.aload_n 0, 1) := by decide +kernel
theorem dX5_judge_27 : decode cX5_judge 27 = .ok (.invokevirtual 278, 3) := by decide +kernel
theorem dX5_judge_30 : decode cX5_judge 30 = .ok (.invokevirtual 281, 3) := by decide +kernel
theorem dX5_judge_33 : decode cX5_judge 33 = .ok (.iconst 0, 1) := by decide +kernel
theorem dX5_judge_34 : decode cX5_judge 34 = .ok (.istore_n 3, 1) := by decide +kernel
theorem dX5_judge_35 : decode cX5_judge 35 = .ok (.iload_n 3, 1) := by decide +kernel
theorem dX5_judge_36 : decode cX5_judge 36 = .ok (.aload_n 0, 1) := by decide +kernel
theorem dX5_judge_37 : decode cX5_judge 37 = .ok (.invokevirtual 124, 3) := by decide +kernel
theorem dX5_judge_40 : decode cX5_judge 40 = .ok (.if_icmp .ge 31, 3) := by decide +kernel
theorem dX5_judge_43 : decode cX5_judge 43 = .ok (.aload_n 0, 1) := by decide +kernel
theorem dX5_judge_44 : decode cX5_judge 44 = .ok (.aload_n 0, 1) := by decide +kernel
theorem dX5_judge_45 : decode cX5_judge 45 = .ok (.getfield 84, 3) := by decide +kernel
theorem dX5_judge_48 : decode cX5_judge 48 = .ok (.iload_n 2, 1) := by decide +kernel
theorem dX5_judge_49 : decode cX5_judge 49 = .ok (.iload_n 1, 1) := by decide +kernel
theorem dX5_judge_50 : decode cX5_judge 50 = .ok (.iload_n 3, 1) := by decide +kernel
theorem dX5_judge_51 : decode cX5_judge 51 = .ok (.invokevirtual 248, 3) := by decide +kernel
theorem dX5_judge_54 : decode cX5_judge 54 = .ok (.aload_n 0, 1) := by decide +kernel
theorem dX5_judge_55 : decode cX5_judge 55 = .ok (.getfield 72, 3) := by decide +kernel
theorem dX5_judge_58 : decode cX5_judge 58 = .ok (.iload_n 3, 1) := by decide +kernel
theorem dX5_judge_59 : decode cX5_judge 59 = .ok (.iaload, 1) := by decide +kernel
theorem dX5_judge_60 : decode cX5_judge 60 = .ok (.if_icmp .eq 5, 3) := by decide +kernel
theorem dX5_judge_63 : decode cX5_judge 63 = .ok (.iload_n 3, 1) := by decide +kernel
theorem dX5_judge_64 : decode cX5_judge 64 = .ok (.ireturn, 1) := by decide +kernel
theorem dX5_judge_65 : decode cX5_judge 65 = .ok (.iinc 3 1, 3) := by decide +kernel
theorem dX5_judge_68 : decode cX5_judge 68 = .ok (.goto (-33), 3) := by decide +kernel
theorem dX5_judge_71 : decode cX5_judge 71 = .ok (.bipush (-4), 2) := by decide +kernel
theorem dX5_judge_73 : decode cX5_judge 73 = .ok (.ireturn, 1) := by decide +kernel
def tb_X5_judge (S_X5_in S_X5_isLetter S_X5_all S_X5_hall S_X5_cells S_X5_made : ma_Cs) : Nat → ma_In := fun pc =>
 (if pc < 36 then
 (if pc < 20 then
 (if pc < 9 then
 (if pc < 2 then
 (if pc < 1 then
 (if pc = 0 then in_ild 1 1 else in_no) else
 (if pc = 1 then in_il (fun x => x.toInt64) 2 else in_no)) else
 (if pc < 3 then
 (if pc = 2 then in_push (.long 1) 3 else in_no) else
 (if pc < 6 then
 (if pc = 3 then in_push (.long 12) 6 else in_no) else
 (if pc = 6 then in_s3 S_X5_in 9 else in_no)))) else
 (if pc < 13 then
 (if pc < 12 then
 (if pc = 9 then in_if1 (fun x => x = 0) 19 12 else in_no) else
 (if pc = 12 then in_ild 2 13 else in_no)) else
 (if pc < 16 then
 (if pc = 13 then in_s1 S_X5_isLetter 16 else in_no) else
 (if pc < 19 then
 (if pc = 16 then in_if1 (fun x => x = 0) 19 21 else in_no) else
 (if pc = 19 then in_push (.int (-1)) 20 else in_no))))) else
 (if pc < 27 then
 (if pc < 22 then
 (if pc < 21 then
 (if pc = 20 then in_ri else in_no) else
 (if pc = 21 then in_ald 0 22 else in_no)) else
 (if pc < 23 then
 (if pc = 22 then in_ald 0 23 else in_no) else
 (if pc < 26 then
 (if pc = 23 then in_get YM 5 37 26 else in_no) else
 (if pc = 26 then in_ald 0 27 else in_no)))) else
 (if pc < 33 then
 (if pc < 30 then
 (if pc = 27 then in_v1 YM 5 S_X5_all 30 else in_no) else
 (if pc = 30 then in_v3 YM 5 S_X5_hall 33 else in_no)) else
 (if pc < 34 then
 (if pc = 33 then in_push (.int 0) 34 else in_no) else
 (if pc < 35 then
 (if pc = 34 then in_ist 3 35 else in_no) else
 (if pc = 35 then in_ild 3 36 else in_no)))))) else
 (if pc < 54 then
 (if pc < 45 then
 (if pc < 40 then
 (if pc < 37 then
 (if pc = 36 then in_ald 0 37 else in_no) else
 (if pc = 37 then in_v1 YM 5 S_X5_cells 40 else in_no)) else
 (if pc < 43 then
 (if pc = 40 then in_if2 (fun x y => y ≤ x) 71 43 else in_no) else
 (if pc < 44 then
 (if pc = 43 then in_ald 0 44 else in_no) else
 (if pc = 44 then in_ald 0 45 else in_no)))) else
 (if pc < 49 then
 (if pc < 48 then
 (if pc = 45 then in_get YM 5 37 48 else in_no) else
 (if pc = 48 then in_ild 2 49 else in_no)) else
 (if pc < 50 then
 (if pc = 49 then in_ild 1 50 else in_no) else
 (if pc < 51 then
 (if pc = 50 then in_ild 3 51 else in_no) else
 (if pc = 51 then in_v5 YM 5 S_X5_made 54 else in_no))))) else
 (if pc < 63 then
 (if pc < 58 then
 (if pc < 55 then
 (if pc = 54 then in_ald 0 55 else in_no) else
 (if pc = 55 then in_get YM 5 27 58 else in_no)) else
 (if pc < 59 then
 (if pc = 58 then in_ild 3 59 else in_no) else
 (if pc < 60 then
 (if pc = 59 then in_iar YM 60 else in_no) else
 (if pc = 60 then in_if2 (fun x y => x = y) 65 63 else in_no)))) else
 (if pc < 68 then
 (if pc < 64 then
 (if pc = 63 then in_ild 3 64 else in_no) else
 (if pc < 65 then
 (if pc = 64 then in_ri else in_no) else
 (if pc = 65 then in_inc 3 1 68 else in_no))) else
 (if pc < 71 then
 (if pc = 68 then in_go 35 else in_no) else
 (if pc < 73 then
 (if pc = 71 then in_push (.int (-4)) 73 else in_no) else
 (if pc = 73 then in_ri else in_no)))))))
theorem tk_X5_judge {l : Launch} {w : ma_Wd} {NC : Nat} {A : Nat → Prop} {S_X5_in S_X5_isLetter S_X5_all S_X5_hall S_X5_cells S_X5_made : ma_Cs} (h_X5_in : ma_Sd l w YM NC A yX5_in cX5_in 6 (some .boolean) rm_X5_in S_X5_in) (h_X5_isLetter : ma_Sd l w YM NC A yX5_isLetter cX5_isLetter 1 (some .boolean) rm_X5_isLetter S_X5_isLetter) (h_X5_all : ma_Sd l w YM NC A yX5_all cX5_all 1 (some .int) rm_X5_all S_X5_all) (h_X5_hall : ma_Sd l w YM NC A yX5_hall cX5_hall 5 none rm_X5_hall S_X5_hall) (h_X5_cells : ma_Sd l w YM NC A yX5_cells cX5_cells 1 (some .int) rm_X5_cells S_X5_cells) (h_X5_made : ma_Sd l w YM NC A yX5_made cX5_made 14 (some .int) rm_X5_made S_X5_made) {p : Program} {e : Env} {s : State} {m : MethodId} {args : Array Value} {below : List Frame} {meth : Method} {c : Code} (X : ma_Cx p s m args meth c w YM NC A yX5_judge.cls cX5_judge 4 (some .int)) : ∀ pc, ma_Ok p l e rm_X5_judge s m args below meth c w YM NC A 4 pc (tb_X5_judge S_X5_in S_X5_isLetter S_X5_all S_X5_hall S_X5_cells S_X5_made pc) := fun pc =>
 (mk_lt
 (mk_lt
 (mk_lt
 (mk_lt
 (mk_lt
 (mk_eq (mk_iload_n X dX5_judge_0 rfl rfl))
 (mk_eq (mk_i2l X dX5_judge_1 rfl)))
 (mk_lt
 (mk_eq (mk_lconst X dX5_judge_2 rfl rfl))
 (mk_lt
 (mk_eq (mk_ldc2 X dX5_judge_3 q989 rfl))
 (mk_eq (mk_S3 X h_X5_in (lw_S q892 q893 q66 q894) ⟨by decide, by decide, rfl⟩ ⟨(Nat.le_of_ble_eq_true rfl), (Nat.le_of_ble_eq_true rfl)⟩ dX5_judge_6 rfl)))))
 (mk_lt
 (mk_lt
 (mk_eq (mk_ifeq X dX5_judge_9 rfl rfl))
 (mk_eq (mk_iload_n X dX5_judge_12 rfl rfl)))
 (mk_lt
 (mk_eq (mk_S1 X h_X5_isLetter (lw_S q908 q909 q66 q910) ⟨by decide, by decide, rfl⟩ ⟨(Nat.le_of_ble_eq_true rfl), (Nat.le_of_ble_eq_true rfl)⟩ dX5_judge_13 rfl))
 (mk_lt
 (mk_eq (mk_ifne X dX5_judge_16 rfl rfl))
 (mk_eq (mk_iconst X dX5_judge_19 rfl rfl))))))
 (mk_lt
 (mk_lt
 (mk_lt
 (mk_eq (mk_ri X dX5_judge_20))
 (mk_eq (mk_aload_n X dX5_judge_21 rfl rfl)))
 (mk_lt
 (mk_eq (mk_aload_n X dX5_judge_22 rfl rfl))
 (mk_lt
 (mk_eq (mk_get X (ci := 5) (j := 37) rfl in_X5 (Nat.le_of_ble_eq_true rfl) q784 dX5_judge_23 rfl))
 (mk_eq (mk_aload_n X dX5_judge_26 rfl rfl)))))
 (mk_lt
 (mk_lt
 (mk_eq (mk_V1 X h_X5_all (ci := 5) rfl (lw_V q991 q993 qs41 q66 q994) ⟨rfl, by decide, by decide, rfl⟩ ⟨(Nat.le_of_ble_eq_true rfl), (Nat.le_of_ble_eq_true rfl)⟩ dX5_judge_27 rfl))
 (mk_eq (mk_V3 X h_X5_hall (ci := 5) rfl (lw_V q995 q997 qs42 q66 q998) ⟨rfl, by decide, by decide, rfl⟩ ⟨(Nat.le_of_ble_eq_true rfl), (Nat.le_of_ble_eq_true rfl)⟩ dX5_judge_30 rfl)))
 (mk_lt
 (mk_eq (mk_iconst X dX5_judge_33 rfl rfl))
 (mk_lt
 (mk_eq (mk_istore_n X dX5_judge_34 rfl (Nat.le_of_ble_eq_true rfl) rfl))
 (mk_eq (mk_iload_n X dX5_judge_35 rfl rfl)))))))
 (mk_lt
 (mk_lt
 (mk_lt
 (mk_lt
 (mk_eq (mk_aload_n X dX5_judge_36 rfl rfl))
 (mk_eq (mk_V1 X h_X5_cells (ci := 5) rfl (lw_V q895 q897 qs30 q66 q898) ⟨rfl, by decide, by decide, rfl⟩ ⟨(Nat.le_of_ble_eq_true rfl), (Nat.le_of_ble_eq_true rfl)⟩ dX5_judge_37 rfl)))
 (mk_lt
 (mk_eq (mk_icge X dX5_judge_40 rfl rfl))
 (mk_lt
 (mk_eq (mk_aload_n X dX5_judge_43 rfl rfl))
 (mk_eq (mk_aload_n X dX5_judge_44 rfl rfl)))))
 (mk_lt
 (mk_lt
 (mk_eq (mk_get X (ci := 5) (j := 37) rfl in_X5 (Nat.le_of_ble_eq_true rfl) q784 dX5_judge_45 rfl))
 (mk_eq (mk_iload_n X dX5_judge_48 rfl rfl)))
 (mk_lt
 (mk_eq (mk_iload_n X dX5_judge_49 rfl rfl))
 (mk_lt
 (mk_eq (mk_iload_n X dX5_judge_50 rfl rfl))
 (mk_eq (mk_V5 X h_X5_made (ci := 5) rfl (lw_V q1017 q1019 qs46 q66 q1020) ⟨rfl, by decide, by decide, rfl⟩ ⟨(Nat.le_of_ble_eq_true rfl), (Nat.le_of_ble_eq_true rfl)⟩ dX5_judge_51 rfl))))))
 (mk_lt
 (mk_lt
 (mk_lt
 (mk_eq (mk_aload_n X dX5_judge_54 rfl rfl))
 (mk_eq (mk_get X (ci := 5) (j := 27) rfl in_X5 (Nat.le_of_ble_eq_true rfl) q774 dX5_judge_55 rfl)))
 (mk_lt
 (mk_eq (mk_iload_n X dX5_judge_58 rfl rfl))
 (mk_lt
 (mk_eq (mk_iar X dX5_judge_59 rfl))
 (mk_eq (mk_iceq X dX5_judge_60 rfl rfl)))))
 (mk_lt
 (mk_lt
 (mk_eq (mk_iload_n X dX5_judge_63 rfl rfl))
 (mk_lt
 (mk_eq (mk_ri X dX5_judge_64))
 (mk_eq (mk_iinc X dX5_judge_65 rfl (Nat.le_of_ble_eq_true rfl) rfl))))
 (mk_lt
 (mk_eq (mk_goto X dX5_judge_68 rfl))
 (mk_lt
 (mk_eq (mk_bipush X dX5_judge_71 rfl rfl))
 (mk_eq (mk_ri X dX5_judge_73))))))))
theorem sd_X5_judge {l : Launch} {w : ma_Wd} {NC : Nat} {A : Nat → Prop} {S_X5_in S_X5_isLetter S_X5_all S_X5_hall S_X5_cells S_X5_made : ma_Cs} (hw : ma_Wo w YM NC A) (h_X5_in : ma_Sd l w YM NC A yX5_in cX5_in 6 (some .boolean) rm_X5_in S_X5_in) (h_X5_isLetter : ma_Sd l w YM NC A yX5_isLetter cX5_isLetter 1 (some .boolean) rm_X5_isLetter S_X5_isLetter) (h_X5_all : ma_Sd l w YM NC A yX5_all cX5_all 1 (some .int) rm_X5_all S_X5_all) (h_X5_hall : ma_Sd l w YM NC A yX5_hall cX5_hall 5 none rm_X5_hall S_X5_hall) (h_X5_cells : ma_Sd l w YM NC A yX5_cells cX5_cells 1 (some .int) rm_X5_cells S_X5_cells) (h_X5_made : ma_Sd l w YM NC A yX5_made cX5_made 14 (some .int) rm_X5_made S_X5_made) : ma_Sd l w YM NC A yX5_judge cX5_judge 4 (some .int) rm_X5_judge (ma_rn (tb_X5_judge S_X5_in S_X5_isLetter S_X5_all S_X5_hall S_X5_cells S_X5_made) 4) := ma_of hw (by decide) ⟨rfl, rfl⟩ (fun X => tk_X5_judge h_X5_in h_X5_isLetter h_X5_all h_X5_hall h_X5_cells h_X5_made X)
theorem dX5_pace_0 : decode cX5_pace 0 = .ok (.iload_n 1, 1) := by decide +kernel
theorem dX5_pace_1 : decode cX5_pace 1 = .ok (.i2l, 1) := by decide +kernel
theorem dX5_pace_2 : decode cX5_pace 2 = .ok (.lconst 0, 1) := by decide +kernel
theorem dX5_pace_3 : decode cX5_pace 3 = .ok (.ldc2_w 305, 3) := by decide +kernel
theorem dX5_pace_6 : decode cX5_pace 6 = .ok (.invokestatic 128, 3) := by decide +kernel
theorem dX5_pace_9 : decode cX5_pace 9 = .ok (.ifCond .eq 15, 3) := by decide +kernel
theorem dX5_pace_12 : decode cX5_pace 12 = .ok (.iload_n 2, 1) := by decide +kernel
theorem dX5_pace_13 : decode cX5_pace 13 = .ok (.i2l, 1) := by decide +kernel
theorem dX5_pace_14 : decode cX5_pace 14 = .ok (.lconst 1, 1) := by decide +kernel
theorem dX5_pace_15 : decode cX5_pace 15 = .ok (.ldc2_w 307, 3) := by decide +kernel
theorem dX5_pace_18 : decode cX5_pace 18 = .ok (.invokestatic 128, 3) := by decide +kernel
theorem dX5_pace_21 : decode cX5_pace 21 = .ok (.ifCond .ne 5, 3) := by decide +kernel
theorem dX5_pace_24 : decode cX5_pace 24 = .ok (.iconst (-1), 1) := by decide +kernel
theorem dX5_pace_25 : decode cX5_pace 25 = .ok (.ireturn, 1) := by decide +kernel
theorem dX5_pace_26 : decode cX5_pace 26 = .ok (.aload_n 0, 1) := by decide +kernel
theorem dX5_pace_27 : decode cX5_pace 27 = .ok (.getfield 75, 3) := by decide +kernel
theorem dX5_pace_30 : decode cX5_pace 30 = .ok (.iload_n 1, 1) := by decide +kernel
theorem dX5_pace_31 : decode cX5_pace 31 = .ok (.iaload, 1) := by decide +kernel
theorem dX5_pace_32 : decode cX5_pace 32 = .ok (.istore_n 3, 1) := by decide +kernel
theorem dX5_pace_33 : decode cX5_pace 33 = .ok (.aload_n 0, 1) := by decide +kernel
theorem dX5_pace_34 : decode cX5_pace 34 = .ok (.getfield 75, 3) := by decide +kernel
theorem dX5_pace_37 : decode cX5_pace 37 = .ok (.iload_n 1, 1) := by decide +kernel
theorem dX5_pace_38 : decode cX5_pace 38 = .ok (.iload_n 2, 1) := by decide +kernel
theorem dX5_pace_39 : decode cX5_pace 39 = .ok (.iastore, 1) := by decide +kernel
theorem dX5_pace_40 : decode cX5_pace 40 = .ok (.iload_n 3, 1) := by decide +kernel
theorem dX5_pace_41 : decode cX5_pace 41 = .ok (.ireturn, 1) := by decide +kernel
def tb_X5_pace (S_X5_in : ma_Cs) : Nat → ma_In := fun pc =>
 (if pc < 25 then
 (if pc < 12 then
 (if pc < 3 then
 (if pc < 1 then
 (if pc = 0 then in_ild 1 1 else in_no) else
 (if pc < 2 then
 (if pc = 1 then in_il (fun x => x.toInt64) 2 else in_no) else
 (if pc = 2 then in_push (.long 0) 3 else in_no))) else
 (if pc < 6 then
 (if pc = 3 then in_push (.long 5) 6 else in_no) else
 (if pc < 9 then
 (if pc = 6 then in_s3 S_X5_in 9 else in_no) else
 (if pc = 9 then in_if1 (fun x => x = 0) 24 12 else in_no)))) else
 (if pc < 15 then
 (if pc < 13 then
 (if pc = 12 then in_ild 2 13 else in_no) else
 (if pc < 14 then
 (if pc = 13 then in_il (fun x => x.toInt64) 14 else in_no) else
 (if pc = 14 then in_push (.long 1) 15 else in_no))) else
 (if pc < 21 then
 (if pc < 18 then
 (if pc = 15 then in_push (.long 20) 18 else in_no) else
 (if pc = 18 then in_s3 S_X5_in 21 else in_no)) else
 (if pc < 24 then
 (if pc = 21 then in_if1 (fun x => x = 0) 24 26 else in_no) else
 (if pc = 24 then in_push (.int (-1)) 25 else in_no))))) else
 (if pc < 33 then
 (if pc < 30 then
 (if pc < 26 then
 (if pc = 25 then in_ri else in_no) else
 (if pc < 27 then
 (if pc = 26 then in_ald 0 27 else in_no) else
 (if pc = 27 then in_get YM 5 28 30 else in_no))) else
 (if pc < 31 then
 (if pc = 30 then in_ild 1 31 else in_no) else
 (if pc < 32 then
 (if pc = 31 then in_iar YM 32 else in_no) else
 (if pc = 32 then in_ist 3 33 else in_no)))) else
 (if pc < 38 then
 (if pc < 34 then
 (if pc = 33 then in_ald 0 34 else in_no) else
 (if pc < 37 then
 (if pc = 34 then in_get YM 5 28 37 else in_no) else
 (if pc = 37 then in_ild 1 38 else in_no))) else
 (if pc < 40 then
 (if pc < 39 then
 (if pc = 38 then in_ild 2 39 else in_no) else
 (if pc = 39 then in_iaw YM 40 else in_no)) else
 (if pc < 41 then
 (if pc = 40 then in_ild 3 41 else in_no) else
 (if pc = 41 then in_ri else in_no))))))
theorem tk_X5_pace {l : Launch} {w : ma_Wd} {NC : Nat} {A : Nat → Prop} {S_X5_in : ma_Cs} (h_X5_in : ma_Sd l w YM NC A yX5_in cX5_in 6 (some .boolean) rm_X5_in S_X5_in) {p : Program} {e : Env} {s : State} {m : MethodId} {args : Array Value} {below : List Frame} {meth : Method} {c : Code} (X : ma_Cx p s m args meth c w YM NC A yX5_pace.cls cX5_pace 4 (some .int)) : ∀ pc, ma_Ok p l e rm_X5_pace s m args below meth c w YM NC A 4 pc (tb_X5_pace S_X5_in pc) := fun pc =>
 (mk_lt
 (mk_lt
 (mk_lt
 (mk_lt
 (mk_eq (mk_iload_n X dX5_pace_0 rfl rfl))
 (mk_lt
 (mk_eq (mk_i2l X dX5_pace_1 rfl))
 (mk_eq (mk_lconst X dX5_pace_2 rfl rfl))))
 (mk_lt
 (mk_eq (mk_ldc2 X dX5_pace_3 q1115 rfl))
 (mk_lt
 (mk_eq (mk_S3 X h_X5_in (lw_S q892 q893 q66 q894) ⟨by decide, by decide, rfl⟩ ⟨(Nat.le_of_ble_eq_true rfl), (Nat.le_of_ble_eq_true rfl)⟩ dX5_pace_6 rfl))
 (mk_eq (mk_ifeq X dX5_pace_9 rfl rfl)))))
 (mk_lt
 (mk_lt
 (mk_eq (mk_iload_n X dX5_pace_12 rfl rfl))
 (mk_lt
 (mk_eq (mk_i2l X dX5_pace_13 rfl))
 (mk_eq (mk_lconst X dX5_pace_14 rfl rfl))))
 (mk_lt
 (mk_lt
 (mk_eq (mk_ldc2 X dX5_pace_15 q1116 rfl))
 (mk_eq (mk_S3 X h_X5_in (lw_S q892 q893 q66 q894) ⟨by decide, by decide, rfl⟩ ⟨(Nat.le_of_ble_eq_true rfl), (Nat.le_of_ble_eq_true rfl)⟩ dX5_pace_18 rfl)))
 (mk_lt
 (mk_eq (mk_ifne X dX5_pace_21 rfl rfl))
 (mk_eq (mk_iconst X dX5_pace_24 rfl rfl))))))
 (mk_lt
 (mk_lt
 (mk_lt
 (mk_eq (mk_ri X dX5_pace_25))
 (mk_lt
 (mk_eq (mk_aload_n X dX5_pace_26 rfl rfl))
 (mk_eq (mk_get X (ci := 5) (j := 28) rfl in_X5 (Nat.le_of_ble_eq_true rfl) q775 dX5_pace_27 rfl))))
 (mk_lt
 (mk_eq (mk_iload_n X dX5_pace_30 rfl rfl))
 (mk_lt
 (mk_eq (mk_iar X dX5_pace_31 rfl))
 (mk_eq (mk_istore_n X dX5_pace_32 rfl (Nat.le_of_ble_eq_true rfl) rfl)))))
 (mk_lt
 (mk_lt
 (mk_eq (mk_aload_n X dX5_pace_33 rfl rfl))
 (mk_lt
 (mk_eq (mk_get X (ci := 5) (j := 28) rfl in_X5 (Nat.le_of_ble_eq_true rfl) q775 dX5_pace_34 rfl))
 (mk_eq (mk_iload_n X dX5_pace_37 rfl rfl))))
 (mk_lt
 (mk_lt
 (mk_eq (mk_iload_n X dX5_pace_38 rfl rfl))
 (mk_eq (mk_iaw X dX5_pace_39 rfl)))
 (mk_lt
 (mk_eq (mk_iload_n X dX5_pace_40 rfl rfl))
 (mk_eq (mk_ri X dX5_pace_41)))))))
theorem sd_X5_pace {l : Launch} {w : ma_Wd} {NC : Nat} {A : Nat → Prop} {S_X5_in : ma_Cs} (hw : ma_Wo w YM NC A) (h_X5_in : ma_Sd l w YM NC A yX5_in cX5_in 6 (some .boolean) rm_X5_in S_X5_in) : ma_Sd l w YM NC A yX5_pace cX5_pace 4 (some .int) rm_X5_pace (ma_rn (tb_X5_pace S_X5_in) 4) := ma_of hw (by decide) ⟨rfl, rfl⟩ (fun X => tk_X5_pace h_X5_in X)
theorem dX5_give_0 : decode cX5_give 0 = .ok (.aload_n 0, 1) := by decide +kernel
theorem dX5_give_1 : decode cX5_give 1 = .ok (.iload_n 1, 1) := by decide +kernel
theorem dX5_give_2 : decode cX5_give 2 = .ok (.invokevirtual 269, 3) := by decide +kernel
theorem dX5_give_5 : decode cX5_give 5 = .ok (.ifCond .eq 15, 3) := by decide +kernel
theorem dX5_give_8 : decode cX5_give 8 = .ok (.iload_n 2, 1) := by decide +kernel
theorem dX5_give_9 : decode cX5_give 9 = .ok (.i2l, 1) := by decide +kernel
theorem dX5_give_10 : decode cX5_give 10 = .ok (.lconst 0, 1) := by decide +kernel
theorem dX5_give_11 : decode cX5_give 11 = .ok (.ldc2_w 305, 3) := by decide +kernel
theorem dX5_give_14 : decode cX5_give 14 = .ok (.invokestatic 128, 3) := by decide +kernel
theorem dX5_give_17 : decode cX5_give 17 = .ok (.ifCond .ne 5, 3) := by decide +kernel
theorem dX5_give_20 : decode cX5_give 20 = .ok (.iconst (-1), 1) := by decide +kernel
theorem dX5_give_21 : decode cX5_give 21 = .ok (.ireturn, 1) := by decide +kernel
theorem dX5_give_22 : decode cX5_give 22 = .ok (.aload_n 0, 1) := by decide +kernel
theorem dX5_give_23 : decode cX5_give 23 = .ok (.getfield 78, 3) := by decide +kernel
theorem dX5_give_26 : decode cX5_give 26 = .ok (.iload_n 1, 1) := by decide +kernel
theorem dX5_give_27 : decode cX5_give 27 = .ok (.iaload, 1) := by decide +kernel
theorem dX5_give_28 : decode cX5_give 28 = .ok (.istore_n 3, 1) := by decide +kernel
theorem dX5_give_29 : decode cX5_give 29 = .ok (.aload_n 0, 1) := by decide +kernel
theorem dX5_give_30 : decode cX5_give 30 = .ok (.getfield 78, 3) := by decide +kernel
theorem dX5_give_33 : decode cX5_give 33 = .ok (.iload_n 1, 1) := by decide +kernel
theorem dX5_give_34 : decode cX5_give 34 = .ok (.iload_n 2, 1) := by decide +kernel
theorem dX5_give_35 : decode cX5_give 35 = .ok (.iastore, 1) := by decide +kernel
theorem dX5_give_36 : decode cX5_give 36 = .ok (.iload_n 3, 1) := by decide +kernel
theorem dX5_give_37 : decode cX5_give 37 = .ok (.ireturn, 1) := by decide +kernel
def tb_X5_give (S_X5_isCell S_X5_in : ma_Cs) : Nat → ma_In := fun pc =>
 (if pc < 22 then
 (if pc < 10 then
 (if pc < 5 then
 (if pc < 1 then
 (if pc = 0 then in_ald 0 1 else in_no) else
 (if pc < 2 then
 (if pc = 1 then in_ild 1 2 else in_no) else
 (if pc = 2 then in_v2 YM 5 S_X5_isCell 5 else in_no))) else
 (if pc < 8 then
 (if pc = 5 then in_if1 (fun x => x = 0) 20 8 else in_no) else
 (if pc < 9 then
 (if pc = 8 then in_ild 2 9 else in_no) else
 (if pc = 9 then in_il (fun x => x.toInt64) 10 else in_no)))) else
 (if pc < 17 then
 (if pc < 11 then
 (if pc = 10 then in_push (.long 0) 11 else in_no) else
 (if pc < 14 then
 (if pc = 11 then in_push (.long 5) 14 else in_no) else
 (if pc = 14 then in_s3 S_X5_in 17 else in_no))) else
 (if pc < 20 then
 (if pc = 17 then in_if1 (fun x => x = 0) 20 22 else in_no) else
 (if pc < 21 then
 (if pc = 20 then in_push (.int (-1)) 21 else in_no) else
 (if pc = 21 then in_ri else in_no))))) else
 (if pc < 30 then
 (if pc < 27 then
 (if pc < 23 then
 (if pc = 22 then in_ald 0 23 else in_no) else
 (if pc < 26 then
 (if pc = 23 then in_get YM 5 29 26 else in_no) else
 (if pc = 26 then in_ild 1 27 else in_no))) else
 (if pc < 28 then
 (if pc = 27 then in_iar YM 28 else in_no) else
 (if pc < 29 then
 (if pc = 28 then in_ist 3 29 else in_no) else
 (if pc = 29 then in_ald 0 30 else in_no)))) else
 (if pc < 35 then
 (if pc < 33 then
 (if pc = 30 then in_get YM 5 29 33 else in_no) else
 (if pc < 34 then
 (if pc = 33 then in_ild 1 34 else in_no) else
 (if pc = 34 then in_ild 2 35 else in_no))) else
 (if pc < 36 then
 (if pc = 35 then in_iaw YM 36 else in_no) else
 (if pc < 37 then
 (if pc = 36 then in_ild 3 37 else in_no) else
 (if pc = 37 then in_ri else in_no))))))
theorem tk_X5_give {l : Launch} {w : ma_Wd} {NC : Nat} {A : Nat → Prop} {S_X5_isCell S_X5_in : ma_Cs} (h_X5_isCell : ma_Sd l w YM NC A yX5_isCell cX5_isCell 2 (some .boolean) rm_X5_isCell S_X5_isCell) (h_X5_in : ma_Sd l w YM NC A yX5_in cX5_in 6 (some .boolean) rm_X5_in S_X5_in) {p : Program} {e : Env} {s : State} {m : MethodId} {args : Array Value} {below : List Frame} {meth : Method} {c : Code} (X : ma_Cx p s m args meth c w YM NC A yX5_give.cls cX5_give 4 (some .int)) : ∀ pc, ma_Ok p l e rm_X5_give s m args below meth c w YM NC A 4 pc (tb_X5_give S_X5_isCell S_X5_in pc) := fun pc =>
 (mk_lt
 (mk_lt
 (mk_lt
 (mk_lt
 (mk_eq (mk_aload_n X dX5_give_0 rfl rfl))
 (mk_lt
 (mk_eq (mk_iload_n X dX5_give_1 rfl rfl))
 (mk_eq (mk_V2 X h_X5_isCell (ci := 5) rfl (lw_V q977 q979 qs39 q66 q980) ⟨rfl, by decide, by decide, rfl⟩ ⟨(Nat.le_of_ble_eq_true rfl), (Nat.le_of_ble_eq_true rfl)⟩ dX5_give_2 rfl))))
 (mk_lt
 (mk_eq (mk_ifeq X dX5_give_5 rfl rfl))
 (mk_lt
 (mk_eq (mk_iload_n X dX5_give_8 rfl rfl))
 (mk_eq (mk_i2l X dX5_give_9 rfl)))))
 (mk_lt
 (mk_lt
 (mk_eq (mk_lconst X dX5_give_10 rfl rfl))
 (mk_lt
 (mk_eq (mk_ldc2 X dX5_give_11 q1115 rfl))
 (mk_eq (mk_S3 X h_X5_in (lw_S q892 q893 q66 q894) ⟨by decide, by decide, rfl⟩ ⟨(Nat.le_of_ble_eq_true rfl), (Nat.le_of_ble_eq_true rfl)⟩ dX5_give_14 rfl))))
 (mk_lt
 (mk_eq (mk_ifne X dX5_give_17 rfl rfl))
 (mk_lt
 (mk_eq (mk_iconst X dX5_give_20 rfl rfl))
 (mk_eq (mk_ri X dX5_give_21))))))
 (mk_lt
 (mk_lt
 (mk_lt
 (mk_eq (mk_aload_n X dX5_give_22 rfl rfl))
 (mk_lt
 (mk_eq (mk_get X (ci := 5) (j := 29) rfl in_X5 (Nat.le_of_ble_eq_true rfl) q776 dX5_give_23 rfl))
 (mk_eq (mk_iload_n X dX5_give_26 rfl rfl))))
 (mk_lt
 (mk_eq (mk_iar X dX5_give_27 rfl))
 (mk_lt
 (mk_eq (mk_istore_n X dX5_give_28 rfl (Nat.le_of_ble_eq_true rfl) rfl))
 (mk_eq (mk_aload_n X dX5_give_29 rfl rfl)))))
 (mk_lt
 (mk_lt
 (mk_eq (mk_get X (ci := 5) (j := 29) rfl in_X5 (Nat.le_of_ble_eq_true rfl) q776 dX5_give_30 rfl))
 (mk_lt
 (mk_eq (mk_iload_n X dX5_give_33 rfl rfl))
 (mk_eq (mk_iload_n X dX5_give_34 rfl rfl))))
 (mk_lt
 (mk_eq (mk_iaw X dX5_give_35 rfl))
 (mk_lt
 (mk_eq (mk_iload_n X dX5_give_36 rfl rfl))
 (mk_eq (mk_ri X dX5_give_37)))))))
theorem sd_X5_give {l : Launch} {w : ma_Wd} {NC : Nat} {A : Nat → Prop} {S_X5_isCell S_X5_in : ma_Cs} (hw : ma_Wo w YM NC A) (h_X5_isCell : ma_Sd l w YM NC A yX5_isCell cX5_isCell 2 (some .boolean) rm_X5_isCell S_X5_isCell) (h_X5_in : ma_Sd l w YM NC A yX5_in cX5_in 6 (some .boolean) rm_X5_in S_X5_in) : ma_Sd l w YM NC A yX5_give cX5_give 4 (some .int) rm_X5_give (ma_rn (tb_X5_give S_X5_isCell S_X5_in) 4) := ma_of hw (by decide) ⟨rfl, rfl⟩ (fun X => tk_X5_give h_X5_isCell h_X5_in X)
theorem dX5_when_0 : decode cX5_when 0 = .ok (.iload_n 1, 1) := by decide +kernel
theorem dX5_when_1 : decode cX5_when 1 = .ok (.i2l, 1) := by decide +kernel
theorem dX5_when_2 : decode cX5_when 2 = .ok (.lconst 0, 1) := by decide +kernel
theorem dX5_when_3 : decode cX5_when 3 = .ok (.ldc2_w 272, 3) := by decide +kernel
theorem dX5_when_6 : decode cX5_when 6 = .ok (.invokestatic 128, 3) := by decide +kernel
theorem dX5_when_9 : decode cX5_when 9 = .ok (.ifCond .eq 21, 3) := by decide +kernel
theorem dX5_when_12 : decode cX5_when 12 = .ok (.iload_n 2, 1) := by decide +kernel
theorem dX5_when_13 : decode cX5_when 13 = .ok (.i2l, 1) := by decide +kernel
theorem dX5_when_14 : decode cX5_when 14 = .ok (.ldc2_w 312, 3) := by decide +kernel
theorem dX5_when_17 : decode cX5_when 17 = .ok (.aload_n 0, 1) := by decide +kernel
theorem dX5_when_18 : decode cX5_when 18 = .ok (.invokevirtual 124, 3) := by decide +kernel
theorem dX5_when_21 : decode cX5_when 21 = .ok (.iconst 1, 1) := by decide +kernel
theorem dX5_when_22 : decode cX5_when 22 = .ok (.isub, 1) := by decide +kernel
theorem dX5_when_23 : decode cX5_when 23 = .ok (.i2l, 1) := by decide +kernel
theorem dX5_when_24 : decode cX5_when 24 = .ok (.invokestatic 128, 3) := by decide +kernel
theorem dX5_when_27 : decode cX5_when 27 = .ok (.ifCond .ne 5, 3) := by decide +kernel
theorem dX5_when_30 : decode cX5_when 30 = .ok (.iconst (-1), 1) := by decide +kernel
theorem dX5_when_31 : decode cX5_when 31 = .ok (.ireturn, 1) := by decide +kernel
theorem dX5_when_32 : decode cX5_when 32 = .ok (.aload_n 0, 1) := by decide +kernel
theorem dX5_when_33 : decode cX5_when 33 = .ok (.invokevirtual 314, 3) := by decide +kernel
theorem dX5_when_36 : decode cX5_when 36 = .ok (.iload_n 2, 1) := by decide +kernel
theorem dX5_when_37 : decode cX5_when 37 = .ok (.ifCond .ge 11, 3) := by decide +kernel
theorem dX5_when_40 : decode cX5_when 40 = .ok (.aload_n 0, 1) := by decide +kernel
theorem dX5_when_41 : decode cX5_when 41 = .ok (.iload_n 1, 1) := by decide +kernel
theorem dX5_when_42 : decode cX5_when 42 = .ok (.invokevirtual 317, 3) := by decide +kernel
theorem dX5_when_45 : decode cX5_when 45 = .ok (.goto 14, 3) := by decide +kernel
theorem dX5_when_48 : decode cX5_when 48 = .ok (.aload_n 0, 1) := by decide +kernel
theorem dX5_when_49 : decode cX5_when 49 = .ok (.getfield 103, 3) := by decide +kernel
theorem dX5_when_52 : decode cX5_when 52 = .ok (.bipush 36, 2) := by decide +kernel
theorem dX5_when_54 : decode cX5_when 54 = .ok (.iload_n 1, 1) := by decide +kernel
theorem dX5_when_55 : decode cX5_when 55 = .ok (.imul, 1) := by decide +kernel
theorem dX5_when_56 : decode cX5_when 56 = .ok (.iload_n 2, 1) := by decide +kernel
theorem dX5_when_57 : decode cX5_when 57 = .ok (.iadd, 1) := by decide +kernel
theorem dX5_when_58 : decode cX5_when 58 = .ok (.iaload, 1) := by decide +kernel
theorem dX5_when_59 : decode cX5_when 59 = .ok (.ireturn, 1) := by decide +kernel
def tb_X5_when (S_X5_in S_X5_cells S_X5_ownEnds S_X5_lastOf : ma_Cs) : Nat → ma_In := fun pc =>
 (if pc < 31 then
 (if pc < 14 then
 (if pc < 6 then
 (if pc < 2 then
 (if pc < 1 then
 (if pc = 0 then in_ild 1 1 else in_no) else
 (if pc = 1 then in_il (fun x => x.toInt64) 2 else in_no)) else
 (if pc < 3 then
 (if pc = 2 then in_push (.long 0) 3 else in_no) else
 (if pc = 3 then in_push (.long 12) 6 else in_no))) else
 (if pc < 12 then
 (if pc < 9 then
 (if pc = 6 then in_s3 S_X5_in 9 else in_no) else
 (if pc = 9 then in_if1 (fun x => x = 0) 30 12 else in_no)) else
 (if pc < 13 then
 (if pc = 12 then in_ild 2 13 else in_no) else
 (if pc = 13 then in_il (fun x => x.toInt64) 14 else in_no)))) else
 (if pc < 22 then
 (if pc < 18 then
 (if pc < 17 then
 (if pc = 14 then in_push (.long (-1)) 17 else in_no) else
 (if pc = 17 then in_ald 0 18 else in_no)) else
 (if pc < 21 then
 (if pc = 18 then in_v1 YM 5 S_X5_cells 21 else in_no) else
 (if pc = 21 then in_push (.int 1) 22 else in_no))) else
 (if pc < 24 then
 (if pc < 23 then
 (if pc = 22 then in_iii (fun x y => x - y) 23 else in_no) else
 (if pc = 23 then in_il (fun x => x.toInt64) 24 else in_no)) else
 (if pc < 27 then
 (if pc = 24 then in_s3 S_X5_in 27 else in_no) else
 (if pc < 30 then
 (if pc = 27 then in_if1 (fun x => x = 0) 30 32 else in_no) else
 (if pc = 30 then in_push (.int (-1)) 31 else in_no)))))) else
 (if pc < 48 then
 (if pc < 37 then
 (if pc < 33 then
 (if pc < 32 then
 (if pc = 31 then in_ri else in_no) else
 (if pc = 32 then in_ald 0 33 else in_no)) else
 (if pc < 36 then
 (if pc = 33 then in_v1 YM 5 S_X5_ownEnds 36 else in_no) else
 (if pc = 36 then in_ild 2 37 else in_no))) else
 (if pc < 41 then
 (if pc < 40 then
 (if pc = 37 then in_if1 (fun x => 0 ≤ x) 48 40 else in_no) else
 (if pc = 40 then in_ald 0 41 else in_no)) else
 (if pc < 42 then
 (if pc = 41 then in_ild 1 42 else in_no) else
 (if pc < 45 then
 (if pc = 42 then in_v2 YM 5 S_X5_lastOf 45 else in_no) else
 (if pc = 45 then in_go 59 else in_no))))) else
 (if pc < 55 then
 (if pc < 52 then
 (if pc < 49 then
 (if pc = 48 then in_ald 0 49 else in_no) else
 (if pc = 49 then in_get YM 5 43 52 else in_no)) else
 (if pc < 54 then
 (if pc = 52 then in_push (.int 36) 54 else in_no) else
 (if pc = 54 then in_ild 1 55 else in_no))) else
 (if pc < 57 then
 (if pc < 56 then
 (if pc = 55 then in_iii (fun x y => x * y) 56 else in_no) else
 (if pc = 56 then in_ild 2 57 else in_no)) else
 (if pc < 58 then
 (if pc = 57 then in_iii (fun x y => x + y) 58 else in_no) else
 (if pc < 59 then
 (if pc = 58 then in_iar YM 59 else in_no) else
 (if pc = 59 then in_ri else in_no)))))))
theorem tk_X5_when {l : Launch} {w : ma_Wd} {NC : Nat} {A : Nat → Prop} {S_X5_in S_X5_cells S_X5_ownEnds S_X5_lastOf : ma_Cs} (h_X5_in : ma_Sd l w YM NC A yX5_in cX5_in 6 (some .boolean) rm_X5_in S_X5_in) (h_X5_cells : ma_Sd l w YM NC A yX5_cells cX5_cells 1 (some .int) rm_X5_cells S_X5_cells) (h_X5_ownEnds : ma_Sd l w YM NC A yX5_ownEnds cX5_ownEnds 2 none rm_X5_ownEnds S_X5_ownEnds) (h_X5_lastOf : ma_Sd l w YM NC A yX5_lastOf cX5_lastOf 4 (some .int) rm_X5_lastOf S_X5_lastOf) {p : Program} {e : Env} {s : State} {m : MethodId} {args : Array Value} {below : List Frame} {meth : Method} {c : Code} (X : ma_Cx p s m args meth c w YM NC A yX5_when.cls cX5_when 3 (some .int)) : ∀ pc, ma_Ok p l e rm_X5_when s m args below meth c w YM NC A 3 pc (tb_X5_when S_X5_in S_X5_cells S_X5_ownEnds S_X5_lastOf pc) := fun pc =>
 (mk_lt
 (mk_lt
 (mk_lt
 (mk_lt
 (mk_lt
 (mk_eq (mk_iload_n X dX5_when_0 rfl rfl))
 (mk_eq (mk_i2l X dX5_when_1 rfl)))
 (mk_lt
 (mk_eq (mk_lconst X dX5_when_2 rfl rfl))
 (mk_eq (mk_ldc2 X dX5_when_3 q989 rfl))))
 (mk_lt
 (mk_lt
 (mk_eq (mk_S3 X h_X5_in (lw_S q892 q893 q66 q894) ⟨by decide, by decide, rfl⟩ ⟨(Nat.le_of_ble_eq_true rfl), (Nat.le_of_ble_eq_true rfl)⟩ dX5_when_6 rfl))
 (mk_eq (mk_ifeq X dX5_when_9 rfl rfl)))
 (mk_lt
 (mk_eq (mk_iload_n X dX5_when_12 rfl rfl))
 (mk_eq (mk_i2l X dX5_when_13 rfl)))))
 (mk_lt
 (mk_lt
 (mk_lt
 (mk_eq (mk_ldc2 X dX5_when_14 q1125 rfl))
 (mk_eq (mk_aload_n X dX5_when_17 rfl rfl)))
 (mk_lt
 (mk_eq (mk_V1 X h_X5_cells (ci := 5) rfl (lw_V q895 q897 qs30 q66 q898) ⟨rfl, by decide, by decide, rfl⟩ ⟨(Nat.le_of_ble_eq_true rfl), (Nat.le_of_ble_eq_true rfl)⟩ dX5_when_18 rfl))
 (mk_eq (mk_iconst X dX5_when_21 rfl rfl))))
 (mk_lt
 (mk_lt
 (mk_eq (mk_isub X dX5_when_22 rfl))
 (mk_eq (mk_i2l X dX5_when_23 rfl)))
 (mk_lt
 (mk_eq (mk_S3 X h_X5_in (lw_S q892 q893 q66 q894) ⟨by decide, by decide, rfl⟩ ⟨(Nat.le_of_ble_eq_true rfl), (Nat.le_of_ble_eq_true rfl)⟩ dX5_when_24 rfl))
 (mk_lt
 (mk_eq (mk_ifne X dX5_when_27 rfl rfl))
 (mk_eq (mk_iconst X dX5_when_30 rfl rfl)))))))
 (mk_lt
 (mk_lt
 (mk_lt
 (mk_lt
 (mk_eq (mk_ri X dX5_when_31))
 (mk_eq (mk_aload_n X dX5_when_32 rfl rfl)))
 (mk_lt
 (mk_eq (mk_V1 X h_X5_ownEnds (ci := 5) rfl (lw_V q1126 q1128 qs53 q66 q1129) ⟨rfl, by decide, by decide, rfl⟩ ⟨(Nat.le_of_ble_eq_true rfl), (Nat.le_of_ble_eq_true rfl)⟩ dX5_when_33 rfl))
 (mk_eq (mk_iload_n X dX5_when_36 rfl rfl))))
 (mk_lt
 (mk_lt
 (mk_eq (mk_ifge X dX5_when_37 rfl rfl))
 (mk_eq (mk_aload_n X dX5_when_40 rfl rfl)))
 (mk_lt
 (mk_eq (mk_iload_n X dX5_when_41 rfl rfl))
 (mk_lt
 (mk_eq (mk_V2 X h_X5_lastOf (ci := 5) rfl (lw_V q1134 q1136 qs55 q66 q1137) ⟨rfl, by decide, by decide, rfl⟩ ⟨(Nat.le_of_ble_eq_true rfl), (Nat.le_of_ble_eq_true rfl)⟩ dX5_when_42 rfl))
 (mk_eq (mk_goto X dX5_when_45 rfl))))))
 (mk_lt
 (mk_lt
 (mk_lt
 (mk_eq (mk_aload_n X dX5_when_48 rfl rfl))
 (mk_eq (mk_get X (ci := 5) (j := 43) rfl in_X5 (Nat.le_of_ble_eq_true rfl) q790 dX5_when_49 rfl)))
 (mk_lt
 (mk_eq (mk_bipush X dX5_when_52 rfl rfl))
 (mk_eq (mk_iload_n X dX5_when_54 rfl rfl))))
 (mk_lt
 (mk_lt
 (mk_eq (mk_imul X dX5_when_55 rfl))
 (mk_eq (mk_iload_n X dX5_when_56 rfl rfl)))
 (mk_lt
 (mk_eq (mk_iadd X dX5_when_57 rfl))
 (mk_lt
 (mk_eq (mk_iar X dX5_when_58 rfl))
 (mk_eq (mk_ri X dX5_when_59))))))))
theorem sd_X5_when {l : Launch} {w : ma_Wd} {NC : Nat} {A : Nat → Prop} {S_X5_in S_X5_cells S_X5_ownEnds S_X5_lastOf : ma_Cs} (hw : ma_Wo w YM NC A) (h_X5_in : ma_Sd l w YM NC A yX5_in cX5_in 6 (some .boolean) rm_X5_in S_X5_in) (h_X5_cells : ma_Sd l w YM NC A yX5_cells cX5_cells 1 (some .int) rm_X5_cells S_X5_cells) (h_X5_ownEnds : ma_Sd l w YM NC A yX5_ownEnds cX5_ownEnds 2 none rm_X5_ownEnds S_X5_ownEnds) (h_X5_lastOf : ma_Sd l w YM NC A yX5_lastOf cX5_lastOf 4 (some .int) rm_X5_lastOf S_X5_lastOf) : ma_Sd l w YM NC A yX5_when cX5_when 3 (some .int) rm_X5_when (ma_rn (tb_X5_when S_X5_in S_X5_cells S_X5_ownEnds S_X5_lastOf) 3) := ma_of hw (by decide) ⟨rfl, rfl⟩ (fun X => tk_X5_when h_X5_in h_X5_cells h_X5_ownEnds h_X5_lastOf X)
theorem dX5_ownEnds_0 : decode cX5_ownEnds 0 = .ok (.iconst 0, 1) := by decide +kernel
theorem dX5_ownEnds_1 : decode cX5_ownEnds 1 = .ok (.istore_n 1, 1) := by decide +kernel
theorem dX5_ownEnds_2 : decode cX5_ownEnds 2 = .ok (.iload_n 1, 1) := by decide +kernel
theorem dX5_ownEnds_3 : decode cX5_ownEnds 3 = .ok (.bipush 36, 2) := by decide +kernel
theorem dX5_ownEnds_5 : decode cX5_ownEnds 5 = .ok (.if_icmp .ge 28, 3) := by decide +kernel
theorem dX5_ownEnds_8 : decode cX5_ownEnds 8 = .ok (.aload_n 0, 1) := by decide +kernel
theorem dX5_ownEnds_9 : decode cX5_ownEnds 9 = .ok (.getfield 106, 3) := by decide +kernel
theorem dX5_ownEnds_12 : decode cX5_ownEnds 12 = .ok (.iload_n 1, 1) := by decide +kernel
theorem dX5_ownEnds_13 : decode cX5_ownEnds 13 = .ok (.aload_n 0, 1) := by decide +kernel
theorem dX5_ownEnds_14 : decode cX5_ownEnds 14 = .ok (.getfield 78, 3) := by decide +kernel
theorem dX5_ownEnds_17 : decode cX5_ownEnds 17 = .ok (.iload_n 1, 1) := by decide +kernel
theorem dX5_ownEnds_18 : decode cX5_ownEnds 18 = .ok (.iaload, 1) := by decide +kernel
theorem dX5_ownEnds_19 : decode cX5_ownEnds 19 = .ok (.iastore, 1) := by decide +kernel
theorem dX5_ownEnds_20 : decode cX5_ownEnds 20 = .ok (.aload_n 0, 1) := by decide +kernel
theorem dX5_ownEnds_21 : decode cX5_ownEnds 21 = .ok (.getfield 103, 3) := by decide +kernel
theorem dX5_ownEnds_24 : decode cX5_ownEnds 24 = .ok (.iload_n 1, 1) := by decide +kernel
theorem dX5_ownEnds_25 : decode cX5_ownEnds 25 = .ok (.iconst 0, 1) := by decide +kernel
theorem dX5_ownEnds_26 : decode cX5_ownEnds 26 = .ok (.iastore, 1) := by decide +kernel
theorem dX5_ownEnds_27 : decode cX5_ownEnds 27 = .ok (.iinc 1 1, 3) := by decide +kernel
theorem dX5_ownEnds_30 : decode cX5_ownEnds 30 = .ok (.goto (-28), 3) := by decide +kernel
theorem dX5_ownEnds_33 : decode cX5_ownEnds 33 = .ok (.aload_n 0, 1) := by decide +kernel
theorem dX5_ownEnds_34 : decode cX5_ownEnds 34 = .ok (.bipush 12, 2) := by decide +kernel
theorem dX5_ownEnds_36 : decode cX5_ownEnds 36 = .ok (.invokevirtual 309, 3) := by decide +kernel
theorem dX5_ownEnds_39 : decode cX5_ownEnds 39 = .ok (.return_, 1) := by decide +kernel
def tb_X5_ownEnds (S_X5_ends : ma_Cs) : Nat → ma_In := fun pc =>
 (if pc < 19 then
 (if pc < 9 then
 (if pc < 3 then
 (if pc < 1 then
 (if pc = 0 then in_push (.int 0) 1 else in_no) else
 (if pc < 2 then
 (if pc = 1 then in_ist 1 2 else in_no) else
 (if pc = 2 then in_ild 1 3 else in_no))) else
 (if pc < 5 then
 (if pc = 3 then in_push (.int 36) 5 else in_no) else
 (if pc < 8 then
 (if pc = 5 then in_if2 (fun x y => y ≤ x) 33 8 else in_no) else
 (if pc = 8 then in_ald 0 9 else in_no)))) else
 (if pc < 14 then
 (if pc < 12 then
 (if pc = 9 then in_get YM 5 44 12 else in_no) else
 (if pc < 13 then
 (if pc = 12 then in_ild 1 13 else in_no) else
 (if pc = 13 then in_ald 0 14 else in_no))) else
 (if pc < 17 then
 (if pc = 14 then in_get YM 5 29 17 else in_no) else
 (if pc < 18 then
 (if pc = 17 then in_ild 1 18 else in_no) else
 (if pc = 18 then in_iar YM 19 else in_no))))) else
 (if pc < 27 then
 (if pc < 24 then
 (if pc < 20 then
 (if pc = 19 then in_iaw YM 20 else in_no) else
 (if pc < 21 then
 (if pc = 20 then in_ald 0 21 else in_no) else
 (if pc = 21 then in_get YM 5 43 24 else in_no))) else
 (if pc < 25 then
 (if pc = 24 then in_ild 1 25 else in_no) else
 (if pc < 26 then
 (if pc = 25 then in_push (.int 0) 26 else in_no) else
 (if pc = 26 then in_iaw YM 27 else in_no)))) else
 (if pc < 34 then
 (if pc < 30 then
 (if pc = 27 then in_inc 1 1 30 else in_no) else
 (if pc < 33 then
 (if pc = 30 then in_go 2 else in_no) else
 (if pc = 33 then in_ald 0 34 else in_no))) else
 (if pc < 36 then
 (if pc = 34 then in_push (.int 12) 36 else in_no) else
 (if pc < 39 then
 (if pc = 36 then in_v2 YM 5 S_X5_ends 39 else in_no) else
 (if pc = 39 then in_rv else in_no))))))
theorem tk_X5_ownEnds {l : Launch} {w : ma_Wd} {NC : Nat} {A : Nat → Prop} {S_X5_ends : ma_Cs} (h_X5_ends : ma_Sd l w YM NC A yX5_ends cX5_ends 9 none rm_X5_ends S_X5_ends) {p : Program} {e : Env} {s : State} {m : MethodId} {args : Array Value} {below : List Frame} {meth : Method} {c : Code} (X : ma_Cx p s m args meth c w YM NC A yX5_ownEnds.cls cX5_ownEnds 2 none) : ∀ pc, ma_Ok p l e rm_X5_ownEnds s m args below meth c w YM NC A 2 pc (tb_X5_ownEnds S_X5_ends pc) := fun pc =>
 (mk_lt
 (mk_lt
 (mk_lt
 (mk_lt
 (mk_eq (mk_iconst X dX5_ownEnds_0 rfl rfl))
 (mk_lt
 (mk_eq (mk_istore_n X dX5_ownEnds_1 rfl (Nat.le_of_ble_eq_true rfl) rfl))
 (mk_eq (mk_iload_n X dX5_ownEnds_2 rfl rfl))))
 (mk_lt
 (mk_eq (mk_bipush X dX5_ownEnds_3 rfl rfl))
 (mk_lt
 (mk_eq (mk_icge X dX5_ownEnds_5 rfl rfl))
 (mk_eq (mk_aload_n X dX5_ownEnds_8 rfl rfl)))))
 (mk_lt
 (mk_lt
 (mk_eq (mk_get X (ci := 5) (j := 44) rfl in_X5 (Nat.le_of_ble_eq_true rfl) q791 dX5_ownEnds_9 rfl))
 (mk_lt
 (mk_eq (mk_iload_n X dX5_ownEnds_12 rfl rfl))
 (mk_eq (mk_aload_n X dX5_ownEnds_13 rfl rfl))))
 (mk_lt
 (mk_eq (mk_get X (ci := 5) (j := 29) rfl in_X5 (Nat.le_of_ble_eq_true rfl) q776 dX5_ownEnds_14 rfl))
 (mk_lt
 (mk_eq (mk_iload_n X dX5_ownEnds_17 rfl rfl))
 (mk_eq (mk_iar X dX5_ownEnds_18 rfl))))))
 (mk_lt
 (mk_lt
 (mk_lt
 (mk_eq (mk_iaw X dX5_ownEnds_19 rfl))
 (mk_lt
 (mk_eq (mk_aload_n X dX5_ownEnds_20 rfl rfl))
 (mk_eq (mk_get X (ci := 5) (j := 43) rfl in_X5 (Nat.le_of_ble_eq_true rfl) q790 dX5_ownEnds_21 rfl))))
 (mk_lt
 (mk_eq (mk_iload_n X dX5_ownEnds_24 rfl rfl))
 (mk_lt
 (mk_eq (mk_iconst X dX5_ownEnds_25 rfl rfl))
 (mk_eq (mk_iaw X dX5_ownEnds_26 rfl)))))
 (mk_lt
 (mk_lt
 (mk_eq (mk_iinc X dX5_ownEnds_27 rfl (Nat.le_of_ble_eq_true rfl) rfl))
 (mk_lt
 (mk_eq (mk_goto X dX5_ownEnds_30 rfl))
 (mk_eq (mk_aload_n X dX5_ownEnds_33 rfl rfl))))
 (mk_lt
 (mk_eq (mk_bipush X dX5_ownEnds_34 rfl rfl))
 (mk_lt
 (mk_eq (mk_V2 X h_X5_ends (ci := 5) rfl (lw_V q1130 q1132 qs54 q66 q1133) ⟨rfl, by decide, by decide, rfl⟩ ⟨(Nat.le_of_ble_eq_true rfl), (Nat.le_of_ble_eq_true rfl)⟩ dX5_ownEnds_36 rfl))
 (mk_eq (mk_rv X dX5_ownEnds_39)))))))
theorem sd_X5_ownEnds {l : Launch} {w : ma_Wd} {NC : Nat} {A : Nat → Prop} {S_X5_ends : ma_Cs} (hw : ma_Wo w YM NC A) (h_X5_ends : ma_Sd l w YM NC A yX5_ends cX5_ends 9 none rm_X5_ends S_X5_ends) : ma_Sd l w YM NC A yX5_ownEnds cX5_ownEnds 2 none rm_X5_ownEnds (ma_rn (tb_X5_ownEnds S_X5_ends) 2) := ma_of hw (by decide) ⟨rfl, rfl⟩ (fun X => tk_X5_ownEnds h_X5_ends X)
theorem dX5_ends_0 : decode cX5_ends 0 = .ok (.aload_n 0, 1) := by decide +kernel
theorem dX5_ends_1 : decode cX5_ends 1 = .ok (.aload_n 0, 1) := by decide +kernel
theorem dX5_ends_2 : decode cX5_ends 2 = .ok (.getfield 7, 3) := by decide +kernel
theorem dX5_ends_5 : decode cX5_ends 5 = .ok (.putfield 211, 3) := by decide +kernel
theorem dX5_ends_8 : decode cX5_ends 8 = .ok (.aload_n 0, 1) := by decide +kernel
theorem dX5_ends_9 : decode cX5_ends 9 = .ok (.aload_n 0, 1) := by decide +kernel
theorem dX5_ends_10 : decode cX5_ends 10 = .ok (.getfield 13, 3) := by decide +kernel
theorem dX5_ends_13 : decode cX5_ends 13 = .ok (.putfield 214, 3) := by decide +kernel
theorem dX5_ends_16 : decode cX5_ends 16 = .ok (.iconst 0, 1) := by decide +kernel
theorem dX5_ends_17 : decode cX5_ends 17 = .ok (.istore_n 2, 1) := by decide +kernel
theorem dX5_ends_18 : decode cX5_ends 18 = .ok (.iload_n 2, 1) := by decide +kernel
theorem dX5_ends_19 : decode cX5_ends 19 = .ok (.bipush 6, 2) := by decide +kernel
theorem dX5_ends_21 : decode cX5_ends 21 = .ok (.if_icmp .ge 16, 3) := by decide +kernel
theorem dX5_ends_24 : decode cX5_ends 24 = .ok (.aload_n 0, 1) := by decide +kernel
theorem dX5_ends_25 : decode cX5_ends 25 = .ok (.getfield 109, 3) := by decide +kernel
theorem dX5_ends_28 : decode cX5_ends 28 = .ok (.iload_n 2, 1) := by decide +kernel
theorem dX5_ends_29 : decode cX5_ends 29 = .ok (.iconst 0, 1) := by decide +kernel
theorem dX5_ends_30 : decode cX5_ends 30 = .ok (.iastore, 1) := by decide +kernel
theorem dX5_ends_31 : decode cX5_ends 31 = .ok (.iinc 2 1, 3) := by decide +kernel
theorem dX5_ends_34 : decode cX5_ends 34 = .ok (.goto (-16), 3) := by decide +kernel
theorem dX5_ends_37 : decode cX5_ends 37 = .ok (.iconst 1, 1) := by decide +kernel
theorem dX5_ends_38 : decode cX5_ends 38 = .ok (.istore_n 2, 1) := by decide +kernel
theorem dX5_ends_39 : decode cX5_ends 39 = .ok (.iload_n 2, 1) := by decide +kernel
theorem dX5_ends_40 : decode cX5_ends 40 = .ok (.iload_n 1, 1) := by decide +kernel
theorem dX5_ends_41 : decode cX5_ends 41 = .ok (.if_icmp .gt 167, 3) := by decide +kernel
theorem dX5_ends_44 : decode cX5_ends 44 = .ok (.iconst 0, 1) := by decide +kernel
theorem dX5_ends_45 : decode cX5_ends 45 = .ok (.istore_n 3, 1) := by decide +kernel
theorem dX5_ends_46 : decode cX5_ends 46 = .ok (.iload_n 3, 1) := by decide +kernel
theorem dX5_ends_47 : decode cX5_ends 47 = .ok (.aload_n 0, 1) := by decide +kernel
theorem dX5_ends_48 : decode cX5_ends 48 = .ok (.invokevirtual 124, 3) := by decide +kernel
theorem dX5_ends_51 : decode cX5_ends 51 = .ok (.if_icmp .ge 151, 3) := by decide +kernel
theorem dX5_ends_54 : decode cX5_ends 54 = .ok (.aload_n 0, 1) := by decide +kernel
theorem dX5_ends_55 : decode cX5_ends 55 = .ok (.getfield 106, 3) := by decide +kernel
theorem dX5_ends_58 : decode cX5_ends 58 = .ok (.iload_n 3, 1) := by decide +kernel
theorem dX5_ends_59 : decode cX5_ends 59 = .ok (.iaload, 1) := by decide +kernel
theorem dX5_ends_60 : decode cX5_ends 60 = .ok (.istore 4, 2) := by decide +kernel
theorem dX5_ends_62 : decode cX5_ends 62 = .ok (.aload_n 0, 1) := by decide +kernel
theorem dX5_ends_63 : decode cX5_ends 63 = .ok (.getfield 109, 3) := by decide +kernel
theorem dX5_ends_66 : decode cX5_ends 66 = .ok (.iload 4, 2) := by decide +kernel
theorem dX5_ends_68 : decode cX5_ends 68 = .ok (.iaload, 1) := by decide +kernel
theorem dX5_ends_69 : decode cX5_ends 69 = .ok (.istore 5, 2) := by decide +kernel
theorem dX5_ends_71 : decode cX5_ends 71 = .ok (.iconst 1, 1) := by decide +kernel
theorem dX5_ends_72 : decode cX5_ends 72 = .ok (.istore 6, 2) := by decide +kernel
theorem dX5_ends_74 : decode cX5_ends 74 = .ok (.iload 6, 2) := by decide +kernel
theorem dX5_ends_76 : decode cX5_ends 76 = .ok (.iconst 5, 1) := by decide +kernel
theorem dX5_ends_77 : decode cX5_ends 77 = .ok (.if_icmp .ge 81, 3) := by decide +kernel
theorem dX5_ends_80 : decode cX5_ends 80 = .ok (.iload_n 2, 1) := by decide +kernel
theorem dX5_ends_81 : decode cX5_ends 81 = .ok (.iconst 1, 1) := by decide +kernel
theorem dX5_ends_82 : decode cX5_ends 82 = .ok (.if_icmp .le 76, 3) := by decide +kernel
theorem dX5_ends_85 : decode cX5_ends 85 = .ok (.aload_n 0, 1) := by decide +kernel
theorem dX5_ends_86 : decode cX5_ends 86 = .ok (.iload_n 3, 1) := by decide +kernel
theorem dX5_ends_87 : decode cX5_ends 87 = .ok (.iload 6, 2) := by decide +kernel
theorem dX5_ends_89 : decode cX5_ends 89 = .ok (.invokevirtual 221, 3) := by decide +kernel
theorem dX5_ends_92 : decode cX5_ends 92 = .ok (.istore 7, 2) := by decide +kernel
theorem dX5_ends_94 : decode cX5_ends 94 = .ok (.iload 7, 2) := by decide +kernel
theorem dX5_ends_96 : decode cX5_ends 96 = .ok (.ifCond .lt 56, 3) := by decide +kernel
theorem dX5_ends_99 : decode cX5_ends 99 = .ok (.aload_n 0, 1) := by decide +kernel
theorem dX5_ends_100 : decode cX5_ends 100 = .ok (.getfield 103, 3) := by decide +kernel
theorem dX5_ends_103 : decode cX5_ends 103 = .ok (.bipush 36, 2) := by decide +kernel
theorem dX5_ends_105 : decode cX5_ends 105 = .ok (.iload_n 2, 1) := by decide +kernel
theorem dX5_ends_106 : decode cX5_ends 106 = .ok (.iconst 1, 1) := by decide +kernel
theorem dX5_ends_107 : decode cX5_ends 107 = .ok (.isub, 1) := by decide +kernel
theorem dX5_ends_108 : decode cX5_ends 108 = .ok (.imul, 1) := by decide +kernel
theorem dX5_ends_109 : decode cX5_ends 109 = .ok (.iload 7, 2) := by decide +kernel
theorem dX5_ends_111 : decode cX5_ends 111 = .ok (.iadd, 1) := by decide +kernel
theorem dX5_ends_112 : decode cX5_ends 112 = .ok (.iaload, 1) := by decide +kernel
theorem dX5_ends_113 : decode cX5_ends 113 = .ok (.aload_n 0, 1) := by decide +kernel
theorem dX5_ends_114 : decode cX5_ends 114 = .ok (.getfield 106, 3) := by decide +kernel
theorem dX5_ends_117 : decode cX5_ends 117 = .ok (.iload 7, 2) := by decide +kernel
theorem dX5_ends_119 : decode cX5_ends 119 = .ok (.iaload, 1) := by decide +kernel
theorem dX5_ends_120 : decode cX5_ends 120 = .ok (.iload 4, 2) := by decide +kernel
theorem dX5_ends_122 : decode cX5_ends 122 = .ok (.if_icmp .ne 7, 3) := by decide +kernel
theorem dX5_ends_125 : decode cX5_ends 125 = .ok (.iconst 0, 1) := by decide +kernel
theorem dX5_ends_126 : decode cX5_ends 126 = .ok (.goto 7, 3) := by decide +kernel
theorem dX5_ends_129 : decode cX5_ends 129 = .ok (.aload_n 0, 1) := by decide +kernel
theorem dX5_ends_130 : decode cX5_ends 130 = .ok (.getfield 16, 3) := by decide +kernel
theorem dX5_ends_133 : decode cX5_ends 133 = .ok (.iadd, 1) := by decide +kernel
theorem dX5_ends_134 : decode cX5_ends 134 = .ok (.istore 8, 2) := by decide +kernel
theorem dX5_ends_136 : decode cX5_ends 136 = .ok (.iload 8, 2) := by decide +kernel
theorem dX5_ends_138 : decode cX5_ends 138 = .ok (.iload 5, 2) := by decide +kernel
theorem dX5_ends_140 : decode cX5_ends 140 = .ok (.if_icmp .le 8, 3) := by decide +kernel
theorem dX5_ends_143 : decode cX5_ends 143 = .ok (.iload 8, 2) := by decide +kernel
theorem dX5_ends_145 : decode cX5_ends 145 = .ok (.goto 5, 3) := by decide +kernel
theorem dX5_ends_148 : decode cX5_ends 148 = .ok (.iload 5, 2) := by decide +kernel
theorem dX5_ends_150 : decode cX5_ends 150 = .ok (.istore 5, 2) := by decide +kernel
theorem dX5_ends_152 : decode cX5_ends 152 = .ok (.iinc 6 1, 3) := by decide +kernel
theorem dX5_ends_155 : decode cX5_ends 155 = .ok (.goto (-81), 3) := by decide +kernel
theorem dX5_ends_158 : decode cX5_ends 158 = .ok (.aload_n 0, 1) := by decide +kernel
theorem dX5_ends_159 : decode cX5_ends 159 = .ok (.getfield 103, 3) := by decide +kernel
theorem dX5_ends_162 : decode cX5_ends 162 = .ok (.bipush 36, 2) := by decide +kernel
theorem dX5_ends_164 : decode cX5_ends 164 = .ok (.iload_n 2, 1) := by decide +kernel
theorem dX5_ends_165 : decode cX5_ends 165 = .ok (.imul, 1) := by decide +kernel
theorem dX5_ends_166 : decode cX5_ends 166 = .ok (.iload_n 3, 1) := by decide +kernel
theorem dX5_ends_167 : decode cX5_ends 167 = .ok (.iadd, 1) := by decide +kernel
theorem dX5_ends_168 : decode cX5_ends 168 = .ok (.iload 5, 2) := by decide +kernel
theorem dX5_ends_170 : decode cX5_ends 170 = .ok (.aload_n 0, 1) := by decide +kernel
theorem dX5_ends_171 : decode cX5_ends 171 = .ok (.getfield 75, 3) := by decide +kernel
theorem dX5_ends_174 : decode cX5_ends 174 = .ok (.iload 4, 2) := by decide +kernel
theorem dX5_ends_176 : decode cX5_ends 176 = .ok (.iaload, 1) := by decide +kernel
theorem dX5_ends_177 : decode cX5_ends 177 = .ok (.iadd, 1) := by decide +kernel
theorem dX5_ends_178 : decode cX5_ends 178 = .ok (.iastore, 1) := by decide +kernel
theorem dX5_ends_179 : decode cX5_ends 179 = .ok (.aload_n 0, 1) := by decide +kernel
theorem dX5_ends_180 : decode cX5_ends 180 = .ok (.getfield 109, 3) := by decide +kernel
theorem dX5_ends_183 : decode cX5_ends 183 = .ok (.iload 4, 2) := by decide +kernel
theorem dX5_ends_185 : decode cX5_ends 185 = .ok (.iload 5, 2) := by decide +kernel
theorem dX5_ends_187 : decode cX5_ends 187 = .ok (.aload_n 0, 1) := by decide +kernel
theorem dX5_ends_188 : decode cX5_ends 188 = .ok (.getfield 75, 3) := by decide +kernel
theorem dX5_ends_191 : decode cX5_ends 191 = .ok (.iload 4, 2) := by decide +kernel
theorem dX5_ends_193 : decode cX5_ends 193 = .ok (.iaload, 1) := by decide +kernel
theorem dX5_ends_194 : decode cX5_ends 194 = .ok (.iadd, 1) := by decide +kernel
theorem dX5_ends_195 : decode cX5_ends 195 = .ok (.iastore, 1) := by decide +kernel
theorem dX5_ends_196 : decode cX5_ends 196 = .ok (.iinc 3 1, 3) := by decide +kernel
theorem dX5_ends_199 : decode cX5_ends 199 = .ok (.goto (-153), 3) := by decide +kernel
theorem dX5_ends_202 : decode cX5_ends 202 = .ok (.iinc 2 1, 3) := by decide +kernel
theorem dX5_ends_205 : decode cX5_ends 205 = .ok (.goto (-166), 3) := by decide +kernel
theorem dX5_ends_208 : decode cX5_ends 208 = .ok (.return_, 1) := by decide +kernel
def tb_X5_ends (S_X5_cells S_X5_next : ma_Cs) : Nat → ma_In := fun pc =>
 (if pc < 103 then
 (if pc < 48 then
 (if pc < 25 then
 (if pc < 13 then
 (if pc < 5 then
 (if pc < 1 then
 (if pc = 0 then in_ald 0 1 else in_no) else
 (if pc < 2 then
 (if pc = 1 then in_ald 0 2 else in_no) else
 (if pc = 2 then in_get YM 5 0 5 else in_no))) else
 (if pc < 9 then
 (if pc < 8 then
 (if pc = 5 then in_put YM 5 35 8 else in_no) else
 (if pc = 8 then in_ald 0 9 else in_no)) else
 (if pc < 10 then
 (if pc = 9 then in_ald 0 10 else in_no) else
 (if pc = 10 then in_get YM 5 1 13 else in_no)))) else
 (if pc < 18 then
 (if pc < 16 then
 (if pc = 13 then in_put YM 5 36 16 else in_no) else
 (if pc < 17 then
 (if pc = 16 then in_push (.int 0) 17 else in_no) else
 (if pc = 17 then in_ist 2 18 else in_no))) else
 (if pc < 21 then
 (if pc < 19 then
 (if pc = 18 then in_ild 2 19 else in_no) else
 (if pc = 19 then in_push (.int 6) 21 else in_no)) else
 (if pc < 24 then
 (if pc = 21 then in_if2 (fun x y => y ≤ x) 37 24 else in_no) else
 (if pc = 24 then in_ald 0 25 else in_no))))) else
 (if pc < 38 then
 (if pc < 30 then
 (if pc < 28 then
 (if pc = 25 then in_get YM 5 45 28 else in_no) else
 (if pc < 29 then
 (if pc = 28 then in_ild 2 29 else in_no) else
 (if pc = 29 then in_push (.int 0) 30 else in_no))) else
 (if pc < 34 then
 (if pc < 31 then
 (if pc = 30 then in_iaw YM 31 else in_no) else
 (if pc = 31 then in_inc 2 1 34 else in_no)) else
 (if pc < 37 then
 (if pc = 34 then in_go 18 else in_no) else
 (if pc = 37 then in_push (.int 1) 38 else in_no)))) else
 (if pc < 44 then
 (if pc < 40 then
 (if pc < 39 then
 (if pc = 38 then in_ist 2 39 else in_no) else
 (if pc = 39 then in_ild 2 40 else in_no)) else
 (if pc < 41 then
 (if pc = 40 then in_ild 1 41 else in_no) else
 (if pc = 41 then in_if2 (fun x y => y < x) 208 44 else in_no))) else
 (if pc < 46 then
 (if pc < 45 then
 (if pc = 44 then in_push (.int 0) 45 else in_no) else
 (if pc = 45 then in_ist 3 46 else in_no)) else
 (if pc < 47 then
 (if pc = 46 then in_ild 3 47 else in_no) else
 (if pc = 47 then in_ald 0 48 else in_no)))))) else
 (if pc < 74 then
 (if pc < 62 then
 (if pc < 55 then
 (if pc < 51 then
 (if pc = 48 then in_v1 YM 5 S_X5_cells 51 else in_no) else
 (if pc < 54 then
 (if pc = 51 then in_if2 (fun x y => y ≤ x) 202 54 else in_no) else
 (if pc = 54 then in_ald 0 55 else in_no))) else
 (if pc < 59 then
 (if pc < 58 then
 (if pc = 55 then in_get YM 5 44 58 else in_no) else
 (if pc = 58 then in_ild 3 59 else in_no)) else
 (if pc < 60 then
 (if pc = 59 then in_iar YM 60 else in_no) else
 (if pc = 60 then in_ist 4 62 else in_no)))) else
 (if pc < 68 then
 (if pc < 63 then
 (if pc = 62 then in_ald 0 63 else in_no) else
 (if pc < 66 then
 (if pc = 63 then in_get YM 5 45 66 else in_no) else
 (if pc = 66 then in_ild 4 68 else in_no))) else
 (if pc < 71 then
 (if pc < 69 then
 (if pc = 68 then in_iar YM 69 else in_no) else
 (if pc = 69 then in_ist 5 71 else in_no)) else
 (if pc < 72 then
 (if pc = 71 then in_push (.int 1) 72 else in_no) else
 (if pc = 72 then in_ist 6 74 else in_no))))) else
 (if pc < 86 then
 (if pc < 80 then
 (if pc < 76 then
 (if pc = 74 then in_ild 6 76 else in_no) else
 (if pc < 77 then
 (if pc = 76 then in_push (.int 5) 77 else in_no) else
 (if pc = 77 then in_if2 (fun x y => y ≤ x) 158 80 else in_no))) else
 (if pc < 82 then
 (if pc < 81 then
 (if pc = 80 then in_ild 2 81 else in_no) else
 (if pc = 81 then in_push (.int 1) 82 else in_no)) else
 (if pc < 85 then
 (if pc = 82 then in_if2 (fun x y => x ≤ y) 158 85 else in_no) else
 (if pc = 85 then in_ald 0 86 else in_no)))) else
 (if pc < 94 then
 (if pc < 89 then
 (if pc < 87 then
 (if pc = 86 then in_ild 3 87 else in_no) else
 (if pc = 87 then in_ild 6 89 else in_no)) else
 (if pc < 92 then
 (if pc = 89 then in_v3 YM 5 S_X5_next 92 else in_no) else
 (if pc = 92 then in_ist 7 94 else in_no))) else
 (if pc < 99 then
 (if pc < 96 then
 (if pc = 94 then in_ild 7 96 else in_no) else
 (if pc = 96 then in_if1 (fun x => x < 0) 152 99 else in_no)) else
 (if pc < 100 then
 (if pc = 99 then in_ald 0 100 else in_no) else
 (if pc = 100 then in_get YM 5 43 103 else in_no))))))) else
 (if pc < 158 then
 (if pc < 125 then
 (if pc < 112 then
 (if pc < 107 then
 (if pc < 105 then
 (if pc = 103 then in_push (.int 36) 105 else in_no) else
 (if pc < 106 then
 (if pc = 105 then in_ild 2 106 else in_no) else
 (if pc = 106 then in_push (.int 1) 107 else in_no))) else
 (if pc < 109 then
 (if pc < 108 then
 (if pc = 107 then in_iii (fun x y => x - y) 108 else in_no) else
 (if pc = 108 then in_iii (fun x y => x * y) 109 else in_no)) else
 (if pc < 111 then
 (if pc = 109 then in_ild 7 111 else in_no) else
 (if pc = 111 then in_iii (fun x y => x + y) 112 else in_no)))) else
 (if pc < 117 then
 (if pc < 113 then
 (if pc = 112 then in_iar YM 113 else in_no) else
 (if pc < 114 then
 (if pc = 113 then in_ald 0 114 else in_no) else
 (if pc = 114 then in_get YM 5 44 117 else in_no))) else
 (if pc < 120 then
 (if pc < 119 then
 (if pc = 117 then in_ild 7 119 else in_no) else
 (if pc = 119 then in_iar YM 120 else in_no)) else
 (if pc < 122 then
 (if pc = 120 then in_ild 4 122 else in_no) else
 (if pc = 122 then in_if2 (fun x y => x = y) 125 129 else in_no))))) else
 (if pc < 138 then
 (if pc < 130 then
 (if pc < 126 then
 (if pc = 125 then in_push (.int 0) 126 else in_no) else
 (if pc < 129 then
 (if pc = 126 then in_go 133 else in_no) else
 (if pc = 129 then in_ald 0 130 else in_no))) else
 (if pc < 134 then
 (if pc < 133 then
 (if pc = 130 then in_get YM 5 3 133 else in_no) else
 (if pc = 133 then in_iii (fun x y => x + y) 134 else in_no)) else
 (if pc < 136 then
 (if pc = 134 then in_ist 8 136 else in_no) else
 (if pc = 136 then in_ild 8 138 else in_no)))) else
 (if pc < 148 then
 (if pc < 143 then
 (if pc < 140 then
 (if pc = 138 then in_ild 5 140 else in_no) else
 (if pc = 140 then in_if2 (fun x y => x ≤ y) 148 143 else in_no)) else
 (if pc < 145 then
 (if pc = 143 then in_ild 8 145 else in_no) else
 (if pc = 145 then in_go 150 else in_no))) else
 (if pc < 152 then
 (if pc < 150 then
 (if pc = 148 then in_ild 5 150 else in_no) else
 (if pc = 150 then in_ist 5 152 else in_no)) else
 (if pc < 155 then
 (if pc = 152 then in_inc 6 1 155 else in_no) else
 (if pc = 155 then in_go 74 else in_no)))))) else
 (if pc < 179 then
 (if pc < 168 then
 (if pc < 164 then
 (if pc < 159 then
 (if pc = 158 then in_ald 0 159 else in_no) else
 (if pc < 162 then
 (if pc = 159 then in_get YM 5 43 162 else in_no) else
 (if pc = 162 then in_push (.int 36) 164 else in_no))) else
 (if pc < 166 then
 (if pc < 165 then
 (if pc = 164 then in_ild 2 165 else in_no) else
 (if pc = 165 then in_iii (fun x y => x * y) 166 else in_no)) else
 (if pc < 167 then
 (if pc = 166 then in_ild 3 167 else in_no) else
 (if pc = 167 then in_iii (fun x y => x + y) 168 else in_no)))) else
 (if pc < 174 then
 (if pc < 170 then
 (if pc = 168 then in_ild 5 170 else in_no) else
 (if pc < 171 then
 (if pc = 170 then in_ald 0 171 else in_no) else
 (if pc = 171 then in_get YM 5 28 174 else in_no))) else
 (if pc < 177 then
 (if pc < 176 then
 (if pc = 174 then in_ild 4 176 else in_no) else
 (if pc = 176 then in_iar YM 177 else in_no)) else
 (if pc < 178 then
 (if pc = 177 then in_iii (fun x y => x + y) 178 else in_no) else
 (if pc = 178 then in_iaw YM 179 else in_no))))) else
 (if pc < 193 then
 (if pc < 185 then
 (if pc < 180 then
 (if pc = 179 then in_ald 0 180 else in_no) else
 (if pc < 183 then
 (if pc = 180 then in_get YM 5 45 183 else in_no) else
 (if pc = 183 then in_ild 4 185 else in_no))) else
 (if pc < 188 then
 (if pc < 187 then
 (if pc = 185 then in_ild 5 187 else in_no) else
 (if pc = 187 then in_ald 0 188 else in_no)) else
 (if pc < 191 then
 (if pc = 188 then in_get YM 5 28 191 else in_no) else
 (if pc = 191 then in_ild 4 193 else in_no)))) else
 (if pc < 199 then
 (if pc < 195 then
 (if pc < 194 then
 (if pc = 193 then in_iar YM 194 else in_no) else
 (if pc = 194 then in_iii (fun x y => x + y) 195 else in_no)) else
 (if pc < 196 then
 (if pc = 195 then in_iaw YM 196 else in_no) else
 (if pc = 196 then in_inc 3 1 199 else in_no))) else
 (if pc < 205 then
 (if pc < 202 then
 (if pc = 199 then in_go 46 else in_no) else
 (if pc = 202 then in_inc 2 1 205 else in_no)) else
 (if pc < 208 then
 (if pc = 205 then in_go 39 else in_no) else
 (if pc = 208 then in_rv else in_no))))))))
theorem tk_X5_ends {l : Launch} {w : ma_Wd} {NC : Nat} {A : Nat → Prop} {S_X5_cells S_X5_next : ma_Cs} (h_X5_cells : ma_Sd l w YM NC A yX5_cells cX5_cells 1 (some .int) rm_X5_cells S_X5_cells) (h_X5_next : ma_Sd l w YM NC A yX5_next cX5_next 5 (some .int) rm_X5_next S_X5_next) {p : Program} {e : Env} {s : State} {m : MethodId} {args : Array Value} {below : List Frame} {meth : Method} {c : Code} (X : ma_Cx p s m args meth c w YM NC A yX5_ends.cls cX5_ends 9 none) : ∀ pc, ma_Ok p l e rm_X5_ends s m args below meth c w YM NC A 9 pc (tb_X5_ends S_X5_cells S_X5_next pc) := fun pc =>
 (mk_lt
 (mk_lt
 (mk_lt
 (mk_lt
 (mk_lt
 (mk_lt
 (mk_eq (mk_aload_n X dX5_ends_0 rfl rfl))
 (mk_lt
 (mk_eq (mk_aload_n X dX5_ends_1 rfl rfl))
 (mk_eq (mk_get X (ci := 5) (j := 0) rfl in_X5 (Nat.le_of_ble_eq_true rfl) q747 dX5_ends_2 rfl))))
 (mk_lt
 (mk_lt
 (mk_eq (mk_put X (ci := 5) (j := 35) rfl in_X5 tyX5_ok nmX5 (Nat.le_of_ble_eq_true rfl) rfl rfl q782 dX5_ends_5 rfl))
 (mk_eq (mk_aload_n X dX5_ends_8 rfl rfl)))
 (mk_lt
 (mk_eq (mk_aload_n X dX5_ends_9 rfl rfl))
 (mk_eq (mk_get X (ci := 5) (j := 1) rfl in_X5 (Nat.le_of_ble_eq_true rfl) q748 dX5_ends_10 rfl)))))
 (mk_lt
 (mk_lt
 (mk_eq (mk_put X (ci := 5) (j := 36) rfl in_X5 tyX5_ok nmX5 (Nat.le_of_ble_eq_true rfl) rfl rfl q783 dX5_ends_13 rfl))
 (mk_lt
 (mk_eq (mk_iconst X dX5_ends_16 rfl rfl))
 (mk_eq (mk_istore_n X dX5_ends_17 rfl (Nat.le_of_ble_eq_true rfl) rfl))))
 (mk_lt
 (mk_lt
 (mk_eq (mk_iload_n X dX5_ends_18 rfl rfl))
 (mk_eq (mk_bipush X dX5_ends_19 rfl rfl)))
 (mk_lt
 (mk_eq (mk_icge X dX5_ends_21 rfl rfl))
 (mk_eq (mk_aload_n X dX5_ends_24 rfl rfl))))))
 (mk_lt
 (mk_lt
 (mk_lt
 (mk_eq (mk_get X (ci := 5) (j := 45) rfl in_X5 (Nat.le_of_ble_eq_true rfl) q792 dX5_ends_25 rfl))
 (mk_lt
 (mk_eq (mk_iload_n X dX5_ends_28 rfl rfl))
 (mk_eq (mk_iconst X dX5_ends_29 rfl rfl))))
 (mk_lt
 (mk_lt
 (mk_eq (mk_iaw X dX5_ends_30 rfl))
 (mk_eq (mk_iinc X dX5_ends_31 rfl (Nat.le_of_ble_eq_true rfl) rfl)))
 (mk_lt
 (mk_eq (mk_goto X dX5_ends_34 rfl))
 (mk_eq (mk_iconst X dX5_ends_37 rfl rfl)))))
 (mk_lt
 (mk_lt
 (mk_lt
 (mk_eq (mk_istore_n X dX5_ends_38 rfl (Nat.le_of_ble_eq_true rfl) rfl))
 (mk_eq (mk_iload_n X dX5_ends_39 rfl rfl)))
 (mk_lt
 (mk_eq (mk_iload_n X dX5_ends_40 rfl rfl))
 (mk_eq (mk_icgt X dX5_ends_41 rfl rfl))))
 (mk_lt
 (mk_lt
 (mk_eq (mk_iconst X dX5_ends_44 rfl rfl))
 (mk_eq (mk_istore_n X dX5_ends_45 rfl (Nat.le_of_ble_eq_true rfl) rfl)))
 (mk_lt
 (mk_eq (mk_iload_n X dX5_ends_46 rfl rfl))
 (mk_eq (mk_aload_n X dX5_ends_47 rfl rfl)))))))
 (mk_lt
 (mk_lt
 (mk_lt
 (mk_lt
 (mk_eq (mk_V1 X h_X5_cells (ci := 5) rfl (lw_V q895 q897 qs30 q66 q898) ⟨rfl, by decide, by decide, rfl⟩ ⟨(Nat.le_of_ble_eq_true rfl), (Nat.le_of_ble_eq_true rfl)⟩ dX5_ends_48 rfl))
 (mk_lt
 (mk_eq (mk_icge X dX5_ends_51 rfl rfl))
 (mk_eq (mk_aload_n X dX5_ends_54 rfl rfl))))
 (mk_lt
 (mk_lt
 (mk_eq (mk_get X (ci := 5) (j := 44) rfl in_X5 (Nat.le_of_ble_eq_true rfl) q791 dX5_ends_55 rfl))
 (mk_eq (mk_iload_n X dX5_ends_58 rfl rfl)))
 (mk_lt
 (mk_eq (mk_iar X dX5_ends_59 rfl))
 (mk_eq (mk_istore X dX5_ends_60 (Nat.le_of_ble_eq_true rfl) rfl)))))
 (mk_lt
 (mk_lt
 (mk_eq (mk_aload_n X dX5_ends_62 rfl rfl))
 (mk_lt
 (mk_eq (mk_get X (ci := 5) (j := 45) rfl in_X5 (Nat.le_of_ble_eq_true rfl) q792 dX5_ends_63 rfl))
 (mk_eq (mk_iload X dX5_ends_66 rfl))))
 (mk_lt
 (mk_lt
 (mk_eq (mk_iar X dX5_ends_68 rfl))
 (mk_eq (mk_istore X dX5_ends_69 (Nat.le_of_ble_eq_true rfl) rfl)))
 (mk_lt
 (mk_eq (mk_iconst X dX5_ends_71 rfl rfl))
 (mk_eq (mk_istore X dX5_ends_72 (Nat.le_of_ble_eq_true rfl) rfl))))))
 (mk_lt
 (mk_lt
 (mk_lt
 (mk_eq (mk_iload X dX5_ends_74 rfl))
 (mk_lt
 (mk_eq (mk_iconst X dX5_ends_76 rfl rfl))
 (mk_eq (mk_icge X dX5_ends_77 rfl rfl))))
 (mk_lt
 (mk_lt
 (mk_eq (mk_iload_n X dX5_ends_80 rfl rfl))
 (mk_eq (mk_iconst X dX5_ends_81 rfl rfl)))
 (mk_lt
 (mk_eq (mk_icle X dX5_ends_82 rfl rfl))
 (mk_eq (mk_aload_n X dX5_ends_85 rfl rfl)))))
 (mk_lt
 (mk_lt
 (mk_lt
 (mk_eq (mk_iload_n X dX5_ends_86 rfl rfl))
 (mk_eq (mk_iload X dX5_ends_87 rfl)))
 (mk_lt
 (mk_eq (mk_V3 X h_X5_next (ci := 5) rfl (lw_V q1006 q1008 qs44 q66 q1009) ⟨rfl, by decide, by decide, rfl⟩ ⟨(Nat.le_of_ble_eq_true rfl), (Nat.le_of_ble_eq_true rfl)⟩ dX5_ends_89 rfl))
 (mk_eq (mk_istore X dX5_ends_92 (Nat.le_of_ble_eq_true rfl) rfl))))
 (mk_lt
 (mk_lt
 (mk_eq (mk_iload X dX5_ends_94 rfl))
 (mk_eq (mk_iflt X dX5_ends_96 rfl rfl)))
 (mk_lt
 (mk_eq (mk_aload_n X dX5_ends_99 rfl rfl))
 (mk_eq (mk_get X (ci := 5) (j := 43) rfl in_X5 (Nat.le_of_ble_eq_true rfl) q790 dX5_ends_100 rfl))))))))
 (mk_lt
 (mk_lt
 (mk_lt
 (mk_lt
 (mk_lt
 (mk_eq (mk_bipush X dX5_ends_103 rfl rfl))
 (mk_lt
 (mk_eq (mk_iload_n X dX5_ends_105 rfl rfl))
 (mk_eq (mk_iconst X dX5_ends_106 rfl rfl))))
 (mk_lt
 (mk_lt
 (mk_eq (mk_isub X dX5_ends_107 rfl))
 (mk_eq (mk_imul X dX5_ends_108 rfl)))
 (mk_lt
 (mk_eq (mk_iload X dX5_ends_109 rfl))
 (mk_eq (mk_iadd X dX5_ends_111 rfl)))))
 (mk_lt
 (mk_lt
 (mk_eq (mk_iar X dX5_ends_112 rfl))
 (mk_lt
 (mk_eq (mk_aload_n X dX5_ends_113 rfl rfl))
 (mk_eq (mk_get X (ci := 5) (j := 44) rfl in_X5 (Nat.le_of_ble_eq_true rfl) q791 dX5_ends_114 rfl))))
 (mk_lt
 (mk_lt
 (mk_eq (mk_iload X dX5_ends_117 rfl))
 (mk_eq (mk_iar X dX5_ends_119 rfl)))
 (mk_lt
 (mk_eq (mk_iload X dX5_ends_120 rfl))
 (mk_eq (mk_icne X dX5_ends_122 rfl rfl))))))
 (mk_lt
 (mk_lt
 (mk_lt
 (mk_eq (mk_iconst X dX5_ends_125 rfl rfl))
 (mk_lt
 (mk_eq (mk_goto X dX5_ends_126 rfl))
 (mk_eq (mk_aload_n X dX5_ends_129 rfl rfl))))
 (mk_lt
 (mk_lt
 (mk_eq (mk_get X (ci := 5) (j := 3) rfl in_X5 (Nat.le_of_ble_eq_true rfl) q750 dX5_ends_130 rfl))
 (mk_eq (mk_iadd X dX5_ends_133 rfl)))
 (mk_lt
 (mk_eq (mk_istore X dX5_ends_134 (Nat.le_of_ble_eq_true rfl) rfl))
 (mk_eq (mk_iload X dX5_ends_136 rfl)))))
 (mk_lt
 (mk_lt
 (mk_lt
 (mk_eq (mk_iload X dX5_ends_138 rfl))
 (mk_eq (mk_icle X dX5_ends_140 rfl rfl)))
 (mk_lt
 (mk_eq (mk_iload X dX5_ends_143 rfl))
 (mk_eq (mk_goto X dX5_ends_145 rfl))))
 (mk_lt
 (mk_lt
 (mk_eq (mk_iload X dX5_ends_148 rfl))
 (mk_eq (mk_istore X dX5_ends_150 (Nat.le_of_ble_eq_true rfl) rfl)))
 (mk_lt
 (mk_eq (mk_iinc X dX5_ends_152 rfl (Nat.le_of_ble_eq_true rfl) rfl))
 (mk_eq (mk_goto X dX5_ends_155 rfl)))))))
 (mk_lt
 (mk_lt
 (mk_lt
 (mk_lt
 (mk_eq (mk_aload_n X dX5_ends_158 rfl rfl))
 (mk_lt
 (mk_eq (mk_get X (ci := 5) (j := 43) rfl in_X5 (Nat.le_of_ble_eq_true rfl) q790 dX5_ends_159 rfl))
 (mk_eq (mk_bipush X dX5_ends_162 rfl rfl))))
 (mk_lt
 (mk_lt
 (mk_eq (mk_iload_n X dX5_ends_164 rfl rfl))
 (mk_eq (mk_imul X dX5_ends_165 rfl)))
 (mk_lt
 (mk_eq (mk_iload_n X dX5_ends_166 rfl rfl))
 (mk_eq (mk_iadd X dX5_ends_167 rfl)))))
 (mk_lt
 (mk_lt
 (mk_eq (mk_iload X dX5_ends_168 rfl))
 (mk_lt
 (mk_eq (mk_aload_n X dX5_ends_170 rfl rfl))
 (mk_eq (mk_get X (ci := 5) (j := 28) rfl in_X5 (Nat.le_of_ble_eq_true rfl) q775 dX5_ends_171 rfl))))
 (mk_lt
 (mk_lt
 (mk_eq (mk_iload X dX5_ends_174 rfl))
 (mk_eq (mk_iar X dX5_ends_176 rfl)))
 (mk_lt
 (mk_eq (mk_iadd X dX5_ends_177 rfl))
 (mk_eq (mk_iaw X dX5_ends_178 rfl))))))
 (mk_lt
 (mk_lt
 (mk_lt
 (mk_eq (mk_aload_n X dX5_ends_179 rfl rfl))
 (mk_lt
 (mk_eq (mk_get X (ci := 5) (j := 45) rfl in_X5 (Nat.le_of_ble_eq_true rfl) q792 dX5_ends_180 rfl))
 (mk_eq (mk_iload X dX5_ends_183 rfl))))
 (mk_lt
 (mk_lt
 (mk_eq (mk_iload X dX5_ends_185 rfl))
 (mk_eq (mk_aload_n X dX5_ends_187 rfl rfl)))
 (mk_lt
 (mk_eq (mk_get X (ci := 5) (j := 28) rfl in_X5 (Nat.le_of_ble_eq_true rfl) q775 dX5_ends_188 rfl))
 (mk_eq (mk_iload X dX5_ends_191 rfl)))))
 (mk_lt
 (mk_lt
 (mk_lt
 (mk_eq (mk_iar X dX5_ends_193 rfl))
 (mk_eq (mk_iadd X dX5_ends_194 rfl)))
 (mk_lt
 (mk_eq (mk_iaw X dX5_ends_195 rfl))
 (mk_eq (mk_iinc X dX5_ends_196 rfl (Nat.le_of_ble_eq_true rfl) rfl))))
 (mk_lt
 (mk_lt
 (mk_eq (mk_goto X dX5_ends_199 rfl))
 (mk_eq (mk_iinc X dX5_ends_202 rfl (Nat.le_of_ble_eq_true rfl) rfl)))
 (mk_lt
 (mk_eq (mk_goto X dX5_ends_205 rfl))
 (mk_eq (mk_rv X dX5_ends_208)))))))))
theorem sd_X5_ends {l : Launch} {w : ma_Wd} {NC : Nat} {A : Nat → Prop} {S_X5_cells S_X5_next : ma_Cs} (hw : ma_Wo w YM NC A) (h_X5_cells : ma_Sd l w YM NC A yX5_cells cX5_cells 1 (some .int) rm_X5_cells S_X5_cells) (h_X5_next : ma_Sd l w YM NC A yX5_next cX5_next 5 (some .int) rm_X5_next S_X5_next) : ma_Sd l w YM NC A yX5_ends cX5_ends 9 none rm_X5_ends (ma_rn (tb_X5_ends S_X5_cells S_X5_next) 9) := ma_of hw (by decide) ⟨rfl, rfl⟩ (fun X => tk_X5_ends h_X5_cells h_X5_next X)
theorem dX5_lastOf_0 : decode cX5_lastOf 0 = .ok (.iconst 0, 1) := by decide +kernel
theorem dX5_lastOf_1 : decode cX5_lastOf 1 = .ok (.istore_n 2, 1) := by decide +kernel
theorem dX5_lastOf_2 : decode cX5_lastOf 2 = .ok (.iconst 0, 1) := by decide +kernel
theorem dX5_lastOf_3 : decode cX5_lastOf 3 = .ok (.istore_n 3, 1) := by decide +kernel
theorem dX5_lastOf_4 : decode cX5_lastOf 4 = .ok (.iload_n 3, 1) := by decide +kernel
theorem dX5_lastOf_5 : decode cX5_lastOf 5 = .ok (.aload_n 0, 1) := by decide +kernel
theorem dX5_lastOf_6 : decode cX5_lastOf 6 = .ok (.invokevirtual 124, 3) := by decide +kernel
theorem dX5_lastOf_9 : decode cX5_lastOf 9 = .ok (.if_icmp .ge 40, 3) := by decide +kernel
theorem dX5_lastOf_12 : decode cX5_lastOf 12 = .ok (.aload_n 0, 1) := by decide +kernel
theorem dX5_lastOf_13 : decode cX5_lastOf 13 = .ok (.getfield 103, 3) := by decide +kernel
theorem dX5_lastOf_16 : decode cX5_lastOf 16 = .ok (.bipush 36, 2) := by decide +kernel
theorem dX5_lastOf_18 : decode cX5_lastOf 18 = .ok (.iload_n 1, 1) := by decide +kernel
theorem dX5_lastOf_19 : decode cX5_lastOf 19 = .ok (.imul, 1) := by decide +kernel
theorem dX5_lastOf_20 : decode cX5_lastOf 20 = .ok (.iload_n 3, 1) := by decide +kernel
theorem dX5_lastOf_21 : decode cX5_lastOf 21 = .ok (.iadd, 1) := by decide +kernel
theorem dX5_lastOf_22 : decode cX5_lastOf 22 = .ok (.iaload, 1) := by decide +kernel
theorem dX5_lastOf_23 : decode cX5_lastOf 23 = .ok (.iload_n 2, 1) := by decide +kernel
theorem dX5_lastOf_24 : decode cX5_lastOf 24 = .ok (.if_icmp .le 17, 3) := by decide +kernel
theorem dX5_lastOf_27 : decode cX5_lastOf 27 = .ok (.aload_n 0, 1) := by decide +kernel
theorem dX5_lastOf_28 : decode cX5_lastOf 28 = .ok (.getfield 103, 3) := by decide +kernel
theorem dX5_lastOf_31 : decode cX5_lastOf 31 = .ok (.bipush 36, 2) := by decide +kernel
theorem dX5_lastOf_33 : decode cX5_lastOf 33 = .ok (.iload_n 1, 1) := by decide +kernel
theorem dX5_lastOf_34 : decode cX5_lastOf 34 = .ok (.imul, 1) := by decide +kernel
theorem dX5_lastOf_35 : decode cX5_lastOf 35 = .ok (.iload_n 3, 1) := by decide +kernel
theorem dX5_lastOf_36 : decode cX5_lastOf 36 = .ok (.iadd, 1) := by decide +kernel
theorem dX5_lastOf_37 : decode cX5_lastOf 37 = .ok (.iaload, 1) := by decide +kernel
theorem dX5_lastOf_38 : decode cX5_lastOf 38 = .ok (.goto 4, 3) := by decide +kernel
theorem dX5_lastOf_41 : decode cX5_lastOf 41 = .ok (.iload_n 2, 1) := by decide +kernel
theorem dX5_lastOf_42 : decode cX5_lastOf 42 = .ok (.istore_n 2, 1) := by decide +kernel
theorem dX5_lastOf_43 : decode cX5_lastOf 43 = .ok (.iinc 3 1, 3) := by decide +kernel
theorem dX5_lastOf_46 : decode cX5_lastOf 46 = .ok (.goto (-42), 3) := by decide +kernel
theorem dX5_lastOf_49 : decode cX5_lastOf 49 = .ok (.iload_n 2, 1) := by decide +kernel
theorem dX5_lastOf_50 : decode cX5_lastOf 50 = .ok (.ireturn, 1) := by decide +kernel
def tb_X5_lastOf (S_X5_cells : ma_Cs) : Nat → ma_In := fun pc =>
 (if pc < 23 then
 (if pc < 12 then
 (if pc < 4 then
 (if pc < 2 then
 (if pc < 1 then
 (if pc = 0 then in_push (.int 0) 1 else in_no) else
 (if pc = 1 then in_ist 2 2 else in_no)) else
 (if pc < 3 then
 (if pc = 2 then in_push (.int 0) 3 else in_no) else
 (if pc = 3 then in_ist 3 4 else in_no))) else
 (if pc < 6 then
 (if pc < 5 then
 (if pc = 4 then in_ild 3 5 else in_no) else
 (if pc = 5 then in_ald 0 6 else in_no)) else
 (if pc < 9 then
 (if pc = 6 then in_v1 YM 5 S_X5_cells 9 else in_no) else
 (if pc = 9 then in_if2 (fun x y => y ≤ x) 49 12 else in_no)))) else
 (if pc < 19 then
 (if pc < 16 then
 (if pc < 13 then
 (if pc = 12 then in_ald 0 13 else in_no) else
 (if pc = 13 then in_get YM 5 43 16 else in_no)) else
 (if pc < 18 then
 (if pc = 16 then in_push (.int 36) 18 else in_no) else
 (if pc = 18 then in_ild 1 19 else in_no))) else
 (if pc < 21 then
 (if pc < 20 then
 (if pc = 19 then in_iii (fun x y => x * y) 20 else in_no) else
 (if pc = 20 then in_ild 3 21 else in_no)) else
 (if pc < 22 then
 (if pc = 21 then in_iii (fun x y => x + y) 22 else in_no) else
 (if pc = 22 then in_iar YM 23 else in_no))))) else
 (if pc < 36 then
 (if pc < 31 then
 (if pc < 27 then
 (if pc < 24 then
 (if pc = 23 then in_ild 2 24 else in_no) else
 (if pc = 24 then in_if2 (fun x y => x ≤ y) 41 27 else in_no)) else
 (if pc < 28 then
 (if pc = 27 then in_ald 0 28 else in_no) else
 (if pc = 28 then in_get YM 5 43 31 else in_no))) else
 (if pc < 34 then
 (if pc < 33 then
 (if pc = 31 then in_push (.int 36) 33 else in_no) else
 (if pc = 33 then in_ild 1 34 else in_no)) else
 (if pc < 35 then
 (if pc = 34 then in_iii (fun x y => x * y) 35 else in_no) else
 (if pc = 35 then in_ild 3 36 else in_no)))) else
 (if pc < 42 then
 (if pc < 38 then
 (if pc < 37 then
 (if pc = 36 then in_iii (fun x y => x + y) 37 else in_no) else
 (if pc = 37 then in_iar YM 38 else in_no)) else
 (if pc < 41 then
 (if pc = 38 then in_go 42 else in_no) else
 (if pc = 41 then in_ild 2 42 else in_no))) else
 (if pc < 46 then
 (if pc < 43 then
 (if pc = 42 then in_ist 2 43 else in_no) else
 (if pc = 43 then in_inc 3 1 46 else in_no)) else
 (if pc < 49 then
 (if pc = 46 then in_go 4 else in_no) else
 (if pc < 50 then
 (if pc = 49 then in_ild 2 50 else in_no) else
 (if pc = 50 then in_ri else in_no)))))))
theorem tk_X5_lastOf {l : Launch} {w : ma_Wd} {NC : Nat} {A : Nat → Prop} {S_X5_cells : ma_Cs} (h_X5_cells : ma_Sd l w YM NC A yX5_cells cX5_cells 1 (some .int) rm_X5_cells S_X5_cells) {p : Program} {e : Env} {s : State} {m : MethodId} {args : Array Value} {below : List Frame} {meth : Method} {c : Code} (X : ma_Cx p s m args meth c w YM NC A yX5_lastOf.cls cX5_lastOf 4 (some .int)) : ∀ pc, ma_Ok p l e rm_X5_lastOf s m args below meth c w YM NC A 4 pc (tb_X5_lastOf S_X5_cells pc) := fun pc =>
 (mk_lt
 (mk_lt
 (mk_lt
 (mk_lt
 (mk_lt
 (mk_eq (mk_iconst X dX5_lastOf_0 rfl rfl))
 (mk_eq (mk_istore_n X dX5_lastOf_1 rfl (Nat.le_of_ble_eq_true rfl) rfl)))
 (mk_lt
 (mk_eq (mk_iconst X dX5_lastOf_2 rfl rfl))
 (mk_eq (mk_istore_n X dX5_lastOf_3 rfl (Nat.le_of_ble_eq_true rfl) rfl))))
 (mk_lt
 (mk_lt
 (mk_eq (mk_iload_n X dX5_lastOf_4 rfl rfl))
 (mk_eq (mk_aload_n X dX5_lastOf_5 rfl rfl)))
 (mk_lt
 (mk_eq (mk_V1 X h_X5_cells (ci := 5) rfl (lw_V q895 q897 qs30 q66 q898) ⟨rfl, by decide, by decide, rfl⟩ ⟨(Nat.le_of_ble_eq_true rfl), (Nat.le_of_ble_eq_true rfl)⟩ dX5_lastOf_6 rfl))
 (mk_eq (mk_icge X dX5_lastOf_9 rfl rfl)))))
 (mk_lt
 (mk_lt
 (mk_lt
 (mk_eq (mk_aload_n X dX5_lastOf_12 rfl rfl))
 (mk_eq (mk_get X (ci := 5) (j := 43) rfl in_X5 (Nat.le_of_ble_eq_true rfl) q790 dX5_lastOf_13 rfl)))
 (mk_lt
 (mk_eq (mk_bipush X dX5_lastOf_16 rfl rfl))
 (mk_eq (mk_iload_n X dX5_lastOf_18 rfl rfl))))
 (mk_lt
 (mk_lt
 (mk_eq (mk_imul X dX5_lastOf_19 rfl))
 (mk_eq (mk_iload_n X dX5_lastOf_20 rfl rfl)))
 (mk_lt
 (mk_eq (mk_iadd X dX5_lastOf_21 rfl))
 (mk_eq (mk_iar X dX5_lastOf_22 rfl))))))
 (mk_lt
 (mk_lt
 (mk_lt
 (mk_lt
 (mk_eq (mk_iload_n X dX5_lastOf_23 rfl rfl))
 (mk_eq (mk_icle X dX5_lastOf_24 rfl rfl)))
 (mk_lt
 (mk_eq (mk_aload_n X dX5_lastOf_27 rfl rfl))
 (mk_eq (mk_get X (ci := 5) (j := 43) rfl in_X5 (Nat.le_of_ble_eq_true rfl) q790 dX5_lastOf_28 rfl))))
 (mk_lt
 (mk_lt
 (mk_eq (mk_bipush X dX5_lastOf_31 rfl rfl))
 (mk_eq (mk_iload_n X dX5_lastOf_33 rfl rfl)))
 (mk_lt
 (mk_eq (mk_imul X dX5_lastOf_34 rfl))
 (mk_eq (mk_iload_n X dX5_lastOf_35 rfl rfl)))))
 (mk_lt
 (mk_lt
 (mk_lt
 (mk_eq (mk_iadd X dX5_lastOf_36 rfl))
 (mk_eq (mk_iar X dX5_lastOf_37 rfl)))
 (mk_lt
 (mk_eq (mk_goto X dX5_lastOf_38 rfl))
 (mk_eq (mk_iload_n X dX5_lastOf_41 rfl rfl))))
 (mk_lt
 (mk_lt
 (mk_eq (mk_istore_n X dX5_lastOf_42 rfl (Nat.le_of_ble_eq_true rfl) rfl))
 (mk_eq (mk_iinc X dX5_lastOf_43 rfl (Nat.le_of_ble_eq_true rfl) rfl)))
 (mk_lt
 (mk_eq (mk_goto X dX5_lastOf_46 rfl))
 (mk_lt
 (mk_eq (mk_iload_n X dX5_lastOf_49 rfl rfl))
 (mk_eq (mk_ri X dX5_lastOf_50))))))))
theorem sd_X5_lastOf {l : Launch} {w : ma_Wd} {NC : Nat} {A : Nat → Prop} {S_X5_cells : ma_Cs} (hw : ma_Wo w YM NC A) (h_X5_cells : ma_Sd l w YM NC A yX5_cells cX5_cells 1 (some .int) rm_X5_cells S_X5_cells) : ma_Sd l w YM NC A yX5_lastOf cX5_lastOf 4 (some .int) rm_X5_lastOf (ma_rn (tb_X5_lastOf S_X5_cells) 4) := ma_of hw (by decide) ⟨rfl, rfl⟩ (fun X => tk_X5_lastOf h_X5_cells X)
theorem dX5_slowest_0 : decode cX5_slowest 0 = .ok (.iload_n 1, 1) := by decide +kernel
theorem dX5_slowest_1 : decode cX5_slowest 1 = .ok (.i2l, 1) := by decide +kernel
theorem dX5_slowest_2 : decode cX5_slowest 2 = .ok (.lconst 1, 1) := by decide +kernel
theorem dX5_slowest_3 : decode cX5_slowest 3 = .ok (.ldc2_w 272, 3) := by decide +kernel
theorem dX5_slowest_6 : decode cX5_slowest 6 = .ok (.invokestatic 128, 3) := by decide +kernel
theorem dX5_slowest_9 : decode cX5_slowest 9 = .ok (.ifCond .ne 5, 3) := by decide +kernel
theorem dX5_slowest_12 : decode cX5_slowest 12 = .ok (.iconst (-1), 1) := by decide +kernel
theorem dX5_slowest_13 : decode cX5_slowest 13 = .ok (.ireturn, 1) := by decide +kernel
theorem dX5_slowest_14 : decode cX5_slowest 14 = .ok (.aload_n 0, 1) := by decide +kernel
theorem dX5_slowest_15 : decode cX5_slowest 15 = .ok (.invokevirtual 314, 3) := by decide +kernel
theorem dX5_slowest_18 : decode cX5_slowest 18 = .ok (.iconst 0, 1) := by decide +kernel
theorem dX5_slowest_19 : decode cX5_slowest 19 = .ok (.istore_n 2, 1) := by decide +kernel
theorem dX5_slowest_20 : decode cX5_slowest 20 = .ok (.aload_n 0, 1) := by decide +kernel
theorem dX5_slowest_21 : decode cX5_slowest 21 = .ok (.getfield 103, 3) := by decide +kernel
theorem dX5_slowest_24 : decode cX5_slowest 24 = .ok (.bipush 36, 2) := by decide +kernel
theorem dX5_slowest_26 : decode cX5_slowest 26 = .ok (.iload_n 1, 1) := by decide +kernel
theorem dX5_slowest_27 : decode cX5_slowest 27 = .ok (.imul, 1) := by decide +kernel
theorem dX5_slowest_28 : decode cX5_slowest 28 = .ok (.iload_n 2, 1) := by decide +kernel
theorem dX5_slowest_29 : decode cX5_slowest 29 = .ok (.iadd, 1) := by decide +kernel
theorem dX5_slowest_30 : decode cX5_slowest 30 = .ok (.iaload, 1) := by decide +kernel
theorem dX5_slowest_31 : decode cX5_slowest 31 = .ok (.aload_n 0, 1) := by decide +kernel
theorem dX5_slowest_32 : decode cX5_slowest 32 = .ok (.iload_n 1, 1) := by decide +kernel
theorem dX5_slowest_33 : decode cX5_slowest 33 = .ok (.invokevirtual 317, 3) := by decide +kernel
theorem dX5_slowest_36 : decode cX5_slowest 36 = .ok (.if_icmp .eq 9, 3) := by decide +kernel
theorem dX5_slowest_39 : decode cX5_slowest 39 = .ok (.iinc 2 1, 3) := by decide +kernel
theorem dX5_slowest_42 : decode cX5_slowest 42 = .ok (.goto (-22), 3) := by decide +kernel
theorem dX5_slowest_45 : decode cX5_slowest 45 = .ok (.iload_n 2, 1) := by decide +kernel
theorem dX5_slowest_46 : decode cX5_slowest 46 = .ok (.ireturn, 1) := by decide +kernel
def tb_X5_slowest (S_X5_in S_X5_ownEnds S_X5_lastOf : ma_Cs) : Nat → ma_In := fun pc =>
 (if pc < 24 then
 (if pc < 13 then
 (if pc < 3 then
 (if pc < 1 then
 (if pc = 0 then in_ild 1 1 else in_no) else
 (if pc < 2 then
 (if pc = 1 then in_il (fun x => x.toInt64) 2 else in_no) else
 (if pc = 2 then in_push (.long 1) 3 else in_no))) else
 (if pc < 9 then
 (if pc < 6 then
 (if pc = 3 then in_push (.long 12) 6 else in_no) else
 (if pc = 6 then in_s3 S_X5_in 9 else in_no)) else
 (if pc < 12 then
 (if pc = 9 then in_if1 (fun x => x = 0) 12 14 else in_no) else
 (if pc = 12 then in_push (.int (-1)) 13 else in_no)))) else
 (if pc < 18 then
 (if pc < 14 then
 (if pc = 13 then in_ri else in_no) else
 (if pc < 15 then
 (if pc = 14 then in_ald 0 15 else in_no) else
 (if pc = 15 then in_v1 YM 5 S_X5_ownEnds 18 else in_no))) else
 (if pc < 20 then
 (if pc < 19 then
 (if pc = 18 then in_push (.int 0) 19 else in_no) else
 (if pc = 19 then in_ist 2 20 else in_no)) else
 (if pc < 21 then
 (if pc = 20 then in_ald 0 21 else in_no) else
 (if pc = 21 then in_get YM 5 43 24 else in_no))))) else
 (if pc < 32 then
 (if pc < 28 then
 (if pc < 26 then
 (if pc = 24 then in_push (.int 36) 26 else in_no) else
 (if pc < 27 then
 (if pc = 26 then in_ild 1 27 else in_no) else
 (if pc = 27 then in_iii (fun x y => x * y) 28 else in_no))) else
 (if pc < 30 then
 (if pc < 29 then
 (if pc = 28 then in_ild 2 29 else in_no) else
 (if pc = 29 then in_iii (fun x y => x + y) 30 else in_no)) else
 (if pc < 31 then
 (if pc = 30 then in_iar YM 31 else in_no) else
 (if pc = 31 then in_ald 0 32 else in_no)))) else
 (if pc < 39 then
 (if pc < 33 then
 (if pc = 32 then in_ild 1 33 else in_no) else
 (if pc < 36 then
 (if pc = 33 then in_v2 YM 5 S_X5_lastOf 36 else in_no) else
 (if pc = 36 then in_if2 (fun x y => x = y) 45 39 else in_no))) else
 (if pc < 45 then
 (if pc < 42 then
 (if pc = 39 then in_inc 2 1 42 else in_no) else
 (if pc = 42 then in_go 20 else in_no)) else
 (if pc < 46 then
 (if pc = 45 then in_ild 2 46 else in_no) else
 (if pc = 46 then in_ri else in_no))))))
theorem tk_X5_slowest {l : Launch} {w : ma_Wd} {NC : Nat} {A : Nat → Prop} {S_X5_in S_X5_ownEnds S_X5_lastOf : ma_Cs} (h_X5_in : ma_Sd l w YM NC A yX5_in cX5_in 6 (some .boolean) rm_X5_in S_X5_in) (h_X5_ownEnds : ma_Sd l w YM NC A yX5_ownEnds cX5_ownEnds 2 none rm_X5_ownEnds S_X5_ownEnds) (h_X5_lastOf : ma_Sd l w YM NC A yX5_lastOf cX5_lastOf 4 (some .int) rm_X5_lastOf S_X5_lastOf) {p : Program} {e : Env} {s : State} {m : MethodId} {args : Array Value} {below : List Frame} {meth : Method} {c : Code} (X : ma_Cx p s m args meth c w YM NC A yX5_slowest.cls cX5_slowest 3 (some .int)) : ∀ pc, ma_Ok p l e rm_X5_slowest s m args below meth c w YM NC A 3 pc (tb_X5_slowest S_X5_in S_X5_ownEnds S_X5_lastOf pc) := fun pc =>
 (mk_lt
 (mk_lt
 (mk_lt
 (mk_lt
 (mk_eq (mk_iload_n X dX5_slowest_0 rfl rfl))
 (mk_lt
 (mk_eq (mk_i2l X dX5_slowest_1 rfl))
 (mk_eq (mk_lconst X dX5_slowest_2 rfl rfl))))
 (mk_lt
 (mk_lt
 (mk_eq (mk_ldc2 X dX5_slowest_3 q989 rfl))
 (mk_eq (mk_S3 X h_X5_in (lw_S q892 q893 q66 q894) ⟨by decide, by decide, rfl⟩ ⟨(Nat.le_of_ble_eq_true rfl), (Nat.le_of_ble_eq_true rfl)⟩ dX5_slowest_6 rfl)))
 (mk_lt
 (mk_eq (mk_ifne X dX5_slowest_9 rfl rfl))
 (mk_eq (mk_iconst X dX5_slowest_12 rfl rfl)))))
 (mk_lt
 (mk_lt
 (mk_eq (mk_ri X dX5_slowest_13))
 (mk_lt
 (mk_eq (mk_aload_n X dX5_slowest_14 rfl rfl))
 (mk_eq (mk_V1 X h_X5_ownEnds (ci := 5) rfl (lw_V q1126 q1128 qs53 q66 q1129) ⟨rfl, by decide, by decide, rfl⟩ ⟨(Nat.le_of_ble_eq_true rfl), (Nat.le_of_ble_eq_true rfl)⟩ dX5_slowest_15 rfl))))
 (mk_lt
 (mk_lt
 (mk_eq (mk_iconst X dX5_slowest_18 rfl rfl))
 (mk_eq (mk_istore_n X dX5_slowest_19 rfl (Nat.le_of_ble_eq_true rfl) rfl)))
 (mk_lt
 (mk_eq (mk_aload_n X dX5_slowest_20 rfl rfl))
 (mk_eq (mk_get X (ci := 5) (j := 43) rfl in_X5 (Nat.le_of_ble_eq_true rfl) q790 dX5_slowest_21 rfl))))))
 (mk_lt
 (mk_lt
 (mk_lt
 (mk_eq (mk_bipush X dX5_slowest_24 rfl rfl))
 (mk_lt
 (mk_eq (mk_iload_n X dX5_slowest_26 rfl rfl))
 (mk_eq (mk_imul X dX5_slowest_27 rfl))))
 (mk_lt
 (mk_lt
 (mk_eq (mk_iload_n X dX5_slowest_28 rfl rfl))
 (mk_eq (mk_iadd X dX5_slowest_29 rfl)))
 (mk_lt
 (mk_eq (mk_iar X dX5_slowest_30 rfl))
 (mk_eq (mk_aload_n X dX5_slowest_31 rfl rfl)))))
 (mk_lt
 (mk_lt
 (mk_eq (mk_iload_n X dX5_slowest_32 rfl rfl))
 (mk_lt
 (mk_eq (mk_V2 X h_X5_lastOf (ci := 5) rfl (lw_V q1134 q1136 qs55 q66 q1137) ⟨rfl, by decide, by decide, rfl⟩ ⟨(Nat.le_of_ble_eq_true rfl), (Nat.le_of_ble_eq_true rfl)⟩ dX5_slowest_33 rfl))
 (mk_eq (mk_iceq X dX5_slowest_36 rfl rfl))))
 (mk_lt
 (mk_lt
 (mk_eq (mk_iinc X dX5_slowest_39 rfl (Nat.le_of_ble_eq_true rfl) rfl))
 (mk_eq (mk_goto X dX5_slowest_42 rfl)))
 (mk_lt
 (mk_eq (mk_iload_n X dX5_slowest_45 rfl rfl))
 (mk_eq (mk_ri X dX5_slowest_46)))))))
theorem sd_X5_slowest {l : Launch} {w : ma_Wd} {NC : Nat} {A : Nat → Prop} {S_X5_in S_X5_ownEnds S_X5_lastOf : ma_Cs} (hw : ma_Wo w YM NC A) (h_X5_in : ma_Sd l w YM NC A yX5_in cX5_in 6 (some .boolean) rm_X5_in S_X5_in) (h_X5_ownEnds : ma_Sd l w YM NC A yX5_ownEnds cX5_ownEnds 2 none rm_X5_ownEnds S_X5_ownEnds) (h_X5_lastOf : ma_Sd l w YM NC A yX5_lastOf cX5_lastOf 4 (some .int) rm_X5_lastOf S_X5_lastOf) : ma_Sd l w YM NC A yX5_slowest cX5_slowest 3 (some .int) rm_X5_slowest (ma_rn (tb_X5_slowest S_X5_in S_X5_ownEnds S_X5_lastOf) 3) := ma_of hw (by decide) ⟨rfl, rfl⟩ (fun X => tk_X5_slowest h_X5_in h_X5_ownEnds h_X5_lastOf X)
theorem dX5_given_0 : decode cX5_given 0 = .ok (.iload_n 1, 1) := by decide +kernel
theorem dX5_given_1 : decode cX5_given 1 = .ok (.i2l, 1) := by decide +kernel
theorem dX5_given_2 : decode cX5_given 2 = .ok (.lconst 1, 1) := by decide +kernel
theorem dX5_given_3 : decode cX5_given 3 = .ok (.ldc2_w 132, 3) := by decide +kernel
theorem dX5_given_6 : decode cX5_given 6 = .ok (.invokestatic 128, 3) := by decide +kernel
theorem dX5_given_9 : decode cX5_given 9 = .ok (.ifCond .eq 33, 3) := by decide +kernel
theorem dX5_given_12 : decode cX5_given 12 = .ok (.iload_n 2, 1) := by decide +kernel
theorem dX5_given_13 : decode cX5_given 13 = .ok (.i2l, 1) := by decide +kernel
theorem dX5_given_14 : decode cX5_given 14 = .ok (.lconst 1, 1) := by decide +kernel
theorem dX5_given_15 : decode cX5_given 15 = .ok (.ldc2_w 272, 3) := by decide +kernel
theorem dX5_given_18 : decode cX5_given 18 = .ok (.invokestatic 128, 3) := by decide +kernel
theorem dX5_given_21 : decode cX5_given 21 = .ok (.ifCond .eq 21, 3) := by decide +kernel
theorem dX5_given_24 : decode cX5_given 24 = .ok (.iload_n 3, 1) := by decide +kernel
theorem dX5_given_25 : decode cX5_given 25 = .ok (.i2l, 1) := by decide +kernel
theorem dX5_given_26 : decode cX5_given 26 = .ok (.ldc2_w 312, 3) := by decide +kernel
theorem dX5_given_29 : decode cX5_given 29 = .ok (.aload_n 0, 1) := by decide +kernel
theorem dX5_given_30 : decode cX5_given 30 = .ok (.invokevirtual 124, 3) := by decide +kernel
theorem dX5_given_33 : decode cX5_given 33 = .ok (.iconst 1, 1) := by decide +kernel
theorem dX5_given_34 : decode cX5_given 34 = .ok (.isub, 1) := by decide +kernel
theorem dX5_given_35 : decode cX5_given 35 = .ok (.i2l, 1) := by decide +kernel
theorem dX5_given_36 : decode cX5_given 36 = .ok (.invokestatic 128, 3) := by decide +kernel
theorem dX5_given_39 : decode cX5_given 39 = .ok (.ifCond .ne 5, 3) := by decide +kernel
theorem dX5_given_42 : decode cX5_given 42 = .ok (.iconst (-1), 1) := by decide +kernel
theorem dX5_given_43 : decode cX5_given 43 = .ok (.ireturn, 1) := by decide +kernel
theorem dX5_given_44 : decode cX5_given 44 = .ok (.aload_n 0, 1) := by decide +kernel
theorem dX5_given_45 : decode cX5_given 45 = .ok (.invokevirtual 124, 3) := by decide +kernel
theorem dX5_given_48 : decode cX5_given 48 = .ok (.bipush 9, 2) := by decide +kernel
theorem dX5_given_50 : decode cX5_given 50 = .ok (.if_icmp .le 6, 3) := by decide +kernel
theorem dX5_given_53 : decode cX5_given 53 = .ok (.bipush (-2), 2) := by decide +kernel
theorem dX5_given_55 : decode cX5_given 55 = .ok (.ireturn, 1) := by decide +kernel
theorem dX5_given_56 : decode cX5_given 56 = .ok (.iconst 1, 1) := by decide +kernel
theorem dX5_given_57 : decode cX5_given 57 = .ok (.istore 4, 2) := by decide +kernel
theorem dX5_given_59 : decode cX5_given 59 = .ok (.iconst 0, 1) := by decide +kernel
theorem dX5_given_60 : decode cX5_given 60 = .ok (.istore 5, 2) := by decide +kernel
theorem dX5_given_62 : decode cX5_given 62 = .ok (.iload 5, 2) := by decide +kernel
theorem dX5_given_64 : decode cX5_given 64 = .ok (.aload_n 0, 1) := by decide +kernel
theorem dX5_given_65 : decode cX5_given 65 = .ok (.invokevirtual 124, 3) := by decide +kernel
theorem dX5_given_68 : decode cX5_given 68 = .ok (.if_icmp .ge 15, 3) := by decide +kernel
theorem dX5_given_71 : decode cX5_given 71 = .ok (.iload 4, 2) := by decide +kernel
theorem dX5_given_73 : decode cX5_given 73 = .ok (.iload_n 1, 1) := by decide +kernel
theorem dX5_given_74 : decode cX5_given 74 = .ok (.imul, 1) := by decide +kernel
theorem dX5_given_75 : decode cX5_given 75 = .ok (.istore 4, 2) := by decide +kernel
theorem dX5_given_77 : decode cX5_given 77 = .ok (.iinc 5 1, 3) := by decide +kernel
theorem dX5_given_80 : decode cX5_given 80 = .ok (.goto (-18), 3) := by decide +kernel
theorem dX5_given_83 : decode cX5_given 83 = .ok (.iconst 0, 1) := by decide +kernel
theorem dX5_given_84 : decode cX5_given 84 = .ok (.istore 5, 2) := by decide +kernel
theorem dX5_given_86 : decode cX5_given 86 = .ok (.iconst (-1), 1) := by decide +kernel
theorem dX5_given_87 : decode cX5_given 87 = .ok (.istore 6, 2) := by decide +kernel
theorem dX5_given_89 : decode cX5_given 89 = .ok (.iconst 0, 1) := by decide +kernel
theorem dX5_given_90 : decode cX5_given 90 = .ok (.istore 7, 2) := by decide +kernel
theorem dX5_given_92 : decode cX5_given 92 = .ok (.iload 7, 2) := by decide +kernel
theorem dX5_given_94 : decode cX5_given 94 = .ok (.iload 4, 2) := by decide +kernel
theorem dX5_given_96 : decode cX5_given 96 = .ok (.if_icmp .ge 70, 3) := by decide +kernel
theorem dX5_given_99 : decode cX5_given 99 = .ok (.aload_n 0, 1) := by decide +kernel
theorem dX5_given_100 : decode cX5_given 100 = .ok (.iload_n 1, 1) := by decide +kernel
theorem dX5_given_101 : decode cX5_given 101 = .ok (.iload 7, 2) := by decide +kernel
theorem dX5_given_103 : decode cX5_given 103 = .ok (.invokevirtual 320, 3) := by decide +kernel
theorem dX5_given_106 : decode cX5_given 106 = .ok (.aload_n 0, 1) := by decide +kernel
theorem dX5_given_107 : decode cX5_given 107 = .ok (.iload_n 2, 1) := by decide +kernel
theorem dX5_given_108 : decode cX5_given 108 = .ok (.invokevirtual 309, 3) := by decide +kernel
theorem dX5_given_111 : decode cX5_given 111 = .ok (.aload_n 0, 1) := by decide +kernel
theorem dX5_given_112 : decode cX5_given 112 = .ok (.iload_n 2, 1) := by decide +kernel
theorem dX5_given_113 : decode cX5_given 113 = .ok (.invokevirtual 317, 3) := by decide +kernel
theorem dX5_given_116 : decode cX5_given 116 = .ok (.istore 8, 2) := by decide +kernel
theorem dX5_given_118 : decode cX5_given 118 = .ok (.iload 6, 2) := by decide +kernel
theorem dX5_given_120 : decode cX5_given 120 = .ok (.ifCond .lt 10, 3) := by decide +kernel
theorem dX5_given_123 : decode cX5_given 123 = .ok (.iload 8, 2) := by decide +kernel
theorem dX5_given_125 : decode cX5_given 125 = .ok (.iload 6, 2) := by decide +kernel
theorem dX5_given_127 : decode cX5_given 127 = .ok (.if_icmp .ge 8, 3) := by decide +kernel
theorem dX5_given_130 : decode cX5_given 130 = .ok (.iload 7, 2) := by decide +kernel
theorem dX5_given_132 : decode cX5_given 132 = .ok (.goto 5, 3) := by decide +kernel
theorem dX5_given_135 : decode cX5_given 135 = .ok (.iload 5, 2) := by decide +kernel
theorem dX5_given_137 : decode cX5_given 137 = .ok (.istore 5, 2) := by decide +kernel
theorem dX5_given_139 : decode cX5_given 139 = .ok (.iload 6, 2) := by decide +kernel
theorem dX5_given_141 : decode cX5_given 141 = .ok (.ifCond .lt 10, 3) := by decide +kernel
theorem dX5_given_144 : decode cX5_given 144 = .ok (.iload 8, 2) := by decide +kernel
theorem dX5_given_146 : decode cX5_given 146 = .ok (.iload 6, 2) := by decide +kernel
theorem dX5_given_148 : decode cX5_given 148 = .ok (.if_icmp .ge 8, 3) := by decide +kernel
theorem dX5_given_151 : decode cX5_given 151 = .ok (.iload 8, 2) := by decide +kernel
theorem dX5_given_153 : decode cX5_given 153 = .ok (.goto 5, 3) := by decide +kernel
theorem dX5_given_156 : decode cX5_given 156 = .ok (.iload 6, 2) := by decide +kernel
theorem dX5_given_158 : decode cX5_given 158 = .ok (.istore 6, 2) := by decide +kernel
theorem dX5_given_160 : decode cX5_given 160 = .ok (.iinc 7 1, 3) := by decide +kernel
theorem dX5_given_163 : decode cX5_given 163 = .ok (.goto (-71), 3) := by decide +kernel
theorem dX5_given_166 : decode cX5_given 166 = .ok (.aload_n 0, 1) := by decide +kernel
theorem dX5_given_167 : decode cX5_given 167 = .ok (.iload_n 1, 1) := by decide +kernel
theorem dX5_given_168 : decode cX5_given 168 = .ok (.iload 5, 2) := by decide +kernel
theorem dX5_given_170 : decode cX5_given 170 = .ok (.invokevirtual 320, 3) := by decide +kernel
theorem dX5_given_173 : decode cX5_given 173 = .ok (.iload_n 3, 1) := by decide +kernel
theorem dX5_given_174 : decode cX5_given 174 = .ok (.ifCond .ge 8, 3) := by decide +kernel
theorem dX5_given_177 : decode cX5_given 177 = .ok (.iload 6, 2) := by decide +kernel
theorem dX5_given_179 : decode cX5_given 179 = .ok (.goto 9, 3) := by decide +kernel
theorem dX5_given_182 : decode cX5_given 182 = .ok (.aload_n 0, 1) := by decide +kernel
theorem dX5_given_183 : decode cX5_given 183 = .ok (.getfield 106, 3) := by decide +kernel
theorem dX5_given_186 : decode cX5_given 186 = .ok (.iload_n 3, 1) := by decide +kernel
theorem dX5_given_187 : decode cX5_given 187 = .ok (.iaload, 1) := by decide +kernel
theorem dX5_given_188 : decode cX5_given 188 = .ok (.ireturn, 1) := by decide +kernel
def tb_X5_given (S_X5_in S_X5_cells S_X5_gives S_X5_ends S_X5_lastOf : ma_Cs) : Nat → ma_In := fun pc =>
 (if pc < 89 then
 (if pc < 44 then
 (if pc < 24 then
 (if pc < 12 then
 (if pc < 3 then
 (if pc < 1 then
 (if pc = 0 then in_ild 1 1 else in_no) else
 (if pc < 2 then
 (if pc = 1 then in_il (fun x => x.toInt64) 2 else in_no) else
 (if pc = 2 then in_push (.long 1) 3 else in_no))) else
 (if pc < 6 then
 (if pc = 3 then in_push (.long 3) 6 else in_no) else
 (if pc < 9 then
 (if pc = 6 then in_s3 S_X5_in 9 else in_no) else
 (if pc = 9 then in_if1 (fun x => x = 0) 42 12 else in_no)))) else
 (if pc < 15 then
 (if pc < 13 then
 (if pc = 12 then in_ild 2 13 else in_no) else
 (if pc < 14 then
 (if pc = 13 then in_il (fun x => x.toInt64) 14 else in_no) else
 (if pc = 14 then in_push (.long 1) 15 else in_no))) else
 (if pc < 18 then
 (if pc = 15 then in_push (.long 12) 18 else in_no) else
 (if pc < 21 then
 (if pc = 18 then in_s3 S_X5_in 21 else in_no) else
 (if pc = 21 then in_if1 (fun x => x = 0) 42 24 else in_no))))) else
 (if pc < 34 then
 (if pc < 29 then
 (if pc < 25 then
 (if pc = 24 then in_ild 3 25 else in_no) else
 (if pc < 26 then
 (if pc = 25 then in_il (fun x => x.toInt64) 26 else in_no) else
 (if pc = 26 then in_push (.long (-1)) 29 else in_no))) else
 (if pc < 30 then
 (if pc = 29 then in_ald 0 30 else in_no) else
 (if pc < 33 then
 (if pc = 30 then in_v1 YM 5 S_X5_cells 33 else in_no) else
 (if pc = 33 then in_push (.int 1) 34 else in_no)))) else
 (if pc < 39 then
 (if pc < 35 then
 (if pc = 34 then in_iii (fun x y => x - y) 35 else in_no) else
 (if pc < 36 then
 (if pc = 35 then in_il (fun x => x.toInt64) 36 else in_no) else
 (if pc = 36 then in_s3 S_X5_in 39 else in_no))) else
 (if pc < 42 then
 (if pc = 39 then in_if1 (fun x => x = 0) 42 44 else in_no) else
 (if pc < 43 then
 (if pc = 42 then in_push (.int (-1)) 43 else in_no) else
 (if pc = 43 then in_ri else in_no)))))) else
 (if pc < 65 then
 (if pc < 56 then
 (if pc < 50 then
 (if pc < 45 then
 (if pc = 44 then in_ald 0 45 else in_no) else
 (if pc < 48 then
 (if pc = 45 then in_v1 YM 5 S_X5_cells 48 else in_no) else
 (if pc = 48 then in_push (.int 9) 50 else in_no))) else
 (if pc < 53 then
 (if pc = 50 then in_if2 (fun x y => x ≤ y) 56 53 else in_no) else
 (if pc < 55 then
 (if pc = 53 then in_push (.int (-2)) 55 else in_no) else
 (if pc = 55 then in_ri else in_no)))) else
 (if pc < 60 then
 (if pc < 57 then
 (if pc = 56 then in_push (.int 1) 57 else in_no) else
 (if pc < 59 then
 (if pc = 57 then in_ist 4 59 else in_no) else
 (if pc = 59 then in_push (.int 0) 60 else in_no))) else
 (if pc < 62 then
 (if pc = 60 then in_ist 5 62 else in_no) else
 (if pc < 64 then
 (if pc = 62 then in_ild 5 64 else in_no) else
 (if pc = 64 then in_ald 0 65 else in_no))))) else
 (if pc < 77 then
 (if pc < 73 then
 (if pc < 68 then
 (if pc = 65 then in_v1 YM 5 S_X5_cells 68 else in_no) else
 (if pc < 71 then
 (if pc = 68 then in_if2 (fun x y => y ≤ x) 83 71 else in_no) else
 (if pc = 71 then in_ild 4 73 else in_no))) else
 (if pc < 74 then
 (if pc = 73 then in_ild 1 74 else in_no) else
 (if pc < 75 then
 (if pc = 74 then in_iii (fun x y => x * y) 75 else in_no) else
 (if pc = 75 then in_ist 4 77 else in_no)))) else
 (if pc < 84 then
 (if pc < 80 then
 (if pc = 77 then in_inc 5 1 80 else in_no) else
 (if pc < 83 then
 (if pc = 80 then in_go 62 else in_no) else
 (if pc = 83 then in_push (.int 0) 84 else in_no))) else
 (if pc < 86 then
 (if pc = 84 then in_ist 5 86 else in_no) else
 (if pc < 87 then
 (if pc = 86 then in_push (.int (-1)) 87 else in_no) else
 (if pc = 87 then in_ist 6 89 else in_no))))))) else
 (if pc < 137 then
 (if pc < 111 then
 (if pc < 100 then
 (if pc < 94 then
 (if pc < 90 then
 (if pc = 89 then in_push (.int 0) 90 else in_no) else
 (if pc < 92 then
 (if pc = 90 then in_ist 7 92 else in_no) else
 (if pc = 92 then in_ild 7 94 else in_no))) else
 (if pc < 96 then
 (if pc = 94 then in_ild 4 96 else in_no) else
 (if pc < 99 then
 (if pc = 96 then in_if2 (fun x y => y ≤ x) 166 99 else in_no) else
 (if pc = 99 then in_ald 0 100 else in_no)))) else
 (if pc < 106 then
 (if pc < 101 then
 (if pc = 100 then in_ild 1 101 else in_no) else
 (if pc < 103 then
 (if pc = 101 then in_ild 7 103 else in_no) else
 (if pc = 103 then in_v3 YM 5 S_X5_gives 106 else in_no))) else
 (if pc < 107 then
 (if pc = 106 then in_ald 0 107 else in_no) else
 (if pc < 108 then
 (if pc = 107 then in_ild 2 108 else in_no) else
 (if pc = 108 then in_v2 YM 5 S_X5_ends 111 else in_no))))) else
 (if pc < 123 then
 (if pc < 116 then
 (if pc < 112 then
 (if pc = 111 then in_ald 0 112 else in_no) else
 (if pc < 113 then
 (if pc = 112 then in_ild 2 113 else in_no) else
 (if pc = 113 then in_v2 YM 5 S_X5_lastOf 116 else in_no))) else
 (if pc < 118 then
 (if pc = 116 then in_ist 8 118 else in_no) else
 (if pc < 120 then
 (if pc = 118 then in_ild 6 120 else in_no) else
 (if pc = 120 then in_if1 (fun x => x < 0) 130 123 else in_no)))) else
 (if pc < 130 then
 (if pc < 125 then
 (if pc = 123 then in_ild 8 125 else in_no) else
 (if pc < 127 then
 (if pc = 125 then in_ild 6 127 else in_no) else
 (if pc = 127 then in_if2 (fun x y => y ≤ x) 135 130 else in_no))) else
 (if pc < 132 then
 (if pc = 130 then in_ild 7 132 else in_no) else
 (if pc < 135 then
 (if pc = 132 then in_go 137 else in_no) else
 (if pc = 135 then in_ild 5 137 else in_no)))))) else
 (if pc < 166 then
 (if pc < 151 then
 (if pc < 144 then
 (if pc < 139 then
 (if pc = 137 then in_ist 5 139 else in_no) else
 (if pc < 141 then
 (if pc = 139 then in_ild 6 141 else in_no) else
 (if pc = 141 then in_if1 (fun x => x < 0) 151 144 else in_no))) else
 (if pc < 146 then
 (if pc = 144 then in_ild 8 146 else in_no) else
 (if pc < 148 then
 (if pc = 146 then in_ild 6 148 else in_no) else
 (if pc = 148 then in_if2 (fun x y => y ≤ x) 156 151 else in_no)))) else
 (if pc < 158 then
 (if pc < 153 then
 (if pc = 151 then in_ild 8 153 else in_no) else
 (if pc < 156 then
 (if pc = 153 then in_go 158 else in_no) else
 (if pc = 156 then in_ild 6 158 else in_no))) else
 (if pc < 160 then
 (if pc = 158 then in_ist 6 160 else in_no) else
 (if pc < 163 then
 (if pc = 160 then in_inc 7 1 163 else in_no) else
 (if pc = 163 then in_go 92 else in_no))))) else
 (if pc < 177 then
 (if pc < 170 then
 (if pc < 167 then
 (if pc = 166 then in_ald 0 167 else in_no) else
 (if pc < 168 then
 (if pc = 167 then in_ild 1 168 else in_no) else
 (if pc = 168 then in_ild 5 170 else in_no))) else
 (if pc < 173 then
 (if pc = 170 then in_v3 YM 5 S_X5_gives 173 else in_no) else
 (if pc < 174 then
 (if pc = 173 then in_ild 3 174 else in_no) else
 (if pc = 174 then in_if1 (fun x => 0 ≤ x) 182 177 else in_no)))) else
 (if pc < 183 then
 (if pc < 179 then
 (if pc = 177 then in_ild 6 179 else in_no) else
 (if pc < 182 then
 (if pc = 179 then in_go 188 else in_no) else
 (if pc = 182 then in_ald 0 183 else in_no))) else
 (if pc < 187 then
 (if pc < 186 then
 (if pc = 183 then in_get YM 5 44 186 else in_no) else
 (if pc = 186 then in_ild 3 187 else in_no)) else
 (if pc < 188 then
 (if pc = 187 then in_iar YM 188 else in_no) else
 (if pc = 188 then in_ri else in_no))))))))
theorem tk_X5_given {l : Launch} {w : ma_Wd} {NC : Nat} {A : Nat → Prop} {S_X5_in S_X5_cells S_X5_gives S_X5_ends S_X5_lastOf : ma_Cs} (h_X5_in : ma_Sd l w YM NC A yX5_in cX5_in 6 (some .boolean) rm_X5_in S_X5_in) (h_X5_cells : ma_Sd l w YM NC A yX5_cells cX5_cells 1 (some .int) rm_X5_cells S_X5_cells) (h_X5_gives : ma_Sd l w YM NC A yX5_gives cX5_gives 5 none rm_X5_gives S_X5_gives) (h_X5_ends : ma_Sd l w YM NC A yX5_ends cX5_ends 9 none rm_X5_ends S_X5_ends) (h_X5_lastOf : ma_Sd l w YM NC A yX5_lastOf cX5_lastOf 4 (some .int) rm_X5_lastOf S_X5_lastOf) {p : Program} {e : Env} {s : State} {m : MethodId} {args : Array Value} {below : List Frame} {meth : Method} {c : Code} (X : ma_Cx p s m args meth c w YM NC A yX5_given.cls cX5_given 9 (some .int)) : ∀ pc, ma_Ok p l e rm_X5_given s m args below meth c w YM NC A 9 pc (tb_X5_given S_X5_in S_X5_cells S_X5_gives S_X5_ends S_X5_lastOf pc) := fun pc =>
 (mk_lt
 (mk_lt
 (mk_lt
 (mk_lt
 (mk_lt
 (mk_lt
 (mk_eq (mk_iload_n X dX5_given_0 rfl rfl))
 (mk_lt
 (mk_eq (mk_i2l X dX5_given_1 rfl))
 (mk_eq (mk_lconst X dX5_given_2 rfl rfl))))
 (mk_lt
 (mk_eq (mk_ldc2 X dX5_given_3 q911 rfl))
 (mk_lt
 (mk_eq (mk_S3 X h_X5_in (lw_S q892 q893 q66 q894) ⟨by decide, by decide, rfl⟩ ⟨(Nat.le_of_ble_eq_true rfl), (Nat.le_of_ble_eq_true rfl)⟩ dX5_given_6 rfl))
 (mk_eq (mk_ifeq X dX5_given_9 rfl rfl)))))
 (mk_lt
 (mk_lt
 (mk_eq (mk_iload_n X dX5_given_12 rfl rfl))
 (mk_lt
 (mk_eq (mk_i2l X dX5_given_13 rfl))
 (mk_eq (mk_lconst X dX5_given_14 rfl rfl))))
 (mk_lt
 (mk_eq (mk_ldc2 X dX5_given_15 q989 rfl))
 (mk_lt
 (mk_eq (mk_S3 X h_X5_in (lw_S q892 q893 q66 q894) ⟨by decide, by decide, rfl⟩ ⟨(Nat.le_of_ble_eq_true rfl), (Nat.le_of_ble_eq_true rfl)⟩ dX5_given_18 rfl))
 (mk_eq (mk_ifeq X dX5_given_21 rfl rfl))))))
 (mk_lt
 (mk_lt
 (mk_lt
 (mk_eq (mk_iload_n X dX5_given_24 rfl rfl))
 (mk_lt
 (mk_eq (mk_i2l X dX5_given_25 rfl))
 (mk_eq (mk_ldc2 X dX5_given_26 q1125 rfl))))
 (mk_lt
 (mk_eq (mk_aload_n X dX5_given_29 rfl rfl))
 (mk_lt
 (mk_eq (mk_V1 X h_X5_cells (ci := 5) rfl (lw_V q895 q897 qs30 q66 q898) ⟨rfl, by decide, by decide, rfl⟩ ⟨(Nat.le_of_ble_eq_true rfl), (Nat.le_of_ble_eq_true rfl)⟩ dX5_given_30 rfl))
 (mk_eq (mk_iconst X dX5_given_33 rfl rfl)))))
 (mk_lt
 (mk_lt
 (mk_eq (mk_isub X dX5_given_34 rfl))
 (mk_lt
 (mk_eq (mk_i2l X dX5_given_35 rfl))
 (mk_eq (mk_S3 X h_X5_in (lw_S q892 q893 q66 q894) ⟨by decide, by decide, rfl⟩ ⟨(Nat.le_of_ble_eq_true rfl), (Nat.le_of_ble_eq_true rfl)⟩ dX5_given_36 rfl))))
 (mk_lt
 (mk_eq (mk_ifne X dX5_given_39 rfl rfl))
 (mk_lt
 (mk_eq (mk_iconst X dX5_given_42 rfl rfl))
 (mk_eq (mk_ri X dX5_given_43)))))))
 (mk_lt
 (mk_lt
 (mk_lt
 (mk_lt
 (mk_eq (mk_aload_n X dX5_given_44 rfl rfl))
 (mk_lt
 (mk_eq (mk_V1 X h_X5_cells (ci := 5) rfl (lw_V q895 q897 qs30 q66 q898) ⟨rfl, by decide, by decide, rfl⟩ ⟨(Nat.le_of_ble_eq_true rfl), (Nat.le_of_ble_eq_true rfl)⟩ dX5_given_45 rfl))
 (mk_eq (mk_bipush X dX5_given_48 rfl rfl))))
 (mk_lt
 (mk_eq (mk_icle X dX5_given_50 rfl rfl))
 (mk_lt
 (mk_eq (mk_bipush X dX5_given_53 rfl rfl))
 (mk_eq (mk_ri X dX5_given_55)))))
 (mk_lt
 (mk_lt
 (mk_eq (mk_iconst X dX5_given_56 rfl rfl))
 (mk_lt
 (mk_eq (mk_istore X dX5_given_57 (Nat.le_of_ble_eq_true rfl) rfl))
 (mk_eq (mk_iconst X dX5_given_59 rfl rfl))))
 (mk_lt
 (mk_eq (mk_istore X dX5_given_60 (Nat.le_of_ble_eq_true rfl) rfl))
 (mk_lt
 (mk_eq (mk_iload X dX5_given_62 rfl))
 (mk_eq (mk_aload_n X dX5_given_64 rfl rfl))))))
 (mk_lt
 (mk_lt
 (mk_lt
 (mk_eq (mk_V1 X h_X5_cells (ci := 5) rfl (lw_V q895 q897 qs30 q66 q898) ⟨rfl, by decide, by decide, rfl⟩ ⟨(Nat.le_of_ble_eq_true rfl), (Nat.le_of_ble_eq_true rfl)⟩ dX5_given_65 rfl))
 (mk_lt
 (mk_eq (mk_icge X dX5_given_68 rfl rfl))
 (mk_eq (mk_iload X dX5_given_71 rfl))))
 (mk_lt
 (mk_eq (mk_iload_n X dX5_given_73 rfl rfl))
 (mk_lt
 (mk_eq (mk_imul X dX5_given_74 rfl))
 (mk_eq (mk_istore X dX5_given_75 (Nat.le_of_ble_eq_true rfl) rfl)))))
 (mk_lt
 (mk_lt
 (mk_eq (mk_iinc X dX5_given_77 rfl (Nat.le_of_ble_eq_true rfl) rfl))
 (mk_lt
 (mk_eq (mk_goto X dX5_given_80 rfl))
 (mk_eq (mk_iconst X dX5_given_83 rfl rfl))))
 (mk_lt
 (mk_eq (mk_istore X dX5_given_84 (Nat.le_of_ble_eq_true rfl) rfl))
 (mk_lt
 (mk_eq (mk_iconst X dX5_given_86 rfl rfl))
 (mk_eq (mk_istore X dX5_given_87 (Nat.le_of_ble_eq_true rfl) rfl))))))))
 (mk_lt
 (mk_lt
 (mk_lt
 (mk_lt
 (mk_lt
 (mk_eq (mk_iconst X dX5_given_89 rfl rfl))
 (mk_lt
 (mk_eq (mk_istore X dX5_given_90 (Nat.le_of_ble_eq_true rfl) rfl))
 (mk_eq (mk_iload X dX5_given_92 rfl))))
 (mk_lt
 (mk_eq (mk_iload X dX5_given_94 rfl))
 (mk_lt
 (mk_eq (mk_icge X dX5_given_96 rfl rfl))
 (mk_eq (mk_aload_n X dX5_given_99 rfl rfl)))))
 (mk_lt
 (mk_lt
 (mk_eq (mk_iload_n X dX5_given_100 rfl rfl))
 (mk_lt
 (mk_eq (mk_iload X dX5_given_101 rfl))
 (mk_eq (mk_V3 X h_X5_gives (ci := 5) rfl (lw_V q1146 q1148 qs56 q66 q1149) ⟨rfl, by decide, by decide, rfl⟩ ⟨(Nat.le_of_ble_eq_true rfl), (Nat.le_of_ble_eq_true rfl)⟩ dX5_given_103 rfl))))
 (mk_lt
 (mk_eq (mk_aload_n X dX5_given_106 rfl rfl))
 (mk_lt
 (mk_eq (mk_iload_n X dX5_given_107 rfl rfl))
 (mk_eq (mk_V2 X h_X5_ends (ci := 5) rfl (lw_V q1130 q1132 qs54 q66 q1133) ⟨rfl, by decide, by decide, rfl⟩ ⟨(Nat.le_of_ble_eq_true rfl), (Nat.le_of_ble_eq_true rfl)⟩ dX5_given_108 rfl))))))
 (mk_lt
 (mk_lt
 (mk_lt
 (mk_eq (mk_aload_n X dX5_given_111 rfl rfl))
 (mk_lt
 (mk_eq (mk_iload_n X dX5_given_112 rfl rfl))
 (mk_eq (mk_V2 X h_X5_lastOf (ci := 5) rfl (lw_V q1134 q1136 qs55 q66 q1137) ⟨rfl, by decide, by decide, rfl⟩ ⟨(Nat.le_of_ble_eq_true rfl), (Nat.le_of_ble_eq_true rfl)⟩ dX5_given_113 rfl))))
 (mk_lt
 (mk_eq (mk_istore X dX5_given_116 (Nat.le_of_ble_eq_true rfl) rfl))
 (mk_lt
 (mk_eq (mk_iload X dX5_given_118 rfl))
 (mk_eq (mk_iflt X dX5_given_120 rfl rfl)))))
 (mk_lt
 (mk_lt
 (mk_eq (mk_iload X dX5_given_123 rfl))
 (mk_lt
 (mk_eq (mk_iload X dX5_given_125 rfl))
 (mk_eq (mk_icge X dX5_given_127 rfl rfl))))
 (mk_lt
 (mk_eq (mk_iload X dX5_given_130 rfl))
 (mk_lt
 (mk_eq (mk_goto X dX5_given_132 rfl))
 (mk_eq (mk_iload X dX5_given_135 rfl)))))))
 (mk_lt
 (mk_lt
 (mk_lt
 (mk_lt
 (mk_eq (mk_istore X dX5_given_137 (Nat.le_of_ble_eq_true rfl) rfl))
 (mk_lt
 (mk_eq (mk_iload X dX5_given_139 rfl))
 (mk_eq (mk_iflt X dX5_given_141 rfl rfl))))
 (mk_lt
 (mk_eq (mk_iload X dX5_given_144 rfl))
 (mk_lt
 (mk_eq (mk_iload X dX5_given_146 rfl))
 (mk_eq (mk_icge X dX5_given_148 rfl rfl)))))
 (mk_lt
 (mk_lt
 (mk_eq (mk_iload X dX5_given_151 rfl))
 (mk_lt
 (mk_eq (mk_goto X dX5_given_153 rfl))
 (mk_eq (mk_iload X dX5_given_156 rfl))))
 (mk_lt
 (mk_eq (mk_istore X dX5_given_158 (Nat.le_of_ble_eq_true rfl) rfl))
 (mk_lt
 (mk_eq (mk_iinc X dX5_given_160 rfl (Nat.le_of_ble_eq_true rfl) rfl))
 (mk_eq (mk_goto X dX5_given_163 rfl))))))
 (mk_lt
 (mk_lt
 (mk_lt
 (mk_eq (mk_aload_n X dX5_given_166 rfl rfl))
 (mk_lt
 (mk_eq (mk_iload_n X dX5_given_167 rfl rfl))
 (mk_eq (mk_iload X dX5_given_168 rfl))))
 (mk_lt
 (mk_eq (mk_V3 X h_X5_gives (ci := 5) rfl (lw_V q1146 q1148 qs56 q66 q1149) ⟨rfl, by decide, by decide, rfl⟩ ⟨(Nat.le_of_ble_eq_true rfl), (Nat.le_of_ble_eq_true rfl)⟩ dX5_given_170 rfl))
 (mk_lt
 (mk_eq (mk_iload_n X dX5_given_173 rfl rfl))
 (mk_eq (mk_ifge X dX5_given_174 rfl rfl)))))
 (mk_lt
 (mk_lt
 (mk_eq (mk_iload X dX5_given_177 rfl))
 (mk_lt
 (mk_eq (mk_goto X dX5_given_179 rfl))
 (mk_eq (mk_aload_n X dX5_given_182 rfl rfl))))
 (mk_lt
 (mk_lt
 (mk_eq (mk_get X (ci := 5) (j := 44) rfl in_X5 (Nat.le_of_ble_eq_true rfl) q791 dX5_given_183 rfl))
 (mk_eq (mk_iload_n X dX5_given_186 rfl rfl)))
 (mk_lt
 (mk_eq (mk_iar X dX5_given_187 rfl))
 (mk_eq (mk_ri X dX5_given_188)))))))))
theorem sd_X5_given {l : Launch} {w : ma_Wd} {NC : Nat} {A : Nat → Prop} {S_X5_in S_X5_cells S_X5_gives S_X5_ends S_X5_lastOf : ma_Cs} (hw : ma_Wo w YM NC A) (h_X5_in : ma_Sd l w YM NC A yX5_in cX5_in 6 (some .boolean) rm_X5_in S_X5_in) (h_X5_cells : ma_Sd l w YM NC A yX5_cells cX5_cells 1 (some .int) rm_X5_cells S_X5_cells) (h_X5_gives : ma_Sd l w YM NC A yX5_gives cX5_gives 5 none rm_X5_gives S_X5_gives) (h_X5_ends : ma_Sd l w YM NC A yX5_ends cX5_ends 9 none rm_X5_ends S_X5_ends) (h_X5_lastOf : ma_Sd l w YM NC A yX5_lastOf cX5_lastOf 4 (some .int) rm_X5_lastOf S_X5_lastOf) : ma_Sd l w YM NC A yX5_given cX5_given 9 (some .int) rm_X5_given (ma_rn (tb_X5_given S_X5_in S_X5_cells S_X5_gives S_X5_ends S_X5_lastOf) 9) := ma_of hw (by decide) ⟨rfl, rfl⟩ (fun X => tk_X5_given h_X5_in h_X5_cells h_X5_gives h_X5_ends h_X5_lastOf X)
theorem dX5_gives_0 : decode cX5_gives 0 = .ok (.iload_n 2, 1) := by decide +kernel
theorem dX5_gives_1 : decode cX5_gives 1 = .ok (.istore_n 3, 1) := by decide +kernel
theorem dX5_gives_2 : decode cX5_gives 2 = .ok (.aload_n 0, 1) := by decide +kernel
theorem dX5_gives_3 : decode cX5_gives 3 = .ok (.invokevirtual 124, 3) := by decide +kernel
theorem dX5_gives_6 : decode cX5_gives 6 = .ok (.iconst 1, 1) := by decide +kernel
theorem dX5_gives_7 : decode cX5_gives 7 = .ok (.isub, 1) := by decide +kernel
theorem dX5_gives_8 : decode cX5_gives 8 = .ok (.istore 4, 2) := by decide +kernel
theorem dX5_gives_10 : decode cX5_gives 10 = .ok (.iload 4, 2) := by decide +kernel
theorem dX5_gives_12 : decode cX5_gives 12 = .ok (.ifCond .lt 23, 3) := by decide +kernel
theorem dX5_gives_15 : decode cX5_gives 15 = .ok (.aload_n 0, 1) := by decide +kernel
theorem dX5_gives_16 : decode cX5_gives 16 = .ok (.getfield 106, 3) := by decide +kernel
theorem dX5_gives_19 : decode cX5_gives 19 = .ok (.iload 4, 2) := by decide +kernel
theorem dX5_gives_21 : decode cX5_gives 21 = .ok (.iload_n 3, 1) := by decide +kernel
theorem dX5_gives_22 : decode cX5_gives 22 = .ok (.iload_n 1, 1) := by decide +kernel
theorem dX5_gives_23 : decode cX5_gives 23 = .ok (.irem, 1) := by decide +kernel
theorem dX5_gives_24 : decode cX5_gives 24 = .ok (.iastore, 1) := by decide +kernel
theorem dX5_gives_25 : decode cX5_gives 25 = .ok (.iload_n 3, 1) := by decide +kernel
theorem dX5_gives_26 : decode cX5_gives 26 = .ok (.iload_n 1, 1) := by decide +kernel
theorem dX5_gives_27 : decode cX5_gives 27 = .ok (.idiv, 1) := by decide +kernel
theorem dX5_gives_28 : decode cX5_gives 28 = .ok (.istore_n 3, 1) := by decide +kernel
theorem dX5_gives_29 : decode cX5_gives 29 = .ok (.iinc 4 (-1), 3) := by decide +kernel
theorem dX5_gives_32 : decode cX5_gives 32 = .ok (.goto (-22), 3) := by decide +kernel
theorem dX5_gives_35 : decode cX5_gives 35 = .ok (.return_, 1) := by decide +kernel
def tb_X5_gives (S_X5_cells : ma_Cs) : Nat → ma_In := fun pc =>
 (if pc < 19 then
 (if pc < 7 then
 (if pc < 2 then
 (if pc < 1 then
 (if pc = 0 then in_ild 2 1 else in_no) else
 (if pc = 1 then in_ist 3 2 else in_no)) else
 (if pc < 3 then
 (if pc = 2 then in_ald 0 3 else in_no) else
 (if pc < 6 then
 (if pc = 3 then in_v1 YM 5 S_X5_cells 6 else in_no) else
 (if pc = 6 then in_push (.int 1) 7 else in_no)))) else
 (if pc < 12 then
 (if pc < 8 then
 (if pc = 7 then in_iii (fun x y => x - y) 8 else in_no) else
 (if pc < 10 then
 (if pc = 8 then in_ist 4 10 else in_no) else
 (if pc = 10 then in_ild 4 12 else in_no))) else
 (if pc < 15 then
 (if pc = 12 then in_if1 (fun x => x < 0) 35 15 else in_no) else
 (if pc < 16 then
 (if pc = 15 then in_ald 0 16 else in_no) else
 (if pc = 16 then in_get YM 5 44 19 else in_no))))) else
 (if pc < 26 then
 (if pc < 23 then
 (if pc < 21 then
 (if pc = 19 then in_ild 4 21 else in_no) else
 (if pc < 22 then
 (if pc = 21 then in_ild 3 22 else in_no) else
 (if pc = 22 then in_ild 1 23 else in_no))) else
 (if pc < 24 then
 (if pc = 23 then in_idv (fun x y => x - x / y * y) 24 else in_no) else
 (if pc < 25 then
 (if pc = 24 then in_iaw YM 25 else in_no) else
 (if pc = 25 then in_ild 3 26 else in_no)))) else
 (if pc < 29 then
 (if pc < 27 then
 (if pc = 26 then in_ild 1 27 else in_no) else
 (if pc < 28 then
 (if pc = 27 then in_idv (fun x y => x / y) 28 else in_no) else
 (if pc = 28 then in_ist 3 29 else in_no))) else
 (if pc < 32 then
 (if pc = 29 then in_inc 4 (-1) 32 else in_no) else
 (if pc < 35 then
 (if pc = 32 then in_go 10 else in_no) else
 (if pc = 35 then in_rv else in_no))))))
theorem tk_X5_gives {l : Launch} {w : ma_Wd} {NC : Nat} {A : Nat → Prop} {S_X5_cells : ma_Cs} (h_X5_cells : ma_Sd l w YM NC A yX5_cells cX5_cells 1 (some .int) rm_X5_cells S_X5_cells) {p : Program} {e : Env} {s : State} {m : MethodId} {args : Array Value} {below : List Frame} {meth : Method} {c : Code} (X : ma_Cx p s m args meth c w YM NC A yX5_gives.cls cX5_gives 5 none) : ∀ pc, ma_Ok p l e rm_X5_gives s m args below meth c w YM NC A 5 pc (tb_X5_gives S_X5_cells pc) := fun pc =>
 (mk_lt
 (mk_lt
 (mk_lt
 (mk_lt
 (mk_eq (mk_iload_n X dX5_gives_0 rfl rfl))
 (mk_eq (mk_istore_n X dX5_gives_1 rfl (Nat.le_of_ble_eq_true rfl) rfl)))
 (mk_lt
 (mk_eq (mk_aload_n X dX5_gives_2 rfl rfl))
 (mk_lt
 (mk_eq (mk_V1 X h_X5_cells (ci := 5) rfl (lw_V q895 q897 qs30 q66 q898) ⟨rfl, by decide, by decide, rfl⟩ ⟨(Nat.le_of_ble_eq_true rfl), (Nat.le_of_ble_eq_true rfl)⟩ dX5_gives_3 rfl))
 (mk_eq (mk_iconst X dX5_gives_6 rfl rfl)))))
 (mk_lt
 (mk_lt
 (mk_eq (mk_isub X dX5_gives_7 rfl))
 (mk_lt
 (mk_eq (mk_istore X dX5_gives_8 (Nat.le_of_ble_eq_true rfl) rfl))
 (mk_eq (mk_iload X dX5_gives_10 rfl))))
 (mk_lt
 (mk_eq (mk_iflt X dX5_gives_12 rfl rfl))
 (mk_lt
 (mk_eq (mk_aload_n X dX5_gives_15 rfl rfl))
 (mk_eq (mk_get X (ci := 5) (j := 44) rfl in_X5 (Nat.le_of_ble_eq_true rfl) q791 dX5_gives_16 rfl))))))
 (mk_lt
 (mk_lt
 (mk_lt
 (mk_eq (mk_iload X dX5_gives_19 rfl))
 (mk_lt
 (mk_eq (mk_iload_n X dX5_gives_21 rfl rfl))
 (mk_eq (mk_iload_n X dX5_gives_22 rfl rfl))))
 (mk_lt
 (mk_eq (mk_irem X dX5_gives_23 rfl))
 (mk_lt
 (mk_eq (mk_iaw X dX5_gives_24 rfl))
 (mk_eq (mk_iload_n X dX5_gives_25 rfl rfl)))))
 (mk_lt
 (mk_lt
 (mk_eq (mk_iload_n X dX5_gives_26 rfl rfl))
 (mk_lt
 (mk_eq (mk_idiv X dX5_gives_27 rfl))
 (mk_eq (mk_istore_n X dX5_gives_28 rfl (Nat.le_of_ble_eq_true rfl) rfl))))
 (mk_lt
 (mk_eq (mk_iinc X dX5_gives_29 rfl (Nat.le_of_ble_eq_true rfl) rfl))
 (mk_lt
 (mk_eq (mk_goto X dX5_gives_32 rfl))
 (mk_eq (mk_rv X dX5_gives_35)))))))
theorem sd_X5_gives {l : Launch} {w : ma_Wd} {NC : Nat} {A : Nat → Prop} {S_X5_cells : ma_Cs} (hw : ma_Wo w YM NC A) (h_X5_cells : ma_Sd l w YM NC A yX5_cells cX5_cells 1 (some .int) rm_X5_cells S_X5_cells) : ma_Sd l w YM NC A yX5_gives cX5_gives 5 none rm_X5_gives (ma_rn (tb_X5_gives S_X5_cells) 5) := ma_of hw (by decide) ⟨rfl, rfl⟩ (fun X => tk_X5_gives h_X5_cells X)
theorem dX5_known_0 : decode cX5_known 0 = .ok (.aload_n 0, 1) := by decide +kernel
theorem dX5_known_1 : decode cX5_known 1 = .ok (.iload_n 1, 1) := by decide +kernel
theorem dX5_known_2 : decode cX5_known 2 = .ok (.invokevirtual 269, 3) := by decide +kernel
theorem dX5_known_5 : decode cX5_known 5 = .ok (.ifCond .eq 15, 3) := by decide +kernel
theorem dX5_known_8 : decode cX5_known 8 = .ok (.iload_n 2, 1) := by decide +kernel
theorem dX5_known_9 : decode cX5_known 9 = .ok (.i2l, 1) := by decide +kernel
theorem dX5_known_10 : decode cX5_known 10 = .ok (.lconst 0, 1) := by decide +kernel
theorem dX5_known_11 : decode cX5_known 11 = .ok (.ldc2_w 324, 3) := by decide +kernel
theorem dX5_known_14 : decode cX5_known 14 = .ok (.invokestatic 128, 3) := by decide +kernel
theorem dX5_known_17 : decode cX5_known 17 = .ok (.ifCond .ne 5, 3) := by decide +kernel
theorem dX5_known_20 : decode cX5_known 20 = .ok (.iconst (-1), 1) := by decide +kernel
theorem dX5_known_21 : decode cX5_known 21 = .ok (.ireturn, 1) := by decide +kernel
theorem dX5_known_22 : decode cX5_known 22 = .ok (.aload_n 0, 1) := by decide +kernel
theorem dX5_known_23 : decode cX5_known 23 = .ok (.invokevirtual 314, 3) := by decide +kernel
theorem dX5_known_26 : decode cX5_known 26 = .ok (.iconst 0, 1) := by decide +kernel
theorem dX5_known_27 : decode cX5_known 27 = .ok (.istore_n 3, 1) := by decide +kernel
theorem dX5_known_28 : decode cX5_known 28 = .ok (.iload_n 3, 1) := by decide +kernel
theorem dX5_known_29 : decode cX5_known 29 = .ok (.bipush 12, 2) := by decide +kernel
theorem dX5_known_31 : decode cX5_known 31 = .ok (.if_icmp .ge 26, 3) := by decide +kernel
theorem dX5_known_34 : decode cX5_known 34 = .ok (.aload_n 0, 1) := by decide +kernel
theorem dX5_known_35 : decode cX5_known 35 = .ok (.getfield 103, 3) := by decide +kernel
theorem dX5_known_38 : decode cX5_known 38 = .ok (.bipush 36, 2) := by decide +kernel
theorem dX5_known_40 : decode cX5_known 40 = .ok (.iload_n 3, 1) := by decide +kernel
theorem dX5_known_41 : decode cX5_known 41 = .ok (.iconst 1, 1) := by decide +kernel
theorem dX5_known_42 : decode cX5_known 42 = .ok (.iadd, 1) := by decide +kernel
theorem dX5_known_43 : decode cX5_known 43 = .ok (.imul, 1) := by decide +kernel
theorem dX5_known_44 : decode cX5_known 44 = .ok (.iload_n 1, 1) := by decide +kernel
theorem dX5_known_45 : decode cX5_known 45 = .ok (.iadd, 1) := by decide +kernel
theorem dX5_known_46 : decode cX5_known 46 = .ok (.iaload, 1) := by decide +kernel
theorem dX5_known_47 : decode cX5_known 47 = .ok (.iload_n 2, 1) := by decide +kernel
theorem dX5_known_48 : decode cX5_known 48 = .ok (.if_icmp .gt 9, 3) := by decide +kernel
theorem dX5_known_51 : decode cX5_known 51 = .ok (.iinc 3 1, 3) := by decide +kernel
theorem dX5_known_54 : decode cX5_known 54 = .ok (.goto (-26), 3) := by decide +kernel
theorem dX5_known_57 : decode cX5_known 57 = .ok (.iload_n 3, 1) := by decide +kernel
theorem dX5_known_58 : decode cX5_known 58 = .ok (.ireturn, 1) := by decide +kernel
def tb_X5_known (S_X5_isCell S_X5_in S_X5_ownEnds : ma_Cs) : Nat → ma_In := fun pc =>
 (if pc < 29 then
 (if pc < 14 then
 (if pc < 8 then
 (if pc < 2 then
 (if pc < 1 then
 (if pc = 0 then in_ald 0 1 else in_no) else
 (if pc = 1 then in_ild 1 2 else in_no)) else
 (if pc < 5 then
 (if pc = 2 then in_v2 YM 5 S_X5_isCell 5 else in_no) else
 (if pc = 5 then in_if1 (fun x => x = 0) 20 8 else in_no))) else
 (if pc < 10 then
 (if pc < 9 then
 (if pc = 8 then in_ild 2 9 else in_no) else
 (if pc = 9 then in_il (fun x => x.toInt64) 10 else in_no)) else
 (if pc < 11 then
 (if pc = 10 then in_push (.long 0) 11 else in_no) else
 (if pc = 11 then in_push (.long 100000) 14 else in_no)))) else
 (if pc < 22 then
 (if pc < 20 then
 (if pc < 17 then
 (if pc = 14 then in_s3 S_X5_in 17 else in_no) else
 (if pc = 17 then in_if1 (fun x => x = 0) 20 22 else in_no)) else
 (if pc < 21 then
 (if pc = 20 then in_push (.int (-1)) 21 else in_no) else
 (if pc = 21 then in_ri else in_no))) else
 (if pc < 26 then
 (if pc < 23 then
 (if pc = 22 then in_ald 0 23 else in_no) else
 (if pc = 23 then in_v1 YM 5 S_X5_ownEnds 26 else in_no)) else
 (if pc < 27 then
 (if pc = 26 then in_push (.int 0) 27 else in_no) else
 (if pc < 28 then
 (if pc = 27 then in_ist 3 28 else in_no) else
 (if pc = 28 then in_ild 3 29 else in_no)))))) else
 (if pc < 44 then
 (if pc < 38 then
 (if pc < 34 then
 (if pc < 31 then
 (if pc = 29 then in_push (.int 12) 31 else in_no) else
 (if pc = 31 then in_if2 (fun x y => y ≤ x) 57 34 else in_no)) else
 (if pc < 35 then
 (if pc = 34 then in_ald 0 35 else in_no) else
 (if pc = 35 then in_get YM 5 43 38 else in_no))) else
 (if pc < 41 then
 (if pc < 40 then
 (if pc = 38 then in_push (.int 36) 40 else in_no) else
 (if pc = 40 then in_ild 3 41 else in_no)) else
 (if pc < 42 then
 (if pc = 41 then in_push (.int 1) 42 else in_no) else
 (if pc < 43 then
 (if pc = 42 then in_iii (fun x y => x + y) 43 else in_no) else
 (if pc = 43 then in_iii (fun x y => x * y) 44 else in_no))))) else
 (if pc < 48 then
 (if pc < 46 then
 (if pc < 45 then
 (if pc = 44 then in_ild 1 45 else in_no) else
 (if pc = 45 then in_iii (fun x y => x + y) 46 else in_no)) else
 (if pc < 47 then
 (if pc = 46 then in_iar YM 47 else in_no) else
 (if pc = 47 then in_ild 2 48 else in_no))) else
 (if pc < 54 then
 (if pc < 51 then
 (if pc = 48 then in_if2 (fun x y => y < x) 57 51 else in_no) else
 (if pc = 51 then in_inc 3 1 54 else in_no)) else
 (if pc < 57 then
 (if pc = 54 then in_go 28 else in_no) else
 (if pc < 58 then
 (if pc = 57 then in_ild 3 58 else in_no) else
 (if pc = 58 then in_ri else in_no)))))))
theorem tk_X5_known {l : Launch} {w : ma_Wd} {NC : Nat} {A : Nat → Prop} {S_X5_isCell S_X5_in S_X5_ownEnds : ma_Cs} (h_X5_isCell : ma_Sd l w YM NC A yX5_isCell cX5_isCell 2 (some .boolean) rm_X5_isCell S_X5_isCell) (h_X5_in : ma_Sd l w YM NC A yX5_in cX5_in 6 (some .boolean) rm_X5_in S_X5_in) (h_X5_ownEnds : ma_Sd l w YM NC A yX5_ownEnds cX5_ownEnds 2 none rm_X5_ownEnds S_X5_ownEnds) {p : Program} {e : Env} {s : State} {m : MethodId} {args : Array Value} {below : List Frame} {meth : Method} {c : Code} (X : ma_Cx p s m args meth c w YM NC A yX5_known.cls cX5_known 4 (some .int)) : ∀ pc, ma_Ok p l e rm_X5_known s m args below meth c w YM NC A 4 pc (tb_X5_known S_X5_isCell S_X5_in S_X5_ownEnds pc) := fun pc =>
 (mk_lt
 (mk_lt
 (mk_lt
 (mk_lt
 (mk_lt
 (mk_eq (mk_aload_n X dX5_known_0 rfl rfl))
 (mk_eq (mk_iload_n X dX5_known_1 rfl rfl)))
 (mk_lt
 (mk_eq (mk_V2 X h_X5_isCell (ci := 5) rfl (lw_V q977 q979 qs39 q66 q980) ⟨rfl, by decide, by decide, rfl⟩ ⟨(Nat.le_of_ble_eq_true rfl), (Nat.le_of_ble_eq_true rfl)⟩ dX5_known_2 rfl))
 (mk_eq (mk_ifeq X dX5_known_5 rfl rfl))))
 (mk_lt
 (mk_lt
 (mk_eq (mk_iload_n X dX5_known_8 rfl rfl))
 (mk_eq (mk_i2l X dX5_known_9 rfl)))
 (mk_lt
 (mk_eq (mk_lconst X dX5_known_10 rfl rfl))
 (mk_eq (mk_ldc2 X dX5_known_11 q1154 rfl)))))
 (mk_lt
 (mk_lt
 (mk_lt
 (mk_eq (mk_S3 X h_X5_in (lw_S q892 q893 q66 q894) ⟨by decide, by decide, rfl⟩ ⟨(Nat.le_of_ble_eq_true rfl), (Nat.le_of_ble_eq_true rfl)⟩ dX5_known_14 rfl))
 (mk_eq (mk_ifne X dX5_known_17 rfl rfl)))
 (mk_lt
 (mk_eq (mk_iconst X dX5_known_20 rfl rfl))
 (mk_eq (mk_ri X dX5_known_21))))
 (mk_lt
 (mk_lt
 (mk_eq (mk_aload_n X dX5_known_22 rfl rfl))
 (mk_eq (mk_V1 X h_X5_ownEnds (ci := 5) rfl (lw_V q1126 q1128 qs53 q66 q1129) ⟨rfl, by decide, by decide, rfl⟩ ⟨(Nat.le_of_ble_eq_true rfl), (Nat.le_of_ble_eq_true rfl)⟩ dX5_known_23 rfl)))
 (mk_lt
 (mk_eq (mk_iconst X dX5_known_26 rfl rfl))
 (mk_lt
 (mk_eq (mk_istore_n X dX5_known_27 rfl (Nat.le_of_ble_eq_true rfl) rfl))
 (mk_eq (mk_iload_n X dX5_known_28 rfl rfl)))))))
 (mk_lt
 (mk_lt
 (mk_lt
 (mk_lt
 (mk_eq (mk_bipush X dX5_known_29 rfl rfl))
 (mk_eq (mk_icge X dX5_known_31 rfl rfl)))
 (mk_lt
 (mk_eq (mk_aload_n X dX5_known_34 rfl rfl))
 (mk_eq (mk_get X (ci := 5) (j := 43) rfl in_X5 (Nat.le_of_ble_eq_true rfl) q790 dX5_known_35 rfl))))
 (mk_lt
 (mk_lt
 (mk_eq (mk_bipush X dX5_known_38 rfl rfl))
 (mk_eq (mk_iload_n X dX5_known_40 rfl rfl)))
 (mk_lt
 (mk_eq (mk_iconst X dX5_known_41 rfl rfl))
 (mk_lt
 (mk_eq (mk_iadd X dX5_known_42 rfl))
 (mk_eq (mk_imul X dX5_known_43 rfl))))))
 (mk_lt
 (mk_lt
 (mk_lt
 (mk_eq (mk_iload_n X dX5_known_44 rfl rfl))
 (mk_eq (mk_iadd X dX5_known_45 rfl)))
 (mk_lt
 (mk_eq (mk_iar X dX5_known_46 rfl))
 (mk_eq (mk_iload_n X dX5_known_47 rfl rfl))))
 (mk_lt
 (mk_lt
 (mk_eq (mk_icgt X dX5_known_48 rfl rfl))
 (mk_eq (mk_iinc X dX5_known_51 rfl (Nat.le_of_ble_eq_true rfl) rfl)))
 (mk_lt
 (mk_eq (mk_goto X dX5_known_54 rfl))
 (mk_lt
 (mk_eq (mk_iload_n X dX5_known_57 rfl rfl))
 (mk_eq (mk_ri X dX5_known_58))))))))
theorem sd_X5_known {l : Launch} {w : ma_Wd} {NC : Nat} {A : Nat → Prop} {S_X5_isCell S_X5_in S_X5_ownEnds : ma_Cs} (hw : ma_Wo w YM NC A) (h_X5_isCell : ma_Sd l w YM NC A yX5_isCell cX5_isCell 2 (some .boolean) rm_X5_isCell S_X5_isCell) (h_X5_in : ma_Sd l w YM NC A yX5_in cX5_in 6 (some .boolean) rm_X5_in S_X5_in) (h_X5_ownEnds : ma_Sd l w YM NC A yX5_ownEnds cX5_ownEnds 2 none rm_X5_ownEnds S_X5_ownEnds) : ma_Sd l w YM NC A yX5_known cX5_known 4 (some .int) rm_X5_known (ma_rn (tb_X5_known S_X5_isCell S_X5_in S_X5_ownEnds) 4) := ma_of hw (by decide) ⟨rfl, rfl⟩ (fun X => tk_X5_known h_X5_isCell h_X5_in h_X5_ownEnds X)
