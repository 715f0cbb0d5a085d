/-! tables: X5_begins X5_clears X5_sky X5_in X5_cells X5_rule X5_rim X5_isLetter X5_write X5_wipe X5_fault X5_faultOf X5_readLine X5_byteAt X5_fails X5_term X5_number -/
set_option maxRecDepth 100000
set_option maxHeartbeats 4000000
theorem dX5_begins_0 : decode cX5_begins 0 = .ok (.iconst 0, 1) := by decide +kernel
theorem dX5_begins_1 : decode cX5_begins 1 = .ok (.istore_n 1, 1) := by decide +kernel
theorem dX5_begins_2 : decode cX5_begins 2 = .ok (.iload_n 1, 1) := by decide +kernel
theorem dX5_begins_3 : decode cX5_begins 3 = .ok (.sipush 144, 3) := by decide +kernel
theorem dX5_begins_6 : decode cX5_begins 6 = .ok (.if_icmp .ge 17, 3) := by decide +kernel
theorem dX5_begins_9 : decode cX5_begins 9 = .ok (.aload_n 0, 1) := by decide +kernel
theorem dX5_begins_10 : decode cX5_begins 10 = .ok (.getfield 53, 3) := by decide +kernel
theorem dX5_begins_13 : decode cX5_begins 13 = .ok (.iload_n 1, 1) := by decide +kernel
theorem dX5_begins_14 : decode cX5_begins 14 = .ok (.ldc 115, 2) := by decide +kernel
theorem dX5_begins_16 : decode cX5_begins 16 = .ok (.iastore, 1) := by decide +kernel
theorem dX5_begins_17 : decode cX5_begins 17 = .ok (.iinc 1 1, 3) := by decide +kernel
theorem dX5_begins_20 : decode cX5_begins 20 = .ok (.goto (-18), 3) := by decide +kernel
theorem dX5_begins_23 : decode cX5_begins 23 = .ok (.iconst 0, 1) := by decide +kernel
theorem dX5_begins_24 : decode cX5_begins 24 = .ok (.istore_n 1, 1) := by decide +kernel
theorem dX5_begins_25 : decode cX5_begins 25 = .ok (.iload_n 1, 1) := by decide +kernel
theorem dX5_begins_26 : decode cX5_begins 26 = .ok (.bipush 36, 2) := by decide +kernel
theorem dX5_begins_28 : decode cX5_begins 28 = .ok (.if_icmp .ge 16, 3) := by decide +kernel
theorem dX5_begins_31 : decode cX5_begins 31 = .ok (.aload_n 0, 1) := by decide +kernel
theorem dX5_begins_32 : decode cX5_begins 32 = .ok (.getfield 78, 3) := by decide +kernel
theorem dX5_begins_35 : decode cX5_begins 35 = .ok (.iload_n 1, 1) := by decide +kernel
theorem dX5_begins_36 : decode cX5_begins 36 = .ok (.iconst 0, 1) := by decide +kernel
theorem dX5_begins_37 : decode cX5_begins 37 = .ok (.iastore, 1) := by decide +kernel
theorem dX5_begins_38 : decode cX5_begins 38 = .ok (.iinc 1 1, 3) := by decide +kernel
theorem dX5_begins_41 : decode cX5_begins 41 = .ok (.goto (-16), 3) := by decide +kernel
theorem dX5_begins_44 : decode cX5_begins 44 = .ok (.aload_n 0, 1) := by decide +kernel
theorem dX5_begins_45 : decode cX5_begins 45 = .ok (.iconst 0, 1) := by decide +kernel
theorem dX5_begins_46 : decode cX5_begins 46 = .ok (.putfield 116, 3) := by decide +kernel
theorem dX5_begins_49 : decode cX5_begins 49 = .ok (.aload_n 0, 1) := by decide +kernel
theorem dX5_begins_50 : decode cX5_begins 50 = .ok (.invokevirtual 119, 3) := by decide +kernel
theorem dX5_begins_53 : decode cX5_begins 53 = .ok (.return_, 1) := by decide +kernel
def tb_X5_begins (S_X5_clears : ma_Cs) : Nat → ma_In := fun pc =>
 (if pc < 26 then
 (if pc < 13 then
 (if pc < 3 then
 (if pc < 1 then
 (if pc = 0 then in_push (.int 0) 1 else in_no) else
 (if pc < 2 then
 (if pc = 1 then in_ist 1 2 else in_no) else
 (if pc = 2 then in_ild 1 3 else in_no))) else
 (if pc < 9 then
 (if pc < 6 then
 (if pc = 3 then in_push (.int 144) 6 else in_no) else
 (if pc = 6 then in_if2 (fun x y => y ≤ x) 23 9 else in_no)) else
 (if pc < 10 then
 (if pc = 9 then in_ald 0 10 else in_no) else
 (if pc = 10 then in_get YM 5 18 13 else in_no)))) else
 (if pc < 20 then
 (if pc < 16 then
 (if pc < 14 then
 (if pc = 13 then in_ild 1 14 else in_no) else
 (if pc = 14 then in_push (.int 2000000) 16 else in_no)) else
 (if pc < 17 then
 (if pc = 16 then in_iaw YM 17 else in_no) else
 (if pc = 17 then in_inc 1 1 20 else in_no))) else
 (if pc < 24 then
 (if pc < 23 then
 (if pc = 20 then in_go 2 else in_no) else
 (if pc = 23 then in_push (.int 0) 24 else in_no)) else
 (if pc < 25 then
 (if pc = 24 then in_ist 1 25 else in_no) else
 (if pc = 25 then in_ild 1 26 else in_no))))) else
 (if pc < 38 then
 (if pc < 32 then
 (if pc < 28 then
 (if pc = 26 then in_push (.int 36) 28 else in_no) else
 (if pc < 31 then
 (if pc = 28 then in_if2 (fun x y => y ≤ x) 44 31 else in_no) else
 (if pc = 31 then in_ald 0 32 else in_no))) else
 (if pc < 36 then
 (if pc < 35 then
 (if pc = 32 then in_get YM 5 29 35 else in_no) else
 (if pc = 35 then in_ild 1 36 else in_no)) else
 (if pc < 37 then
 (if pc = 36 then in_push (.int 0) 37 else in_no) else
 (if pc = 37 then in_iaw YM 38 else in_no)))) else
 (if pc < 46 then
 (if pc < 44 then
 (if pc < 41 then
 (if pc = 38 then in_inc 1 1 41 else in_no) else
 (if pc = 41 then in_go 25 else in_no)) else
 (if pc < 45 then
 (if pc = 44 then in_ald 0 45 else in_no) else
 (if pc = 45 then in_push (.int 0) 46 else in_no))) else
 (if pc < 50 then
 (if pc < 49 then
 (if pc = 46 then in_put YM 5 19 49 else in_no) else
 (if pc = 49 then in_ald 0 50 else in_no)) else
 (if pc < 53 then
 (if pc = 50 then in_v1 YM 5 S_X5_clears 53 else in_no) else
 (if pc = 53 then in_rv else in_no))))))
theorem tk_X5_begins {l : Launch} {w : ma_Wd} {NC : Nat} {A : Nat → Prop} {S_X5_clears : ma_Cs} (h_X5_clears : ma_Sd l w YM NC A yX5_clears cX5_clears 2 none rm_X5_clears S_X5_clears) {p : Program} {e : Env} {s : State} {m : MethodId} {args : Array Value} {below : List Frame} {meth : Method} {c : Code} (X : ma_Cx p s m args meth c w YM NC A yX5_begins.cls cX5_begins 2 none) : ∀ pc, ma_Ok p l e rm_X5_begins s m args below meth c w YM NC A 2 pc (tb_X5_begins S_X5_clears pc) := fun pc =>
 (mk_lt
 (mk_lt
 (mk_lt
 (mk_lt
 (mk_eq (mk_iconst X dX5_begins_0 rfl rfl))
 (mk_lt
 (mk_eq (mk_istore_n X dX5_begins_1 rfl (Nat.le_of_ble_eq_true rfl) rfl))
 (mk_eq (mk_iload_n X dX5_begins_2 rfl rfl))))
 (mk_lt
 (mk_lt
 (mk_eq (mk_sipush X dX5_begins_3 rfl rfl))
 (mk_eq (mk_icge X dX5_begins_6 rfl rfl)))
 (mk_lt
 (mk_eq (mk_aload_n X dX5_begins_9 rfl rfl))
 (mk_eq (mk_get X (ci := 5) (j := 18) rfl in_X5 (Nat.le_of_ble_eq_true rfl) q765 dX5_begins_10 rfl)))))
 (mk_lt
 (mk_lt
 (mk_lt
 (mk_eq (mk_iload_n X dX5_begins_13 rfl rfl))
 (mk_eq (mk_ldc X dX5_begins_14 q741 rfl)))
 (mk_lt
 (mk_eq (mk_iaw X dX5_begins_16 rfl))
 (mk_eq (mk_iinc X dX5_begins_17 rfl (Nat.le_of_ble_eq_true rfl) rfl))))
 (mk_lt
 (mk_lt
 (mk_eq (mk_goto X dX5_begins_20 rfl))
 (mk_eq (mk_iconst X dX5_begins_23 rfl rfl)))
 (mk_lt
 (mk_eq (mk_istore_n X dX5_begins_24 rfl (Nat.le_of_ble_eq_true rfl) rfl))
 (mk_eq (mk_iload_n X dX5_begins_25 rfl rfl))))))
 (mk_lt
 (mk_lt
 (mk_lt
 (mk_eq (mk_bipush X dX5_begins_26 rfl rfl))
 (mk_lt
 (mk_eq (mk_icge X dX5_begins_28 rfl rfl))
 (mk_eq (mk_aload_n X dX5_begins_31 rfl rfl))))
 (mk_lt
 (mk_lt
 (mk_eq (mk_get X (ci := 5) (j := 29) rfl in_X5 (Nat.le_of_ble_eq_true rfl) q776 dX5_begins_32 rfl))
 (mk_eq (mk_iload_n X dX5_begins_35 rfl rfl)))
 (mk_lt
 (mk_eq (mk_iconst X dX5_begins_36 rfl rfl))
 (mk_eq (mk_iaw X dX5_begins_37 rfl)))))
 (mk_lt
 (mk_lt
 (mk_lt
 (mk_eq (mk_iinc X dX5_begins_38 rfl (Nat.le_of_ble_eq_true rfl) rfl))
 (mk_eq (mk_goto X dX5_begins_41 rfl)))
 (mk_lt
 (mk_eq (mk_aload_n X dX5_begins_44 rfl rfl))
 (mk_eq (mk_iconst X dX5_begins_45 rfl rfl))))
 (mk_lt
 (mk_lt
 (mk_eq (mk_put X (ci := 5) (j := 19) rfl in_X5 tyX5_ok nmX5 (Nat.le_of_ble_eq_true rfl) rfl rfl q766 dX5_begins_46 rfl))
 (mk_eq (mk_aload_n X dX5_begins_49 rfl rfl)))
 (mk_lt
 (mk_eq (mk_V1 X h_X5_clears (ci := 5) rfl (lw_V q742 q744 qs29 q66 q745) ⟨rfl, by decide, by decide, rfl⟩ ⟨(Nat.le_of_ble_eq_true rfl), (Nat.le_of_ble_eq_true rfl)⟩ dX5_begins_50 rfl))
 (mk_eq (mk_rv X dX5_begins_53)))))))
theorem sd_X5_begins {l : Launch} {w : ma_Wd} {NC : Nat} {A : Nat → Prop} {S_X5_clears : ma_Cs} (hw : ma_Wo w YM NC A) (h_X5_clears : ma_Sd l w YM NC A yX5_clears cX5_clears 2 none rm_X5_clears S_X5_clears) : ma_Sd l w YM NC A yX5_begins cX5_begins 2 none rm_X5_begins (ma_rn (tb_X5_begins S_X5_clears) 2) := ma_of hw (by decide) ⟨rfl, rfl⟩ (fun X => tk_X5_begins h_X5_clears X)
theorem dX5_clears_0 : decode cX5_clears 0 = .ok (.iconst 0, 1) := by decide +kernel
theorem dX5_clears_1 : decode cX5_clears 1 = .ok (.istore_n 1, 1) := by decide +kernel
theorem dX5_clears_2 : decode cX5_clears 2 = .ok (.iload_n 1, 1) := by decide +kernel
theorem dX5_clears_3 : decode cX5_clears 3 = .ok (.bipush 12, 2) := by decide +kernel
theorem dX5_clears_5 : decode cX5_clears 5 = .ok (.if_icmp .ge 18, 3) := by decide +kernel
theorem dX5_clears_8 : decode cX5_clears 8 = .ok (.aload_n 0, 1) := by decide +kernel
theorem dX5_clears_9 : decode cX5_clears 9 = .ok (.getfield 68, 3) := by decide +kernel
theorem dX5_clears_12 : decode cX5_clears 12 = .ok (.iload_n 1, 1) := by decide +kernel
theorem dX5_clears_13 : decode cX5_clears 13 = .ok (.ldc2_w 122, 3) := by decide +kernel
theorem dX5_clears_16 : decode cX5_clears 16 = .ok (.lastore, 1) := by decide +kernel
theorem dX5_clears_17 : decode cX5_clears 17 = .ok (.iinc 1 1, 3) := by decide +kernel
theorem dX5_clears_20 : decode cX5_clears 20 = .ok (.goto (-18), 3) := by decide +kernel
theorem dX5_clears_23 : decode cX5_clears 23 = .ok (.return_, 1) := by decide +kernel
def tb_X5_clears : Nat → ma_In := fun pc =>
 (if pc < 9 then
 (if pc < 3 then
 (if pc < 1 then
 (if pc = 0 then in_push (.int 0) 1 else in_no) else
 (if pc < 2 then
 (if pc = 1 then in_ist 1 2 else in_no) else
 (if pc = 2 then in_ild 1 3 else in_no))) else
 (if pc < 5 then
 (if pc = 3 then in_push (.int 12) 5 else in_no) else
 (if pc < 8 then
 (if pc = 5 then in_if2 (fun x y => y ≤ x) 23 8 else in_no) else
 (if pc = 8 then in_ald 0 9 else in_no)))) else
 (if pc < 16 then
 (if pc < 12 then
 (if pc = 9 then in_get YM 5 26 12 else in_no) else
 (if pc < 13 then
 (if pc = 12 then in_ild 1 13 else in_no) else
 (if pc = 13 then in_push (.long 2000000000000) 16 else in_no))) else
 (if pc < 20 then
 (if pc < 17 then
 (if pc = 16 then in_law YM 17 else in_no) else
 (if pc = 17 then in_inc 1 1 20 else in_no)) else
 (if pc < 23 then
 (if pc = 20 then in_go 2 else in_no) else
 (if pc = 23 then in_rv else in_no)))))
theorem tk_X5_clears {l : Launch} {w : ma_Wd} {NC : Nat} {A : Nat → Prop} {p : Program} {e : Env} {s : State} {m : MethodId} {args : Array Value} {below : List Frame} {meth : Method} {c : Code} (X : ma_Cx p s m args meth c w YM NC A yX5_clears.cls cX5_clears 2 none) : ∀ pc, ma_Ok p l e rm_X5_clears s m args below meth c w YM NC A 2 pc (tb_X5_clears pc) := fun pc =>
 (mk_lt
 (mk_lt
 (mk_lt
 (mk_eq (mk_iconst X dX5_clears_0 rfl rfl))
 (mk_lt
 (mk_eq (mk_istore_n X dX5_clears_1 rfl (Nat.le_of_ble_eq_true rfl) rfl))
 (mk_eq (mk_iload_n X dX5_clears_2 rfl rfl))))
 (mk_lt
 (mk_eq (mk_bipush X dX5_clears_3 rfl rfl))
 (mk_lt
 (mk_eq (mk_icge X dX5_clears_5 rfl rfl))
 (mk_eq (mk_aload_n X dX5_clears_8 rfl rfl)))))
 (mk_lt
 (mk_lt
 (mk_eq (mk_get X (ci := 5) (j := 26) rfl in_X5 (Nat.le_of_ble_eq_true rfl) q773 dX5_clears_9 rfl))
 (mk_lt
 (mk_eq (mk_iload_n X dX5_clears_12 rfl rfl))
 (mk_eq (mk_ldc2 X dX5_clears_13 q746 rfl))))
 (mk_lt
 (mk_lt
 (mk_eq (mk_law X dX5_clears_16 rfl))
 (mk_eq (mk_iinc X dX5_clears_17 rfl (Nat.le_of_ble_eq_true rfl) rfl)))
 (mk_lt
 (mk_eq (mk_goto X dX5_clears_20 rfl))
 (mk_eq (mk_rv X dX5_clears_23))))))
theorem sd_X5_clears {l : Launch} {w : ma_Wd} {NC : Nat} {A : Nat → Prop} (hw : ma_Wo w YM NC A) : ma_Sd l w YM NC A yX5_clears cX5_clears 2 none rm_X5_clears (ma_rn (tb_X5_clears) 2) := ma_of hw (by decide) ⟨rfl, rfl⟩ (fun X => tk_X5_clears  X)
theorem dX5_sky_0 : decode cX5_sky 0 = .ok (.iload_n 1, 1) := by decide +kernel
theorem dX5_sky_1 : decode cX5_sky 1 = .ok (.i2l, 1) := by decide +kernel
theorem dX5_sky_2 : decode cX5_sky 2 = .ok (.ldc2_w 134, 3) := by decide +kernel
theorem dX5_sky_5 : decode cX5_sky 5 = .ok (.ldc2_w 136, 3) := by decide +kernel
theorem dX5_sky_8 : decode cX5_sky 8 = .ok (.invokestatic 128, 3) := by decide +kernel
theorem dX5_sky_11 : decode cX5_sky 11 = .ok (.ifCond .eq 17, 3) := by decide +kernel
theorem dX5_sky_14 : decode cX5_sky 14 = .ok (.iload_n 2, 1) := by decide +kernel
theorem dX5_sky_15 : decode cX5_sky 15 = .ok (.i2l, 1) := by decide +kernel
theorem dX5_sky_16 : decode cX5_sky 16 = .ok (.ldc2_w 134, 3) := by decide +kernel
theorem dX5_sky_19 : decode cX5_sky 19 = .ok (.ldc2_w 136, 3) := by decide +kernel
theorem dX5_sky_22 : decode cX5_sky 22 = .ok (.invokestatic 128, 3) := by decide +kernel
theorem dX5_sky_25 : decode cX5_sky 25 = .ok (.ifCond .ne 5, 3) := by decide +kernel
theorem dX5_sky_28 : decode cX5_sky 28 = .ok (.iconst (-1), 1) := by decide +kernel
theorem dX5_sky_29 : decode cX5_sky 29 = .ok (.ireturn, 1) := by decide +kernel
theorem dX5_sky_30 : decode cX5_sky 30 = .ok (.aload_n 0, 1) := by decide +kernel
theorem dX5_sky_31 : decode cX5_sky 31 = .ok (.iload_n 1, 1) := by decide +kernel
theorem dX5_sky_32 : decode cX5_sky 32 = .ok (.putfield 7, 3) := by decide +kernel
theorem dX5_sky_35 : decode cX5_sky 35 = .ok (.aload_n 0, 1) := by decide +kernel
theorem dX5_sky_36 : decode cX5_sky 36 = .ok (.iload_n 2, 1) := by decide +kernel
theorem dX5_sky_37 : decode cX5_sky 37 = .ok (.putfield 13, 3) := by decide +kernel
theorem dX5_sky_40 : decode cX5_sky 40 = .ok (.aload_n 0, 1) := by decide +kernel
theorem dX5_sky_41 : decode cX5_sky 41 = .ok (.iconst 0, 1) := by decide +kernel
theorem dX5_sky_42 : decode cX5_sky 42 = .ok (.putfield 138, 3) := by decide +kernel
theorem dX5_sky_45 : decode cX5_sky 45 = .ok (.aload_n 0, 1) := by decide +kernel
theorem dX5_sky_46 : decode cX5_sky 46 = .ok (.invokevirtual 112, 3) := by decide +kernel
theorem dX5_sky_49 : decode cX5_sky 49 = .ok (.aload_n 0, 1) := by decide +kernel
theorem dX5_sky_50 : decode cX5_sky 50 = .ok (.invokevirtual 124, 3) := by decide +kernel
theorem dX5_sky_53 : decode cX5_sky 53 = .ok (.ireturn, 1) := by decide +kernel
def tb_X5_sky (S_X5_in S_X5_begins S_X5_cells : ma_Cs) : Nat → ma_In := fun pc =>
 (if pc < 30 then
 (if pc < 15 then
 (if pc < 5 then
 (if pc < 1 then
 (if pc = 0 then in_ild 1 1 else in_no) else
 (if pc < 2 then
 (if pc = 1 then in_il (fun x => x.toInt64) 2 else in_no) else
 (if pc = 2 then in_push (.long 2) 5 else in_no))) else
 (if pc < 11 then
 (if pc < 8 then
 (if pc = 5 then in_push (.long 6) 8 else in_no) else
 (if pc = 8 then in_s3 S_X5_in 11 else in_no)) else
 (if pc < 14 then
 (if pc = 11 then in_if1 (fun x => x = 0) 28 14 else in_no) else
 (if pc = 14 then in_ild 2 15 else in_no)))) else
 (if pc < 22 then
 (if pc < 16 then
 (if pc = 15 then in_il (fun x => x.toInt64) 16 else in_no) else
 (if pc < 19 then
 (if pc = 16 then in_push (.long 2) 19 else in_no) else
 (if pc = 19 then in_push (.long 6) 22 else in_no))) else
 (if pc < 28 then
 (if pc < 25 then
 (if pc = 22 then in_s3 S_X5_in 25 else in_no) else
 (if pc = 25 then in_if1 (fun x => x = 0) 28 30 else in_no)) else
 (if pc < 29 then
 (if pc = 28 then in_push (.int (-1)) 29 else in_no) else
 (if pc = 29 then in_ri else in_no))))) else
 (if pc < 41 then
 (if pc < 35 then
 (if pc < 31 then
 (if pc = 30 then in_ald 0 31 else in_no) else
 (if pc < 32 then
 (if pc = 31 then in_ild 1 32 else in_no) else
 (if pc = 32 then in_put YM 5 0 35 else in_no))) else
 (if pc < 37 then
 (if pc < 36 then
 (if pc = 35 then in_ald 0 36 else in_no) else
 (if pc = 36 then in_ild 2 37 else in_no)) else
 (if pc < 40 then
 (if pc = 37 then in_put YM 5 1 40 else in_no) else
 (if pc = 40 then in_ald 0 41 else in_no)))) else
 (if pc < 46 then
 (if pc < 42 then
 (if pc = 41 then in_push (.int 0) 42 else in_no) else
 (if pc < 45 then
 (if pc = 42 then in_put YM 5 30 45 else in_no) else
 (if pc = 45 then in_ald 0 46 else in_no))) else
 (if pc < 50 then
 (if pc < 49 then
 (if pc = 46 then in_v1 YM 5 S_X5_begins 49 else in_no) else
 (if pc = 49 then in_ald 0 50 else in_no)) else
 (if pc < 53 then
 (if pc = 50 then in_v1 YM 5 S_X5_cells 53 else in_no) else
 (if pc = 53 then in_ri else in_no))))))
theorem tk_X5_sky {l : Launch} {w : ma_Wd} {NC : Nat} {A : Nat → Prop} {S_X5_in S_X5_begins S_X5_cells : ma_Cs} (h_X5_in : ma_Sd l w YM NC A yX5_in cX5_in 6 (some .boolean) rm_X5_in S_X5_in) (h_X5_begins : ma_Sd l w YM NC A yX5_begins cX5_begins 2 none rm_X5_begins S_X5_begins) (h_X5_cells : ma_Sd l w YM NC A yX5_cells cX5_cells 1 (some .int) rm_X5_cells S_X5_cells) {p : Program} {e : Env} {s : State} {m : MethodId} {args : Array Value} {below : List Frame} {meth : Method} {c : Code} (X : ma_Cx p s m args meth c w YM NC A yX5_sky.cls cX5_sky 3 (some .int)) : ∀ pc, ma_Ok p l e rm_X5_sky s m args below meth c w YM NC A 3 pc (tb_X5_sky S_X5_in S_X5_begins S_X5_cells pc) := fun pc =>
 (mk_lt
 (mk_lt
 (mk_lt
 (mk_lt
 (mk_eq (mk_iload_n X dX5_sky_0 rfl rfl))
 (mk_lt
 (mk_eq (mk_i2l X dX5_sky_1 rfl))
 (mk_eq (mk_ldc2 X dX5_sky_2 q890 rfl))))
 (mk_lt
 (mk_lt
 (mk_eq (mk_ldc2 X dX5_sky_5 q891 rfl))
 (mk_eq (mk_S3 X h_X5_in (lw_S q892 q893 q66 q894) ⟨by decide, by decide, rfl⟩ ⟨(Nat.le_of_ble_eq_true rfl), (Nat.le_of_ble_eq_true rfl)⟩ dX5_sky_8 rfl)))
 (mk_lt
 (mk_eq (mk_ifeq X dX5_sky_11 rfl rfl))
 (mk_eq (mk_iload_n X dX5_sky_14 rfl rfl)))))
 (mk_lt
 (mk_lt
 (mk_eq (mk_i2l X dX5_sky_15 rfl))
 (mk_lt
 (mk_eq (mk_ldc2 X dX5_sky_16 q890 rfl))
 (mk_eq (mk_ldc2 X dX5_sky_19 q891 rfl))))
 (mk_lt
 (mk_lt
 (mk_eq (mk_S3 X h_X5_in (lw_S q892 q893 q66 q894) ⟨by decide, by decide, rfl⟩ ⟨(Nat.le_of_ble_eq_true rfl), (Nat.le_of_ble_eq_true rfl)⟩ dX5_sky_22 rfl))
 (mk_eq (mk_ifne X dX5_sky_25 rfl rfl)))
 (mk_lt
 (mk_eq (mk_iconst X dX5_sky_28 rfl rfl))
 (mk_eq (mk_ri X dX5_sky_29))))))
 (mk_lt
 (mk_lt
 (mk_lt
 (mk_eq (mk_aload_n X dX5_sky_30 rfl rfl))
 (mk_lt
 (mk_eq (mk_iload_n X dX5_sky_31 rfl rfl))
 (mk_eq (mk_put X (ci := 5) (j := 0) rfl in_X5 tyX5_ok nmX5 (Nat.le_of_ble_eq_true rfl) rfl rfl q747 dX5_sky_32 rfl))))
 (mk_lt
 (mk_lt
 (mk_eq (mk_aload_n X dX5_sky_35 rfl rfl))
 (mk_eq (mk_iload_n X dX5_sky_36 rfl rfl)))
 (mk_lt
 (mk_eq (mk_put X (ci := 5) (j := 1) rfl in_X5 tyX5_ok nmX5 (Nat.le_of_ble_eq_true rfl) rfl rfl q748 dX5_sky_37 rfl))
 (mk_eq (mk_aload_n X dX5_sky_40 rfl rfl)))))
 (mk_lt
 (mk_lt
 (mk_eq (mk_iconst X dX5_sky_41 rfl rfl))
 (mk_lt
 (mk_eq (mk_put X (ci := 5) (j := 30) rfl in_X5 tyX5_ok nmX5 (Nat.le_of_ble_eq_true rfl) rfl rfl q777 dX5_sky_42 rfl))
 (mk_eq (mk_aload_n X dX5_sky_45 rfl rfl))))
 (mk_lt
 (mk_lt
 (mk_eq (mk_V1 X h_X5_begins (ci := 5) rfl (lw_V q737 q739 qs28 q66 q740) ⟨rfl, by decide, by decide, rfl⟩ ⟨(Nat.le_of_ble_eq_true rfl), (Nat.le_of_ble_eq_true rfl)⟩ dX5_sky_46 rfl))
 (mk_eq (mk_aload_n X dX5_sky_49 rfl rfl)))
 (mk_lt
 (mk_eq (mk_V1 X h_X5_cells (ci := 5) rfl (lw_V q895 q897 qs30 q66 q898) ⟨rfl, by decide, by decide, rfl⟩ ⟨(Nat.le_of_ble_eq_true rfl), (Nat.le_of_ble_eq_true rfl)⟩ dX5_sky_50 rfl))
 (mk_eq (mk_ri X dX5_sky_53)))))))
theorem sd_X5_sky {l : Launch} {w : ma_Wd} {NC : Nat} {A : Nat → Prop} {S_X5_in S_X5_begins S_X5_cells : ma_Cs} (hw : ma_Wo w YM NC A) (h_X5_in : ma_Sd l w YM NC A yX5_in cX5_in 6 (some .boolean) rm_X5_in S_X5_in) (h_X5_begins : ma_Sd l w YM NC A yX5_begins cX5_begins 2 none rm_X5_begins S_X5_begins) (h_X5_cells : ma_Sd l w YM NC A yX5_cells cX5_cells 1 (some .int) rm_X5_cells S_X5_cells) : ma_Sd l w YM NC A yX5_sky cX5_sky 3 (some .int) rm_X5_sky (ma_rn (tb_X5_sky S_X5_in S_X5_begins S_X5_cells) 3) := ma_of hw (by decide) ⟨rfl, rfl⟩ (fun X => tk_X5_sky h_X5_in h_X5_begins h_X5_cells X)
theorem dX5_in_0 : decode cX5_in 0 = .ok (.lload_n 0, 1) := by decide +kernel
theorem dX5_in_1 : decode cX5_in 1 = .ok (.lload_n 2, 1) := by decide +kernel
theorem dX5_in_2 : decode cX5_in 2 = .ok (.lcmp, 1) := by decide +kernel
theorem dX5_in_3 : decode cX5_in 3 = .ok (.ifCond .lt 14, 3) := by decide +kernel
theorem dX5_in_6 : decode cX5_in 6 = .ok (.lload_n 0, 1) := by decide +kernel
theorem dX5_in_7 : decode cX5_in 7 = .ok (.lload 4, 2) := by decide +kernel
theorem dX5_in_9 : decode cX5_in 9 = .ok (.lcmp, 1) := by decide +kernel
theorem dX5_in_10 : decode cX5_in 10 = .ok (.ifCond .gt 7, 3) := by decide +kernel
theorem dX5_in_13 : decode cX5_in 13 = .ok (.iconst 1, 1) := by decide +kernel
theorem dX5_in_14 : decode cX5_in 14 = .ok (.goto 4, 3) := by decide +kernel
theorem dX5_in_17 : decode cX5_in 17 = .ok (.iconst 0, 1) := by decide +kernel
theorem dX5_in_18 : decode cX5_in 18 = .ok (.ireturn, 1) := by decide +kernel
def tb_X5_in : Nat → ma_In := fun pc =>
 (if pc < 9 then
 (if pc < 3 then
 (if pc < 1 then
 (if pc = 0 then in_lld 0 1 else in_no) else
 (if pc < 2 then
 (if pc = 1 then in_lld 2 2 else in_no) else
 (if pc = 2 then in_lli lg_cmp 3 else in_no))) else
 (if pc < 6 then
 (if pc = 3 then in_if1 (fun x => x < 0) 17 6 else in_no) else
 (if pc < 7 then
 (if pc = 6 then in_lld 0 7 else in_no) else
 (if pc = 7 then in_lld 4 9 else in_no)))) else
 (if pc < 14 then
 (if pc < 10 then
 (if pc = 9 then in_lli lg_cmp 10 else in_no) else
 (if pc < 13 then
 (if pc = 10 then in_if1 (fun x => 0 < x) 17 13 else in_no) else
 (if pc = 13 then in_push (.int 1) 14 else in_no))) else
 (if pc < 17 then
 (if pc = 14 then in_go 18 else in_no) else
 (if pc < 18 then
 (if pc = 17 then in_push (.int 0) 18 else in_no) else
 (if pc = 18 then in_rz else in_no)))))
theorem tk_X5_in {l : Launch} {w : ma_Wd} {NC : Nat} {A : Nat → Prop} {p : Program} {e : Env} {s : State} {m : MethodId} {args : Array Value} {below : List Frame} {meth : Method} {c : Code} (X : ma_Cx p s m args meth c w YM NC A yX5_in.cls cX5_in 6 (some .boolean)) : ∀ pc, ma_Ok p l e rm_X5_in s m args below meth c w YM NC A 6 pc (tb_X5_in pc) := fun pc =>
 (mk_lt
 (mk_lt
 (mk_lt
 (mk_eq (mk_lload_n X dX5_in_0 rfl rfl))
 (mk_lt
 (mk_eq (mk_lload_n X dX5_in_1 rfl rfl))
 (mk_eq (mk_lcmp X dX5_in_2 rfl))))
 (mk_lt
 (mk_eq (mk_iflt X dX5_in_3 rfl rfl))
 (mk_lt
 (mk_eq (mk_lload_n X dX5_in_6 rfl rfl))
 (mk_eq (mk_lload X dX5_in_7 rfl)))))
 (mk_lt
 (mk_lt
 (mk_eq (mk_lcmp X dX5_in_9 rfl))
 (mk_lt
 (mk_eq (mk_ifgt X dX5_in_10 rfl rfl))
 (mk_eq (mk_iconst X dX5_in_13 rfl rfl))))
 (mk_lt
 (mk_eq (mk_goto X dX5_in_14 rfl))
 (mk_lt
 (mk_eq (mk_iconst X dX5_in_17 rfl rfl))
 (mk_eq (mk_rz X dX5_in_18))))))
theorem sd_X5_in {l : Launch} {w : ma_Wd} {NC : Nat} {A : Nat → Prop} (hw : ma_Wo w YM NC A) : ma_Sd l w YM NC A yX5_in cX5_in 6 (some .boolean) rm_X5_in (ma_rn (tb_X5_in) 6) := ma_of hw (by decide) ⟨rfl, rfl⟩ (fun X => tk_X5_in  X)
theorem dX5_cells_0 : decode cX5_cells 0 = .ok (.aload_n 0, 1) := by decide +kernel
theorem dX5_cells_1 : decode cX5_cells 1 = .ok (.getfield 7, 3) := by decide +kernel
theorem dX5_cells_4 : decode cX5_cells 4 = .ok (.aload_n 0, 1) := by decide +kernel
theorem dX5_cells_5 : decode cX5_cells 5 = .ok (.getfield 13, 3) := by decide +kernel
theorem dX5_cells_8 : decode cX5_cells 8 = .ok (.imul, 1) := by decide +kernel
theorem dX5_cells_9 : decode cX5_cells 9 = .ok (.ireturn, 1) := by decide +kernel
def tb_X5_cells : Nat → ma_In := fun pc =>
 (if pc < 5 then
 (if pc < 1 then
 (if pc = 0 then in_ald 0 1 else in_no) else
 (if pc < 4 then
 (if pc = 1 then in_get YM 5 0 4 else in_no) else
 (if pc = 4 then in_ald 0 5 else in_no))) else
 (if pc < 8 then
 (if pc = 5 then in_get YM 5 1 8 else in_no) else
 (if pc < 9 then
 (if pc = 8 then in_iii (fun x y => x * y) 9 else in_no) else
 (if pc = 9 then in_ri else in_no))))
theorem tk_X5_cells {l : Launch} {w : ma_Wd} {NC : Nat} {A : Nat → Prop} {p : Program} {e : Env} {s : State} {m : MethodId} {args : Array Value} {below : List Frame} {meth : Method} {c : Code} (X : ma_Cx p s m args meth c w YM NC A yX5_cells.cls cX5_cells 1 (some .int)) : ∀ pc, ma_Ok p l e rm_X5_cells s m args below meth c w YM NC A 1 pc (tb_X5_cells pc) := fun pc =>
 (mk_lt
 (mk_lt
 (mk_eq (mk_aload_n X dX5_cells_0 rfl rfl))
 (mk_lt
 (mk_eq (mk_get X (ci := 5) (j := 0) rfl in_X5 (Nat.le_of_ble_eq_true rfl) q747 dX5_cells_1 rfl))
 (mk_eq (mk_aload_n X dX5_cells_4 rfl rfl))))
 (mk_lt
 (mk_eq (mk_get X (ci := 5) (j := 1) rfl in_X5 (Nat.le_of_ble_eq_true rfl) q748 dX5_cells_5 rfl))
 (mk_lt
 (mk_eq (mk_imul X dX5_cells_8 rfl))
 (mk_eq (mk_ri X dX5_cells_9)))))
theorem sd_X5_cells {l : Launch} {w : ma_Wd} {NC : Nat} {A : Nat → Prop} (hw : ma_Wo w YM NC A) : ma_Sd l w YM NC A yX5_cells cX5_cells 1 (some .int) rm_X5_cells (ma_rn (tb_X5_cells) 1) := ma_of hw (by decide) ⟨rfl, rfl⟩ (fun X => tk_X5_cells  X)
theorem dX5_rule_0 : decode cX5_rule 0 = .ok (.iload_n 1, 1) := by decide +kernel
theorem dX5_rule_1 : decode cX5_rule 1 = .ok (.i2l, 1) := by decide +kernel
theorem dX5_rule_2 : decode cX5_rule 2 = .ok (.lconst 0, 1) := by decide +kernel
theorem dX5_rule_3 : decode cX5_rule 3 = .ok (.lconst 1, 1) := by decide +kernel
theorem dX5_rule_4 : decode cX5_rule 4 = .ok (.invokestatic 128, 3) := by decide +kernel
theorem dX5_rule_7 : decode cX5_rule 7 = .ok (.ifCond .eq 25, 3) := by decide +kernel
theorem dX5_rule_10 : decode cX5_rule 10 = .ok (.iload_n 2, 1) := by decide +kernel
theorem dX5_rule_11 : decode cX5_rule 11 = .ok (.i2l, 1) := by decide +kernel
theorem dX5_rule_12 : decode cX5_rule 12 = .ok (.lconst 0, 1) := by decide +kernel
theorem dX5_rule_13 : decode cX5_rule 13 = .ok (.iload_n 1, 1) := by decide +kernel
theorem dX5_rule_14 : decode cX5_rule 14 = .ok (.ifCond .ne 9, 3) := by decide +kernel
theorem dX5_rule_17 : decode cX5_rule 17 = .ok (.ldc2_w 134, 3) := by decide +kernel
theorem dX5_rule_20 : decode cX5_rule 20 = .ok (.goto 6, 3) := by decide +kernel
theorem dX5_rule_23 : decode cX5_rule 23 = .ok (.ldc2_w 141, 3) := by decide +kernel
theorem dX5_rule_26 : decode cX5_rule 26 = .ok (.invokestatic 128, 3) := by decide +kernel
theorem dX5_rule_29 : decode cX5_rule 29 = .ok (.ifCond .ne 5, 3) := by decide +kernel
theorem dX5_rule_32 : decode cX5_rule 32 = .ok (.iconst (-1), 1) := by decide +kernel
theorem dX5_rule_33 : decode cX5_rule 33 = .ok (.ireturn, 1) := by decide +kernel
theorem dX5_rule_34 : decode cX5_rule 34 = .ok (.iload_n 1, 1) := by decide +kernel
theorem dX5_rule_35 : decode cX5_rule 35 = .ok (.ifCond .ne 10, 3) := by decide +kernel
theorem dX5_rule_38 : decode cX5_rule 38 = .ok (.aload_n 0, 1) := by decide +kernel
theorem dX5_rule_39 : decode cX5_rule 39 = .ok (.getfield 143, 3) := by decide +kernel
theorem dX5_rule_42 : decode cX5_rule 42 = .ok (.goto 7, 3) := by decide +kernel
theorem dX5_rule_45 : decode cX5_rule 45 = .ok (.aload_n 0, 1) := by decide +kernel
theorem dX5_rule_46 : decode cX5_rule 46 = .ok (.getfield 16, 3) := by decide +kernel
theorem dX5_rule_49 : decode cX5_rule 49 = .ok (.istore_n 3, 1) := by decide +kernel
theorem dX5_rule_50 : decode cX5_rule 50 = .ok (.aload_n 0, 1) := by decide +kernel
theorem dX5_rule_51 : decode cX5_rule 51 = .ok (.iload_n 1, 1) := by decide +kernel
theorem dX5_rule_52 : decode cX5_rule 52 = .ok (.ifCond .ne 7, 3) := by decide +kernel
theorem dX5_rule_55 : decode cX5_rule 55 = .ok (.iload_n 2, 1) := by decide +kernel
theorem dX5_rule_56 : decode cX5_rule 56 = .ok (.goto 7, 3) := by decide +kernel
theorem dX5_rule_59 : decode cX5_rule 59 = .ok (.aload_n 0, 1) := by decide +kernel
theorem dX5_rule_60 : decode cX5_rule 60 = .ok (.getfield 143, 3) := by decide +kernel
theorem dX5_rule_63 : decode cX5_rule 63 = .ok (.putfield 143, 3) := by decide +kernel
theorem dX5_rule_66 : decode cX5_rule 66 = .ok (.aload_n 0, 1) := by decide +kernel
theorem dX5_rule_67 : decode cX5_rule 67 = .ok (.iload_n 1, 1) := by decide +kernel
theorem dX5_rule_68 : decode cX5_rule 68 = .ok (.iconst 1, 1) := by decide +kernel
theorem dX5_rule_69 : decode cX5_rule 69 = .ok (.if_icmp .ne 7, 3) := by decide +kernel
theorem dX5_rule_72 : decode cX5_rule 72 = .ok (.iload_n 2, 1) := by decide +kernel
theorem dX5_rule_73 : decode cX5_rule 73 = .ok (.goto 7, 3) := by decide +kernel
theorem dX5_rule_76 : decode cX5_rule 76 = .ok (.aload_n 0, 1) := by decide +kernel
theorem dX5_rule_77 : decode cX5_rule 77 = .ok (.getfield 16, 3) := by decide +kernel
theorem dX5_rule_80 : decode cX5_rule 80 = .ok (.putfield 16, 3) := by decide +kernel
theorem dX5_rule_83 : decode cX5_rule 83 = .ok (.iload_n 3, 1) := by decide +kernel
theorem dX5_rule_84 : decode cX5_rule 84 = .ok (.ireturn, 1) := by decide +kernel
def tb_X5_rule (S_X5_in : ma_Cs) : Nat → ma_In := fun pc =>
 (if pc < 42 then
 (if pc < 17 then
 (if pc < 7 then
 (if pc < 2 then
 (if pc < 1 then
 (if pc = 0 then in_ild 1 1 else in_no) else
 (if pc = 1 then in_il (fun x => x.toInt64) 2 else in_no)) else
 (if pc < 3 then
 (if pc = 2 then in_push (.long 0) 3 else in_no) else
 (if pc < 4 then
 (if pc = 3 then in_push (.long 1) 4 else in_no) else
 (if pc = 4 then in_s3 S_X5_in 7 else in_no)))) else
 (if pc < 12 then
 (if pc < 10 then
 (if pc = 7 then in_if1 (fun x => x = 0) 32 10 else in_no) else
 (if pc < 11 then
 (if pc = 10 then in_ild 2 11 else in_no) else
 (if pc = 11 then in_il (fun x => x.toInt64) 12 else in_no))) else
 (if pc < 13 then
 (if pc = 12 then in_push (.long 0) 13 else in_no) else
 (if pc < 14 then
 (if pc = 13 then in_ild 1 14 else in_no) else
 (if pc = 14 then in_if1 (fun x => x = 0) 17 23 else in_no))))) else
 (if pc < 32 then
 (if pc < 23 then
 (if pc < 20 then
 (if pc = 17 then in_push (.long 2) 20 else in_no) else
 (if pc = 20 then in_go 26 else in_no)) else
 (if pc < 26 then
 (if pc = 23 then in_push (.long 9) 26 else in_no) else
 (if pc < 29 then
 (if pc = 26 then in_s3 S_X5_in 29 else in_no) else
 (if pc = 29 then in_if1 (fun x => x = 0) 32 34 else in_no)))) else
 (if pc < 35 then
 (if pc < 33 then
 (if pc = 32 then in_push (.int (-1)) 33 else in_no) else
 (if pc < 34 then
 (if pc = 33 then in_ri else in_no) else
 (if pc = 34 then in_ild 1 35 else in_no))) else
 (if pc < 38 then
 (if pc = 35 then in_if1 (fun x => x = 0) 38 45 else in_no) else
 (if pc < 39 then
 (if pc = 38 then in_ald 0 39 else in_no) else
 (if pc = 39 then in_get YM 5 2 42 else in_no)))))) else
 (if pc < 63 then
 (if pc < 51 then
 (if pc < 46 then
 (if pc < 45 then
 (if pc = 42 then in_go 49 else in_no) else
 (if pc = 45 then in_ald 0 46 else in_no)) else
 (if pc < 49 then
 (if pc = 46 then in_get YM 5 3 49 else in_no) else
 (if pc < 50 then
 (if pc = 49 then in_ist 3 50 else in_no) else
 (if pc = 50 then in_ald 0 51 else in_no)))) else
 (if pc < 56 then
 (if pc < 52 then
 (if pc = 51 then in_ild 1 52 else in_no) else
 (if pc < 55 then
 (if pc = 52 then in_if1 (fun x => x = 0) 55 59 else in_no) else
 (if pc = 55 then in_ild 2 56 else in_no))) else
 (if pc < 59 then
 (if pc = 56 then in_go 63 else in_no) else
 (if pc < 60 then
 (if pc = 59 then in_ald 0 60 else in_no) else
 (if pc = 60 then in_get YM 5 2 63 else in_no))))) else
 (if pc < 73 then
 (if pc < 68 then
 (if pc < 66 then
 (if pc = 63 then in_put YM 5 2 66 else in_no) else
 (if pc < 67 then
 (if pc = 66 then in_ald 0 67 else in_no) else
 (if pc = 67 then in_ild 1 68 else in_no))) else
 (if pc < 69 then
 (if pc = 68 then in_push (.int 1) 69 else in_no) else
 (if pc < 72 then
 (if pc = 69 then in_if2 (fun x y => x = y) 72 76 else in_no) else
 (if pc = 72 then in_ild 2 73 else in_no)))) else
 (if pc < 80 then
 (if pc < 76 then
 (if pc = 73 then in_go 80 else in_no) else
 (if pc < 77 then
 (if pc = 76 then in_ald 0 77 else in_no) else
 (if pc = 77 then in_get YM 5 3 80 else in_no))) else
 (if pc < 83 then
 (if pc = 80 then in_put YM 5 3 83 else in_no) else
 (if pc < 84 then
 (if pc = 83 then in_ild 3 84 else in_no) else
 (if pc = 84 then in_ri else in_no)))))))
theorem tk_X5_rule {l : Launch} {w : ma_Wd} {NC : Nat} {A : Nat → Prop} {S_X5_in : ma_Cs} (h_X5_in : ma_Sd l w YM NC A yX5_in cX5_in 6 (some .boolean) rm_X5_in S_X5_in) {p : Program} {e : Env} {s : State} {m : MethodId} {args : Array Value} {below : List Frame} {meth : Method} {c : Code} (X : ma_Cx p s m args meth c w YM NC A yX5_rule.cls cX5_rule 4 (some .int)) : ∀ pc, ma_Ok p l e rm_X5_rule s m args below meth c w YM NC A 4 pc (tb_X5_rule S_X5_in pc) := fun pc =>
 (mk_lt
 (mk_lt
 (mk_lt
 (mk_lt
 (mk_lt
 (mk_eq (mk_iload_n X dX5_rule_0 rfl rfl))
 (mk_eq (mk_i2l X dX5_rule_1 rfl)))
 (mk_lt
 (mk_eq (mk_lconst X dX5_rule_2 rfl rfl))
 (mk_lt
 (mk_eq (mk_lconst X dX5_rule_3 rfl rfl))
 (mk_eq (mk_S3 X h_X5_in (lw_S q892 q893 q66 q894) ⟨by decide, by decide, rfl⟩ ⟨(Nat.le_of_ble_eq_true rfl), (Nat.le_of_ble_eq_true rfl)⟩ dX5_rule_4 rfl)))))
 (mk_lt
 (mk_lt
 (mk_eq (mk_ifeq X dX5_rule_7 rfl rfl))
 (mk_lt
 (mk_eq (mk_iload_n X dX5_rule_10 rfl rfl))
 (mk_eq (mk_i2l X dX5_rule_11 rfl))))
 (mk_lt
 (mk_eq (mk_lconst X dX5_rule_12 rfl rfl))
 (mk_lt
 (mk_eq (mk_iload_n X dX5_rule_13 rfl rfl))
 (mk_eq (mk_ifne X dX5_rule_14 rfl rfl))))))
 (mk_lt
 (mk_lt
 (mk_lt
 (mk_eq (mk_ldc2 X dX5_rule_17 q890 rfl))
 (mk_eq (mk_goto X dX5_rule_20 rfl)))
 (mk_lt
 (mk_eq (mk_ldc2 X dX5_rule_23 q903 rfl))
 (mk_lt
 (mk_eq (mk_S3 X h_X5_in (lw_S q892 q893 q66 q894) ⟨by decide, by decide, rfl⟩ ⟨(Nat.le_of_ble_eq_true rfl), (Nat.le_of_ble_eq_true rfl)⟩ dX5_rule_26 rfl))
 (mk_eq (mk_ifne X dX5_rule_29 rfl rfl)))))
 (mk_lt
 (mk_lt
 (mk_eq (mk_iconst X dX5_rule_32 rfl rfl))
 (mk_lt
 (mk_eq (mk_ri X dX5_rule_33))
 (mk_eq (mk_iload_n X dX5_rule_34 rfl rfl))))
 (mk_lt
 (mk_eq (mk_ifne X dX5_rule_35 rfl rfl))
 (mk_lt
 (mk_eq (mk_aload_n X dX5_rule_38 rfl rfl))
 (mk_eq (mk_get X (ci := 5) (j := 2) rfl in_X5 (Nat.le_of_ble_eq_true rfl) q749 dX5_rule_39 rfl)))))))
 (mk_lt
 (mk_lt
 (mk_lt
 (mk_lt
 (mk_eq (mk_goto X dX5_rule_42 rfl))
 (mk_eq (mk_aload_n X dX5_rule_45 rfl rfl)))
 (mk_lt
 (mk_eq (mk_get X (ci := 5) (j := 3) rfl in_X5 (Nat.le_of_ble_eq_true rfl) q750 dX5_rule_46 rfl))
 (mk_lt
 (mk_eq (mk_istore_n X dX5_rule_49 rfl (Nat.le_of_ble_eq_true rfl) rfl))
 (mk_eq (mk_aload_n X dX5_rule_50 rfl rfl)))))
 (mk_lt
 (mk_lt
 (mk_eq (mk_iload_n X dX5_rule_51 rfl rfl))
 (mk_lt
 (mk_eq (mk_ifne X dX5_rule_52 rfl rfl))
 (mk_eq (mk_iload_n X dX5_rule_55 rfl rfl))))
 (mk_lt
 (mk_eq (mk_goto X dX5_rule_56 rfl))
 (mk_lt
 (mk_eq (mk_aload_n X dX5_rule_59 rfl rfl))
 (mk_eq (mk_get X (ci := 5) (j := 2) rfl in_X5 (Nat.le_of_ble_eq_true rfl) q749 dX5_rule_60 rfl))))))
 (mk_lt
 (mk_lt
 (mk_lt
 (mk_eq (mk_put X (ci := 5) (j := 2) rfl in_X5 tyX5_ok nmX5 (Nat.le_of_ble_eq_true rfl) rfl rfl q749 dX5_rule_63 rfl))
 (mk_lt
 (mk_eq (mk_aload_n X dX5_rule_66 rfl rfl))
 (mk_eq (mk_iload_n X dX5_rule_67 rfl rfl))))
 (mk_lt
 (mk_eq (mk_iconst X dX5_rule_68 rfl rfl))
 (mk_lt
 (mk_eq (mk_icne X dX5_rule_69 rfl rfl))
 (mk_eq (mk_iload_n X dX5_rule_72 rfl rfl)))))
 (mk_lt
 (mk_lt
 (mk_eq (mk_goto X dX5_rule_73 rfl))
 (mk_lt
 (mk_eq (mk_aload_n X dX5_rule_76 rfl rfl))
 (mk_eq (mk_get X (ci := 5) (j := 3) rfl in_X5 (Nat.le_of_ble_eq_true rfl) q750 dX5_rule_77 rfl))))
 (mk_lt
 (mk_eq (mk_put X (ci := 5) (j := 3) rfl in_X5 tyX5_ok nmX5 (Nat.le_of_ble_eq_true rfl) rfl rfl q750 dX5_rule_80 rfl))
 (mk_lt
 (mk_eq (mk_iload_n X dX5_rule_83 rfl rfl))
 (mk_eq (mk_ri X dX5_rule_84))))))))
theorem sd_X5_rule {l : Launch} {w : ma_Wd} {NC : Nat} {A : Nat → Prop} {S_X5_in : ma_Cs} (hw : ma_Wo w YM NC A) (h_X5_in : ma_Sd l w YM NC A yX5_in cX5_in 6 (some .boolean) rm_X5_in S_X5_in) : ma_Sd l w YM NC A yX5_rule cX5_rule 4 (some .int) rm_X5_rule (ma_rn (tb_X5_rule S_X5_in) 4) := ma_of hw (by decide) ⟨rfl, rfl⟩ (fun X => tk_X5_rule h_X5_in X)
theorem dX5_rim_0 : decode cX5_rim 0 = .ok (.iload_n 1, 1) := by decide +kernel
theorem dX5_rim_1 : decode cX5_rim 1 = .ok (.invokestatic 146, 3) := by decide +kernel
theorem dX5_rim_4 : decode cX5_rim 4 = .ok (.ifCond .eq 17, 3) := by decide +kernel
theorem dX5_rim_7 : decode cX5_rim 7 = .ok (.iload_n 2, 1) := by decide +kernel
theorem dX5_rim_8 : decode cX5_rim 8 = .ok (.i2l, 1) := by decide +kernel
theorem dX5_rim_9 : decode cX5_rim 9 = .ok (.ldc2_w 150, 3) := by decide +kernel
theorem dX5_rim_12 : decode cX5_rim 12 = .ok (.ldc2_w 152, 3) := by decide +kernel
theorem dX5_rim_15 : decode cX5_rim 15 = .ok (.invokestatic 128, 3) := by decide +kernel
theorem dX5_rim_18 : decode cX5_rim 18 = .ok (.ifCond .ne 6, 3) := by decide +kernel
theorem dX5_rim_21 : decode cX5_rim 21 = .ok (.ldc 154, 2) := by decide +kernel
theorem dX5_rim_23 : decode cX5_rim 23 = .ok (.ireturn, 1) := by decide +kernel
theorem dX5_rim_24 : decode cX5_rim 24 = .ok (.aload_n 0, 1) := by decide +kernel
theorem dX5_rim_25 : decode cX5_rim 25 = .ok (.getfield 19, 3) := by decide +kernel
theorem dX5_rim_28 : decode cX5_rim 28 = .ok (.iload_n 1, 1) := by decide +kernel
theorem dX5_rim_29 : decode cX5_rim 29 = .ok (.iaload, 1) := by decide +kernel
theorem dX5_rim_30 : decode cX5_rim 30 = .ok (.istore_n 3, 1) := by decide +kernel
theorem dX5_rim_31 : decode cX5_rim 31 = .ok (.aload_n 0, 1) := by decide +kernel
theorem dX5_rim_32 : decode cX5_rim 32 = .ok (.getfield 19, 3) := by decide +kernel
theorem dX5_rim_35 : decode cX5_rim 35 = .ok (.iload_n 1, 1) := by decide +kernel
theorem dX5_rim_36 : decode cX5_rim 36 = .ok (.iload_n 2, 1) := by decide +kernel
theorem dX5_rim_37 : decode cX5_rim 37 = .ok (.iastore, 1) := by decide +kernel
theorem dX5_rim_38 : decode cX5_rim 38 = .ok (.iload_n 3, 1) := by decide +kernel
theorem dX5_rim_39 : decode cX5_rim 39 = .ok (.ireturn, 1) := by decide +kernel
def tb_X5_rim (S_X5_isLetter S_X5_in : ma_Cs) : Nat → ma_In := fun pc =>
 (if pc < 24 then
 (if pc < 9 then
 (if pc < 4 then
 (if pc < 1 then
 (if pc = 0 then in_ild 1 1 else in_no) else
 (if pc = 1 then in_s1 S_X5_isLetter 4 else in_no)) else
 (if pc < 7 then
 (if pc = 4 then in_if1 (fun x => x = 0) 21 7 else in_no) else
 (if pc < 8 then
 (if pc = 7 then in_ild 2 8 else in_no) else
 (if pc = 8 then in_il (fun x => x.toInt64) 9 else in_no)))) else
 (if pc < 18 then
 (if pc < 12 then
 (if pc = 9 then in_push (.long (-1000000)) 12 else in_no) else
 (if pc < 15 then
 (if pc = 12 then in_push (.long 1000000) 15 else in_no) else
 (if pc = 15 then in_s3 S_X5_in 18 else in_no))) else
 (if pc < 21 then
 (if pc = 18 then in_if1 (fun x => x = 0) 21 24 else in_no) else
 (if pc < 23 then
 (if pc = 21 then in_push (.int (-2000000)) 23 else in_no) else
 (if pc = 23 then in_ri else in_no))))) else
 (if pc < 32 then
 (if pc < 29 then
 (if pc < 25 then
 (if pc = 24 then in_ald 0 25 else in_no) else
 (if pc < 28 then
 (if pc = 25 then in_get YM 5 4 28 else in_no) else
 (if pc = 28 then in_ild 1 29 else in_no))) else
 (if pc < 30 then
 (if pc = 29 then in_iar YM 30 else in_no) else
 (if pc < 31 then
 (if pc = 30 then in_ist 3 31 else in_no) else
 (if pc = 31 then in_ald 0 32 else in_no)))) else
 (if pc < 37 then
 (if pc < 35 then
 (if pc = 32 then in_get YM 5 4 35 else in_no) else
 (if pc < 36 then
 (if pc = 35 then in_ild 1 36 else in_no) else
 (if pc = 36 then in_ild 2 37 else in_no))) else
 (if pc < 38 then
 (if pc = 37 then in_iaw YM 38 else in_no) else
 (if pc < 39 then
 (if pc = 38 then in_ild 3 39 else in_no) else
 (if pc = 39 then in_ri else in_no))))))
theorem tk_X5_rim {l : Launch} {w : ma_Wd} {NC : Nat} {A : Nat → Prop} {S_X5_isLetter S_X5_in : ma_Cs} (h_X5_isLetter : ma_Sd l w YM NC A yX5_isLetter cX5_isLetter 1 (some .boolean) rm_X5_isLetter S_X5_isLetter) (h_X5_in : ma_Sd l w YM NC A yX5_in cX5_in 6 (some .boolean) rm_X5_in S_X5_in) {p : Program} {e : Env} {s : State} {m : MethodId} {args : Array Value} {below : List Frame} {meth : Method} {c : Code} (X : ma_Cx p s m args meth c w YM NC A yX5_rim.cls cX5_rim 4 (some .int)) : ∀ pc, ma_Ok p l e rm_X5_rim s m args below meth c w YM NC A 4 pc (tb_X5_rim S_X5_isLetter S_X5_in pc) := fun pc =>
 (mk_lt
 (mk_lt
 (mk_lt
 (mk_lt
 (mk_eq (mk_iload_n X dX5_rim_0 rfl rfl))
 (mk_eq (mk_S1 X h_X5_isLetter (lw_S q908 q909 q66 q910) ⟨by decide, by decide, rfl⟩ ⟨(Nat.le_of_ble_eq_true rfl), (Nat.le_of_ble_eq_true rfl)⟩ dX5_rim_1 rfl)))
 (mk_lt
 (mk_eq (mk_ifeq X dX5_rim_4 rfl rfl))
 (mk_lt
 (mk_eq (mk_iload_n X dX5_rim_7 rfl rfl))
 (mk_eq (mk_i2l X dX5_rim_8 rfl)))))
 (mk_lt
 (mk_lt
 (mk_eq (mk_ldc2 X dX5_rim_9 q912 rfl))
 (mk_lt
 (mk_eq (mk_ldc2 X dX5_rim_12 q913 rfl))
 (mk_eq (mk_S3 X h_X5_in (lw_S q892 q893 q66 q894) ⟨by decide, by decide, rfl⟩ ⟨(Nat.le_of_ble_eq_true rfl), (Nat.le_of_ble_eq_true rfl)⟩ dX5_rim_15 rfl))))
 (mk_lt
 (mk_eq (mk_ifne X dX5_rim_18 rfl rfl))
 (mk_lt
 (mk_eq (mk_ldc X dX5_rim_21 q914 rfl))
 (mk_eq (mk_ri X dX5_rim_23))))))
 (mk_lt
 (mk_lt
 (mk_lt
 (mk_eq (mk_aload_n X dX5_rim_24 rfl rfl))
 (mk_lt
 (mk_eq (mk_get X (ci := 5) (j := 4) rfl in_X5 (Nat.le_of_ble_eq_true rfl) q751 dX5_rim_25 rfl))
 (mk_eq (mk_iload_n X dX5_rim_28 rfl rfl))))
 (mk_lt
 (mk_eq (mk_iar X dX5_rim_29 rfl))
 (mk_lt
 (mk_eq (mk_istore_n X dX5_rim_30 rfl (Nat.le_of_ble_eq_true rfl) rfl))
 (mk_eq (mk_aload_n X dX5_rim_31 rfl rfl)))))
 (mk_lt
 (mk_lt
 (mk_eq (mk_get X (ci := 5) (j := 4) rfl in_X5 (Nat.le_of_ble_eq_true rfl) q751 dX5_rim_32 rfl))
 (mk_lt
 (mk_eq (mk_iload_n X dX5_rim_35 rfl rfl))
 (mk_eq (mk_iload_n X dX5_rim_36 rfl rfl))))
 (mk_lt
 (mk_eq (mk_iaw X dX5_rim_37 rfl))
 (mk_lt
 (mk_eq (mk_iload_n X dX5_rim_38 rfl rfl))
 (mk_eq (mk_ri X dX5_rim_39)))))))
theorem sd_X5_rim {l : Launch} {w : ma_Wd} {NC : Nat} {A : Nat → Prop} {S_X5_isLetter S_X5_in : ma_Cs} (hw : ma_Wo w YM NC A) (h_X5_isLetter : ma_Sd l w YM NC A yX5_isLetter cX5_isLetter 1 (some .boolean) rm_X5_isLetter S_X5_isLetter) (h_X5_in : ma_Sd l w YM NC A yX5_in cX5_in 6 (some .boolean) rm_X5_in S_X5_in) : ma_Sd l w YM NC A yX5_rim cX5_rim 4 (some .int) rm_X5_rim (ma_rn (tb_X5_rim S_X5_isLetter S_X5_in) 4) := ma_of hw (by decide) ⟨rfl, rfl⟩ (fun X => tk_X5_rim h_X5_isLetter h_X5_in X)
theorem dX5_isLetter_0 : decode cX5_isLetter 0 = .ok (.iload_n 0, 1) := by decide +kernel
theorem dX5_isLetter_1 : decode cX5_isLetter 1 = .ok (.i2l, 1) := by decide +kernel
theorem dX5_isLetter_2 : decode cX5_isLetter 2 = .ok (.lconst 0, 1) := by decide +kernel
theorem dX5_isLetter_3 : decode cX5_isLetter 3 = .ok (.ldc2_w 132, 3) := by decide +kernel
theorem dX5_isLetter_6 : decode cX5_isLetter 6 = .ok (.invokestatic 128, 3) := by decide +kernel
theorem dX5_isLetter_9 : decode cX5_isLetter 9 = .ok (.ireturn, 1) := by decide +kernel
def tb_X5_isLetter (S_X5_in : ma_Cs) : Nat → ma_In := fun pc =>
 (if pc < 3 then
 (if pc < 1 then
 (if pc = 0 then in_ild 0 1 else in_no) else
 (if pc < 2 then
 (if pc = 1 then in_il (fun x => x.toInt64) 2 else in_no) else
 (if pc = 2 then in_push (.long 0) 3 else in_no))) else
 (if pc < 6 then
 (if pc = 3 then in_push (.long 3) 6 else in_no) else
 (if pc < 9 then
 (if pc = 6 then in_s3 S_X5_in 9 else in_no) else
 (if pc = 9 then in_rz else in_no))))
theorem tk_X5_isLetter {l : Launch} {w : ma_Wd} {NC : Nat} {A : Nat → Prop} {S_X5_in : ma_Cs} (h_X5_in : ma_Sd l w YM NC A yX5_in cX5_in 6 (some .boolean) rm_X5_in S_X5_in) {p : Program} {e : Env} {s : State} {m : MethodId} {args : Array Value} {below : List Frame} {meth : Method} {c : Code} (X : ma_Cx p s m args meth c w YM NC A yX5_isLetter.cls cX5_isLetter 1 (some .boolean)) : ∀ pc, ma_Ok p l e rm_X5_isLetter s m args below meth c w YM NC A 1 pc (tb_X5_isLetter S_X5_in pc) := fun pc =>
 (mk_lt
 (mk_lt
 (mk_eq (mk_iload_n X dX5_isLetter_0 rfl rfl))
 (mk_lt
 (mk_eq (mk_i2l X dX5_isLetter_1 rfl))
 (mk_eq (mk_lconst X dX5_isLetter_2 rfl rfl))))
 (mk_lt
 (mk_eq (mk_ldc2 X dX5_isLetter_3 q911 rfl))
 (mk_lt
 (mk_eq (mk_S3 X h_X5_in (lw_S q892 q893 q66 q894) ⟨by decide, by decide, rfl⟩ ⟨(Nat.le_of_ble_eq_true rfl), (Nat.le_of_ble_eq_true rfl)⟩ dX5_isLetter_6 rfl))
 (mk_eq (mk_rz X dX5_isLetter_9)))))
theorem sd_X5_isLetter {l : Launch} {w : ma_Wd} {NC : Nat} {A : Nat → Prop} {S_X5_in : ma_Cs} (hw : ma_Wo w YM NC A) (h_X5_in : ma_Sd l w YM NC A yX5_in cX5_in 6 (some .boolean) rm_X5_in S_X5_in) : ma_Sd l w YM NC A yX5_isLetter cX5_isLetter 1 (some .boolean) rm_X5_isLetter (ma_rn (tb_X5_isLetter S_X5_in) 1) := ma_of hw (by decide) ⟨rfl, rfl⟩ (fun X => tk_X5_isLetter h_X5_in X)
theorem dX5_write_0 : decode cX5_write 0 = .ok (.iload_n 1, 1) := by decide +kernel
theorem dX5_write_1 : decode cX5_write 1 = .ok (.i2l, 1) := by decide +kernel
theorem dX5_write_2 : decode cX5_write 2 = .ok (.lconst 1, 1) := by decide +kernel
theorem dX5_write_3 : decode cX5_write 3 = .ok (.ldc2_w 155, 3) := by decide +kernel
theorem dX5_write_6 : decode cX5_write 6 = .ok (.invokestatic 128, 3) := by decide +kernel
theorem dX5_write_9 : decode cX5_write 9 = .ok (.ifCond .ne 5, 3) := by decide +kernel
theorem dX5_write_12 : decode cX5_write 12 = .ok (.iconst (-1), 1) := by decide +kernel
theorem dX5_write_13 : decode cX5_write 13 = .ok (.ireturn, 1) := by decide +kernel
theorem dX5_write_14 : decode cX5_write 14 = .ok (.aload_n 0, 1) := by decide +kernel
theorem dX5_write_15 : decode cX5_write 15 = .ok (.getfield 157, 3) := by decide +kernel
theorem dX5_write_18 : decode cX5_write 18 = .ok (.iload_n 1, 1) := by decide +kernel
theorem dX5_write_19 : decode cX5_write 19 = .ok (.iadd, 1) := by decide +kernel
theorem dX5_write_20 : decode cX5_write 20 = .ok (.sipush 160, 3) := by decide +kernel
theorem dX5_write_23 : decode cX5_write 23 = .ok (.if_icmp .le 6, 3) := by decide +kernel
theorem dX5_write_26 : decode cX5_write 26 = .ok (.bipush (-3), 2) := by decide +kernel
theorem dX5_write_28 : decode cX5_write 28 = .ok (.ireturn, 1) := by decide +kernel
theorem dX5_write_29 : decode cX5_write 29 = .ok (.iload_n 1, 1) := by decide +kernel
theorem dX5_write_30 : decode cX5_write 30 = .ok (.iconst 1, 1) := by decide +kernel
theorem dX5_write_31 : decode cX5_write 31 = .ok (.isub, 1) := by decide +kernel
theorem dX5_write_32 : decode cX5_write 32 = .ok (.istore 4, 2) := by decide +kernel
theorem dX5_write_34 : decode cX5_write 34 = .ok (.iload 4, 2) := by decide +kernel
theorem dX5_write_36 : decode cX5_write 36 = .ok (.ifCond .lt 40, 3) := by decide +kernel
theorem dX5_write_39 : decode cX5_write 39 = .ok (.aload_n 0, 1) := by decide +kernel
theorem dX5_write_40 : decode cX5_write 40 = .ok (.getfield 23, 3) := by decide +kernel
theorem dX5_write_43 : decode cX5_write 43 = .ok (.aload_n 0, 1) := by decide +kernel
theorem dX5_write_44 : decode cX5_write 44 = .ok (.getfield 157, 3) := by decide +kernel
theorem dX5_write_47 : decode cX5_write 47 = .ok (.lload_n 2, 1) := by decide +kernel
theorem dX5_write_48 : decode cX5_write 48 = .ok (.bipush 8, 2) := by decide +kernel
theorem dX5_write_50 : decode cX5_write 50 = .ok (.iload 4, 2) := by decide +kernel
theorem dX5_write_52 : decode cX5_write 52 = .ok (.imul, 1) := by decide +kernel
theorem dX5_write_53 : decode cX5_write 53 = .ok (.lshr, 1) := by decide +kernel
theorem dX5_write_54 : decode cX5_write 54 = .ok (.ldc2_w 160, 3) := by decide +kernel
theorem dX5_write_57 : decode cX5_write 57 = .ok (.land, 1) := by decide +kernel
theorem dX5_write_58 : decode cX5_write 58 = .ok (.l2i, 1) := by decide +kernel
theorem dX5_write_59 : decode cX5_write 59 = .ok (.iastore, 1) := by decide +kernel
theorem dX5_write_60 : decode cX5_write 60 = .ok (.aload_n 0, 1) := by decide +kernel
theorem dX5_write_61 : decode cX5_write 61 = .ok (.dup, 1) := by decide +kernel
theorem dX5_write_62 : decode cX5_write 62 = .ok (.getfield 157, 3) := by decide +kernel
theorem dX5_write_65 : decode cX5_write 65 = .ok (.iconst 1, 1) := by decide +kernel
theorem dX5_write_66 : decode cX5_write 66 = .ok (.iadd, 1) := by decide +kernel
theorem dX5_write_67 : decode cX5_write 67 = .ok (.putfield 157, 3) := by decide +kernel
theorem dX5_write_70 : decode cX5_write 70 = .ok (.iinc 4 (-1), 3) := by decide +kernel
theorem dX5_write_73 : decode cX5_write 73 = .ok (.goto (-39), 3) := by decide +kernel
theorem dX5_write_76 : decode cX5_write 76 = .ok (.aload_n 0, 1) := by decide +kernel
theorem dX5_write_77 : decode cX5_write 77 = .ok (.getfield 157, 3) := by decide +kernel
theorem dX5_write_80 : decode cX5_write 80 = .ok (.ireturn, 1) := by decide +kernel
def tb_X5_write (S_X5_in : ma_Cs) : Nat → ma_In := fun pc =>
 (if pc < 40 then
 (if pc < 19 then
 (if pc < 9 then
 (if pc < 2 then
 (if pc < 1 then
 (if pc = 0 then in_ild 1 1 else in_no) else
 (if pc = 1 then in_il (fun x => x.toInt64) 2 else in_no)) else
 (if pc < 3 then
 (if pc = 2 then in_push (.long 1) 3 else in_no) else
 (if pc < 6 then
 (if pc = 3 then in_push (.long 8) 6 else in_no) else
 (if pc = 6 then in_s3 S_X5_in 9 else in_no)))) else
 (if pc < 14 then
 (if pc < 12 then
 (if pc = 9 then in_if1 (fun x => x = 0) 12 14 else in_no) else
 (if pc < 13 then
 (if pc = 12 then in_push (.int (-1)) 13 else in_no) else
 (if pc = 13 then in_ri else in_no))) else
 (if pc < 15 then
 (if pc = 14 then in_ald 0 15 else in_no) else
 (if pc < 18 then
 (if pc = 15 then in_get YM 5 5 18 else in_no) else
 (if pc = 18 then in_ild 1 19 else in_no))))) else
 (if pc < 30 then
 (if pc < 26 then
 (if pc < 20 then
 (if pc = 19 then in_iii (fun x y => x + y) 20 else in_no) else
 (if pc < 23 then
 (if pc = 20 then in_push (.int 160) 23 else in_no) else
 (if pc = 23 then in_if2 (fun x y => x ≤ y) 29 26 else in_no))) else
 (if pc < 28 then
 (if pc = 26 then in_push (.int (-3)) 28 else in_no) else
 (if pc < 29 then
 (if pc = 28 then in_ri else in_no) else
 (if pc = 29 then in_ild 1 30 else in_no)))) else
 (if pc < 34 then
 (if pc < 31 then
 (if pc = 30 then in_push (.int 1) 31 else in_no) else
 (if pc < 32 then
 (if pc = 31 then in_iii (fun x y => x - y) 32 else in_no) else
 (if pc = 32 then in_ist 4 34 else in_no))) else
 (if pc < 36 then
 (if pc = 34 then in_ild 4 36 else in_no) else
 (if pc < 39 then
 (if pc = 36 then in_if1 (fun x => x < 0) 76 39 else in_no) else
 (if pc = 39 then in_ald 0 40 else in_no)))))) else
 (if pc < 59 then
 (if pc < 50 then
 (if pc < 44 then
 (if pc < 43 then
 (if pc = 40 then in_get YM 5 6 43 else in_no) else
 (if pc = 43 then in_ald 0 44 else in_no)) else
 (if pc < 47 then
 (if pc = 44 then in_get YM 5 5 47 else in_no) else
 (if pc < 48 then
 (if pc = 47 then in_lld 2 48 else in_no) else
 (if pc = 48 then in_push (.int 8) 50 else in_no)))) else
 (if pc < 54 then
 (if pc < 52 then
 (if pc = 50 then in_ild 4 52 else in_no) else
 (if pc < 53 then
 (if pc = 52 then in_iii (fun x y => x * y) 53 else in_no) else
 (if pc = 53 then in_lil (fun x y => x >>> (y.toInt64 &&& 63)) 54 else in_no))) else
 (if pc < 57 then
 (if pc = 54 then in_push (.long 255) 57 else in_no) else
 (if pc < 58 then
 (if pc = 57 then in_lll (fun x y => x &&& y) 58 else in_no) else
 (if pc = 58 then in_li (fun x => x.toInt32) 59 else in_no))))) else
 (if pc < 67 then
 (if pc < 62 then
 (if pc < 60 then
 (if pc = 59 then in_iaw YM 60 else in_no) else
 (if pc < 61 then
 (if pc = 60 then in_ald 0 61 else in_no) else
 (if pc = 61 then in_dup 62 else in_no))) else
 (if pc < 65 then
 (if pc = 62 then in_get YM 5 5 65 else in_no) else
 (if pc < 66 then
 (if pc = 65 then in_push (.int 1) 66 else in_no) else
 (if pc = 66 then in_iii (fun x y => x + y) 67 else in_no)))) else
 (if pc < 76 then
 (if pc < 70 then
 (if pc = 67 then in_put YM 5 5 70 else in_no) else
 (if pc < 73 then
 (if pc = 70 then in_inc 4 (-1) 73 else in_no) else
 (if pc = 73 then in_go 34 else in_no))) else
 (if pc < 77 then
 (if pc = 76 then in_ald 0 77 else in_no) else
 (if pc < 80 then
 (if pc = 77 then in_get YM 5 5 80 else in_no) else
 (if pc = 80 then in_ri else in_no)))))))
theorem tk_X5_write {l : Launch} {w : ma_Wd} {NC : Nat} {A : Nat → Prop} {S_X5_in : ma_Cs} (h_X5_in : ma_Sd l w YM NC A yX5_in cX5_in 6 (some .boolean) rm_X5_in S_X5_in) {p : Program} {e : Env} {s : State} {m : MethodId} {args : Array Value} {below : List Frame} {meth : Method} {c : Code} (X : ma_Cx p s m args meth c w YM NC A yX5_write.cls cX5_write 5 (some .int)) : ∀ pc, ma_Ok p l e rm_X5_write s m args below meth c w YM NC A 5 pc (tb_X5_write S_X5_in pc) := fun pc =>
 (mk_lt
 (mk_lt
 (mk_lt
 (mk_lt
 (mk_lt
 (mk_eq (mk_iload_n X dX5_write_0 rfl rfl))
 (mk_eq (mk_i2l X dX5_write_1 rfl)))
 (mk_lt
 (mk_eq (mk_lconst X dX5_write_2 rfl rfl))
 (mk_lt
 (mk_eq (mk_ldc2 X dX5_write_3 q919 rfl))
 (mk_eq (mk_S3 X h_X5_in (lw_S q892 q893 q66 q894) ⟨by decide, by decide, rfl⟩ ⟨(Nat.le_of_ble_eq_true rfl), (Nat.le_of_ble_eq_true rfl)⟩ dX5_write_6 rfl)))))
 (mk_lt
 (mk_lt
 (mk_eq (mk_ifne X dX5_write_9 rfl rfl))
 (mk_lt
 (mk_eq (mk_iconst X dX5_write_12 rfl rfl))
 (mk_eq (mk_ri X dX5_write_13))))
 (mk_lt
 (mk_eq (mk_aload_n X dX5_write_14 rfl rfl))
 (mk_lt
 (mk_eq (mk_get X (ci := 5) (j := 5) rfl in_X5 (Nat.le_of_ble_eq_true rfl) q752 dX5_write_15 rfl))
 (mk_eq (mk_iload_n X dX5_write_18 rfl rfl))))))
 (mk_lt
 (mk_lt
 (mk_lt
 (mk_eq (mk_iadd X dX5_write_19 rfl))
 (mk_lt
 (mk_eq (mk_sipush X dX5_write_20 rfl rfl))
 (mk_eq (mk_icle X dX5_write_23 rfl rfl))))
 (mk_lt
 (mk_eq (mk_bipush X dX5_write_26 rfl rfl))
 (mk_lt
 (mk_eq (mk_ri X dX5_write_28))
 (mk_eq (mk_iload_n X dX5_write_29 rfl rfl)))))
 (mk_lt
 (mk_lt
 (mk_eq (mk_iconst X dX5_write_30 rfl rfl))
 (mk_lt
 (mk_eq (mk_isub X dX5_write_31 rfl))
 (mk_eq (mk_istore X dX5_write_32 (Nat.le_of_ble_eq_true rfl) rfl))))
 (mk_lt
 (mk_eq (mk_iload X dX5_write_34 rfl))
 (mk_lt
 (mk_eq (mk_iflt X dX5_write_36 rfl rfl))
 (mk_eq (mk_aload_n X dX5_write_39 rfl rfl)))))))
 (mk_lt
 (mk_lt
 (mk_lt
 (mk_lt
 (mk_eq (mk_get X (ci := 5) (j := 6) rfl in_X5 (Nat.le_of_ble_eq_true rfl) q753 dX5_write_40 rfl))
 (mk_eq (mk_aload_n X dX5_write_43 rfl rfl)))
 (mk_lt
 (mk_eq (mk_get X (ci := 5) (j := 5) rfl in_X5 (Nat.le_of_ble_eq_true rfl) q752 dX5_write_44 rfl))
 (mk_lt
 (mk_eq (mk_lload_n X dX5_write_47 rfl rfl))
 (mk_eq (mk_bipush X dX5_write_48 rfl rfl)))))
 (mk_lt
 (mk_lt
 (mk_eq (mk_iload X dX5_write_50 rfl))
 (mk_lt
 (mk_eq (mk_imul X dX5_write_52 rfl))
 (mk_eq (mk_lshr X dX5_write_53 rfl))))
 (mk_lt
 (mk_eq (mk_ldc2 X dX5_write_54 q920 rfl))
 (mk_lt
 (mk_eq (mk_land X dX5_write_57 rfl))
 (mk_eq (mk_l2i X dX5_write_58 rfl))))))
 (mk_lt
 (mk_lt
 (mk_lt
 (mk_eq (mk_iaw X dX5_write_59 rfl))
 (mk_lt
 (mk_eq (mk_aload_n X dX5_write_60 rfl rfl))
 (mk_eq (mk_dup X dX5_write_61 rfl))))
 (mk_lt
 (mk_eq (mk_get X (ci := 5) (j := 5) rfl in_X5 (Nat.le_of_ble_eq_true rfl) q752 dX5_write_62 rfl))
 (mk_lt
 (mk_eq (mk_iconst X dX5_write_65 rfl rfl))
 (mk_eq (mk_iadd X dX5_write_66 rfl)))))
 (mk_lt
 (mk_lt
 (mk_eq (mk_put X (ci := 5) (j := 5) rfl in_X5 tyX5_ok nmX5 (Nat.le_of_ble_eq_true rfl) rfl rfl q752 dX5_write_67 rfl))
 (mk_lt
 (mk_eq (mk_iinc X dX5_write_70 rfl (Nat.le_of_ble_eq_true rfl) rfl))
 (mk_eq (mk_goto X dX5_write_73 rfl))))
 (mk_lt
 (mk_eq (mk_aload_n X dX5_write_76 rfl rfl))
 (mk_lt
 (mk_eq (mk_get X (ci := 5) (j := 5) rfl in_X5 (Nat.le_of_ble_eq_true rfl) q752 dX5_write_77 rfl))
 (mk_eq (mk_ri X dX5_write_80))))))))
theorem sd_X5_write {l : Launch} {w : ma_Wd} {NC : Nat} {A : Nat → Prop} {S_X5_in : ma_Cs} (hw : ma_Wo w YM NC A) (h_X5_in : ma_Sd l w YM NC A yX5_in cX5_in 6 (some .boolean) rm_X5_in S_X5_in) : ma_Sd l w YM NC A yX5_write cX5_write 5 (some .int) rm_X5_write (ma_rn (tb_X5_write S_X5_in) 5) := ma_of hw (by decide) ⟨rfl, rfl⟩ (fun X => tk_X5_write h_X5_in X)
theorem dX5_wipe_0 : decode cX5_wipe 0 = .ok (.aload_n 0, 1) := by decide +kernel
theorem dX5_wipe_1 : decode cX5_wipe 1 = .ok (.getfield 157, 3) := by decide +kernel
theorem dX5_wipe_4 : decode cX5_wipe 4 = .ok (.istore_n 1, 1) := by decide +kernel
theorem dX5_wipe_5 : decode cX5_wipe 5 = .ok (.aload_n 0, 1) := by decide +kernel
theorem dX5_wipe_6 : decode cX5_wipe 6 = .ok (.iconst 0, 1) := by decide +kernel
theorem dX5_wipe_7 : decode cX5_wipe 7 = .ok (.putfield 157, 3) := by decide +kernel
theorem dX5_wipe_10 : decode cX5_wipe 10 = .ok (.iload_n 1, 1) := by decide +kernel
theorem dX5_wipe_11 : decode cX5_wipe 11 = .ok (.ireturn, 1) := by decide +kernel
def tb_X5_wipe : Nat → ma_In := fun pc =>
 (if pc < 6 then
 (if pc < 4 then
 (if pc < 1 then
 (if pc = 0 then in_ald 0 1 else in_no) else
 (if pc = 1 then in_get YM 5 5 4 else in_no)) else
 (if pc < 5 then
 (if pc = 4 then in_ist 1 5 else in_no) else
 (if pc = 5 then in_ald 0 6 else in_no))) else
 (if pc < 10 then
 (if pc < 7 then
 (if pc = 6 then in_push (.int 0) 7 else in_no) else
 (if pc = 7 then in_put YM 5 5 10 else in_no)) else
 (if pc < 11 then
 (if pc = 10 then in_ild 1 11 else in_no) else
 (if pc = 11 then in_ri else in_no))))
theorem tk_X5_wipe {l : Launch} {w : ma_Wd} {NC : Nat} {A : Nat → Prop} {p : Program} {e : Env} {s : State} {m : MethodId} {args : Array Value} {below : List Frame} {meth : Method} {c : Code} (X : ma_Cx p s m args meth c w YM NC A yX5_wipe.cls cX5_wipe 2 (some .int)) : ∀ pc, ma_Ok p l e rm_X5_wipe s m args below meth c w YM NC A 2 pc (tb_X5_wipe pc) := fun pc =>
 (mk_lt
 (mk_lt
 (mk_lt
 (mk_eq (mk_aload_n X dX5_wipe_0 rfl rfl))
 (mk_eq (mk_get X (ci := 5) (j := 5) rfl in_X5 (Nat.le_of_ble_eq_true rfl) q752 dX5_wipe_1 rfl)))
 (mk_lt
 (mk_eq (mk_istore_n X dX5_wipe_4 rfl (Nat.le_of_ble_eq_true rfl) rfl))
 (mk_eq (mk_aload_n X dX5_wipe_5 rfl rfl))))
 (mk_lt
 (mk_lt
 (mk_eq (mk_iconst X dX5_wipe_6 rfl rfl))
 (mk_eq (mk_put X (ci := 5) (j := 5) rfl in_X5 tyX5_ok nmX5 (Nat.le_of_ble_eq_true rfl) rfl rfl q752 dX5_wipe_7 rfl)))
 (mk_lt
 (mk_eq (mk_iload_n X dX5_wipe_10 rfl rfl))
 (mk_eq (mk_ri X dX5_wipe_11)))))
theorem sd_X5_wipe {l : Launch} {w : ma_Wd} {NC : Nat} {A : Nat → Prop} (hw : ma_Wo w YM NC A) : ma_Sd l w YM NC A yX5_wipe cX5_wipe 2 (some .int) rm_X5_wipe (ma_rn (tb_X5_wipe) 2) := ma_of hw (by decide) ⟨rfl, rfl⟩ (fun X => tk_X5_wipe  X)
theorem dX5_fault_0 : decode cX5_fault 0 = .ok (.aload_n 0, 1) := by decide +kernel
theorem dX5_fault_1 : decode cX5_fault 1 = .ok (.invokevirtual 200, 3) := by decide +kernel
theorem dX5_fault_4 : decode cX5_fault 4 = .ok (.ireturn, 1) := by decide +kernel
def tb_X5_fault (S_X5_faultOf : ma_Cs) : Nat → ma_In := fun pc =>
 (if pc < 1 then
 (if pc = 0 then in_ald 0 1 else in_no) else
 (if pc < 4 then
 (if pc = 1 then in_v1 YM 5 S_X5_faultOf 4 else in_no) else
 (if pc = 4 then in_ri else in_no)))
theorem tk_X5_fault {l : Launch} {w : ma_Wd} {NC : Nat} {A : Nat → Prop} {S_X5_faultOf : ma_Cs} (h_X5_faultOf : ma_Sd l w YM NC A yX5_faultOf cX5_faultOf 2 (some .int) rm_X5_faultOf S_X5_faultOf) {p : Program} {e : Env} {s : State} {m : MethodId} {args : Array Value} {below : List Frame} {meth : Method} {c : Code} (X : ma_Cx p s m args meth c w YM NC A yX5_fault.cls cX5_fault 1 (some .int)) : ∀ pc, ma_Ok p l e rm_X5_fault s m args below meth c w YM NC A 1 pc (tb_X5_fault S_X5_faultOf pc) := fun pc =>
 (mk_lt
 (mk_eq (mk_aload_n X dX5_fault_0 rfl rfl))
 (mk_lt
 (mk_eq (mk_V1 X h_X5_faultOf (ci := 5) rfl (lw_V q929 q931 qs31 q66 q932) ⟨rfl, by decide, by decide, rfl⟩ ⟨(Nat.le_of_ble_eq_true rfl), (Nat.le_of_ble_eq_true rfl)⟩ dX5_fault_1 rfl))
 (mk_eq (mk_ri X dX5_fault_4))))
theorem sd_X5_fault {l : Launch} {w : ma_Wd} {NC : Nat} {A : Nat → Prop} {S_X5_faultOf : ma_Cs} (hw : ma_Wo w YM NC A) (h_X5_faultOf : ma_Sd l w YM NC A yX5_faultOf cX5_faultOf 2 (some .int) rm_X5_faultOf S_X5_faultOf) : ma_Sd l w YM NC A yX5_fault cX5_fault 1 (some .int) rm_X5_fault (ma_rn (tb_X5_fault S_X5_faultOf) 1) := ma_of hw (by decide) ⟨rfl, rfl⟩ (fun X => tk_X5_fault h_X5_faultOf X)
theorem dX5_faultOf_0 : decode cX5_faultOf 0 = .ok (.aload_n 0, 1) := by decide +kernel
theorem dX5_faultOf_1 : decode cX5_faultOf 1 = .ok (.iconst 0, 1) := by decide +kernel
theorem dX5_faultOf_2 : decode cX5_faultOf 2 = .ok (.putfield 165, 3) := by decide +kernel
theorem dX5_faultOf_5 : decode cX5_faultOf 5 = .ok (.aload_n 0, 1) := by decide +kernel
theorem dX5_faultOf_6 : decode cX5_faultOf 6 = .ok (.iconst (-1), 1) := by decide +kernel
theorem dX5_faultOf_7 : decode cX5_faultOf 7 = .ok (.putfield 162, 3) := by decide +kernel
theorem dX5_faultOf_10 : decode cX5_faultOf 10 = .ok (.aload_n 0, 1) := by decide +kernel
theorem dX5_faultOf_11 : decode cX5_faultOf 11 = .ok (.iconst 0, 1) := by decide +kernel
theorem dX5_faultOf_12 : decode cX5_faultOf 12 = .ok (.putfield 187, 3) := by decide +kernel
theorem dX5_faultOf_15 : decode cX5_faultOf 15 = .ok (.aload_n 0, 1) := by decide +kernel
theorem dX5_faultOf_16 : decode cX5_faultOf 16 = .ok (.iconst 0, 1) := by decide +kernel
theorem dX5_faultOf_17 : decode cX5_faultOf 17 = .ok (.putfield 181, 3) := by decide +kernel
theorem dX5_faultOf_20 : decode cX5_faultOf 20 = .ok (.iconst 4, 1) := by decide +kernel
theorem dX5_faultOf_21 : decode cX5_faultOf 21 = .ok (.istore_n 1, 1) := by decide +kernel
theorem dX5_faultOf_22 : decode cX5_faultOf 22 = .ok (.iload_n 1, 1) := by decide +kernel
theorem dX5_faultOf_23 : decode cX5_faultOf 23 = .ok (.bipush 8, 2) := by decide +kernel
theorem dX5_faultOf_25 : decode cX5_faultOf 25 = .ok (.if_icmp .ge 17, 3) := by decide +kernel
theorem dX5_faultOf_28 : decode cX5_faultOf 28 = .ok (.aload_n 0, 1) := by decide +kernel
theorem dX5_faultOf_29 : decode cX5_faultOf 29 = .ok (.getfield 29, 3) := by decide +kernel
theorem dX5_faultOf_32 : decode cX5_faultOf 32 = .ok (.iload_n 1, 1) := by decide +kernel
theorem dX5_faultOf_33 : decode cX5_faultOf 33 = .ok (.bipush (-4), 2) := by decide +kernel
theorem dX5_faultOf_35 : decode cX5_faultOf 35 = .ok (.iastore, 1) := by decide +kernel
theorem dX5_faultOf_36 : decode cX5_faultOf 36 = .ok (.iinc 1 1, 3) := by decide +kernel
theorem dX5_faultOf_39 : decode cX5_faultOf 39 = .ok (.goto (-17), 3) := by decide +kernel
theorem dX5_faultOf_42 : decode cX5_faultOf 42 = .ok (.aload_n 0, 1) := by decide +kernel
theorem dX5_faultOf_43 : decode cX5_faultOf 43 = .ok (.getfield 165, 3) := by decide +kernel
theorem dX5_faultOf_46 : decode cX5_faultOf 46 = .ok (.aload_n 0, 1) := by decide +kernel
theorem dX5_faultOf_47 : decode cX5_faultOf 47 = .ok (.getfield 157, 3) := by decide +kernel
theorem dX5_faultOf_50 : decode cX5_faultOf 50 = .ok (.if_icmp .ge 17, 3) := by decide +kernel
theorem dX5_faultOf_53 : decode cX5_faultOf 53 = .ok (.aload_n 0, 1) := by decide +kernel
theorem dX5_faultOf_54 : decode cX5_faultOf 54 = .ok (.getfield 162, 3) := by decide +kernel
theorem dX5_faultOf_57 : decode cX5_faultOf 57 = .ok (.ifCond .ge 10, 3) := by decide +kernel
theorem dX5_faultOf_60 : decode cX5_faultOf 60 = .ok (.aload_n 0, 1) := by decide +kernel
theorem dX5_faultOf_61 : decode cX5_faultOf 61 = .ok (.invokevirtual 197, 3) := by decide +kernel
theorem dX5_faultOf_64 : decode cX5_faultOf 64 = .ok (.goto (-22), 3) := by decide +kernel
theorem dX5_faultOf_67 : decode cX5_faultOf 67 = .ok (.aload_n 0, 1) := by decide +kernel
theorem dX5_faultOf_68 : decode cX5_faultOf 68 = .ok (.getfield 162, 3) := by decide +kernel
theorem dX5_faultOf_71 : decode cX5_faultOf 71 = .ok (.ifCond .ge 8, 3) := by decide +kernel
theorem dX5_faultOf_74 : decode cX5_faultOf 74 = .ok (.bipush (-4), 2) := by decide +kernel
theorem dX5_faultOf_76 : decode cX5_faultOf 76 = .ok (.goto 7, 3) := by decide +kernel
theorem dX5_faultOf_79 : decode cX5_faultOf 79 = .ok (.aload_n 0, 1) := by decide +kernel
theorem dX5_faultOf_80 : decode cX5_faultOf 80 = .ok (.getfield 162, 3) := by decide +kernel
theorem dX5_faultOf_83 : decode cX5_faultOf 83 = .ok (.ireturn, 1) := by decide +kernel
def tb_X5_faultOf (S_X5_readLine : ma_Cs) : Nat → ma_In := fun pc =>
 (if pc < 35 then
 (if pc < 16 then
 (if pc < 7 then
 (if pc < 2 then
 (if pc < 1 then
 (if pc = 0 then in_ald 0 1 else in_no) else
 (if pc = 1 then in_push (.int 0) 2 else in_no)) else
 (if pc < 5 then
 (if pc = 2 then in_put YM 5 32 5 else in_no) else
 (if pc < 6 then
 (if pc = 5 then in_ald 0 6 else in_no) else
 (if pc = 6 then in_push (.int (-1)) 7 else in_no)))) else
 (if pc < 11 then
 (if pc < 10 then
 (if pc = 7 then in_put YM 5 33 10 else in_no) else
 (if pc = 10 then in_ald 0 11 else in_no)) else
 (if pc < 12 then
 (if pc = 11 then in_push (.int 0) 12 else in_no) else
 (if pc < 15 then
 (if pc = 12 then in_put YM 5 34 15 else in_no) else
 (if pc = 15 then in_ald 0 16 else in_no))))) else
 (if pc < 23 then
 (if pc < 20 then
 (if pc < 17 then
 (if pc = 16 then in_push (.int 0) 17 else in_no) else
 (if pc = 17 then in_put YM 5 8 20 else in_no)) else
 (if pc < 21 then
 (if pc = 20 then in_push (.int 4) 21 else in_no) else
 (if pc < 22 then
 (if pc = 21 then in_ist 1 22 else in_no) else
 (if pc = 22 then in_ild 1 23 else in_no)))) else
 (if pc < 29 then
 (if pc < 25 then
 (if pc = 23 then in_push (.int 8) 25 else in_no) else
 (if pc < 28 then
 (if pc = 25 then in_if2 (fun x y => y ≤ x) 42 28 else in_no) else
 (if pc = 28 then in_ald 0 29 else in_no))) else
 (if pc < 32 then
 (if pc = 29 then in_get YM 5 10 32 else in_no) else
 (if pc < 33 then
 (if pc = 32 then in_ild 1 33 else in_no) else
 (if pc = 33 then in_push (.int (-4)) 35 else in_no)))))) else
 (if pc < 60 then
 (if pc < 46 then
 (if pc < 39 then
 (if pc < 36 then
 (if pc = 35 then in_iaw YM 36 else in_no) else
 (if pc = 36 then in_inc 1 1 39 else in_no)) else
 (if pc < 42 then
 (if pc = 39 then in_go 22 else in_no) else
 (if pc < 43 then
 (if pc = 42 then in_ald 0 43 else in_no) else
 (if pc = 43 then in_get YM 5 32 46 else in_no)))) else
 (if pc < 53 then
 (if pc < 47 then
 (if pc = 46 then in_ald 0 47 else in_no) else
 (if pc < 50 then
 (if pc = 47 then in_get YM 5 5 50 else in_no) else
 (if pc = 50 then in_if2 (fun x y => y ≤ x) 67 53 else in_no))) else
 (if pc < 54 then
 (if pc = 53 then in_ald 0 54 else in_no) else
 (if pc < 57 then
 (if pc = 54 then in_get YM 5 33 57 else in_no) else
 (if pc = 57 then in_if1 (fun x => 0 ≤ x) 67 60 else in_no))))) else
 (if pc < 71 then
 (if pc < 64 then
 (if pc < 61 then
 (if pc = 60 then in_ald 0 61 else in_no) else
 (if pc = 61 then in_v1 YM 5 S_X5_readLine 64 else in_no)) else
 (if pc < 67 then
 (if pc = 64 then in_go 42 else in_no) else
 (if pc < 68 then
 (if pc = 67 then in_ald 0 68 else in_no) else
 (if pc = 68 then in_get YM 5 33 71 else in_no)))) else
 (if pc < 79 then
 (if pc < 74 then
 (if pc = 71 then in_if1 (fun x => 0 ≤ x) 79 74 else in_no) else
 (if pc < 76 then
 (if pc = 74 then in_push (.int (-4)) 76 else in_no) else
 (if pc = 76 then in_go 83 else in_no))) else
 (if pc < 80 then
 (if pc = 79 then in_ald 0 80 else in_no) else
 (if pc < 83 then
 (if pc = 80 then in_get YM 5 33 83 else in_no) else
 (if pc = 83 then in_ri else in_no)))))))
theorem tk_X5_faultOf {l : Launch} {w : ma_Wd} {NC : Nat} {A : Nat → Prop} {S_X5_readLine : ma_Cs} (h_X5_readLine : ma_Sd l w YM NC A yX5_readLine cX5_readLine 6 none rm_X5_readLine S_X5_readLine) {p : Program} {e : Env} {s : State} {m : MethodId} {args : Array Value} {below : List Frame} {meth : Method} {c : Code} (X : ma_Cx p s m args meth c w YM NC A yX5_faultOf.cls cX5_faultOf 2 (some .int)) : ∀ pc, ma_Ok p l e rm_X5_faultOf s m args below meth c w YM NC A 2 pc (tb_X5_faultOf S_X5_readLine pc) := fun pc =>
 (mk_lt
 (mk_lt
 (mk_lt
 (mk_lt
 (mk_lt
 (mk_eq (mk_aload_n X dX5_faultOf_0 rfl rfl))
 (mk_eq (mk_iconst X dX5_faultOf_1 rfl rfl)))
 (mk_lt
 (mk_eq (mk_put X (ci := 5) (j := 32) rfl in_X5 tyX5_ok nmX5 (Nat.le_of_ble_eq_true rfl) rfl rfl q779 dX5_faultOf_2 rfl))
 (mk_lt
 (mk_eq (mk_aload_n X dX5_faultOf_5 rfl rfl))
 (mk_eq (mk_iconst X dX5_faultOf_6 rfl rfl)))))
 (mk_lt
 (mk_lt
 (mk_eq (mk_put X (ci := 5) (j := 33) rfl in_X5 tyX5_ok nmX5 (Nat.le_of_ble_eq_true rfl) rfl rfl q780 dX5_faultOf_7 rfl))
 (mk_eq (mk_aload_n X dX5_faultOf_10 rfl rfl)))
 (mk_lt
 (mk_eq (mk_iconst X dX5_faultOf_11 rfl rfl))
 (mk_lt
 (mk_eq (mk_put X (ci := 5) (j := 34) rfl in_X5 tyX5_ok nmX5 (Nat.le_of_ble_eq_true rfl) rfl rfl q781 dX5_faultOf_12 rfl))
 (mk_eq (mk_aload_n X dX5_faultOf_15 rfl rfl))))))
 (mk_lt
 (mk_lt
 (mk_lt
 (mk_eq (mk_iconst X dX5_faultOf_16 rfl rfl))
 (mk_eq (mk_put X (ci := 5) (j := 8) rfl in_X5 tyX5_ok nmX5 (Nat.le_of_ble_eq_true rfl) rfl rfl q755 dX5_faultOf_17 rfl)))
 (mk_lt
 (mk_eq (mk_iconst X dX5_faultOf_20 rfl rfl))
 (mk_lt
 (mk_eq (mk_istore_n X dX5_faultOf_21 rfl (Nat.le_of_ble_eq_true rfl) rfl))
 (mk_eq (mk_iload_n X dX5_faultOf_22 rfl rfl)))))
 (mk_lt
 (mk_lt
 (mk_eq (mk_bipush X dX5_faultOf_23 rfl rfl))
 (mk_lt
 (mk_eq (mk_icge X dX5_faultOf_25 rfl rfl))
 (mk_eq (mk_aload_n X dX5_faultOf_28 rfl rfl))))
 (mk_lt
 (mk_eq (mk_get X (ci := 5) (j := 10) rfl in_X5 (Nat.le_of_ble_eq_true rfl) q757 dX5_faultOf_29 rfl))
 (mk_lt
 (mk_eq (mk_iload_n X dX5_faultOf_32 rfl rfl))
 (mk_eq (mk_bipush X dX5_faultOf_33 rfl rfl)))))))
 (mk_lt
 (mk_lt
 (mk_lt
 (mk_lt
 (mk_eq (mk_iaw X dX5_faultOf_35 rfl))
 (mk_eq (mk_iinc X dX5_faultOf_36 rfl (Nat.le_of_ble_eq_true rfl) rfl)))
 (mk_lt
 (mk_eq (mk_goto X dX5_faultOf_39 rfl))
 (mk_lt
 (mk_eq (mk_aload_n X dX5_faultOf_42 rfl rfl))
 (mk_eq (mk_get X (ci := 5) (j := 32) rfl in_X5 (Nat.le_of_ble_eq_true rfl) q779 dX5_faultOf_43 rfl)))))
 (mk_lt
 (mk_lt
 (mk_eq (mk_aload_n X dX5_faultOf_46 rfl rfl))
 (mk_lt
 (mk_eq (mk_get X (ci := 5) (j := 5) rfl in_X5 (Nat.le_of_ble_eq_true rfl) q752 dX5_faultOf_47 rfl))
 (mk_eq (mk_icge X dX5_faultOf_50 rfl rfl))))
 (mk_lt
 (mk_eq (mk_aload_n X dX5_faultOf_53 rfl rfl))
 (mk_lt
 (mk_eq (mk_get X (ci := 5) (j := 33) rfl in_X5 (Nat.le_of_ble_eq_true rfl) q780 dX5_faultOf_54 rfl))
 (mk_eq (mk_ifge X dX5_faultOf_57 rfl rfl))))))
 (mk_lt
 (mk_lt
 (mk_lt
 (mk_eq (mk_aload_n X dX5_faultOf_60 rfl rfl))
 (mk_eq (mk_V1 X h_X5_readLine (ci := 5) rfl (lw_V q933 q935 qs32 q66 q936) ⟨rfl, by decide, by decide, rfl⟩ ⟨(Nat.le_of_ble_eq_true rfl), (Nat.le_of_ble_eq_true rfl)⟩ dX5_faultOf_61 rfl)))
 (mk_lt
 (mk_eq (mk_goto X dX5_faultOf_64 rfl))
 (mk_lt
 (mk_eq (mk_aload_n X dX5_faultOf_67 rfl rfl))
 (mk_eq (mk_get X (ci := 5) (j := 33) rfl in_X5 (Nat.le_of_ble_eq_true rfl) q780 dX5_faultOf_68 rfl)))))
 (mk_lt
 (mk_lt
 (mk_eq (mk_ifge X dX5_faultOf_71 rfl rfl))
 (mk_lt
 (mk_eq (mk_bipush X dX5_faultOf_74 rfl rfl))
 (mk_eq (mk_goto X dX5_faultOf_76 rfl))))
 (mk_lt
 (mk_eq (mk_aload_n X dX5_faultOf_79 rfl rfl))
 (mk_lt
 (mk_eq (mk_get X (ci := 5) (j := 33) rfl in_X5 (Nat.le_of_ble_eq_true rfl) q780 dX5_faultOf_80 rfl))
 (mk_eq (mk_ri X dX5_faultOf_83))))))))
theorem sd_X5_faultOf {l : Launch} {w : ma_Wd} {NC : Nat} {A : Nat → Prop} {S_X5_readLine : ma_Cs} (hw : ma_Wo w YM NC A) (h_X5_readLine : ma_Sd l w YM NC A yX5_readLine cX5_readLine 6 none rm_X5_readLine S_X5_readLine) : ma_Sd l w YM NC A yX5_faultOf cX5_faultOf 2 (some .int) rm_X5_faultOf (ma_rn (tb_X5_faultOf S_X5_readLine) 2) := ma_of hw (by decide) ⟨rfl, rfl⟩ (fun X => tk_X5_faultOf h_X5_readLine X)
theorem dX5_readLine_0 : decode cX5_readLine 0 = .ok (.aload_n 0, 1) := by decide +kernel
theorem dX5_readLine_1 : decode cX5_readLine 1 = .ok (.aload_n 0, 1) := by decide +kernel
theorem dX5_readLine_2 : decode cX5_readLine 2 = .ok (.getfield 165, 3) := by decide +kernel
theorem dX5_readLine_5 : decode cX5_readLine 5 = .ok (.invokevirtual 168, 3) := by decide +kernel
theorem dX5_readLine_8 : decode cX5_readLine 8 = .ok (.bipush 97, 2) := by decide +kernel
theorem dX5_readLine_10 : decode cX5_readLine 10 = .ok (.isub, 1) := by decide +kernel
theorem dX5_readLine_11 : decode cX5_readLine 11 = .ok (.istore_n 1, 1) := by decide +kernel
theorem dX5_readLine_12 : decode cX5_readLine 12 = .ok (.iconst 0, 1) := by decide +kernel
theorem dX5_readLine_13 : decode cX5_readLine 13 = .ok (.istore_n 2, 1) := by decide +kernel
theorem dX5_readLine_14 : decode cX5_readLine 14 = .ok (.iconst 0, 1) := by decide +kernel
theorem dX5_readLine_15 : decode cX5_readLine 15 = .ok (.istore_n 3, 1) := by decide +kernel
theorem dX5_readLine_16 : decode cX5_readLine 16 = .ok (.iload_n 3, 1) := by decide +kernel
theorem dX5_readLine_17 : decode cX5_readLine 17 = .ok (.aload_n 0, 1) := by decide +kernel
theorem dX5_readLine_18 : decode cX5_readLine 18 = .ok (.getfield 181, 3) := by decide +kernel
theorem dX5_readLine_21 : decode cX5_readLine 21 = .ok (.if_icmp .ge 31, 3) := by decide +kernel
theorem dX5_readLine_24 : decode cX5_readLine 24 = .ok (.iload_n 2, 1) := by decide +kernel
theorem dX5_readLine_25 : decode cX5_readLine 25 = .ok (.ifCond .ne 15, 3) := by decide +kernel
theorem dX5_readLine_28 : decode cX5_readLine 28 = .ok (.aload_n 0, 1) := by decide +kernel
theorem dX5_readLine_29 : decode cX5_readLine 29 = .ok (.getfield 26, 3) := by decide +kernel
theorem dX5_readLine_32 : decode cX5_readLine 32 = .ok (.iconst 4, 1) := by decide +kernel
theorem dX5_readLine_33 : decode cX5_readLine 33 = .ok (.iload_n 3, 1) := by decide +kernel
theorem dX5_readLine_34 : decode cX5_readLine 34 = .ok (.iadd, 1) := by decide +kernel
theorem dX5_readLine_35 : decode cX5_readLine 35 = .ok (.iaload, 1) := by decide +kernel
theorem dX5_readLine_36 : decode cX5_readLine 36 = .ok (.iload_n 1, 1) := by decide +kernel
theorem dX5_readLine_37 : decode cX5_readLine 37 = .ok (.if_icmp .ne 7, 3) := by decide +kernel
theorem dX5_readLine_40 : decode cX5_readLine 40 = .ok (.iconst 1, 1) := by decide +kernel
theorem dX5_readLine_41 : decode cX5_readLine 41 = .ok (.goto 4, 3) := by decide +kernel
theorem dX5_readLine_44 : decode cX5_readLine 44 = .ok (.iconst 0, 1) := by decide +kernel
theorem dX5_readLine_45 : decode cX5_readLine 45 = .ok (.istore_n 2, 1) := by decide +kernel
theorem dX5_readLine_46 : decode cX5_readLine 46 = .ok (.iinc 3 1, 3) := by decide +kernel
theorem dX5_readLine_49 : decode cX5_readLine 49 = .ok (.goto (-33), 3) := by decide +kernel
theorem dX5_readLine_52 : decode cX5_readLine 52 = .ok (.iload_n 1, 1) := by decide +kernel
theorem dX5_readLine_53 : decode cX5_readLine 53 = .ok (.invokestatic 146, 3) := by decide +kernel
theorem dX5_readLine_56 : decode cX5_readLine 56 = .ok (.ifCond .eq 7, 3) := by decide +kernel
theorem dX5_readLine_59 : decode cX5_readLine 59 = .ok (.iload_n 2, 1) := by decide +kernel
theorem dX5_readLine_60 : decode cX5_readLine 60 = .ok (.ifCond .eq 12, 3) := by decide +kernel
theorem dX5_readLine_63 : decode cX5_readLine 63 = .ok (.aload_n 0, 1) := by decide +kernel
theorem dX5_readLine_64 : decode cX5_readLine 64 = .ok (.aload_n 0, 1) := by decide +kernel
theorem dX5_readLine_65 : decode cX5_readLine 65 = .ok (.getfield 165, 3) := by decide +kernel
theorem dX5_readLine_68 : decode cX5_readLine 68 = .ok (.invokevirtual 177, 3) := by decide +kernel
theorem dX5_readLine_71 : decode cX5_readLine 71 = .ok (.return_, 1) := by decide +kernel
theorem dX5_readLine_72 : decode cX5_readLine 72 = .ok (.aload_n 0, 1) := by decide +kernel
theorem dX5_readLine_73 : decode cX5_readLine 73 = .ok (.dup, 1) := by decide +kernel
theorem dX5_readLine_74 : decode cX5_readLine 74 = .ok (.getfield 165, 3) := by decide +kernel
theorem dX5_readLine_77 : decode cX5_readLine 77 = .ok (.iconst 1, 1) := by decide +kernel
theorem dX5_readLine_78 : decode cX5_readLine 78 = .ok (.iadd, 1) := by decide +kernel
theorem dX5_readLine_79 : decode cX5_readLine 79 = .ok (.putfield 165, 3) := by decide +kernel
theorem dX5_readLine_82 : decode cX5_readLine 82 = .ok (.aload_n 0, 1) := by decide +kernel
theorem dX5_readLine_83 : decode cX5_readLine 83 = .ok (.aload_n 0, 1) := by decide +kernel
theorem dX5_readLine_84 : decode cX5_readLine 84 = .ok (.getfield 165, 3) := by decide +kernel
theorem dX5_readLine_87 : decode cX5_readLine 87 = .ok (.invokevirtual 168, 3) := by decide +kernel
theorem dX5_readLine_90 : decode cX5_readLine 90 = .ok (.bipush 61, 2) := by decide +kernel
theorem dX5_readLine_92 : decode cX5_readLine 92 = .ok (.if_icmp .eq 12, 3) := by decide +kernel
theorem dX5_readLine_95 : decode cX5_readLine 95 = .ok (.aload_n 0, 1) := by decide +kernel
theorem dX5_readLine_96 : decode cX5_readLine 96 = .ok (.aload_n 0, 1) := by decide +kernel
theorem dX5_readLine_97 : decode cX5_readLine 97 = .ok (.getfield 165, 3) := by decide +kernel
theorem dX5_readLine_100 : decode cX5_readLine 100 = .ok (.invokevirtual 177, 3) := by decide +kernel
theorem dX5_readLine_103 : decode cX5_readLine 103 = .ok (.return_, 1) := by decide +kernel
theorem dX5_readLine_104 : decode cX5_readLine 104 = .ok (.aload_n 0, 1) := by decide +kernel
theorem dX5_readLine_105 : decode cX5_readLine 105 = .ok (.dup, 1) := by decide +kernel
theorem dX5_readLine_106 : decode cX5_readLine 106 = .ok (.getfield 165, 3) := by decide +kernel
theorem dX5_readLine_109 : decode cX5_readLine 109 = .ok (.iconst 1, 1) := by decide +kernel
theorem dX5_readLine_110 : decode cX5_readLine 110 = .ok (.iadd, 1) := by decide +kernel
theorem dX5_readLine_111 : decode cX5_readLine 111 = .ok (.putfield 165, 3) := by decide +kernel
theorem dX5_readLine_114 : decode cX5_readLine 114 = .ok (.aload_n 0, 1) := by decide +kernel
theorem dX5_readLine_115 : decode cX5_readLine 115 = .ok (.getfield 187, 3) := by decide +kernel
theorem dX5_readLine_118 : decode cX5_readLine 118 = .ok (.istore_n 3, 1) := by decide +kernel
theorem dX5_readLine_119 : decode cX5_readLine 119 = .ok (.aload_n 0, 1) := by decide +kernel
theorem dX5_readLine_120 : decode cX5_readLine 120 = .ok (.iconst 1, 1) := by decide +kernel
theorem dX5_readLine_121 : decode cX5_readLine 121 = .ok (.invokevirtual 193, 3) := by decide +kernel
theorem dX5_readLine_124 : decode cX5_readLine 124 = .ok (.aload_n 0, 1) := by decide +kernel
theorem dX5_readLine_125 : decode cX5_readLine 125 = .ok (.getfield 162, 3) := by decide +kernel
theorem dX5_readLine_128 : decode cX5_readLine 128 = .ok (.ifCond .ge 37, 3) := by decide +kernel
theorem dX5_readLine_131 : decode cX5_readLine 131 = .ok (.aload_n 0, 1) := by decide +kernel
theorem dX5_readLine_132 : decode cX5_readLine 132 = .ok (.aload_n 0, 1) := by decide +kernel
theorem dX5_readLine_133 : decode cX5_readLine 133 = .ok (.getfield 165, 3) := by decide +kernel
theorem dX5_readLine_136 : decode cX5_readLine 136 = .ok (.invokevirtual 168, 3) := by decide +kernel
theorem dX5_readLine_139 : decode cX5_readLine 139 = .ok (.bipush 43, 2) := by decide +kernel
theorem dX5_readLine_141 : decode cX5_readLine 141 = .ok (.if_icmp .eq 16, 3) := by decide +kernel
theorem dX5_readLine_144 : decode cX5_readLine 144 = .ok (.aload_n 0, 1) := by decide +kernel
theorem dX5_readLine_145 : decode cX5_readLine 145 = .ok (.aload_n 0, 1) := by decide +kernel
theorem dX5_readLine_146 : decode cX5_readLine 146 = .ok (.getfield 165, 3) := by decide +kernel
theorem dX5_readLine_149 : decode cX5_readLine 149 = .ok (.invokevirtual 168, 3) := by decide +kernel
theorem dX5_readLine_152 : decode cX5_readLine 152 = .ok (.bipush 45, 2) := by decide +kernel
theorem dX5_readLine_154 : decode cX5_readLine 154 = .ok (.if_icmp .ne 11, 3) := by decide +kernel
theorem dX5_readLine_157 : decode cX5_readLine 157 = .ok (.aload_n 0, 1) := by decide +kernel
theorem dX5_readLine_158 : decode cX5_readLine 158 = .ok (.iconst 0, 1) := by decide +kernel
theorem dX5_readLine_159 : decode cX5_readLine 159 = .ok (.invokevirtual 193, 3) := by decide +kernel
theorem dX5_readLine_162 : decode cX5_readLine 162 = .ok (.goto (-38), 3) := by decide +kernel
theorem dX5_readLine_165 : decode cX5_readLine 165 = .ok (.iconst 1, 1) := by decide +kernel
theorem dX5_readLine_166 : decode cX5_readLine 166 = .ok (.istore 4, 2) := by decide +kernel
theorem dX5_readLine_168 : decode cX5_readLine 168 = .ok (.aload_n 0, 1) := by decide +kernel
theorem dX5_readLine_169 : decode cX5_readLine 169 = .ok (.getfield 162, 3) := by decide +kernel
theorem dX5_readLine_172 : decode cX5_readLine 172 = .ok (.ifCond .ge 58, 3) := by decide +kernel
theorem dX5_readLine_175 : decode cX5_readLine 175 = .ok (.aload_n 0, 1) := by decide +kernel
theorem dX5_readLine_176 : decode cX5_readLine 176 = .ok (.aload_n 0, 1) := by decide +kernel
theorem dX5_readLine_177 : decode cX5_readLine 177 = .ok (.getfield 165, 3) := by decide +kernel
theorem dX5_readLine_180 : decode cX5_readLine 180 = .ok (.invokevirtual 168, 3) := by decide +kernel
theorem dX5_readLine_183 : decode cX5_readLine 183 = .ok (.bipush 47, 2) := by decide +kernel
theorem dX5_readLine_185 : decode cX5_readLine 185 = .ok (.if_icmp .ne 45, 3) := by decide +kernel
theorem dX5_readLine_188 : decode cX5_readLine 188 = .ok (.aload_n 0, 1) := by decide +kernel
theorem dX5_readLine_189 : decode cX5_readLine 189 = .ok (.dup, 1) := by decide +kernel
theorem dX5_readLine_190 : decode cX5_readLine 190 = .ok (.getfield 165, 3) := by decide +kernel
theorem dX5_readLine_193 : decode cX5_readLine 193 = .ok (.iconst 1, 1) := by decide +kernel
theorem dX5_readLine_194 : decode cX5_readLine 194 = .ok (.iadd, 1) := by decide +kernel
theorem dX5_readLine_195 : decode cX5_readLine 195 = .ok (.putfield 165, 3) := by decide +kernel
theorem dX5_readLine_198 : decode cX5_readLine 198 = .ok (.aload_n 0, 1) := by decide +kernel
theorem dX5_readLine_199 : decode cX5_readLine 199 = .ok (.getfield 165, 3) := by decide +kernel
theorem dX5_readLine_202 : decode cX5_readLine 202 = .ok (.istore 5, 2) := by decide +kernel
theorem dX5_readLine_204 : decode cX5_readLine 204 = .ok (.aload_n 0, 1) := by decide +kernel
theorem dX5_readLine_205 : decode cX5_readLine 205 = .ok (.sipush 1000, 3) := by decide +kernel
theorem dX5_readLine_208 : decode cX5_readLine 208 = .ok (.invokevirtual 184, 3) := by decide +kernel
theorem dX5_readLine_211 : decode cX5_readLine 211 = .ok (.istore 4, 2) := by decide +kernel
theorem dX5_readLine_213 : decode cX5_readLine 213 = .ok (.aload_n 0, 1) := by decide +kernel
theorem dX5_readLine_214 : decode cX5_readLine 214 = .ok (.getfield 165, 3) := by decide +kernel
theorem dX5_readLine_217 : decode cX5_readLine 217 = .ok (.iload 5, 2) := by decide +kernel
theorem dX5_readLine_219 : decode cX5_readLine 219 = .ok (.if_icmp .ne 11, 3) := by decide +kernel
theorem dX5_readLine_222 : decode cX5_readLine 222 = .ok (.aload_n 0, 1) := by decide +kernel
theorem dX5_readLine_223 : decode cX5_readLine 223 = .ok (.aload_n 0, 1) := by decide +kernel
theorem dX5_readLine_224 : decode cX5_readLine 224 = .ok (.getfield 165, 3) := by decide +kernel
theorem dX5_readLine_227 : decode cX5_readLine 227 = .ok (.invokevirtual 177, 3) := by decide +kernel
theorem dX5_readLine_230 : decode cX5_readLine 230 = .ok (.iconst 0, 1) := by decide +kernel
theorem dX5_readLine_231 : decode cX5_readLine 231 = .ok (.istore 5, 2) := by decide +kernel
theorem dX5_readLine_233 : decode cX5_readLine 233 = .ok (.aload_n 0, 1) := by decide +kernel
theorem dX5_readLine_234 : decode cX5_readLine 234 = .ok (.getfield 162, 3) := by decide +kernel
theorem dX5_readLine_237 : decode cX5_readLine 237 = .ok (.ifCond .ge 29, 3) := by decide +kernel
theorem dX5_readLine_240 : decode cX5_readLine 240 = .ok (.aload_n 0, 1) := by decide +kernel
theorem dX5_readLine_241 : decode cX5_readLine 241 = .ok (.aload_n 0, 1) := by decide +kernel
theorem dX5_readLine_242 : decode cX5_readLine 242 = .ok (.getfield 165, 3) := by decide +kernel
theorem dX5_readLine_245 : decode cX5_readLine 245 = .ok (.invokevirtual 168, 3) := by decide +kernel
theorem dX5_readLine_248 : decode cX5_readLine 248 = .ok (.bipush 126, 2) := by decide +kernel
theorem dX5_readLine_250 : decode cX5_readLine 250 = .ok (.if_icmp .ne 16, 3) := by decide +kernel
theorem dX5_readLine_253 : decode cX5_readLine 253 = .ok (.iconst 1, 1) := by decide +kernel
theorem dX5_readLine_254 : decode cX5_readLine 254 = .ok (.istore 5, 2) := by decide +kernel
theorem dX5_readLine_256 : decode cX5_readLine 256 = .ok (.aload_n 0, 1) := by decide +kernel
theorem dX5_readLine_257 : decode cX5_readLine 257 = .ok (.dup, 1) := by decide +kernel
theorem dX5_readLine_258 : decode cX5_readLine 258 = .ok (.getfield 165, 3) := by decide +kernel
theorem dX5_readLine_261 : decode cX5_readLine 261 = .ok (.iconst 1, 1) := by decide +kernel
theorem dX5_readLine_262 : decode cX5_readLine 262 = .ok (.iadd, 1) := by decide +kernel
theorem dX5_readLine_263 : decode cX5_readLine 263 = .ok (.putfield 165, 3) := by decide +kernel
theorem dX5_readLine_266 : decode cX5_readLine 266 = .ok (.aload_n 0, 1) := by decide +kernel
theorem dX5_readLine_267 : decode cX5_readLine 267 = .ok (.getfield 162, 3) := by decide +kernel
theorem dX5_readLine_270 : decode cX5_readLine 270 = .ok (.ifCond .ge 24, 3) := by decide +kernel
theorem dX5_readLine_273 : decode cX5_readLine 273 = .ok (.aload_n 0, 1) := by decide +kernel
theorem dX5_readLine_274 : decode cX5_readLine 274 = .ok (.aload_n 0, 1) := by decide +kernel
theorem dX5_readLine_275 : decode cX5_readLine 275 = .ok (.getfield 165, 3) := by decide +kernel
theorem dX5_readLine_278 : decode cX5_readLine 278 = .ok (.invokevirtual 168, 3) := by decide +kernel
theorem dX5_readLine_281 : decode cX5_readLine 281 = .ok (.bipush 59, 2) := by decide +kernel
theorem dX5_readLine_283 : decode cX5_readLine 283 = .ok (.if_icmp .eq 11, 3) := by decide +kernel
theorem dX5_readLine_286 : decode cX5_readLine 286 = .ok (.aload_n 0, 1) := by decide +kernel
theorem dX5_readLine_287 : decode cX5_readLine 287 = .ok (.aload_n 0, 1) := by decide +kernel
theorem dX5_readLine_288 : decode cX5_readLine 288 = .ok (.getfield 165, 3) := by decide +kernel
theorem dX5_readLine_291 : decode cX5_readLine 291 = .ok (.invokevirtual 177, 3) := by decide +kernel
theorem dX5_readLine_294 : decode cX5_readLine 294 = .ok (.aload_n 0, 1) := by decide +kernel
theorem dX5_readLine_295 : decode cX5_readLine 295 = .ok (.dup, 1) := by decide +kernel
theorem dX5_readLine_296 : decode cX5_readLine 296 = .ok (.getfield 165, 3) := by decide +kernel
theorem dX5_readLine_299 : decode cX5_readLine 299 = .ok (.iconst 1, 1) := by decide +kernel
theorem dX5_readLine_300 : decode cX5_readLine 300 = .ok (.iadd, 1) := by decide +kernel
theorem dX5_readLine_301 : decode cX5_readLine 301 = .ok (.putfield 165, 3) := by decide +kernel
theorem dX5_readLine_304 : decode cX5_readLine 304 = .ok (.aload_n 0, 1) := by decide +kernel
theorem dX5_readLine_305 : decode cX5_readLine 305 = .ok (.getfield 162, 3) := by decide +kernel
theorem dX5_readLine_308 : decode cX5_readLine 308 = .ok (.ifCond .ge 80, 3) := by decide +kernel
theorem dX5_readLine_311 : decode cX5_readLine 311 = .ok (.aload_n 0, 1) := by decide +kernel
theorem dX5_readLine_312 : decode cX5_readLine 312 = .ok (.getfield 26, 3) := by decide +kernel
theorem dX5_readLine_315 : decode cX5_readLine 315 = .ok (.iconst 4, 1) := by decide +kernel
theorem dX5_readLine_316 : decode cX5_readLine 316 = .ok (.aload_n 0, 1) := by decide +kernel
theorem dX5_readLine_317 : decode cX5_readLine 317 = .ok (.getfield 181, 3) := by decide +kernel
theorem dX5_readLine_320 : decode cX5_readLine 320 = .ok (.iadd, 1) := by decide +kernel
theorem dX5_readLine_321 : decode cX5_readLine 321 = .ok (.iload_n 1, 1) := by decide +kernel
theorem dX5_readLine_322 : decode cX5_readLine 322 = .ok (.iastore, 1) := by decide +kernel
theorem dX5_readLine_323 : decode cX5_readLine 323 = .ok (.aload_n 0, 1) := by decide +kernel
theorem dX5_readLine_324 : decode cX5_readLine 324 = .ok (.getfield 29, 3) := by decide +kernel
theorem dX5_readLine_327 : decode cX5_readLine 327 = .ok (.iconst 4, 1) := by decide +kernel
theorem dX5_readLine_328 : decode cX5_readLine 328 = .ok (.iload_n 1, 1) := by decide +kernel
theorem dX5_readLine_329 : decode cX5_readLine 329 = .ok (.iadd, 1) := by decide +kernel
theorem dX5_readLine_330 : decode cX5_readLine 330 = .ok (.aload_n 0, 1) := by decide +kernel
theorem dX5_readLine_331 : decode cX5_readLine 331 = .ok (.getfield 181, 3) := by decide +kernel
theorem dX5_readLine_334 : decode cX5_readLine 334 = .ok (.iastore, 1) := by decide +kernel
theorem dX5_readLine_335 : decode cX5_readLine 335 = .ok (.aload_n 0, 1) := by decide +kernel
theorem dX5_readLine_336 : decode cX5_readLine 336 = .ok (.getfield 32, 3) := by decide +kernel
theorem dX5_readLine_339 : decode cX5_readLine 339 = .ok (.iconst 4, 1) := by decide +kernel
theorem dX5_readLine_340 : decode cX5_readLine 340 = .ok (.iload_n 1, 1) := by decide +kernel
theorem dX5_readLine_341 : decode cX5_readLine 341 = .ok (.iadd, 1) := by decide +kernel
theorem dX5_readLine_342 : decode cX5_readLine 342 = .ok (.iload_n 3, 1) := by decide +kernel
theorem dX5_readLine_343 : decode cX5_readLine 343 = .ok (.iastore, 1) := by decide +kernel
theorem dX5_readLine_344 : decode cX5_readLine 344 = .ok (.aload_n 0, 1) := by decide +kernel
theorem dX5_readLine_345 : decode cX5_readLine 345 = .ok (.getfield 35, 3) := by decide +kernel
theorem dX5_readLine_348 : decode cX5_readLine 348 = .ok (.iconst 4, 1) := by decide +kernel
theorem dX5_readLine_349 : decode cX5_readLine 349 = .ok (.iload_n 1, 1) := by decide +kernel
theorem dX5_readLine_350 : decode cX5_readLine 350 = .ok (.iadd, 1) := by decide +kernel
theorem dX5_readLine_351 : decode cX5_readLine 351 = .ok (.aload_n 0, 1) := by decide +kernel
theorem dX5_readLine_352 : decode cX5_readLine 352 = .ok (.getfield 187, 3) := by decide +kernel
theorem dX5_readLine_355 : decode cX5_readLine 355 = .ok (.iload_n 3, 1) := by decide +kernel
theorem dX5_readLine_356 : decode cX5_readLine 356 = .ok (.isub, 1) := by decide +kernel
theorem dX5_readLine_357 : decode cX5_readLine 357 = .ok (.iastore, 1) := by decide +kernel
theorem dX5_readLine_358 : decode cX5_readLine 358 = .ok (.aload_n 0, 1) := by decide +kernel
theorem dX5_readLine_359 : decode cX5_readLine 359 = .ok (.getfield 38, 3) := by decide +kernel
theorem dX5_readLine_362 : decode cX5_readLine 362 = .ok (.iconst 4, 1) := by decide +kernel
theorem dX5_readLine_363 : decode cX5_readLine 363 = .ok (.iload_n 1, 1) := by decide +kernel
theorem dX5_readLine_364 : decode cX5_readLine 364 = .ok (.iadd, 1) := by decide +kernel
theorem dX5_readLine_365 : decode cX5_readLine 365 = .ok (.iload 4, 2) := by decide +kernel
theorem dX5_readLine_367 : decode cX5_readLine 367 = .ok (.iastore, 1) := by decide +kernel
theorem dX5_readLine_368 : decode cX5_readLine 368 = .ok (.aload_n 0, 1) := by decide +kernel
theorem dX5_readLine_369 : decode cX5_readLine 369 = .ok (.getfield 41, 3) := by decide +kernel
theorem dX5_readLine_372 : decode cX5_readLine 372 = .ok (.iconst 4, 1) := by decide +kernel
theorem dX5_readLine_373 : decode cX5_readLine 373 = .ok (.iload_n 1, 1) := by decide +kernel
theorem dX5_readLine_374 : decode cX5_readLine 374 = .ok (.iadd, 1) := by decide +kernel
theorem dX5_readLine_375 : decode cX5_readLine 375 = .ok (.iload 5, 2) := by decide +kernel
theorem dX5_readLine_377 : decode cX5_readLine 377 = .ok (.iastore, 1) := by decide +kernel
theorem dX5_readLine_378 : decode cX5_readLine 378 = .ok (.aload_n 0, 1) := by decide +kernel
theorem dX5_readLine_379 : decode cX5_readLine 379 = .ok (.dup, 1) := by decide +kernel
theorem dX5_readLine_380 : decode cX5_readLine 380 = .ok (.getfield 181, 3) := by decide +kernel
theorem dX5_readLine_383 : decode cX5_readLine 383 = .ok (.iconst 1, 1) := by decide +kernel
theorem dX5_readLine_384 : decode cX5_readLine 384 = .ok (.iadd, 1) := by decide +kernel
theorem dX5_readLine_385 : decode cX5_readLine 385 = .ok (.putfield 181, 3) := by decide +kernel
theorem dX5_readLine_388 : decode cX5_readLine 388 = .ok (.return_, 1) := by decide +kernel
def tb_X5_readLine (S_X5_byteAt S_X5_isLetter S_X5_fails S_X5_term S_X5_number : ma_Cs) : Nat → ma_In := fun pc =>
 (if pc < 202 then
 (if pc < 96 then
 (if pc < 44 then
 (if pc < 18 then
 (if pc < 11 then
 (if pc < 5 then
 (if pc < 1 then
 (if pc = 0 then in_ald 0 1 else in_no) else
 (if pc < 2 then
 (if pc = 1 then in_ald 0 2 else in_no) else
 (if pc = 2 then in_get YM 5 32 5 else in_no))) else
 (if pc < 8 then
 (if pc = 5 then in_v2 YM 5 S_X5_byteAt 8 else in_no) else
 (if pc < 10 then
 (if pc = 8 then in_push (.int 97) 10 else in_no) else
 (if pc = 10 then in_iii (fun x y => x - y) 11 else in_no)))) else
 (if pc < 14 then
 (if pc < 12 then
 (if pc = 11 then in_ist 1 12 else in_no) else
 (if pc < 13 then
 (if pc = 12 then in_push (.int 0) 13 else in_no) else
 (if pc = 13 then in_ist 2 14 else in_no))) else
 (if pc < 16 then
 (if pc < 15 then
 (if pc = 14 then in_push (.int 0) 15 else in_no) else
 (if pc = 15 then in_ist 3 16 else in_no)) else
 (if pc < 17 then
 (if pc = 16 then in_ild 3 17 else in_no) else
 (if pc = 17 then in_ald 0 18 else in_no))))) else
 (if pc < 33 then
 (if pc < 25 then
 (if pc < 21 then
 (if pc = 18 then in_get YM 5 8 21 else in_no) else
 (if pc < 24 then
 (if pc = 21 then in_if2 (fun x y => y ≤ x) 52 24 else in_no) else
 (if pc = 24 then in_ild 2 25 else in_no))) else
 (if pc < 29 then
 (if pc < 28 then
 (if pc = 25 then in_if1 (fun x => x = 0) 28 40 else in_no) else
 (if pc = 28 then in_ald 0 29 else in_no)) else
 (if pc < 32 then
 (if pc = 29 then in_get YM 5 9 32 else in_no) else
 (if pc = 32 then in_push (.int 4) 33 else in_no)))) else
 (if pc < 36 then
 (if pc < 34 then
 (if pc = 33 then in_ild 3 34 else in_no) else
 (if pc < 35 then
 (if pc = 34 then in_iii (fun x y => x + y) 35 else in_no) else
 (if pc = 35 then in_iar YM 36 else in_no))) else
 (if pc < 40 then
 (if pc < 37 then
 (if pc = 36 then in_ild 1 37 else in_no) else
 (if pc = 37 then in_if2 (fun x y => x = y) 40 44 else in_no)) else
 (if pc < 41 then
 (if pc = 40 then in_push (.int 1) 41 else in_no) else
 (if pc = 41 then in_go 45 else in_no)))))) else
 (if pc < 71 then
 (if pc < 56 then
 (if pc < 49 then
 (if pc < 45 then
 (if pc = 44 then in_push (.int 0) 45 else in_no) else
 (if pc < 46 then
 (if pc = 45 then in_ist 2 46 else in_no) else
 (if pc = 46 then in_inc 3 1 49 else in_no))) else
 (if pc < 52 then
 (if pc = 49 then in_go 16 else in_no) else
 (if pc < 53 then
 (if pc = 52 then in_ild 1 53 else in_no) else
 (if pc = 53 then in_s1 S_X5_isLetter 56 else in_no)))) else
 (if pc < 63 then
 (if pc < 59 then
 (if pc = 56 then in_if1 (fun x => x = 0) 63 59 else in_no) else
 (if pc < 60 then
 (if pc = 59 then in_ild 2 60 else in_no) else
 (if pc = 60 then in_if1 (fun x => x = 0) 72 63 else in_no))) else
 (if pc < 65 then
 (if pc < 64 then
 (if pc = 63 then in_ald 0 64 else in_no) else
 (if pc = 64 then in_ald 0 65 else in_no)) else
 (if pc < 68 then
 (if pc = 65 then in_get YM 5 32 68 else in_no) else
 (if pc = 68 then in_v2 YM 5 S_X5_fails 71 else in_no))))) else
 (if pc < 82 then
 (if pc < 74 then
 (if pc < 72 then
 (if pc = 71 then in_rv else in_no) else
 (if pc < 73 then
 (if pc = 72 then in_ald 0 73 else in_no) else
 (if pc = 73 then in_dup 74 else in_no))) else
 (if pc < 78 then
 (if pc < 77 then
 (if pc = 74 then in_get YM 5 32 77 else in_no) else
 (if pc = 77 then in_push (.int 1) 78 else in_no)) else
 (if pc < 79 then
 (if pc = 78 then in_iii (fun x y => x + y) 79 else in_no) else
 (if pc = 79 then in_put YM 5 32 82 else in_no)))) else
 (if pc < 87 then
 (if pc < 83 then
 (if pc = 82 then in_ald 0 83 else in_no) else
 (if pc < 84 then
 (if pc = 83 then in_ald 0 84 else in_no) else
 (if pc = 84 then in_get YM 5 32 87 else in_no))) else
 (if pc < 92 then
 (if pc < 90 then
 (if pc = 87 then in_v2 YM 5 S_X5_byteAt 90 else in_no) else
 (if pc = 90 then in_push (.int 61) 92 else in_no)) else
 (if pc < 95 then
 (if pc = 92 then in_if2 (fun x y => x = y) 104 95 else in_no) else
 (if pc = 95 then in_ald 0 96 else in_no))))))) else
 (if pc < 146 then
 (if pc < 119 then
 (if pc < 106 then
 (if pc < 103 then
 (if pc < 97 then
 (if pc = 96 then in_ald 0 97 else in_no) else
 (if pc < 100 then
 (if pc = 97 then in_get YM 5 32 100 else in_no) else
 (if pc = 100 then in_v2 YM 5 S_X5_fails 103 else in_no))) else
 (if pc < 104 then
 (if pc = 103 then in_rv else in_no) else
 (if pc < 105 then
 (if pc = 104 then in_ald 0 105 else in_no) else
 (if pc = 105 then in_dup 106 else in_no)))) else
 (if pc < 111 then
 (if pc < 109 then
 (if pc = 106 then in_get YM 5 32 109 else in_no) else
 (if pc < 110 then
 (if pc = 109 then in_push (.int 1) 110 else in_no) else
 (if pc = 110 then in_iii (fun x y => x + y) 111 else in_no))) else
 (if pc < 115 then
 (if pc < 114 then
 (if pc = 111 then in_put YM 5 32 114 else in_no) else
 (if pc = 114 then in_ald 0 115 else in_no)) else
 (if pc < 118 then
 (if pc = 115 then in_get YM 5 34 118 else in_no) else
 (if pc = 118 then in_ist 3 119 else in_no))))) else
 (if pc < 132 then
 (if pc < 124 then
 (if pc < 120 then
 (if pc = 119 then in_ald 0 120 else in_no) else
 (if pc < 121 then
 (if pc = 120 then in_push (.int 1) 121 else in_no) else
 (if pc = 121 then in_v2 YM 5 S_X5_term 124 else in_no))) else
 (if pc < 128 then
 (if pc < 125 then
 (if pc = 124 then in_ald 0 125 else in_no) else
 (if pc = 125 then in_get YM 5 33 128 else in_no)) else
 (if pc < 131 then
 (if pc = 128 then in_if1 (fun x => 0 ≤ x) 165 131 else in_no) else
 (if pc = 131 then in_ald 0 132 else in_no)))) else
 (if pc < 139 then
 (if pc < 133 then
 (if pc = 132 then in_ald 0 133 else in_no) else
 (if pc < 136 then
 (if pc = 133 then in_get YM 5 32 136 else in_no) else
 (if pc = 136 then in_v2 YM 5 S_X5_byteAt 139 else in_no))) else
 (if pc < 144 then
 (if pc < 141 then
 (if pc = 139 then in_push (.int 43) 141 else in_no) else
 (if pc = 141 then in_if2 (fun x y => x = y) 157 144 else in_no)) else
 (if pc < 145 then
 (if pc = 144 then in_ald 0 145 else in_no) else
 (if pc = 145 then in_ald 0 146 else in_no)))))) else
 (if pc < 175 then
 (if pc < 159 then
 (if pc < 154 then
 (if pc < 149 then
 (if pc = 146 then in_get YM 5 32 149 else in_no) else
 (if pc < 152 then
 (if pc = 149 then in_v2 YM 5 S_X5_byteAt 152 else in_no) else
 (if pc = 152 then in_push (.int 45) 154 else in_no))) else
 (if pc < 157 then
 (if pc = 154 then in_if2 (fun x y => x = y) 157 165 else in_no) else
 (if pc < 158 then
 (if pc = 157 then in_ald 0 158 else in_no) else
 (if pc = 158 then in_push (.int 0) 159 else in_no)))) else
 (if pc < 166 then
 (if pc < 162 then
 (if pc = 159 then in_v2 YM 5 S_X5_term 162 else in_no) else
 (if pc < 165 then
 (if pc = 162 then in_go 124 else in_no) else
 (if pc = 165 then in_push (.int 1) 166 else in_no))) else
 (if pc < 169 then
 (if pc < 168 then
 (if pc = 166 then in_ist 4 168 else in_no) else
 (if pc = 168 then in_ald 0 169 else in_no)) else
 (if pc < 172 then
 (if pc = 169 then in_get YM 5 33 172 else in_no) else
 (if pc = 172 then in_if1 (fun x => 0 ≤ x) 230 175 else in_no))))) else
 (if pc < 189 then
 (if pc < 180 then
 (if pc < 176 then
 (if pc = 175 then in_ald 0 176 else in_no) else
 (if pc < 177 then
 (if pc = 176 then in_ald 0 177 else in_no) else
 (if pc = 177 then in_get YM 5 32 180 else in_no))) else
 (if pc < 185 then
 (if pc < 183 then
 (if pc = 180 then in_v2 YM 5 S_X5_byteAt 183 else in_no) else
 (if pc = 183 then in_push (.int 47) 185 else in_no)) else
 (if pc < 188 then
 (if pc = 185 then in_if2 (fun x y => x = y) 188 230 else in_no) else
 (if pc = 188 then in_ald 0 189 else in_no)))) else
 (if pc < 194 then
 (if pc < 190 then
 (if pc = 189 then in_dup 190 else in_no) else
 (if pc < 193 then
 (if pc = 190 then in_get YM 5 32 193 else in_no) else
 (if pc = 193 then in_push (.int 1) 194 else in_no))) else
 (if pc < 198 then
 (if pc < 195 then
 (if pc = 194 then in_iii (fun x y => x + y) 195 else in_no) else
 (if pc = 195 then in_put YM 5 32 198 else in_no)) else
 (if pc < 199 then
 (if pc = 198 then in_ald 0 199 else in_no) else
 (if pc = 199 then in_get YM 5 32 202 else in_no)))))))) else
 (if pc < 311 then
 (if pc < 257 then
 (if pc < 230 then
 (if pc < 214 then
 (if pc < 208 then
 (if pc < 204 then
 (if pc = 202 then in_ist 5 204 else in_no) else
 (if pc < 205 then
 (if pc = 204 then in_ald 0 205 else in_no) else
 (if pc = 205 then in_push (.int 1000) 208 else in_no))) else
 (if pc < 211 then
 (if pc = 208 then in_v2 YM 5 S_X5_number 211 else in_no) else
 (if pc < 213 then
 (if pc = 211 then in_ist 4 213 else in_no) else
 (if pc = 213 then in_ald 0 214 else in_no)))) else
 (if pc < 222 then
 (if pc < 217 then
 (if pc = 214 then in_get YM 5 32 217 else in_no) else
 (if pc < 219 then
 (if pc = 217 then in_ild 5 219 else in_no) else
 (if pc = 219 then in_if2 (fun x y => x = y) 222 230 else in_no))) else
 (if pc < 224 then
 (if pc < 223 then
 (if pc = 222 then in_ald 0 223 else in_no) else
 (if pc = 223 then in_ald 0 224 else in_no)) else
 (if pc < 227 then
 (if pc = 224 then in_get YM 5 32 227 else in_no) else
 (if pc = 227 then in_v2 YM 5 S_X5_fails 230 else in_no))))) else
 (if pc < 242 then
 (if pc < 234 then
 (if pc < 231 then
 (if pc = 230 then in_push (.int 0) 231 else in_no) else
 (if pc < 233 then
 (if pc = 231 then in_ist 5 233 else in_no) else
 (if pc = 233 then in_ald 0 234 else in_no))) else
 (if pc < 240 then
 (if pc < 237 then
 (if pc = 234 then in_get YM 5 33 237 else in_no) else
 (if pc = 237 then in_if1 (fun x => 0 ≤ x) 266 240 else in_no)) else
 (if pc < 241 then
 (if pc = 240 then in_ald 0 241 else in_no) else
 (if pc = 241 then in_ald 0 242 else in_no)))) else
 (if pc < 250 then
 (if pc < 245 then
 (if pc = 242 then in_get YM 5 32 245 else in_no) else
 (if pc < 248 then
 (if pc = 245 then in_v2 YM 5 S_X5_byteAt 248 else in_no) else
 (if pc = 248 then in_push (.int 126) 250 else in_no))) else
 (if pc < 254 then
 (if pc < 253 then
 (if pc = 250 then in_if2 (fun x y => x = y) 253 266 else in_no) else
 (if pc = 253 then in_push (.int 1) 254 else in_no)) else
 (if pc < 256 then
 (if pc = 254 then in_ist 5 256 else in_no) else
 (if pc = 256 then in_ald 0 257 else in_no)))))) else
 (if pc < 283 then
 (if pc < 267 then
 (if pc < 262 then
 (if pc < 258 then
 (if pc = 257 then in_dup 258 else in_no) else
 (if pc < 261 then
 (if pc = 258 then in_get YM 5 32 261 else in_no) else
 (if pc = 261 then in_push (.int 1) 262 else in_no))) else
 (if pc < 263 then
 (if pc = 262 then in_iii (fun x y => x + y) 263 else in_no) else
 (if pc < 266 then
 (if pc = 263 then in_put YM 5 32 266 else in_no) else
 (if pc = 266 then in_ald 0 267 else in_no)))) else
 (if pc < 274 then
 (if pc < 270 then
 (if pc = 267 then in_get YM 5 33 270 else in_no) else
 (if pc < 273 then
 (if pc = 270 then in_if1 (fun x => 0 ≤ x) 294 273 else in_no) else
 (if pc = 273 then in_ald 0 274 else in_no))) else
 (if pc < 278 then
 (if pc < 275 then
 (if pc = 274 then in_ald 0 275 else in_no) else
 (if pc = 275 then in_get YM 5 32 278 else in_no)) else
 (if pc < 281 then
 (if pc = 278 then in_v2 YM 5 S_X5_byteAt 281 else in_no) else
 (if pc = 281 then in_push (.int 59) 283 else in_no))))) else
 (if pc < 296 then
 (if pc < 288 then
 (if pc < 286 then
 (if pc = 283 then in_if2 (fun x y => x = y) 294 286 else in_no) else
 (if pc < 287 then
 (if pc = 286 then in_ald 0 287 else in_no) else
 (if pc = 287 then in_ald 0 288 else in_no))) else
 (if pc < 294 then
 (if pc < 291 then
 (if pc = 288 then in_get YM 5 32 291 else in_no) else
 (if pc = 291 then in_v2 YM 5 S_X5_fails 294 else in_no)) else
 (if pc < 295 then
 (if pc = 294 then in_ald 0 295 else in_no) else
 (if pc = 295 then in_dup 296 else in_no)))) else
 (if pc < 301 then
 (if pc < 299 then
 (if pc = 296 then in_get YM 5 32 299 else in_no) else
 (if pc < 300 then
 (if pc = 299 then in_push (.int 1) 300 else in_no) else
 (if pc = 300 then in_iii (fun x y => x + y) 301 else in_no))) else
 (if pc < 305 then
 (if pc < 304 then
 (if pc = 301 then in_put YM 5 32 304 else in_no) else
 (if pc = 304 then in_ald 0 305 else in_no)) else
 (if pc < 308 then
 (if pc = 305 then in_get YM 5 33 308 else in_no) else
 (if pc = 308 then in_if1 (fun x => 0 ≤ x) 388 311 else in_no))))))) else
 (if pc < 350 then
 (if pc < 330 then
 (if pc < 321 then
 (if pc < 316 then
 (if pc < 312 then
 (if pc = 311 then in_ald 0 312 else in_no) else
 (if pc < 315 then
 (if pc = 312 then in_get YM 5 9 315 else in_no) else
 (if pc = 315 then in_push (.int 4) 316 else in_no))) else
 (if pc < 317 then
 (if pc = 316 then in_ald 0 317 else in_no) else
 (if pc < 320 then
 (if pc = 317 then in_get YM 5 8 320 else in_no) else
 (if pc = 320 then in_iii (fun x y => x + y) 321 else in_no)))) else
 (if pc < 324 then
 (if pc < 322 then
 (if pc = 321 then in_ild 1 322 else in_no) else
 (if pc < 323 then
 (if pc = 322 then in_iaw YM 323 else in_no) else
 (if pc = 323 then in_ald 0 324 else in_no))) else
 (if pc < 328 then
 (if pc < 327 then
 (if pc = 324 then in_get YM 5 10 327 else in_no) else
 (if pc = 327 then in_push (.int 4) 328 else in_no)) else
 (if pc < 329 then
 (if pc = 328 then in_ild 1 329 else in_no) else
 (if pc = 329 then in_iii (fun x y => x + y) 330 else in_no))))) else
 (if pc < 341 then
 (if pc < 335 then
 (if pc < 331 then
 (if pc = 330 then in_ald 0 331 else in_no) else
 (if pc < 334 then
 (if pc = 331 then in_get YM 5 8 334 else in_no) else
 (if pc = 334 then in_iaw YM 335 else in_no))) else
 (if pc < 339 then
 (if pc < 336 then
 (if pc = 335 then in_ald 0 336 else in_no) else
 (if pc = 336 then in_get YM 5 11 339 else in_no)) else
 (if pc < 340 then
 (if pc = 339 then in_push (.int 4) 340 else in_no) else
 (if pc = 340 then in_ild 1 341 else in_no)))) else
 (if pc < 344 then
 (if pc < 342 then
 (if pc = 341 then in_iii (fun x y => x + y) 342 else in_no) else
 (if pc < 343 then
 (if pc = 342 then in_ild 3 343 else in_no) else
 (if pc = 343 then in_iaw YM 344 else in_no))) else
 (if pc < 348 then
 (if pc < 345 then
 (if pc = 344 then in_ald 0 345 else in_no) else
 (if pc = 345 then in_get YM 5 12 348 else in_no)) else
 (if pc < 349 then
 (if pc = 348 then in_push (.int 4) 349 else in_no) else
 (if pc = 349 then in_ild 1 350 else in_no)))))) else
 (if pc < 368 then
 (if pc < 358 then
 (if pc < 355 then
 (if pc < 351 then
 (if pc = 350 then in_iii (fun x y => x + y) 351 else in_no) else
 (if pc < 352 then
 (if pc = 351 then in_ald 0 352 else in_no) else
 (if pc = 352 then in_get YM 5 34 355 else in_no))) else
 (if pc < 356 then
 (if pc = 355 then in_ild 3 356 else in_no) else
 (if pc < 357 then
 (if pc = 356 then in_iii (fun x y => x - y) 357 else in_no) else
 (if pc = 357 then in_iaw YM 358 else in_no)))) else
 (if pc < 363 then
 (if pc < 359 then
 (if pc = 358 then in_ald 0 359 else in_no) else
 (if pc < 362 then
 (if pc = 359 then in_get YM 5 13 362 else in_no) else
 (if pc = 362 then in_push (.int 4) 363 else in_no))) else
 (if pc < 365 then
 (if pc < 364 then
 (if pc = 363 then in_ild 1 364 else in_no) else
 (if pc = 364 then in_iii (fun x y => x + y) 365 else in_no)) else
 (if pc < 367 then
 (if pc = 365 then in_ild 4 367 else in_no) else
 (if pc = 367 then in_iaw YM 368 else in_no))))) else
 (if pc < 378 then
 (if pc < 373 then
 (if pc < 369 then
 (if pc = 368 then in_ald 0 369 else in_no) else
 (if pc < 372 then
 (if pc = 369 then in_get YM 5 14 372 else in_no) else
 (if pc = 372 then in_push (.int 4) 373 else in_no))) else
 (if pc < 375 then
 (if pc < 374 then
 (if pc = 373 then in_ild 1 374 else in_no) else
 (if pc = 374 then in_iii (fun x y => x + y) 375 else in_no)) else
 (if pc < 377 then
 (if pc = 375 then in_ild 5 377 else in_no) else
 (if pc = 377 then in_iaw YM 378 else in_no)))) else
 (if pc < 383 then
 (if pc < 379 then
 (if pc = 378 then in_ald 0 379 else in_no) else
 (if pc < 380 then
 (if pc = 379 then in_dup 380 else in_no) else
 (if pc = 380 then in_get YM 5 8 383 else in_no))) else
 (if pc < 385 then
 (if pc < 384 then
 (if pc = 383 then in_push (.int 1) 384 else in_no) else
 (if pc = 384 then in_iii (fun x y => x + y) 385 else in_no)) else
 (if pc < 388 then
 (if pc = 385 then in_put YM 5 8 388 else in_no) else
 (if pc = 388 then in_rv else in_no)))))))))
theorem tk_X5_readLine {l : Launch} {w : ma_Wd} {NC : Nat} {A : Nat → Prop} {S_X5_byteAt S_X5_isLetter S_X5_fails S_X5_term S_X5_number : ma_Cs} (h_X5_byteAt : ma_Sd l w YM NC A yX5_byteAt cX5_byteAt 2 (some .int) rm_X5_byteAt S_X5_byteAt) (h_X5_isLetter : ma_Sd l w YM NC A yX5_isLetter cX5_isLetter 1 (some .boolean) rm_X5_isLetter S_X5_isLetter) (h_X5_fails : ma_Sd l w YM NC A yX5_fails cX5_fails 2 none rm_X5_fails S_X5_fails) (h_X5_term : ma_Sd l w YM NC A yX5_term cX5_term 4 none rm_X5_term S_X5_term) (h_X5_number : ma_Sd l w YM NC A yX5_number cX5_number 4 (some .int) rm_X5_number S_X5_number) {p : Program} {e : Env} {s : State} {m : MethodId} {args : Array Value} {below : List Frame} {meth : Method} {c : Code} (X : ma_Cx p s m args meth c w YM NC A yX5_readLine.cls cX5_readLine 6 none) : ∀ pc, ma_Ok p l e rm_X5_readLine s m args below meth c w YM NC A 6 pc (tb_X5_readLine S_X5_byteAt S_X5_isLetter S_X5_fails S_X5_term S_X5_number pc) := fun pc =>
 (mk_lt
 (mk_lt
 (mk_lt
 (mk_lt
 (mk_lt
 (mk_lt
 (mk_lt
 (mk_eq (mk_aload_n X dX5_readLine_0 rfl rfl))
 (mk_lt
 (mk_eq (mk_aload_n X dX5_readLine_1 rfl rfl))
 (mk_eq (mk_get X (ci := 5) (j := 32) rfl in_X5 (Nat.le_of_ble_eq_true rfl) q779 dX5_readLine_2 rfl))))
 (mk_lt
 (mk_eq (mk_V2 X h_X5_byteAt (ci := 5) rfl (lw_V q937 q939 qs33 q66 q940) ⟨rfl, by decide, by decide, rfl⟩ ⟨(Nat.le_of_ble_eq_true rfl), (Nat.le_of_ble_eq_true rfl)⟩ dX5_readLine_5 rfl))
 (mk_lt
 (mk_eq (mk_bipush X dX5_readLine_8 rfl rfl))
 (mk_eq (mk_isub X dX5_readLine_10 rfl)))))
 (mk_lt
 (mk_lt
 (mk_eq (mk_istore_n X dX5_readLine_11 rfl (Nat.le_of_ble_eq_true rfl) rfl))
 (mk_lt
 (mk_eq (mk_iconst X dX5_readLine_12 rfl rfl))
 (mk_eq (mk_istore_n X dX5_readLine_13 rfl (Nat.le_of_ble_eq_true rfl) rfl))))
 (mk_lt
 (mk_lt
 (mk_eq (mk_iconst X dX5_readLine_14 rfl rfl))
 (mk_eq (mk_istore_n X dX5_readLine_15 rfl (Nat.le_of_ble_eq_true rfl) rfl)))
 (mk_lt
 (mk_eq (mk_iload_n X dX5_readLine_16 rfl rfl))
 (mk_eq (mk_aload_n X dX5_readLine_17 rfl rfl))))))
 (mk_lt
 (mk_lt
 (mk_lt
 (mk_eq (mk_get X (ci := 5) (j := 8) rfl in_X5 (Nat.le_of_ble_eq_true rfl) q755 dX5_readLine_18 rfl))
 (mk_lt
 (mk_eq (mk_icge X dX5_readLine_21 rfl rfl))
 (mk_eq (mk_iload_n X dX5_readLine_24 rfl rfl))))
 (mk_lt
 (mk_lt
 (mk_eq (mk_ifne X dX5_readLine_25 rfl rfl))
 (mk_eq (mk_aload_n X dX5_readLine_28 rfl rfl)))
 (mk_lt
 (mk_eq (mk_get X (ci := 5) (j := 9) rfl in_X5 (Nat.le_of_ble_eq_true rfl) q756 dX5_readLine_29 rfl))
 (mk_eq (mk_iconst X dX5_readLine_32 rfl rfl)))))
 (mk_lt
 (mk_lt
 (mk_eq (mk_iload_n X dX5_readLine_33 rfl rfl))
 (mk_lt
 (mk_eq (mk_iadd X dX5_readLine_34 rfl))
 (mk_eq (mk_iar X dX5_readLine_35 rfl))))
 (mk_lt
 (mk_lt
 (mk_eq (mk_iload_n X dX5_readLine_36 rfl rfl))
 (mk_eq (mk_icne X dX5_readLine_37 rfl rfl)))
 (mk_lt
 (mk_eq (mk_iconst X dX5_readLine_40 rfl rfl))
 (mk_eq (mk_goto X dX5_readLine_41 rfl)))))))
 (mk_lt
 (mk_lt
 (mk_lt
 (mk_lt
 (mk_eq (mk_iconst X dX5_readLine_44 rfl rfl))
 (mk_lt
 (mk_eq (mk_istore_n X dX5_readLine_45 rfl (Nat.le_of_ble_eq_true rfl) rfl))
 (mk_eq (mk_iinc X dX5_readLine_46 rfl (Nat.le_of_ble_eq_true rfl) rfl))))
 (mk_lt
 (mk_eq (mk_goto X dX5_readLine_49 rfl))
 (mk_lt
 (mk_eq (mk_iload_n X dX5_readLine_52 rfl rfl))
 (mk_eq (mk_S1 X h_X5_isLetter (lw_S q908 q909 q66 q910) ⟨by decide, by decide, rfl⟩ ⟨(Nat.le_of_ble_eq_true rfl), (Nat.le_of_ble_eq_true rfl)⟩ dX5_readLine_53 rfl)))))
 (mk_lt
 (mk_lt
 (mk_eq (mk_ifeq X dX5_readLine_56 rfl rfl))
 (mk_lt
 (mk_eq (mk_iload_n X dX5_readLine_59 rfl rfl))
 (mk_eq (mk_ifeq X dX5_readLine_60 rfl rfl))))
 (mk_lt
 (mk_lt
 (mk_eq (mk_aload_n X dX5_readLine_63 rfl rfl))
 (mk_eq (mk_aload_n X dX5_readLine_64 rfl rfl)))
 (mk_lt
 (mk_eq (mk_get X (ci := 5) (j := 32) rfl in_X5 (Nat.le_of_ble_eq_true rfl) q779 dX5_readLine_65 rfl))
 (mk_eq (mk_V2 X h_X5_fails (ci := 5) rfl (lw_V q941 q943 qs34 q66 q944) ⟨rfl, by decide, by decide, rfl⟩ ⟨(Nat.le_of_ble_eq_true rfl), (Nat.le_of_ble_eq_true rfl)⟩ dX5_readLine_68 rfl))))))
 (mk_lt
 (mk_lt
 (mk_lt
 (mk_eq (mk_rv X dX5_readLine_71))
 (mk_lt
 (mk_eq (mk_aload_n X dX5_readLine_72 rfl rfl))
 (mk_eq (mk_dup X dX5_readLine_73 rfl))))
 (mk_lt
 (mk_lt
 (mk_eq (mk_get X (ci := 5) (j := 32) rfl in_X5 (Nat.le_of_ble_eq_true rfl) q779 dX5_readLine_74 rfl))
 (mk_eq (mk_iconst X dX5_readLine_77 rfl rfl)))
 (mk_lt
 (mk_eq (mk_iadd X dX5_readLine_78 rfl))
 (mk_eq (mk_put X (ci := 5) (j := 32) rfl in_X5 tyX5_ok nmX5 (Nat.le_of_ble_eq_true rfl) rfl rfl q779 dX5_readLine_79 rfl)))))
 (mk_lt
 (mk_lt
 (mk_eq (mk_aload_n X dX5_readLine_82 rfl rfl))
 (mk_lt
 (mk_eq (mk_aload_n X dX5_readLine_83 rfl rfl))
 (mk_eq (mk_get X (ci := 5) (j := 32) rfl in_X5 (Nat.le_of_ble_eq_true rfl) q779 dX5_readLine_84 rfl))))
 (mk_lt
 (mk_lt
 (mk_eq (mk_V2 X h_X5_byteAt (ci := 5) rfl (lw_V q937 q939 qs33 q66 q940) ⟨rfl, by decide, by decide, rfl⟩ ⟨(Nat.le_of_ble_eq_true rfl), (Nat.le_of_ble_eq_true rfl)⟩ dX5_readLine_87 rfl))
 (mk_eq (mk_bipush X dX5_readLine_90 rfl rfl)))
 (mk_lt
 (mk_eq (mk_iceq X dX5_readLine_92 rfl rfl))
 (mk_eq (mk_aload_n X dX5_readLine_95 rfl rfl))))))))
 (mk_lt
 (mk_lt
 (mk_lt
 (mk_lt
 (mk_lt
 (mk_eq (mk_aload_n X dX5_readLine_96 rfl rfl))
 (mk_lt
 (mk_eq (mk_get X (ci := 5) (j := 32) rfl in_X5 (Nat.le_of_ble_eq_true rfl) q779 dX5_readLine_97 rfl))
 (mk_eq (mk_V2 X h_X5_fails (ci := 5) rfl (lw_V q941 q943 qs34 q66 q944) ⟨rfl, by decide, by decide, rfl⟩ ⟨(Nat.le_of_ble_eq_true rfl), (Nat.le_of_ble_eq_true rfl)⟩ dX5_readLine_100 rfl))))
 (mk_lt
 (mk_eq (mk_rv X dX5_readLine_103))
 (mk_lt
 (mk_eq (mk_aload_n X dX5_readLine_104 rfl rfl))
 (mk_eq (mk_dup X dX5_readLine_105 rfl)))))
 (mk_lt
 (mk_lt
 (mk_eq (mk_get X (ci := 5) (j := 32) rfl in_X5 (Nat.le_of_ble_eq_true rfl) q779 dX5_readLine_106 rfl))
 (mk_lt
 (mk_eq (mk_iconst X dX5_readLine_109 rfl rfl))
 (mk_eq (mk_iadd X dX5_readLine_110 rfl))))
 (mk_lt
 (mk_lt
 (mk_eq (mk_put X (ci := 5) (j := 32) rfl in_X5 tyX5_ok nmX5 (Nat.le_of_ble_eq_true rfl) rfl rfl q779 dX5_readLine_111 rfl))
 (mk_eq (mk_aload_n X dX5_readLine_114 rfl rfl)))
 (mk_lt
 (mk_eq (mk_get X (ci := 5) (j := 34) rfl in_X5 (Nat.le_of_ble_eq_true rfl) q781 dX5_readLine_115 rfl))
 (mk_eq (mk_istore_n X dX5_readLine_118 rfl (Nat.le_of_ble_eq_true rfl) rfl))))))
 (mk_lt
 (mk_lt
 (mk_lt
 (mk_eq (mk_aload_n X dX5_readLine_119 rfl rfl))
 (mk_lt
 (mk_eq (mk_iconst X dX5_readLine_120 rfl rfl))
 (mk_eq (mk_V2 X h_X5_term (ci := 5) rfl (lw_V q945 q947 qs35 q66 q948) ⟨rfl, by decide, by decide, rfl⟩ ⟨(Nat.le_of_ble_eq_true rfl), (Nat.le_of_ble_eq_true rfl)⟩ dX5_readLine_121 rfl))))
 (mk_lt
 (mk_lt
 (mk_eq (mk_aload_n X dX5_readLine_124 rfl rfl))
 (mk_eq (mk_get X (ci := 5) (j := 33) rfl in_X5 (Nat.le_of_ble_eq_true rfl) q780 dX5_readLine_125 rfl)))
 (mk_lt
 (mk_eq (mk_ifge X dX5_readLine_128 rfl rfl))
 (mk_eq (mk_aload_n X dX5_readLine_131 rfl rfl)))))
 (mk_lt
 (mk_lt
 (mk_eq (mk_aload_n X dX5_readLine_132 rfl rfl))
 (mk_lt
 (mk_eq (mk_get X (ci := 5) (j := 32) rfl in_X5 (Nat.le_of_ble_eq_true rfl) q779 dX5_readLine_133 rfl))
 (mk_eq (mk_V2 X h_X5_byteAt (ci := 5) rfl (lw_V q937 q939 qs33 q66 q940) ⟨rfl, by decide, by decide, rfl⟩ ⟨(Nat.le_of_ble_eq_true rfl), (Nat.le_of_ble_eq_true rfl)⟩ dX5_readLine_136 rfl))))
 (mk_lt
 (mk_lt
 (mk_eq (mk_bipush X dX5_readLine_139 rfl rfl))
 (mk_eq (mk_iceq X dX5_readLine_141 rfl rfl)))
 (mk_lt
 (mk_eq (mk_aload_n X dX5_readLine_144 rfl rfl))
 (mk_eq (mk_aload_n X dX5_readLine_145 rfl rfl)))))))
 (mk_lt
 (mk_lt
 (mk_lt
 (mk_lt
 (mk_eq (mk_get X (ci := 5) (j := 32) rfl in_X5 (Nat.le_of_ble_eq_true rfl) q779 dX5_readLine_146 rfl))
 (mk_lt
 (mk_eq (mk_V2 X h_X5_byteAt (ci := 5) rfl (lw_V q937 q939 qs33 q66 q940) ⟨rfl, by decide, by decide, rfl⟩ ⟨(Nat.le_of_ble_eq_true rfl), (Nat.le_of_ble_eq_true rfl)⟩ dX5_readLine_149 rfl))
 (mk_eq (mk_bipush X dX5_readLine_152 rfl rfl))))
 (mk_lt
 (mk_eq (mk_icne X dX5_readLine_154 rfl rfl))
 (mk_lt
 (mk_eq (mk_aload_n X dX5_readLine_157 rfl rfl))
 (mk_eq (mk_iconst X dX5_readLine_158 rfl rfl)))))
 (mk_lt
 (mk_lt
 (mk_eq (mk_V2 X h_X5_term (ci := 5) rfl (lw_V q945 q947 qs35 q66 q948) ⟨rfl, by decide, by decide, rfl⟩ ⟨(Nat.le_of_ble_eq_true rfl), (Nat.le_of_ble_eq_true rfl)⟩ dX5_readLine_159 rfl))
 (mk_lt
 (mk_eq (mk_goto X dX5_readLine_162 rfl))
 (mk_eq (mk_iconst X dX5_readLine_165 rfl rfl))))
 (mk_lt
 (mk_lt
 (mk_eq (mk_istore X dX5_readLine_166 (Nat.le_of_ble_eq_true rfl) rfl))
 (mk_eq (mk_aload_n X dX5_readLine_168 rfl rfl)))
 (mk_lt
 (mk_eq (mk_get X (ci := 5) (j := 33) rfl in_X5 (Nat.le_of_ble_eq_true rfl) q780 dX5_readLine_169 rfl))
 (mk_eq (mk_ifge X dX5_readLine_172 rfl rfl))))))
 (mk_lt
 (mk_lt
 (mk_lt
 (mk_eq (mk_aload_n X dX5_readLine_175 rfl rfl))
 (mk_lt
 (mk_eq (mk_aload_n X dX5_readLine_176 rfl rfl))
 (mk_eq (mk_get X (ci := 5) (j := 32) rfl in_X5 (Nat.le_of_ble_eq_true rfl) q779 dX5_readLine_177 rfl))))
 (mk_lt
 (mk_lt
 (mk_eq (mk_V2 X h_X5_byteAt (ci := 5) rfl (lw_V q937 q939 qs33 q66 q940) ⟨rfl, by decide, by decide, rfl⟩ ⟨(Nat.le_of_ble_eq_true rfl), (Nat.le_of_ble_eq_true rfl)⟩ dX5_readLine_180 rfl))
 (mk_eq (mk_bipush X dX5_readLine_183 rfl rfl)))
 (mk_lt
 (mk_eq (mk_icne X dX5_readLine_185 rfl rfl))
 (mk_eq (mk_aload_n X dX5_readLine_188 rfl rfl)))))
 (mk_lt
 (mk_lt
 (mk_eq (mk_dup X dX5_readLine_189 rfl))
 (mk_lt
 (mk_eq (mk_get X (ci := 5) (j := 32) rfl in_X5 (Nat.le_of_ble_eq_true rfl) q779 dX5_readLine_190 rfl))
 (mk_eq (mk_iconst X dX5_readLine_193 rfl rfl))))
 (mk_lt
 (mk_lt
 (mk_eq (mk_iadd X dX5_readLine_194 rfl))
 (mk_eq (mk_put X (ci := 5) (j := 32) rfl in_X5 tyX5_ok nmX5 (Nat.le_of_ble_eq_true rfl) rfl rfl q779 dX5_readLine_195 rfl)))
 (mk_lt
 (mk_eq (mk_aload_n X dX5_readLine_198 rfl rfl))
 (mk_eq (mk_get X (ci := 5) (j := 32) rfl in_X5 (Nat.le_of_ble_eq_true rfl) q779 dX5_readLine_199 rfl)))))))))
 (mk_lt
 (mk_lt
 (mk_lt
 (mk_lt
 (mk_lt
 (mk_lt
 (mk_eq (mk_istore X dX5_readLine_202 (Nat.le_of_ble_eq_true rfl) rfl))
 (mk_lt
 (mk_eq (mk_aload_n X dX5_readLine_204 rfl rfl))
 (mk_eq (mk_sipush X dX5_readLine_205 rfl rfl))))
 (mk_lt
 (mk_eq (mk_V2 X h_X5_number (ci := 5) rfl (lw_V q949 q951 qs36 q66 q952) ⟨rfl, by decide, by decide, rfl⟩ ⟨(Nat.le_of_ble_eq_true rfl), (Nat.le_of_ble_eq_true rfl)⟩ dX5_readLine_208 rfl))
 (mk_lt
 (mk_eq (mk_istore X dX5_readLine_211 (Nat.le_of_ble_eq_true rfl) rfl))
 (mk_eq (mk_aload_n X dX5_readLine_213 rfl rfl)))))
 (mk_lt
 (mk_lt
 (mk_eq (mk_get X (ci := 5) (j := 32) rfl in_X5 (Nat.le_of_ble_eq_true rfl) q779 dX5_readLine_214 rfl))
 (mk_lt
 (mk_eq (mk_iload X dX5_readLine_217 rfl))
 (mk_eq (mk_icne X dX5_readLine_219 rfl rfl))))
 (mk_lt
 (mk_lt
 (mk_eq (mk_aload_n X dX5_readLine_222 rfl rfl))
 (mk_eq (mk_aload_n X dX5_readLine_223 rfl rfl)))
 (mk_lt
 (mk_eq (mk_get X (ci := 5) (j := 32) rfl in_X5 (Nat.le_of_ble_eq_true rfl) q779 dX5_readLine_224 rfl))
 (mk_eq (mk_V2 X h_X5_fails (ci := 5) rfl (lw_V q941 q943 qs34 q66 q944) ⟨rfl, by decide, by decide, rfl⟩ ⟨(Nat.le_of_ble_eq_true rfl), (Nat.le_of_ble_eq_true rfl)⟩ dX5_readLine_227 rfl))))))
 (mk_lt
 (mk_lt
 (mk_lt
 (mk_eq (mk_iconst X dX5_readLine_230 rfl rfl))
 (mk_lt
 (mk_eq (mk_istore X dX5_readLine_231 (Nat.le_of_ble_eq_true rfl) rfl))
 (mk_eq (mk_aload_n X dX5_readLine_233 rfl rfl))))
 (mk_lt
 (mk_lt
 (mk_eq (mk_get X (ci := 5) (j := 33) rfl in_X5 (Nat.le_of_ble_eq_true rfl) q780 dX5_readLine_234 rfl))
 (mk_eq (mk_ifge X dX5_readLine_237 rfl rfl)))
 (mk_lt
 (mk_eq (mk_aload_n X dX5_readLine_240 rfl rfl))
 (mk_eq (mk_aload_n X dX5_readLine_241 rfl rfl)))))
 (mk_lt
 (mk_lt
 (mk_eq (mk_get X (ci := 5) (j := 32) rfl in_X5 (Nat.le_of_ble_eq_true rfl) q779 dX5_readLine_242 rfl))
 (mk_lt
 (mk_eq (mk_V2 X h_X5_byteAt (ci := 5) rfl (lw_V q937 q939 qs33 q66 q940) ⟨rfl, by decide, by decide, rfl⟩ ⟨(Nat.le_of_ble_eq_true rfl), (Nat.le_of_ble_eq_true rfl)⟩ dX5_readLine_245 rfl))
 (mk_eq (mk_bipush X dX5_readLine_248 rfl rfl))))
 (mk_lt
 (mk_lt
 (mk_eq (mk_icne X dX5_readLine_250 rfl rfl))
 (mk_eq (mk_iconst X dX5_readLine_253 rfl rfl)))
 (mk_lt
 (mk_eq (mk_istore X dX5_readLine_254 (Nat.le_of_ble_eq_true rfl) rfl))
 (mk_eq (mk_aload_n X dX5_readLine_256 rfl rfl)))))))
 (mk_lt
 (mk_lt
 (mk_lt
 (mk_lt
 (mk_eq (mk_dup X dX5_readLine_257 rfl))
 (mk_lt
 (mk_eq (mk_get X (ci := 5) (j := 32) rfl in_X5 (Nat.le_of_ble_eq_true rfl) q779 dX5_readLine_258 rfl))
 (mk_eq (mk_iconst X dX5_readLine_261 rfl rfl))))
 (mk_lt
 (mk_eq (mk_iadd X dX5_readLine_262 rfl))
 (mk_lt
 (mk_eq (mk_put X (ci := 5) (j := 32) rfl in_X5 tyX5_ok nmX5 (Nat.le_of_ble_eq_true rfl) rfl rfl q779 dX5_readLine_263 rfl))
 (mk_eq (mk_aload_n X dX5_readLine_266 rfl rfl)))))
 (mk_lt
 (mk_lt
 (mk_eq (mk_get X (ci := 5) (j := 33) rfl in_X5 (Nat.le_of_ble_eq_true rfl) q780 dX5_readLine_267 rfl))
 (mk_lt
 (mk_eq (mk_ifge X dX5_readLine_270 rfl rfl))
 (mk_eq (mk_aload_n X dX5_readLine_273 rfl rfl))))
 (mk_lt
 (mk_lt
 (mk_eq (mk_aload_n X dX5_readLine_274 rfl rfl))
 (mk_eq (mk_get X (ci := 5) (j := 32) rfl in_X5 (Nat.le_of_ble_eq_true rfl) q779 dX5_readLine_275 rfl)))
 (mk_lt
 (mk_eq (mk_V2 X h_X5_byteAt (ci := 5) rfl (lw_V q937 q939 qs33 q66 q940) ⟨rfl, by decide, by decide, rfl⟩ ⟨(Nat.le_of_ble_eq_true rfl), (Nat.le_of_ble_eq_true rfl)⟩ dX5_readLine_278 rfl))
 (mk_eq (mk_bipush X dX5_readLine_281 rfl rfl))))))
 (mk_lt
 (mk_lt
 (mk_lt
 (mk_eq (mk_iceq X dX5_readLine_283 rfl rfl))
 (mk_lt
 (mk_eq (mk_aload_n X dX5_readLine_286 rfl rfl))
 (mk_eq (mk_aload_n X dX5_readLine_287 rfl rfl))))
 (mk_lt
 (mk_lt
 (mk_eq (mk_get X (ci := 5) (j := 32) rfl in_X5 (Nat.le_of_ble_eq_true rfl) q779 dX5_readLine_288 rfl))
 (mk_eq (mk_V2 X h_X5_fails (ci := 5) rfl (lw_V q941 q943 qs34 q66 q944) ⟨rfl, by decide, by decide, rfl⟩ ⟨(Nat.le_of_ble_eq_true rfl), (Nat.le_of_ble_eq_true rfl)⟩ dX5_readLine_291 rfl)))
 (mk_lt
 (mk_eq (mk_aload_n X dX5_readLine_294 rfl rfl))
 (mk_eq (mk_dup X dX5_readLine_295 rfl)))))
 (mk_lt
 (mk_lt
 (mk_eq (mk_get X (ci := 5) (j := 32) rfl in_X5 (Nat.le_of_ble_eq_true rfl) q779 dX5_readLine_296 rfl))
 (mk_lt
 (mk_eq (mk_iconst X dX5_readLine_299 rfl rfl))
 (mk_eq (mk_iadd X dX5_readLine_300 rfl))))
 (mk_lt
 (mk_lt
 (mk_eq (mk_put X (ci := 5) (j := 32) rfl in_X5 tyX5_ok nmX5 (Nat.le_of_ble_eq_true rfl) rfl rfl q779 dX5_readLine_301 rfl))
 (mk_eq (mk_aload_n X dX5_readLine_304 rfl rfl)))
 (mk_lt
 (mk_eq (mk_get X (ci := 5) (j := 33) rfl in_X5 (Nat.le_of_ble_eq_true rfl) q780 dX5_readLine_305 rfl))
 (mk_eq (mk_ifge X dX5_readLine_308 rfl rfl))))))))
 (mk_lt
 (mk_lt
 (mk_lt
 (mk_lt
 (mk_lt
 (mk_eq (mk_aload_n X dX5_readLine_311 rfl rfl))
 (mk_lt
 (mk_eq (mk_get X (ci := 5) (j := 9) rfl in_X5 (Nat.le_of_ble_eq_true rfl) q756 dX5_readLine_312 rfl))
 (mk_eq (mk_iconst X dX5_readLine_315 rfl rfl))))
 (mk_lt
 (mk_eq (mk_aload_n X dX5_readLine_316 rfl rfl))
 (mk_lt
 (mk_eq (mk_get X (ci := 5) (j := 8) rfl in_X5 (Nat.le_of_ble_eq_true rfl) q755 dX5_readLine_317 rfl))
 (mk_eq (mk_iadd X dX5_readLine_320 rfl)))))
 (mk_lt
 (mk_lt
 (mk_eq (mk_iload_n X dX5_readLine_321 rfl rfl))
 (mk_lt
 (mk_eq (mk_iaw X dX5_readLine_322 rfl))
 (mk_eq (mk_aload_n X dX5_readLine_323 rfl rfl))))
 (mk_lt
 (mk_lt
 (mk_eq (mk_get X (ci := 5) (j := 10) rfl in_X5 (Nat.le_of_ble_eq_true rfl) q757 dX5_readLine_324 rfl))
 (mk_eq (mk_iconst X dX5_readLine_327 rfl rfl)))
 (mk_lt
 (mk_eq (mk_iload_n X dX5_readLine_328 rfl rfl))
 (mk_eq (mk_iadd X dX5_readLine_329 rfl))))))
 (mk_lt
 (mk_lt
 (mk_lt
 (mk_eq (mk_aload_n X dX5_readLine_330 rfl rfl))
 (mk_lt
 (mk_eq (mk_get X (ci := 5) (j := 8) rfl in_X5 (Nat.le_of_ble_eq_true rfl) q755 dX5_readLine_331 rfl))
 (mk_eq (mk_iaw X dX5_readLine_334 rfl))))
 (mk_lt
 (mk_lt
 (mk_eq (mk_aload_n X dX5_readLine_335 rfl rfl))
 (mk_eq (mk_get X (ci := 5) (j := 11) rfl in_X5 (Nat.le_of_ble_eq_true rfl) q758 dX5_readLine_336 rfl)))
 (mk_lt
 (mk_eq (mk_iconst X dX5_readLine_339 rfl rfl))
 (mk_eq (mk_iload_n X dX5_readLine_340 rfl rfl)))))
 (mk_lt
 (mk_lt
 (mk_eq (mk_iadd X dX5_readLine_341 rfl))
 (mk_lt
 (mk_eq (mk_iload_n X dX5_readLine_342 rfl rfl))
 (mk_eq (mk_iaw X dX5_readLine_343 rfl))))
 (mk_lt
 (mk_lt
 (mk_eq (mk_aload_n X dX5_readLine_344 rfl rfl))
 (mk_eq (mk_get X (ci := 5) (j := 12) rfl in_X5 (Nat.le_of_ble_eq_true rfl) q759 dX5_readLine_345 rfl)))
 (mk_lt
 (mk_eq (mk_iconst X dX5_readLine_348 rfl rfl))
 (mk_eq (mk_iload_n X dX5_readLine_349 rfl rfl)))))))
 (mk_lt
 (mk_lt
 (mk_lt
 (mk_lt
 (mk_eq (mk_iadd X dX5_readLine_350 rfl))
 (mk_lt
 (mk_eq (mk_aload_n X dX5_readLine_351 rfl rfl))
 (mk_eq (mk_get X (ci := 5) (j := 34) rfl in_X5 (Nat.le_of_ble_eq_true rfl) q781 dX5_readLine_352 rfl))))
 (mk_lt
 (mk_eq (mk_iload_n X dX5_readLine_355 rfl rfl))
 (mk_lt
 (mk_eq (mk_isub X dX5_readLine_356 rfl))
 (mk_eq (mk_iaw X dX5_readLine_357 rfl)))))
 (mk_lt
 (mk_lt
 (mk_eq (mk_aload_n X dX5_readLine_358 rfl rfl))
 (mk_lt
 (mk_eq (mk_get X (ci := 5) (j := 13) rfl in_X5 (Nat.le_of_ble_eq_true rfl) q760 dX5_readLine_359 rfl))
 (mk_eq (mk_iconst X dX5_readLine_362 rfl rfl))))
 (mk_lt
 (mk_lt
 (mk_eq (mk_iload_n X dX5_readLine_363 rfl rfl))
 (mk_eq (mk_iadd X dX5_readLine_364 rfl)))
 (mk_lt
 (mk_eq (mk_iload X dX5_readLine_365 rfl))
 (mk_eq (mk_iaw X dX5_readLine_367 rfl))))))
 (mk_lt
 (mk_lt
 (mk_lt
 (mk_eq (mk_aload_n X dX5_readLine_368 rfl rfl))
 (mk_lt
 (mk_eq (mk_get X (ci := 5) (j := 14) rfl in_X5 (Nat.le_of_ble_eq_true rfl) q761 dX5_readLine_369 rfl))
 (mk_eq (mk_iconst X dX5_readLine_372 rfl rfl))))
 (mk_lt
 (mk_lt
 (mk_eq (mk_iload_n X dX5_readLine_373 rfl rfl))
 (mk_eq (mk_iadd X dX5_readLine_374 rfl)))
 (mk_lt
 (mk_eq (mk_iload X dX5_readLine_375 rfl))
 (mk_eq (mk_iaw X dX5_readLine_377 rfl)))))
 (mk_lt
 (mk_lt
 (mk_eq (mk_aload_n X dX5_readLine_378 rfl rfl))
 (mk_lt
 (mk_eq (mk_dup X dX5_readLine_379 rfl))
 (mk_eq (mk_get X (ci := 5) (j := 8) rfl in_X5 (Nat.le_of_ble_eq_true rfl) q755 dX5_readLine_380 rfl))))
 (mk_lt
 (mk_lt
 (mk_eq (mk_iconst X dX5_readLine_383 rfl rfl))
 (mk_eq (mk_iadd X dX5_readLine_384 rfl)))
 (mk_lt
 (mk_eq (mk_put X (ci := 5) (j := 8) rfl in_X5 tyX5_ok nmX5 (Nat.le_of_ble_eq_true rfl) rfl rfl q755 dX5_readLine_385 rfl))
 (mk_eq (mk_rv X dX5_readLine_388))))))))))
theorem sd_X5_readLine {l : Launch} {w : ma_Wd} {NC : Nat} {A : Nat → Prop} {S_X5_byteAt S_X5_isLetter S_X5_fails S_X5_term S_X5_number : ma_Cs} (hw : ma_Wo w YM NC A) (h_X5_byteAt : ma_Sd l w YM NC A yX5_byteAt cX5_byteAt 2 (some .int) rm_X5_byteAt S_X5_byteAt) (h_X5_isLetter : ma_Sd l w YM NC A yX5_isLetter cX5_isLetter 1 (some .boolean) rm_X5_isLetter S_X5_isLetter) (h_X5_fails : ma_Sd l w YM NC A yX5_fails cX5_fails 2 none rm_X5_fails S_X5_fails) (h_X5_term : ma_Sd l w YM NC A yX5_term cX5_term 4 none rm_X5_term S_X5_term) (h_X5_number : ma_Sd l w YM NC A yX5_number cX5_number 4 (some .int) rm_X5_number S_X5_number) : ma_Sd l w YM NC A yX5_readLine cX5_readLine 6 none rm_X5_readLine (ma_rn (tb_X5_readLine S_X5_byteAt S_X5_isLetter S_X5_fails S_X5_term S_X5_number) 6) := ma_of hw (by decide) ⟨rfl, rfl⟩ (fun X => tk_X5_readLine h_X5_byteAt h_X5_isLetter h_X5_fails h_X5_term h_X5_number X)
theorem dX5_byteAt_0 : decode cX5_byteAt 0 = .ok (.iload_n 1, 1) := by decide +kernel
theorem dX5_byteAt_1 : decode cX5_byteAt 1 = .ok (.aload_n 0, 1) := by decide +kernel
theorem dX5_byteAt_2 : decode cX5_byteAt 2 = .ok (.getfield 157, 3) := by decide +kernel
theorem dX5_byteAt_5 : decode cX5_byteAt 5 = .ok (.if_icmp .ge 12, 3) := by decide +kernel
theorem dX5_byteAt_8 : decode cX5_byteAt 8 = .ok (.aload_n 0, 1) := by decide +kernel
theorem dX5_byteAt_9 : decode cX5_byteAt 9 = .ok (.getfield 23, 3) := by decide +kernel
theorem dX5_byteAt_12 : decode cX5_byteAt 12 = .ok (.iload_n 1, 1) := by decide +kernel
theorem dX5_byteAt_13 : decode cX5_byteAt 13 = .ok (.iaload, 1) := by decide +kernel
theorem dX5_byteAt_14 : decode cX5_byteAt 14 = .ok (.goto 4, 3) := by decide +kernel
theorem dX5_byteAt_17 : decode cX5_byteAt 17 = .ok (.iconst (-1), 1) := by decide +kernel
theorem dX5_byteAt_18 : decode cX5_byteAt 18 = .ok (.ireturn, 1) := by decide +kernel
def tb_X5_byteAt : Nat → ma_In := fun pc =>
 (if pc < 9 then
 (if pc < 2 then
 (if pc < 1 then
 (if pc = 0 then in_ild 1 1 else in_no) else
 (if pc = 1 then in_ald 0 2 else in_no)) else
 (if pc < 5 then
 (if pc = 2 then in_get YM 5 5 5 else in_no) else
 (if pc < 8 then
 (if pc = 5 then in_if2 (fun x y => y ≤ x) 17 8 else in_no) else
 (if pc = 8 then in_ald 0 9 else in_no)))) else
 (if pc < 14 then
 (if pc < 12 then
 (if pc = 9 then in_get YM 5 6 12 else in_no) else
 (if pc < 13 then
 (if pc = 12 then in_ild 1 13 else in_no) else
 (if pc = 13 then in_iar YM 14 else in_no))) else
 (if pc < 17 then
 (if pc = 14 then in_go 18 else in_no) else
 (if pc < 18 then
 (if pc = 17 then in_push (.int (-1)) 18 else in_no) else
 (if pc = 18 then in_ri else in_no)))))
theorem tk_X5_byteAt {l : Launch} {w : ma_Wd} {NC : Nat} {A : Nat → Prop} {p : Program} {e : Env} {s : State} {m : MethodId} {args : Array Value} {below : List Frame} {meth : Method} {c : Code} (X : ma_Cx p s m args meth c w YM NC A yX5_byteAt.cls cX5_byteAt 2 (some .int)) : ∀ pc, ma_Ok p l e rm_X5_byteAt s m args below meth c w YM NC A 2 pc (tb_X5_byteAt pc) := fun pc =>
 (mk_lt
 (mk_lt
 (mk_lt
 (mk_eq (mk_iload_n X dX5_byteAt_0 rfl rfl))
 (mk_eq (mk_aload_n X dX5_byteAt_1 rfl rfl)))
 (mk_lt
 (mk_eq (mk_get X (ci := 5) (j := 5) rfl in_X5 (Nat.le_of_ble_eq_true rfl) q752 dX5_byteAt_2 rfl))
 (mk_lt
 (mk_eq (mk_icge X dX5_byteAt_5 rfl rfl))
 (mk_eq (mk_aload_n X dX5_byteAt_8 rfl rfl)))))
 (mk_lt
 (mk_lt
 (mk_eq (mk_get X (ci := 5) (j := 6) rfl in_X5 (Nat.le_of_ble_eq_true rfl) q753 dX5_byteAt_9 rfl))
 (mk_lt
 (mk_eq (mk_iload_n X dX5_byteAt_12 rfl rfl))
 (mk_eq (mk_iar X dX5_byteAt_13 rfl))))
 (mk_lt
 (mk_eq (mk_goto X dX5_byteAt_14 rfl))
 (mk_lt
 (mk_eq (mk_iconst X dX5_byteAt_17 rfl rfl))
 (mk_eq (mk_ri X dX5_byteAt_18))))))
theorem sd_X5_byteAt {l : Launch} {w : ma_Wd} {NC : Nat} {A : Nat → Prop} (hw : ma_Wo w YM NC A) : ma_Sd l w YM NC A yX5_byteAt cX5_byteAt 2 (some .int) rm_X5_byteAt (ma_rn (tb_X5_byteAt) 2) := ma_of hw (by decide) ⟨rfl, rfl⟩ (fun X => tk_X5_byteAt  X)
theorem dX5_fails_0 : decode cX5_fails 0 = .ok (.aload_n 0, 1) := by decide +kernel
theorem dX5_fails_1 : decode cX5_fails 1 = .ok (.aload_n 0, 1) := by decide +kernel
theorem dX5_fails_2 : decode cX5_fails 2 = .ok (.getfield 162, 3) := by decide +kernel
theorem dX5_fails_5 : decode cX5_fails 5 = .ok (.ifCond .ge 7, 3) := by decide +kernel
theorem dX5_fails_8 : decode cX5_fails 8 = .ok (.iload_n 1, 1) := by decide +kernel
theorem dX5_fails_9 : decode cX5_fails 9 = .ok (.goto 7, 3) := by decide +kernel
theorem dX5_fails_12 : decode cX5_fails 12 = .ok (.aload_n 0, 1) := by decide +kernel
theorem dX5_fails_13 : decode cX5_fails 13 = .ok (.getfield 162, 3) := by decide +kernel
theorem dX5_fails_16 : decode cX5_fails 16 = .ok (.putfield 162, 3) := by decide +kernel
theorem dX5_fails_19 : decode cX5_fails 19 = .ok (.return_, 1) := by decide +kernel
def tb_X5_fails : Nat → ma_In := fun pc =>
 (if pc < 9 then
 (if pc < 2 then
 (if pc < 1 then
 (if pc = 0 then in_ald 0 1 else in_no) else
 (if pc = 1 then in_ald 0 2 else in_no)) else
 (if pc < 5 then
 (if pc = 2 then in_get YM 5 33 5 else in_no) else
 (if pc < 8 then
 (if pc = 5 then in_if1 (fun x => 0 ≤ x) 12 8 else in_no) else
 (if pc = 8 then in_ild 1 9 else in_no)))) else
 (if pc < 13 then
 (if pc < 12 then
 (if pc = 9 then in_go 16 else in_no) else
 (if pc = 12 then in_ald 0 13 else in_no)) else
 (if pc < 16 then
 (if pc = 13 then in_get YM 5 33 16 else in_no) else
 (if pc < 19 then
 (if pc = 16 then in_put YM 5 33 19 else in_no) else
 (if pc = 19 then in_rv else in_no)))))
theorem tk_X5_fails {l : Launch} {w : ma_Wd} {NC : Nat} {A : Nat → Prop} {p : Program} {e : Env} {s : State} {m : MethodId} {args : Array Value} {below : List Frame} {meth : Method} {c : Code} (X : ma_Cx p s m args meth c w YM NC A yX5_fails.cls cX5_fails 2 none) : ∀ pc, ma_Ok p l e rm_X5_fails s m args below meth c w YM NC A 2 pc (tb_X5_fails pc) := fun pc =>
 (mk_lt
 (mk_lt
 (mk_lt
 (mk_eq (mk_aload_n X dX5_fails_0 rfl rfl))
 (mk_eq (mk_aload_n X dX5_fails_1 rfl rfl)))
 (mk_lt
 (mk_eq (mk_get X (ci := 5) (j := 33) rfl in_X5 (Nat.le_of_ble_eq_true rfl) q780 dX5_fails_2 rfl))
 (mk_lt
 (mk_eq (mk_ifge X dX5_fails_5 rfl rfl))
 (mk_eq (mk_iload_n X dX5_fails_8 rfl rfl)))))
 (mk_lt
 (mk_lt
 (mk_eq (mk_goto X dX5_fails_9 rfl))
 (mk_eq (mk_aload_n X dX5_fails_12 rfl rfl)))
 (mk_lt
 (mk_eq (mk_get X (ci := 5) (j := 33) rfl in_X5 (Nat.le_of_ble_eq_true rfl) q780 dX5_fails_13 rfl))
 (mk_lt
 (mk_eq (mk_put X (ci := 5) (j := 33) rfl in_X5 tyX5_ok nmX5 (Nat.le_of_ble_eq_true rfl) rfl rfl q780 dX5_fails_16 rfl))
 (mk_eq (mk_rv X dX5_fails_19))))))
theorem sd_X5_fails {l : Launch} {w : ma_Wd} {NC : Nat} {A : Nat → Prop} (hw : ma_Wo w YM NC A) : ma_Sd l w YM NC A yX5_fails cX5_fails 2 none rm_X5_fails (ma_rn (tb_X5_fails) 2) := ma_of hw (by decide) ⟨rfl, rfl⟩ (fun X => tk_X5_fails  X)
theorem dX5_term_0 : decode cX5_term 0 = .ok (.iconst 1, 1) := by decide +kernel
theorem dX5_term_1 : decode cX5_term 1 = .ok (.istore_n 2, 1) := by decide +kernel
theorem dX5_term_2 : decode cX5_term 2 = .ok (.aload_n 0, 1) := by decide +kernel
theorem dX5_term_3 : decode cX5_term 3 = .ok (.aload_n 0, 1) := by decide +kernel
theorem dX5_term_4 : decode cX5_term 4 = .ok (.getfield 165, 3) := by decide +kernel
theorem dX5_term_7 : decode cX5_term 7 = .ok (.invokevirtual 168, 3) := by decide +kernel
theorem dX5_term_10 : decode cX5_term 10 = .ok (.bipush 43, 2) := by decide +kernel
theorem dX5_term_12 : decode cX5_term 12 = .ok (.if_icmp .eq 16, 3) := by decide +kernel
theorem dX5_term_15 : decode cX5_term 15 = .ok (.aload_n 0, 1) := by decide +kernel
theorem dX5_term_16 : decode cX5_term 16 = .ok (.aload_n 0, 1) := by decide +kernel
theorem dX5_term_17 : decode cX5_term 17 = .ok (.getfield 165, 3) := by decide +kernel
theorem dX5_term_20 : decode cX5_term 20 = .ok (.invokevirtual 168, 3) := by decide +kernel
theorem dX5_term_23 : decode cX5_term 23 = .ok (.bipush 45, 2) := by decide +kernel
theorem dX5_term_25 : decode cX5_term 25 = .ok (.if_icmp .ne 35, 3) := by decide +kernel
theorem dX5_term_28 : decode cX5_term 28 = .ok (.aload_n 0, 1) := by decide +kernel
theorem dX5_term_29 : decode cX5_term 29 = .ok (.aload_n 0, 1) := by decide +kernel
theorem dX5_term_30 : decode cX5_term 30 = .ok (.getfield 165, 3) := by decide +kernel
theorem dX5_term_33 : decode cX5_term 33 = .ok (.invokevirtual 168, 3) := by decide +kernel
theorem dX5_term_36 : decode cX5_term 36 = .ok (.bipush 45, 2) := by decide +kernel
theorem dX5_term_38 : decode cX5_term 38 = .ok (.if_icmp .ne 7, 3) := by decide +kernel
theorem dX5_term_41 : decode cX5_term 41 = .ok (.iconst (-1), 1) := by decide +kernel
theorem dX5_term_42 : decode cX5_term 42 = .ok (.goto 4, 3) := by decide +kernel
theorem dX5_term_45 : decode cX5_term 45 = .ok (.iconst 1, 1) := by decide +kernel
theorem dX5_term_46 : decode cX5_term 46 = .ok (.istore_n 2, 1) := by decide +kernel
theorem dX5_term_47 : decode cX5_term 47 = .ok (.aload_n 0, 1) := by decide +kernel
theorem dX5_term_48 : decode cX5_term 48 = .ok (.dup, 1) := by decide +kernel
theorem dX5_term_49 : decode cX5_term 49 = .ok (.getfield 165, 3) := by decide +kernel
theorem dX5_term_52 : decode cX5_term 52 = .ok (.iconst 1, 1) := by decide +kernel
theorem dX5_term_53 : decode cX5_term 53 = .ok (.iadd, 1) := by decide +kernel
theorem dX5_term_54 : decode cX5_term 54 = .ok (.putfield 165, 3) := by decide +kernel
theorem dX5_term_57 : decode cX5_term 57 = .ok (.goto 15, 3) := by decide +kernel
theorem dX5_term_60 : decode cX5_term 60 = .ok (.iload_n 1, 1) := by decide +kernel
theorem dX5_term_61 : decode cX5_term 61 = .ok (.ifCond .ne 11, 3) := by decide +kernel
theorem dX5_term_64 : decode cX5_term 64 = .ok (.aload_n 0, 1) := by decide +kernel
theorem dX5_term_65 : decode cX5_term 65 = .ok (.aload_n 0, 1) := by decide +kernel
theorem dX5_term_66 : decode cX5_term 66 = .ok (.getfield 165, 3) := by decide +kernel
theorem dX5_term_69 : decode cX5_term 69 = .ok (.invokevirtual 177, 3) := by decide +kernel
theorem dX5_term_72 : decode cX5_term 72 = .ok (.aload_n 0, 1) := by decide +kernel
theorem dX5_term_73 : decode cX5_term 73 = .ok (.getfield 162, 3) := by decide +kernel
theorem dX5_term_76 : decode cX5_term 76 = .ok (.ifCond .ge 13, 3) := by decide +kernel
theorem dX5_term_79 : decode cX5_term 79 = .ok (.aload_n 0, 1) := by decide +kernel
theorem dX5_term_80 : decode cX5_term 80 = .ok (.sipush 999, 3) := by decide +kernel
theorem dX5_term_83 : decode cX5_term 83 = .ok (.invokevirtual 184, 3) := by decide +kernel
theorem dX5_term_86 : decode cX5_term 86 = .ok (.goto 4, 3) := by decide +kernel
theorem dX5_term_89 : decode cX5_term 89 = .ok (.iconst 0, 1) := by decide +kernel
theorem dX5_term_90 : decode cX5_term 90 = .ok (.istore_n 3, 1) := by decide +kernel
theorem dX5_term_91 : decode cX5_term 91 = .ok (.aload_n 0, 1) := by decide +kernel
theorem dX5_term_92 : decode cX5_term 92 = .ok (.getfield 44, 3) := by decide +kernel
theorem dX5_term_95 : decode cX5_term 95 = .ok (.bipush 80, 2) := by decide +kernel
theorem dX5_term_97 : decode cX5_term 97 = .ok (.aload_n 0, 1) := by decide +kernel
theorem dX5_term_98 : decode cX5_term 98 = .ok (.getfield 187, 3) := by decide +kernel
theorem dX5_term_101 : decode cX5_term 101 = .ok (.iadd, 1) := by decide +kernel
theorem dX5_term_102 : decode cX5_term 102 = .ok (.iload_n 2, 1) := by decide +kernel
theorem dX5_term_103 : decode cX5_term 103 = .ok (.iload_n 3, 1) := by decide +kernel
theorem dX5_term_104 : decode cX5_term 104 = .ok (.ifCond .ne 7, 3) := by decide +kernel
theorem dX5_term_107 : decode cX5_term 107 = .ok (.iconst 1, 1) := by decide +kernel
theorem dX5_term_108 : decode cX5_term 108 = .ok (.goto 4, 3) := by decide +kernel
theorem dX5_term_111 : decode cX5_term 111 = .ok (.iload_n 3, 1) := by decide +kernel
theorem dX5_term_112 : decode cX5_term 112 = .ok (.imul, 1) := by decide +kernel
theorem dX5_term_113 : decode cX5_term 113 = .ok (.iastore, 1) := by decide +kernel
theorem dX5_term_114 : decode cX5_term 114 = .ok (.aload_n 0, 1) := by decide +kernel
theorem dX5_term_115 : decode cX5_term 115 = .ok (.getfield 47, 3) := by decide +kernel
theorem dX5_term_118 : decode cX5_term 118 = .ok (.bipush 80, 2) := by decide +kernel
theorem dX5_term_120 : decode cX5_term 120 = .ok (.aload_n 0, 1) := by decide +kernel
theorem dX5_term_121 : decode cX5_term 121 = .ok (.getfield 187, 3) := by decide +kernel
theorem dX5_term_124 : decode cX5_term 124 = .ok (.iadd, 1) := by decide +kernel
theorem dX5_term_125 : decode cX5_term 125 = .ok (.aload_n 0, 1) := by decide +kernel
theorem dX5_term_126 : decode cX5_term 126 = .ok (.getfield 162, 3) := by decide +kernel
theorem dX5_term_129 : decode cX5_term 129 = .ok (.ifCond .ge 10, 3) := by decide +kernel
theorem dX5_term_132 : decode cX5_term 132 = .ok (.aload_n 0, 1) := by decide +kernel
theorem dX5_term_133 : decode cX5_term 133 = .ok (.invokevirtual 190, 3) := by decide +kernel
theorem dX5_term_136 : decode cX5_term 136 = .ok (.goto 4, 3) := by decide +kernel
theorem dX5_term_139 : decode cX5_term 139 = .ok (.iconst 0, 1) := by decide +kernel
theorem dX5_term_140 : decode cX5_term 140 = .ok (.iastore, 1) := by decide +kernel
theorem dX5_term_141 : decode cX5_term 141 = .ok (.aload_n 0, 1) := by decide +kernel
theorem dX5_term_142 : decode cX5_term 142 = .ok (.getfield 50, 3) := by decide +kernel
theorem dX5_term_145 : decode cX5_term 145 = .ok (.bipush 80, 2) := by decide +kernel
theorem dX5_term_147 : decode cX5_term 147 = .ok (.aload_n 0, 1) := by decide +kernel
theorem dX5_term_148 : decode cX5_term 148 = .ok (.getfield 187, 3) := by decide +kernel
theorem dX5_term_151 : decode cX5_term 151 = .ok (.iadd, 1) := by decide +kernel
theorem dX5_term_152 : decode cX5_term 152 = .ok (.iconst (-1), 1) := by decide +kernel
theorem dX5_term_153 : decode cX5_term 153 = .ok (.iastore, 1) := by decide +kernel
theorem dX5_term_154 : decode cX5_term 154 = .ok (.aload_n 0, 1) := by decide +kernel
theorem dX5_term_155 : decode cX5_term 155 = .ok (.getfield 162, 3) := by decide +kernel
theorem dX5_term_158 : decode cX5_term 158 = .ok (.ifCond .ge 42, 3) := by decide +kernel
theorem dX5_term_161 : decode cX5_term 161 = .ok (.aload_n 0, 1) := by decide +kernel
theorem dX5_term_162 : decode cX5_term 162 = .ok (.aload_n 0, 1) := by decide +kernel
theorem dX5_term_163 : decode cX5_term 163 = .ok (.getfield 165, 3) := by decide +kernel
theorem dX5_term_166 : decode cX5_term 166 = .ok (.invokevirtual 168, 3) := by decide +kernel
theorem dX5_term_169 : decode cX5_term 169 = .ok (.bipush 46, 2) := by decide +kernel
theorem dX5_term_171 : decode cX5_term 171 = .ok (.if_icmp .ne 29, 3) := by decide +kernel
theorem dX5_term_174 : decode cX5_term 174 = .ok (.aload_n 0, 1) := by decide +kernel
theorem dX5_term_175 : decode cX5_term 175 = .ok (.dup, 1) := by decide +kernel
theorem dX5_term_176 : decode cX5_term 176 = .ok (.getfield 165, 3) := by decide +kernel
theorem dX5_term_179 : decode cX5_term 179 = .ok (.iconst 1, 1) := by decide +kernel
theorem dX5_term_180 : decode cX5_term 180 = .ok (.iadd, 1) := by decide +kernel
theorem dX5_term_181 : decode cX5_term 181 = .ok (.putfield 165, 3) := by decide +kernel
theorem dX5_term_184 : decode cX5_term 184 = .ok (.aload_n 0, 1) := by decide +kernel
theorem dX5_term_185 : decode cX5_term 185 = .ok (.getfield 50, 3) := by decide +kernel
theorem dX5_term_188 : decode cX5_term 188 = .ok (.bipush 80, 2) := by decide +kernel
theorem dX5_term_190 : decode cX5_term 190 = .ok (.aload_n 0, 1) := by decide +kernel
theorem dX5_term_191 : decode cX5_term 191 = .ok (.getfield 187, 3) := by decide +kernel
theorem dX5_term_194 : decode cX5_term 194 = .ok (.iadd, 1) := by decide +kernel
theorem dX5_term_195 : decode cX5_term 195 = .ok (.aload_n 0, 1) := by decide +kernel
theorem dX5_term_196 : decode cX5_term 196 = .ok (.invokevirtual 190, 3) := by decide +kernel
theorem dX5_term_199 : decode cX5_term 199 = .ok (.iastore, 1) := by decide +kernel
theorem dX5_term_200 : decode cX5_term 200 = .ok (.aload_n 0, 1) := by decide +kernel
theorem dX5_term_201 : decode cX5_term 201 = .ok (.dup, 1) := by decide +kernel
theorem dX5_term_202 : decode cX5_term 202 = .ok (.getfield 187, 3) := by decide +kernel
theorem dX5_term_205 : decode cX5_term 205 = .ok (.iconst 1, 1) := by decide +kernel
theorem dX5_term_206 : decode cX5_term 206 = .ok (.iadd, 1) := by decide +kernel
theorem dX5_term_207 : decode cX5_term 207 = .ok (.putfield 187, 3) := by decide +kernel
theorem dX5_term_210 : decode cX5_term 210 = .ok (.return_, 1) := by decide +kernel
def tb_X5_term (S_X5_byteAt S_X5_fails S_X5_number S_X5_name : ma_Cs) : Nat → ma_In := fun pc =>
 (if pc < 108 then
 (if pc < 53 then
 (if pc < 28 then
 (if pc < 12 then
 (if pc < 3 then
 (if pc < 1 then
 (if pc = 0 then in_push (.int 1) 1 else in_no) else
 (if pc < 2 then
 (if pc = 1 then in_ist 2 2 else in_no) else
 (if pc = 2 then in_ald 0 3 else in_no))) else
 (if pc < 7 then
 (if pc < 4 then
 (if pc = 3 then in_ald 0 4 else in_no) else
 (if pc = 4 then in_get YM 5 32 7 else in_no)) else
 (if pc < 10 then
 (if pc = 7 then in_v2 YM 5 S_X5_byteAt 10 else in_no) else
 (if pc = 10 then in_push (.int 43) 12 else in_no)))) else
 (if pc < 17 then
 (if pc < 15 then
 (if pc = 12 then in_if2 (fun x y => x = y) 28 15 else in_no) else
 (if pc < 16 then
 (if pc = 15 then in_ald 0 16 else in_no) else
 (if pc = 16 then in_ald 0 17 else in_no))) else
 (if pc < 23 then
 (if pc < 20 then
 (if pc = 17 then in_get YM 5 32 20 else in_no) else
 (if pc = 20 then in_v2 YM 5 S_X5_byteAt 23 else in_no)) else
 (if pc < 25 then
 (if pc = 23 then in_push (.int 45) 25 else in_no) else
 (if pc = 25 then in_if2 (fun x y => x = y) 28 60 else in_no))))) else
 (if pc < 42 then
 (if pc < 33 then
 (if pc < 29 then
 (if pc = 28 then in_ald 0 29 else in_no) else
 (if pc < 30 then
 (if pc = 29 then in_ald 0 30 else in_no) else
 (if pc = 30 then in_get YM 5 32 33 else in_no))) else
 (if pc < 38 then
 (if pc < 36 then
 (if pc = 33 then in_v2 YM 5 S_X5_byteAt 36 else in_no) else
 (if pc = 36 then in_push (.int 45) 38 else in_no)) else
 (if pc < 41 then
 (if pc = 38 then in_if2 (fun x y => x = y) 41 45 else in_no) else
 (if pc = 41 then in_push (.int (-1)) 42 else in_no)))) else
 (if pc < 47 then
 (if pc < 45 then
 (if pc = 42 then in_go 46 else in_no) else
 (if pc < 46 then
 (if pc = 45 then in_push (.int 1) 46 else in_no) else
 (if pc = 46 then in_ist 2 47 else in_no))) else
 (if pc < 49 then
 (if pc < 48 then
 (if pc = 47 then in_ald 0 48 else in_no) else
 (if pc = 48 then in_dup 49 else in_no)) else
 (if pc < 52 then
 (if pc = 49 then in_get YM 5 32 52 else in_no) else
 (if pc = 52 then in_push (.int 1) 53 else in_no)))))) else
 (if pc < 83 then
 (if pc < 66 then
 (if pc < 60 then
 (if pc < 54 then
 (if pc = 53 then in_iii (fun x y => x + y) 54 else in_no) else
 (if pc < 57 then
 (if pc = 54 then in_put YM 5 32 57 else in_no) else
 (if pc = 57 then in_go 72 else in_no))) else
 (if pc < 64 then
 (if pc < 61 then
 (if pc = 60 then in_ild 1 61 else in_no) else
 (if pc = 61 then in_if1 (fun x => x = 0) 64 72 else in_no)) else
 (if pc < 65 then
 (if pc = 64 then in_ald 0 65 else in_no) else
 (if pc = 65 then in_ald 0 66 else in_no)))) else
 (if pc < 73 then
 (if pc < 69 then
 (if pc = 66 then in_get YM 5 32 69 else in_no) else
 (if pc < 72 then
 (if pc = 69 then in_v2 YM 5 S_X5_fails 72 else in_no) else
 (if pc = 72 then in_ald 0 73 else in_no))) else
 (if pc < 79 then
 (if pc < 76 then
 (if pc = 73 then in_get YM 5 33 76 else in_no) else
 (if pc = 76 then in_if1 (fun x => 0 ≤ x) 89 79 else in_no)) else
 (if pc < 80 then
 (if pc = 79 then in_ald 0 80 else in_no) else
 (if pc = 80 then in_push (.int 999) 83 else in_no))))) else
 (if pc < 97 then
 (if pc < 90 then
 (if pc < 86 then
 (if pc = 83 then in_v2 YM 5 S_X5_number 86 else in_no) else
 (if pc < 89 then
 (if pc = 86 then in_go 90 else in_no) else
 (if pc = 89 then in_push (.int 0) 90 else in_no))) else
 (if pc < 92 then
 (if pc < 91 then
 (if pc = 90 then in_ist 3 91 else in_no) else
 (if pc = 91 then in_ald 0 92 else in_no)) else
 (if pc < 95 then
 (if pc = 92 then in_get YM 5 15 95 else in_no) else
 (if pc = 95 then in_push (.int 80) 97 else in_no)))) else
 (if pc < 102 then
 (if pc < 98 then
 (if pc = 97 then in_ald 0 98 else in_no) else
 (if pc < 101 then
 (if pc = 98 then in_get YM 5 34 101 else in_no) else
 (if pc = 101 then in_iii (fun x y => x + y) 102 else in_no))) else
 (if pc < 104 then
 (if pc < 103 then
 (if pc = 102 then in_ild 2 103 else in_no) else
 (if pc = 103 then in_ild 3 104 else in_no)) else
 (if pc < 107 then
 (if pc = 104 then in_if1 (fun x => x = 0) 107 111 else in_no) else
 (if pc = 107 then in_push (.int 1) 108 else in_no))))))) else
 (if pc < 158 then
 (if pc < 133 then
 (if pc < 120 then
 (if pc < 113 then
 (if pc < 111 then
 (if pc = 108 then in_go 112 else in_no) else
 (if pc < 112 then
 (if pc = 111 then in_ild 3 112 else in_no) else
 (if pc = 112 then in_iii (fun x y => x * y) 113 else in_no))) else
 (if pc < 115 then
 (if pc < 114 then
 (if pc = 113 then in_iaw YM 114 else in_no) else
 (if pc = 114 then in_ald 0 115 else in_no)) else
 (if pc < 118 then
 (if pc = 115 then in_get YM 5 16 118 else in_no) else
 (if pc = 118 then in_push (.int 80) 120 else in_no)))) else
 (if pc < 125 then
 (if pc < 121 then
 (if pc = 120 then in_ald 0 121 else in_no) else
 (if pc < 124 then
 (if pc = 121 then in_get YM 5 34 124 else in_no) else
 (if pc = 124 then in_iii (fun x y => x + y) 125 else in_no))) else
 (if pc < 129 then
 (if pc < 126 then
 (if pc = 125 then in_ald 0 126 else in_no) else
 (if pc = 126 then in_get YM 5 33 129 else in_no)) else
 (if pc < 132 then
 (if pc = 129 then in_if1 (fun x => 0 ≤ x) 139 132 else in_no) else
 (if pc = 132 then in_ald 0 133 else in_no))))) else
 (if pc < 147 then
 (if pc < 140 then
 (if pc < 136 then
 (if pc = 133 then in_v1 YM 5 S_X5_name 136 else in_no) else
 (if pc < 139 then
 (if pc = 136 then in_go 140 else in_no) else
 (if pc = 139 then in_push (.int 0) 140 else in_no))) else
 (if pc < 142 then
 (if pc < 141 then
 (if pc = 140 then in_iaw YM 141 else in_no) else
 (if pc = 141 then in_ald 0 142 else in_no)) else
 (if pc < 145 then
 (if pc = 142 then in_get YM 5 17 145 else in_no) else
 (if pc = 145 then in_push (.int 80) 147 else in_no)))) else
 (if pc < 152 then
 (if pc < 148 then
 (if pc = 147 then in_ald 0 148 else in_no) else
 (if pc < 151 then
 (if pc = 148 then in_get YM 5 34 151 else in_no) else
 (if pc = 151 then in_iii (fun x y => x + y) 152 else in_no))) else
 (if pc < 154 then
 (if pc < 153 then
 (if pc = 152 then in_push (.int (-1)) 153 else in_no) else
 (if pc = 153 then in_iaw YM 154 else in_no)) else
 (if pc < 155 then
 (if pc = 154 then in_ald 0 155 else in_no) else
 (if pc = 155 then in_get YM 5 33 158 else in_no)))))) else
 (if pc < 185 then
 (if pc < 174 then
 (if pc < 163 then
 (if pc < 161 then
 (if pc = 158 then in_if1 (fun x => 0 ≤ x) 200 161 else in_no) else
 (if pc < 162 then
 (if pc = 161 then in_ald 0 162 else in_no) else
 (if pc = 162 then in_ald 0 163 else in_no))) else
 (if pc < 169 then
 (if pc < 166 then
 (if pc = 163 then in_get YM 5 32 166 else in_no) else
 (if pc = 166 then in_v2 YM 5 S_X5_byteAt 169 else in_no)) else
 (if pc < 171 then
 (if pc = 169 then in_push (.int 46) 171 else in_no) else
 (if pc = 171 then in_if2 (fun x y => x = y) 174 200 else in_no)))) else
 (if pc < 179 then
 (if pc < 175 then
 (if pc = 174 then in_ald 0 175 else in_no) else
 (if pc < 176 then
 (if pc = 175 then in_dup 176 else in_no) else
 (if pc = 176 then in_get YM 5 32 179 else in_no))) else
 (if pc < 181 then
 (if pc < 180 then
 (if pc = 179 then in_push (.int 1) 180 else in_no) else
 (if pc = 180 then in_iii (fun x y => x + y) 181 else in_no)) else
 (if pc < 184 then
 (if pc = 181 then in_put YM 5 32 184 else in_no) else
 (if pc = 184 then in_ald 0 185 else in_no))))) else
 (if pc < 199 then
 (if pc < 191 then
 (if pc < 188 then
 (if pc = 185 then in_get YM 5 17 188 else in_no) else
 (if pc < 190 then
 (if pc = 188 then in_push (.int 80) 190 else in_no) else
 (if pc = 190 then in_ald 0 191 else in_no))) else
 (if pc < 195 then
 (if pc < 194 then
 (if pc = 191 then in_get YM 5 34 194 else in_no) else
 (if pc = 194 then in_iii (fun x y => x + y) 195 else in_no)) else
 (if pc < 196 then
 (if pc = 195 then in_ald 0 196 else in_no) else
 (if pc = 196 then in_v1 YM 5 S_X5_name 199 else in_no)))) else
 (if pc < 205 then
 (if pc < 201 then
 (if pc < 200 then
 (if pc = 199 then in_iaw YM 200 else in_no) else
 (if pc = 200 then in_ald 0 201 else in_no)) else
 (if pc < 202 then
 (if pc = 201 then in_dup 202 else in_no) else
 (if pc = 202 then in_get YM 5 34 205 else in_no))) else
 (if pc < 207 then
 (if pc < 206 then
 (if pc = 205 then in_push (.int 1) 206 else in_no) else
 (if pc = 206 then in_iii (fun x y => x + y) 207 else in_no)) else
 (if pc < 210 then
 (if pc = 207 then in_put YM 5 34 210 else in_no) else
 (if pc = 210 then in_rv else in_no))))))))
theorem tk_X5_term {l : Launch} {w : ma_Wd} {NC : Nat} {A : Nat → Prop} {S_X5_byteAt S_X5_fails S_X5_number S_X5_name : ma_Cs} (h_X5_byteAt : ma_Sd l w YM NC A yX5_byteAt cX5_byteAt 2 (some .int) rm_X5_byteAt S_X5_byteAt) (h_X5_fails : ma_Sd l w YM NC A yX5_fails cX5_fails 2 none rm_X5_fails S_X5_fails) (h_X5_number : ma_Sd l w YM NC A yX5_number cX5_number 4 (some .int) rm_X5_number S_X5_number) (h_X5_name : ma_Sd l w YM NC A yX5_name cX5_name 7 (some .int) rm_X5_name S_X5_name) {p : Program} {e : Env} {s : State} {m : MethodId} {args : Array Value} {below : List Frame} {meth : Method} {c : Code} (X : ma_Cx p s m args meth c w YM NC A yX5_term.cls cX5_term 4 none) : ∀ pc, ma_Ok p l e rm_X5_term s m args below meth c w YM NC A 4 pc (tb_X5_term S_X5_byteAt S_X5_fails S_X5_number S_X5_name pc) := fun pc =>
 (mk_lt
 (mk_lt
 (mk_lt
 (mk_lt
 (mk_lt
 (mk_lt
 (mk_eq (mk_iconst X dX5_term_0 rfl rfl))
 (mk_lt
 (mk_eq (mk_istore_n X dX5_term_1 rfl (Nat.le_of_ble_eq_true rfl) rfl))
 (mk_eq (mk_aload_n X dX5_term_2 rfl rfl))))
 (mk_lt
 (mk_lt
 (mk_eq (mk_aload_n X dX5_term_3 rfl rfl))
 (mk_eq (mk_get X (ci := 5) (j := 32) rfl in_X5 (Nat.le_of_ble_eq_true rfl) q779 dX5_term_4 rfl)))
 (mk_lt
 (mk_eq (mk_V2 X h_X5_byteAt (ci := 5) rfl (lw_V q937 q939 qs33 q66 q940) ⟨rfl, by decide, by decide, rfl⟩ ⟨(Nat.le_of_ble_eq_true rfl), (Nat.le_of_ble_eq_true rfl)⟩ dX5_term_7 rfl))
 (mk_eq (mk_bipush X dX5_term_10 rfl rfl)))))
 (mk_lt
 (mk_lt
 (mk_eq (mk_iceq X dX5_term_12 rfl rfl))
 (mk_lt
 (mk_eq (mk_aload_n X dX5_term_15 rfl rfl))
 (mk_eq (mk_aload_n X dX5_term_16 rfl rfl))))
 (mk_lt
 (mk_lt
 (mk_eq (mk_get X (ci := 5) (j := 32) rfl in_X5 (Nat.le_of_ble_eq_true rfl) q779 dX5_term_17 rfl))
 (mk_eq (mk_V2 X h_X5_byteAt (ci := 5) rfl (lw_V q937 q939 qs33 q66 q940) ⟨rfl, by decide, by decide, rfl⟩ ⟨(Nat.le_of_ble_eq_true rfl), (Nat.le_of_ble_eq_true rfl)⟩ dX5_term_20 rfl)))
 (mk_lt
 (mk_eq (mk_bipush X dX5_term_23 rfl rfl))
 (mk_eq (mk_icne X dX5_term_25 rfl rfl))))))
 (mk_lt
 (mk_lt
 (mk_lt
 (mk_eq (mk_aload_n X dX5_term_28 rfl rfl))
 (mk_lt
 (mk_eq (mk_aload_n X dX5_term_29 rfl rfl))
 (mk_eq (mk_get X (ci := 5) (j := 32) rfl in_X5 (Nat.le_of_ble_eq_true rfl) q779 dX5_term_30 rfl))))
 (mk_lt
 (mk_lt
 (mk_eq (mk_V2 X h_X5_byteAt (ci := 5) rfl (lw_V q937 q939 qs33 q66 q940) ⟨rfl, by decide, by decide, rfl⟩ ⟨(Nat.le_of_ble_eq_true rfl), (Nat.le_of_ble_eq_true rfl)⟩ dX5_term_33 rfl))
 (mk_eq (mk_bipush X dX5_term_36 rfl rfl)))
 (mk_lt
 (mk_eq (mk_icne X dX5_term_38 rfl rfl))
 (mk_eq (mk_iconst X dX5_term_41 rfl rfl)))))
 (mk_lt
 (mk_lt
 (mk_eq (mk_goto X dX5_term_42 rfl))
 (mk_lt
 (mk_eq (mk_iconst X dX5_term_45 rfl rfl))
 (mk_eq (mk_istore_n X dX5_term_46 rfl (Nat.le_of_ble_eq_true rfl) rfl))))
 (mk_lt
 (mk_lt
 (mk_eq (mk_aload_n X dX5_term_47 rfl rfl))
 (mk_eq (mk_dup X dX5_term_48 rfl)))
 (mk_lt
 (mk_eq (mk_get X (ci := 5) (j := 32) rfl in_X5 (Nat.le_of_ble_eq_true rfl) q779 dX5_term_49 rfl))
 (mk_eq (mk_iconst X dX5_term_52 rfl rfl)))))))
 (mk_lt
 (mk_lt
 (mk_lt
 (mk_lt
 (mk_eq (mk_iadd X dX5_term_53 rfl))
 (mk_lt
 (mk_eq (mk_put X (ci := 5) (j := 32) rfl in_X5 tyX5_ok nmX5 (Nat.le_of_ble_eq_true rfl) rfl rfl q779 dX5_term_54 rfl))
 (mk_eq (mk_goto X dX5_term_57 rfl))))
 (mk_lt
 (mk_lt
 (mk_eq (mk_iload_n X dX5_term_60 rfl rfl))
 (mk_eq (mk_ifne X dX5_term_61 rfl rfl)))
 (mk_lt
 (mk_eq (mk_aload_n X dX5_term_64 rfl rfl))
 (mk_eq (mk_aload_n X dX5_term_65 rfl rfl)))))
 (mk_lt
 (mk_lt
 (mk_eq (mk_get X (ci := 5) (j := 32) rfl in_X5 (Nat.le_of_ble_eq_true rfl) q779 dX5_term_66 rfl))
 (mk_lt
 (mk_eq (mk_V2 X h_X5_fails (ci := 5) rfl (lw_V q941 q943 qs34 q66 q944) ⟨rfl, by decide, by decide, rfl⟩ ⟨(Nat.le_of_ble_eq_true rfl), (Nat.le_of_ble_eq_true rfl)⟩ dX5_term_69 rfl))
 (mk_eq (mk_aload_n X dX5_term_72 rfl rfl))))
 (mk_lt
 (mk_lt
 (mk_eq (mk_get X (ci := 5) (j := 33) rfl in_X5 (Nat.le_of_ble_eq_true rfl) q780 dX5_term_73 rfl))
 (mk_eq (mk_ifge X dX5_term_76 rfl rfl)))
 (mk_lt
 (mk_eq (mk_aload_n X dX5_term_79 rfl rfl))
 (mk_eq (mk_sipush X dX5_term_80 rfl rfl))))))
 (mk_lt
 (mk_lt
 (mk_lt
 (mk_eq (mk_V2 X h_X5_number (ci := 5) rfl (lw_V q949 q951 qs36 q66 q952) ⟨rfl, by decide, by decide, rfl⟩ ⟨(Nat.le_of_ble_eq_true rfl), (Nat.le_of_ble_eq_true rfl)⟩ dX5_term_83 rfl))
 (mk_lt
 (mk_eq (mk_goto X dX5_term_86 rfl))
 (mk_eq (mk_iconst X dX5_term_89 rfl rfl))))
 (mk_lt
 (mk_lt
 (mk_eq (mk_istore_n X dX5_term_90 rfl (Nat.le_of_ble_eq_true rfl) rfl))
 (mk_eq (mk_aload_n X dX5_term_91 rfl rfl)))
 (mk_lt
 (mk_eq (mk_get X (ci := 5) (j := 15) rfl in_X5 (Nat.le_of_ble_eq_true rfl) q762 dX5_term_92 rfl))
 (mk_eq (mk_bipush X dX5_term_95 rfl rfl)))))
 (mk_lt
 (mk_lt
 (mk_eq (mk_aload_n X dX5_term_97 rfl rfl))
 (mk_lt
 (mk_eq (mk_get X (ci := 5) (j := 34) rfl in_X5 (Nat.le_of_ble_eq_true rfl) q781 dX5_term_98 rfl))
 (mk_eq (mk_iadd X dX5_term_101 rfl))))
 (mk_lt
 (mk_lt
 (mk_eq (mk_iload_n X dX5_term_102 rfl rfl))
 (mk_eq (mk_iload_n X dX5_term_103 rfl rfl)))
 (mk_lt
 (mk_eq (mk_ifne X dX5_term_104 rfl rfl))
 (mk_eq (mk_iconst X dX5_term_107 rfl rfl))))))))
 (mk_lt
 (mk_lt
 (mk_lt
 (mk_lt
 (mk_lt
 (mk_eq (mk_goto X dX5_term_108 rfl))
 (mk_lt
 (mk_eq (mk_iload_n X dX5_term_111 rfl rfl))
 (mk_eq (mk_imul X dX5_term_112 rfl))))
 (mk_lt
 (mk_lt
 (mk_eq (mk_iaw X dX5_term_113 rfl))
 (mk_eq (mk_aload_n X dX5_term_114 rfl rfl)))
 (mk_lt
 (mk_eq (mk_get X (ci := 5) (j := 16) rfl in_X5 (Nat.le_of_ble_eq_true rfl) q763 dX5_term_115 rfl))
 (mk_eq (mk_bipush X dX5_term_118 rfl rfl)))))
 (mk_lt
 (mk_lt
 (mk_eq (mk_aload_n X dX5_term_120 rfl rfl))
 (mk_lt
 (mk_eq (mk_get X (ci := 5) (j := 34) rfl in_X5 (Nat.le_of_ble_eq_true rfl) q781 dX5_term_121 rfl))
 (mk_eq (mk_iadd X dX5_term_124 rfl))))
 (mk_lt
 (mk_lt
 (mk_eq (mk_aload_n X dX5_term_125 rfl rfl))
 (mk_eq (mk_get X (ci := 5) (j := 33) rfl in_X5 (Nat.le_of_ble_eq_true rfl) q780 dX5_term_126 rfl)))
 (mk_lt
 (mk_eq (mk_ifge X dX5_term_129 rfl rfl))
 (mk_eq (mk_aload_n X dX5_term_132 rfl rfl))))))
 (mk_lt
 (mk_lt
 (mk_lt
 (mk_eq (mk_V1 X h_X5_name (ci := 5) rfl (lw_V q956 q958 qs37 q66 q959) ⟨rfl, by decide, by decide, rfl⟩ ⟨(Nat.le_of_ble_eq_true rfl), (Nat.le_of_ble_eq_true rfl)⟩ dX5_term_133 rfl))
 (mk_lt
 (mk_eq (mk_goto X dX5_term_136 rfl))
 (mk_eq (mk_iconst X dX5_term_139 rfl rfl))))
 (mk_lt
 (mk_lt
 (mk_eq (mk_iaw X dX5_term_140 rfl))
 (mk_eq (mk_aload_n X dX5_term_141 rfl rfl)))
 (mk_lt
 (mk_eq (mk_get X (ci := 5) (j := 17) rfl in_X5 (Nat.le_of_ble_eq_true rfl) q764 dX5_term_142 rfl))
 (mk_eq (mk_bipush X dX5_term_145 rfl rfl)))))
 (mk_lt
 (mk_lt
 (mk_eq (mk_aload_n X dX5_term_147 rfl rfl))
 (mk_lt
 (mk_eq (mk_get X (ci := 5) (j := 34) rfl in_X5 (Nat.le_of_ble_eq_true rfl) q781 dX5_term_148 rfl))
 (mk_eq (mk_iadd X dX5_term_151 rfl))))
 (mk_lt
 (mk_lt
 (mk_eq (mk_iconst X dX5_term_152 rfl rfl))
 (mk_eq (mk_iaw X dX5_term_153 rfl)))
 (mk_lt
 (mk_eq (mk_aload_n X dX5_term_154 rfl rfl))
 (mk_eq (mk_get X (ci := 5) (j := 33) rfl in_X5 (Nat.le_of_ble_eq_true rfl) q780 dX5_term_155 rfl)))))))
 (mk_lt
 (mk_lt
 (mk_lt
 (mk_lt
 (mk_eq (mk_ifge X dX5_term_158 rfl rfl))
 (mk_lt
 (mk_eq (mk_aload_n X dX5_term_161 rfl rfl))
 (mk_eq (mk_aload_n X dX5_term_162 rfl rfl))))
 (mk_lt
 (mk_lt
 (mk_eq (mk_get X (ci := 5) (j := 32) rfl in_X5 (Nat.le_of_ble_eq_true rfl) q779 dX5_term_163 rfl))
 (mk_eq (mk_V2 X h_X5_byteAt (ci := 5) rfl (lw_V q937 q939 qs33 q66 q940) ⟨rfl, by decide, by decide, rfl⟩ ⟨(Nat.le_of_ble_eq_true rfl), (Nat.le_of_ble_eq_true rfl)⟩ dX5_term_166 rfl)))
 (mk_lt
 (mk_eq (mk_bipush X dX5_term_169 rfl rfl))
 (mk_eq (mk_icne X dX5_term_171 rfl rfl)))))
 (mk_lt
 (mk_lt
 (mk_eq (mk_aload_n X dX5_term_174 rfl rfl))
 (mk_lt
 (mk_eq (mk_dup X dX5_term_175 rfl))
 (mk_eq (mk_get X (ci := 5) (j := 32) rfl in_X5 (Nat.le_of_ble_eq_true rfl) q779 dX5_term_176 rfl))))
 (mk_lt
 (mk_lt
 (mk_eq (mk_iconst X dX5_term_179 rfl rfl))
 (mk_eq (mk_iadd X dX5_term_180 rfl)))
 (mk_lt
 (mk_eq (mk_put X (ci := 5) (j := 32) rfl in_X5 tyX5_ok nmX5 (Nat.le_of_ble_eq_true rfl) rfl rfl q779 dX5_term_181 rfl))
 (mk_eq (mk_aload_n X dX5_term_184 rfl rfl))))))
 (mk_lt
 (mk_lt
 (mk_lt
 (mk_eq (mk_get X (ci := 5) (j := 17) rfl in_X5 (Nat.le_of_ble_eq_true rfl) q764 dX5_term_185 rfl))
 (mk_lt
 (mk_eq (mk_bipush X dX5_term_188 rfl rfl))
 (mk_eq (mk_aload_n X dX5_term_190 rfl rfl))))
 (mk_lt
 (mk_lt
 (mk_eq (mk_get X (ci := 5) (j := 34) rfl in_X5 (Nat.le_of_ble_eq_true rfl) q781 dX5_term_191 rfl))
 (mk_eq (mk_iadd X dX5_term_194 rfl)))
 (mk_lt
 (mk_eq (mk_aload_n X dX5_term_195 rfl rfl))
 (mk_eq (mk_V1 X h_X5_name (ci := 5) rfl (lw_V q956 q958 qs37 q66 q959) ⟨rfl, by decide, by decide, rfl⟩ ⟨(Nat.le_of_ble_eq_true rfl), (Nat.le_of_ble_eq_true rfl)⟩ dX5_term_196 rfl)))))
 (mk_lt
 (mk_lt
 (mk_lt
 (mk_eq (mk_iaw X dX5_term_199 rfl))
 (mk_eq (mk_aload_n X dX5_term_200 rfl rfl)))
 (mk_lt
 (mk_eq (mk_dup X dX5_term_201 rfl))
 (mk_eq (mk_get X (ci := 5) (j := 34) rfl in_X5 (Nat.le_of_ble_eq_true rfl) q781 dX5_term_202 rfl))))
 (mk_lt
 (mk_lt
 (mk_eq (mk_iconst X dX5_term_205 rfl rfl))
 (mk_eq (mk_iadd X dX5_term_206 rfl)))
 (mk_lt
 (mk_eq (mk_put X (ci := 5) (j := 34) rfl in_X5 tyX5_ok nmX5 (Nat.le_of_ble_eq_true rfl) rfl rfl q781 dX5_term_207 rfl))
 (mk_eq (mk_rv X dX5_term_210)))))))))
theorem sd_X5_term {l : Launch} {w : ma_Wd} {NC : Nat} {A : Nat → Prop} {S_X5_byteAt S_X5_fails S_X5_number S_X5_name : ma_Cs} (hw : ma_Wo w YM NC A) (h_X5_byteAt : ma_Sd l w YM NC A yX5_byteAt cX5_byteAt 2 (some .int) rm_X5_byteAt S_X5_byteAt) (h_X5_fails : ma_Sd l w YM NC A yX5_fails cX5_fails 2 none rm_X5_fails S_X5_fails) (h_X5_number : ma_Sd l w YM NC A yX5_number cX5_number 4 (some .int) rm_X5_number S_X5_number) (h_X5_name : ma_Sd l w YM NC A yX5_name cX5_name 7 (some .int) rm_X5_name S_X5_name) : ma_Sd l w YM NC A yX5_term cX5_term 4 none rm_X5_term (ma_rn (tb_X5_term S_X5_byteAt S_X5_fails S_X5_number S_X5_name) 4) := ma_of hw (by decide) ⟨rfl, rfl⟩ (fun X => tk_X5_term h_X5_byteAt h_X5_fails h_X5_number h_X5_name X)
theorem dX5_number_0 : decode cX5_number 0 = .ok (.aload_n 0, 1) := by decide +kernel
theorem dX5_number_1 : decode cX5_number 1 = .ok (.getfield 165, 3) := by decide +kernel
theorem dX5_number_4 : decode cX5_number 4 = .ok (.istore_n 2, 1) := by decide +kernel
theorem dX5_number_5 : decode cX5_number 5 = .ok (.iconst 0, 1) := by decide +kernel
theorem dX5_number_6 : decode cX5_number 6 = .ok (.istore_n 3, 1) := by decide +kernel
theorem dX5_number_7 : decode cX5_number 7 = .ok (.aload_n 0, 1) := by decide +kernel
theorem dX5_number_8 : decode cX5_number 8 = .ok (.aload_n 0, 1) := by decide +kernel
theorem dX5_number_9 : decode cX5_number 9 = .ok (.getfield 165, 3) := by decide +kernel
theorem dX5_number_12 : decode cX5_number 12 = .ok (.invokevirtual 168, 3) := by decide +kernel
theorem dX5_number_15 : decode cX5_number 15 = .ok (.i2l, 1) := by decide +kernel
theorem dX5_number_16 : decode cX5_number 16 = .ok (.ldc2_w 172, 3) := by decide +kernel
theorem dX5_number_19 : decode cX5_number 19 = .ok (.ldc2_w 174, 3) := by decide +kernel
theorem dX5_number_22 : decode cX5_number 22 = .ok (.invokestatic 128, 3) := by decide +kernel
theorem dX5_number_25 : decode cX5_number 25 = .ok (.ifCond .eq 43, 3) := by decide +kernel
theorem dX5_number_28 : decode cX5_number 28 = .ok (.iload_n 3, 1) := by decide +kernel
theorem dX5_number_29 : decode cX5_number 29 = .ok (.ldc 176, 2) := by decide +kernel
theorem dX5_number_31 : decode cX5_number 31 = .ok (.if_icmp .ge 22, 3) := by decide +kernel
theorem dX5_number_34 : decode cX5_number 34 = .ok (.bipush 10, 2) := by decide +kernel
theorem dX5_number_36 : decode cX5_number 36 = .ok (.iload_n 3, 1) := by decide +kernel
theorem dX5_number_37 : decode cX5_number 37 = .ok (.imul, 1) := by decide +kernel
theorem dX5_number_38 : decode cX5_number 38 = .ok (.aload_n 0, 1) := by decide +kernel
theorem dX5_number_39 : decode cX5_number 39 = .ok (.aload_n 0, 1) := by decide +kernel
theorem dX5_number_40 : decode cX5_number 40 = .ok (.getfield 165, 3) := by decide +kernel
theorem dX5_number_43 : decode cX5_number 43 = .ok (.invokevirtual 168, 3) := by decide +kernel
theorem dX5_number_46 : decode cX5_number 46 = .ok (.iadd, 1) := by decide +kernel
theorem dX5_number_47 : decode cX5_number 47 = .ok (.bipush 48, 2) := by decide +kernel
theorem dX5_number_49 : decode cX5_number 49 = .ok (.isub, 1) := by decide +kernel
theorem dX5_number_50 : decode cX5_number 50 = .ok (.goto 4, 3) := by decide +kernel
theorem dX5_number_53 : decode cX5_number 53 = .ok (.iload_n 3, 1) := by decide +kernel
theorem dX5_number_54 : decode cX5_number 54 = .ok (.istore_n 3, 1) := by decide +kernel
theorem dX5_number_55 : decode cX5_number 55 = .ok (.aload_n 0, 1) := by decide +kernel
theorem dX5_number_56 : decode cX5_number 56 = .ok (.dup, 1) := by decide +kernel
theorem dX5_number_57 : decode cX5_number 57 = .ok (.getfield 165, 3) := by decide +kernel
theorem dX5_number_60 : decode cX5_number 60 = .ok (.iconst 1, 1) := by decide +kernel
theorem dX5_number_61 : decode cX5_number 61 = .ok (.iadd, 1) := by decide +kernel
theorem dX5_number_62 : decode cX5_number 62 = .ok (.putfield 165, 3) := by decide +kernel
theorem dX5_number_65 : decode cX5_number 65 = .ok (.goto (-58), 3) := by decide +kernel
theorem dX5_number_68 : decode cX5_number 68 = .ok (.aload_n 0, 1) := by decide +kernel
theorem dX5_number_69 : decode cX5_number 69 = .ok (.getfield 165, 3) := by decide +kernel
theorem dX5_number_72 : decode cX5_number 72 = .ok (.iload_n 2, 1) := by decide +kernel
theorem dX5_number_73 : decode cX5_number 73 = .ok (.if_icmp .le 23, 3) := by decide +kernel
theorem dX5_number_76 : decode cX5_number 76 = .ok (.aload_n 0, 1) := by decide +kernel
theorem dX5_number_77 : decode cX5_number 77 = .ok (.iload_n 2, 1) := by decide +kernel
theorem dX5_number_78 : decode cX5_number 78 = .ok (.invokevirtual 168, 3) := by decide +kernel
theorem dX5_number_81 : decode cX5_number 81 = .ok (.bipush 48, 2) := by decide +kernel
theorem dX5_number_83 : decode cX5_number 83 = .ok (.if_icmp .eq 8, 3) := by decide +kernel
theorem dX5_number_86 : decode cX5_number 86 = .ok (.iload_n 3, 1) := by decide +kernel
theorem dX5_number_87 : decode cX5_number 87 = .ok (.iload_n 1, 1) := by decide +kernel
theorem dX5_number_88 : decode cX5_number 88 = .ok (.if_icmp .le 8, 3) := by decide +kernel
theorem dX5_number_91 : decode cX5_number 91 = .ok (.aload_n 0, 1) := by decide +kernel
theorem dX5_number_92 : decode cX5_number 92 = .ok (.iload_n 2, 1) := by decide +kernel
theorem dX5_number_93 : decode cX5_number 93 = .ok (.invokevirtual 177, 3) := by decide +kernel
theorem dX5_number_96 : decode cX5_number 96 = .ok (.iload_n 3, 1) := by decide +kernel
theorem dX5_number_97 : decode cX5_number 97 = .ok (.ireturn, 1) := by decide +kernel
def tb_X5_number (S_X5_byteAt S_X5_in S_X5_fails : ma_Cs) : Nat → ma_In := fun pc =>
 (if pc < 50 then
 (if pc < 25 then
 (if pc < 8 then
 (if pc < 5 then
 (if pc < 1 then
 (if pc = 0 then in_ald 0 1 else in_no) else
 (if pc < 4 then
 (if pc = 1 then in_get YM 5 32 4 else in_no) else
 (if pc = 4 then in_ist 2 5 else in_no))) else
 (if pc < 6 then
 (if pc = 5 then in_push (.int 0) 6 else in_no) else
 (if pc < 7 then
 (if pc = 6 then in_ist 3 7 else in_no) else
 (if pc = 7 then in_ald 0 8 else in_no)))) else
 (if pc < 15 then
 (if pc < 9 then
 (if pc = 8 then in_ald 0 9 else in_no) else
 (if pc < 12 then
 (if pc = 9 then in_get YM 5 32 12 else in_no) else
 (if pc = 12 then in_v2 YM 5 S_X5_byteAt 15 else in_no))) else
 (if pc < 19 then
 (if pc < 16 then
 (if pc = 15 then in_il (fun x => x.toInt64) 16 else in_no) else
 (if pc = 16 then in_push (.long 48) 19 else in_no)) else
 (if pc < 22 then
 (if pc = 19 then in_push (.long 57) 22 else in_no) else
 (if pc = 22 then in_s3 S_X5_in 25 else in_no))))) else
 (if pc < 38 then
 (if pc < 31 then
 (if pc < 28 then
 (if pc = 25 then in_if1 (fun x => x = 0) 68 28 else in_no) else
 (if pc < 29 then
 (if pc = 28 then in_ild 3 29 else in_no) else
 (if pc = 29 then in_push (.int 100000) 31 else in_no))) else
 (if pc < 36 then
 (if pc < 34 then
 (if pc = 31 then in_if2 (fun x y => y ≤ x) 53 34 else in_no) else
 (if pc = 34 then in_push (.int 10) 36 else in_no)) else
 (if pc < 37 then
 (if pc = 36 then in_ild 3 37 else in_no) else
 (if pc = 37 then in_iii (fun x y => x * y) 38 else in_no)))) else
 (if pc < 43 then
 (if pc < 39 then
 (if pc = 38 then in_ald 0 39 else in_no) else
 (if pc < 40 then
 (if pc = 39 then in_ald 0 40 else in_no) else
 (if pc = 40 then in_get YM 5 32 43 else in_no))) else
 (if pc < 47 then
 (if pc < 46 then
 (if pc = 43 then in_v2 YM 5 S_X5_byteAt 46 else in_no) else
 (if pc = 46 then in_iii (fun x y => x + y) 47 else in_no)) else
 (if pc < 49 then
 (if pc = 47 then in_push (.int 48) 49 else in_no) else
 (if pc = 49 then in_iii (fun x y => x - y) 50 else in_no)))))) else
 (if pc < 73 then
 (if pc < 60 then
 (if pc < 55 then
 (if pc < 53 then
 (if pc = 50 then in_go 54 else in_no) else
 (if pc < 54 then
 (if pc = 53 then in_ild 3 54 else in_no) else
 (if pc = 54 then in_ist 3 55 else in_no))) else
 (if pc < 56 then
 (if pc = 55 then in_ald 0 56 else in_no) else
 (if pc < 57 then
 (if pc = 56 then in_dup 57 else in_no) else
 (if pc = 57 then in_get YM 5 32 60 else in_no)))) else
 (if pc < 65 then
 (if pc < 61 then
 (if pc = 60 then in_push (.int 1) 61 else in_no) else
 (if pc < 62 then
 (if pc = 61 then in_iii (fun x y => x + y) 62 else in_no) else
 (if pc = 62 then in_put YM 5 32 65 else in_no))) else
 (if pc < 69 then
 (if pc < 68 then
 (if pc = 65 then in_go 7 else in_no) else
 (if pc = 68 then in_ald 0 69 else in_no)) else
 (if pc < 72 then
 (if pc = 69 then in_get YM 5 32 72 else in_no) else
 (if pc = 72 then in_ild 2 73 else in_no))))) else
 (if pc < 87 then
 (if pc < 78 then
 (if pc < 76 then
 (if pc = 73 then in_if2 (fun x y => x ≤ y) 96 76 else in_no) else
 (if pc < 77 then
 (if pc = 76 then in_ald 0 77 else in_no) else
 (if pc = 77 then in_ild 2 78 else in_no))) else
 (if pc < 83 then
 (if pc < 81 then
 (if pc = 78 then in_v2 YM 5 S_X5_byteAt 81 else in_no) else
 (if pc = 81 then in_push (.int 48) 83 else in_no)) else
 (if pc < 86 then
 (if pc = 83 then in_if2 (fun x y => x = y) 91 86 else in_no) else
 (if pc = 86 then in_ild 3 87 else in_no)))) else
 (if pc < 92 then
 (if pc < 88 then
 (if pc = 87 then in_ild 1 88 else in_no) else
 (if pc < 91 then
 (if pc = 88 then in_if2 (fun x y => x ≤ y) 96 91 else in_no) else
 (if pc = 91 then in_ald 0 92 else in_no))) else
 (if pc < 96 then
 (if pc < 93 then
 (if pc = 92 then in_ild 2 93 else in_no) else
 (if pc = 93 then in_v2 YM 5 S_X5_fails 96 else in_no)) else
 (if pc < 97 then
 (if pc = 96 then in_ild 3 97 else in_no) else
 (if pc = 97 then in_ri else in_no)))))))
theorem tk_X5_number {l : Launch} {w : ma_Wd} {NC : Nat} {A : Nat → Prop} {S_X5_byteAt S_X5_in S_X5_fails : ma_Cs} (h_X5_byteAt : ma_Sd l w YM NC A yX5_byteAt cX5_byteAt 2 (some .int) rm_X5_byteAt S_X5_byteAt) (h_X5_in : ma_Sd l w YM NC A yX5_in cX5_in 6 (some .boolean) rm_X5_in S_X5_in) (h_X5_fails : ma_Sd l w YM NC A yX5_fails cX5_fails 2 none rm_X5_fails S_X5_fails) {p : Program} {e : Env} {s : State} {m : MethodId} {args : Array Value} {below : List Frame} {meth : Method} {c : Code} (X : ma_Cx p s m args meth c w YM NC A yX5_number.cls cX5_number 4 (some .int)) : ∀ pc, ma_Ok p l e rm_X5_number s m args below meth c w YM NC A 4 pc (tb_X5_number S_X5_byteAt S_X5_in S_X5_fails pc) := fun pc =>
 (mk_lt
 (mk_lt
 (mk_lt
 (mk_lt
 (mk_lt
 (mk_eq (mk_aload_n X dX5_number_0 rfl rfl))
 (mk_lt
 (mk_eq (mk_get X (ci := 5) (j := 32) rfl in_X5 (Nat.le_of_ble_eq_true rfl) q779 dX5_number_1 rfl))
 (mk_eq (mk_istore_n X dX5_number_4 rfl (Nat.le_of_ble_eq_true rfl) rfl))))
 (mk_lt
 (mk_eq (mk_iconst X dX5_number_5 rfl rfl))
 (mk_lt
 (mk_eq (mk_istore_n X dX5_number_6 rfl (Nat.le_of_ble_eq_true rfl) rfl))
 (mk_eq (mk_aload_n X dX5_number_7 rfl rfl)))))
 (mk_lt
 (mk_lt
 (mk_eq (mk_aload_n X dX5_number_8 rfl rfl))
 (mk_lt
 (mk_eq (mk_get X (ci := 5) (j := 32) rfl in_X5 (Nat.le_of_ble_eq_true rfl) q779 dX5_number_9 rfl))
 (mk_eq (mk_V2 X h_X5_byteAt (ci := 5) rfl (lw_V q937 q939 qs33 q66 q940) ⟨rfl, by decide, by decide, rfl⟩ ⟨(Nat.le_of_ble_eq_true rfl), (Nat.le_of_ble_eq_true rfl)⟩ dX5_number_12 rfl))))
 (mk_lt
 (mk_lt
 (mk_eq (mk_i2l X dX5_number_15 rfl))
 (mk_eq (mk_ldc2 X dX5_number_16 q953 rfl)))
 (mk_lt
 (mk_eq (mk_ldc2 X dX5_number_19 q954 rfl))
 (mk_eq (mk_S3 X h_X5_in (lw_S q892 q893 q66 q894) ⟨by decide, by decide, rfl⟩ ⟨(Nat.le_of_ble_eq_true rfl), (Nat.le_of_ble_eq_true rfl)⟩ dX5_number_22 rfl))))))
 (mk_lt
 (mk_lt
 (mk_lt
 (mk_eq (mk_ifeq X dX5_number_25 rfl rfl))
 (mk_lt
 (mk_eq (mk_iload_n X dX5_number_28 rfl rfl))
 (mk_eq (mk_ldc X dX5_number_29 q955 rfl))))
 (mk_lt
 (mk_lt
 (mk_eq (mk_icge X dX5_number_31 rfl rfl))
 (mk_eq (mk_bipush X dX5_number_34 rfl rfl)))
 (mk_lt
 (mk_eq (mk_iload_n X dX5_number_36 rfl rfl))
 (mk_eq (mk_imul X dX5_number_37 rfl)))))
 (mk_lt
 (mk_lt
 (mk_eq (mk_aload_n X dX5_number_38 rfl rfl))
 (mk_lt
 (mk_eq (mk_aload_n X dX5_number_39 rfl rfl))
 (mk_eq (mk_get X (ci := 5) (j := 32) rfl in_X5 (Nat.le_of_ble_eq_true rfl) q779 dX5_number_40 rfl))))
 (mk_lt
 (mk_lt
 (mk_eq (mk_V2 X h_X5_byteAt (ci := 5) rfl (lw_V q937 q939 qs33 q66 q940) ⟨rfl, by decide, by decide, rfl⟩ ⟨(Nat.le_of_ble_eq_true rfl), (Nat.le_of_ble_eq_true rfl)⟩ dX5_number_43 rfl))
 (mk_eq (mk_iadd X dX5_number_46 rfl)))
 (mk_lt
 (mk_eq (mk_bipush X dX5_number_47 rfl rfl))
 (mk_eq (mk_isub X dX5_number_49 rfl)))))))
 (mk_lt
 (mk_lt
 (mk_lt
 (mk_lt
 (mk_eq (mk_goto X dX5_number_50 rfl))
 (mk_lt
 (mk_eq (mk_iload_n X dX5_number_53 rfl rfl))
 (mk_eq (mk_istore_n X dX5_number_54 rfl (Nat.le_of_ble_eq_true rfl) rfl))))
 (mk_lt
 (mk_eq (mk_aload_n X dX5_number_55 rfl rfl))
 (mk_lt
 (mk_eq (mk_dup X dX5_number_56 rfl))
 (mk_eq (mk_get X (ci := 5) (j := 32) rfl in_X5 (Nat.le_of_ble_eq_true rfl) q779 dX5_number_57 rfl)))))
 (mk_lt
 (mk_lt
 (mk_eq (mk_iconst X dX5_number_60 rfl rfl))
 (mk_lt
 (mk_eq (mk_iadd X dX5_number_61 rfl))
 (mk_eq (mk_put X (ci := 5) (j := 32) rfl in_X5 tyX5_ok nmX5 (Nat.le_of_ble_eq_true rfl) rfl rfl q779 dX5_number_62 rfl))))
 (mk_lt
 (mk_lt
 (mk_eq (mk_goto X dX5_number_65 rfl))
 (mk_eq (mk_aload_n X dX5_number_68 rfl rfl)))
 (mk_lt
 (mk_eq (mk_get X (ci := 5) (j := 32) rfl in_X5 (Nat.le_of_ble_eq_true rfl) q779 dX5_number_69 rfl))
 (mk_eq (mk_iload_n X dX5_number_72 rfl rfl))))))
 (mk_lt
 (mk_lt
 (mk_lt
 (mk_eq (mk_icle X dX5_number_73 rfl rfl))
 (mk_lt
 (mk_eq (mk_aload_n X dX5_number_76 rfl rfl))
 (mk_eq (mk_iload_n X dX5_number_77 rfl rfl))))
 (mk_lt
 (mk_lt
 (mk_eq (mk_V2 X h_X5_byteAt (ci := 5) rfl (lw_V q937 q939 qs33 q66 q940) ⟨rfl, by decide, by decide, rfl⟩ ⟨(Nat.le_of_ble_eq_true rfl), (Nat.le_of_ble_eq_true rfl)⟩ dX5_number_78 rfl))
 (mk_eq (mk_bipush X dX5_number_81 rfl rfl)))
 (mk_lt
 (mk_eq (mk_iceq X dX5_number_83 rfl rfl))
 (mk_eq (mk_iload_n X dX5_number_86 rfl rfl)))))
 (mk_lt
 (mk_lt
 (mk_eq (mk_iload_n X dX5_number_87 rfl rfl))
 (mk_lt
 (mk_eq (mk_icle X dX5_number_88 rfl rfl))
 (mk_eq (mk_aload_n X dX5_number_91 rfl rfl))))
 (mk_lt
 (mk_lt
 (mk_eq (mk_iload_n X dX5_number_92 rfl rfl))
 (mk_eq (mk_V2 X h_X5_fails (ci := 5) rfl (lw_V q941 q943 qs34 q66 q944) ⟨rfl, by decide, by decide, rfl⟩ ⟨(Nat.le_of_ble_eq_true rfl), (Nat.le_of_ble_eq_true rfl)⟩ dX5_number_93 rfl)))
 (mk_lt
 (mk_eq (mk_iload_n X dX5_number_96 rfl rfl))
 (mk_eq (mk_ri X dX5_number_97))))))))
theorem sd_X5_number {l : Launch} {w : ma_Wd} {NC : Nat} {A : Nat → Prop} {S_X5_byteAt S_X5_in S_X5_fails : ma_Cs} (hw : ma_Wo w YM NC A) (h_X5_byteAt : ma_Sd l w YM NC A yX5_byteAt cX5_byteAt 2 (some .int) rm_X5_byteAt S_X5_byteAt) (h_X5_in : ma_Sd l w YM NC A yX5_in cX5_in 6 (some .boolean) rm_X5_in S_X5_in) (h_X5_fails : ma_Sd l w YM NC A yX5_fails cX5_fails 2 none rm_X5_fails S_X5_fails) : ma_Sd l w YM NC A yX5_number cX5_number 4 (some .int) rm_X5_number (ma_rn (tb_X5_number S_X5_byteAt S_X5_in S_X5_fails) 4) := ma_of hw (by decide) ⟨rfl, rfl⟩ (fun X => tk_X5_number h_X5_byteAt h_X5_in h_X5_fails X)
