/-! tables: X0_clearSky X0_clearTold X0_sky X0_isIn X0_cells X0_rule X0_rim X0_isLetter X0_write X0_wipe X0_fault X0_plan X0_line X0_first X0_isCell X0_at X0_isPlace X0_isStep X0_refresh X0_marked X0_sum X0_countOf X0_slip X0_mend X0_spread -/
set_option maxRecDepth 100000
set_option maxHeartbeats 4000000
theorem dX0_clearSky_0 : decode cX0_clearSky 0 = .ok (.iconst 0, 1) := by decide +kernel
theorem dX0_clearSky_1 : decode cX0_clearSky 1 = .ok (.istore_n 1, 1) := by decide +kernel
theorem dX0_clearSky_2 : decode cX0_clearSky 2 = .ok (.iload_n 1, 1) := by decide +kernel
theorem dX0_clearSky_3 : decode cX0_clearSky 3 = .ok (.sipush 144, 3) := by decide +kernel
theorem dX0_clearSky_6 : decode cX0_clearSky 6 = .ok (.if_icmp .ge 17, 3) := by decide +kernel
theorem dX0_clearSky_9 : decode cX0_clearSky 9 = .ok (.aload_n 0, 1) := by decide +kernel
theorem dX0_clearSky_10 : decode cX0_clearSky 10 = .ok (.getfield 49, 3) := by decide +kernel
theorem dX0_clearSky_13 : decode cX0_clearSky 13 = .ok (.iload_n 1, 1) := by decide +kernel
theorem dX0_clearSky_14 : decode cX0_clearSky 14 = .ok (.ldc 127, 2) := by decide +kernel
theorem dX0_clearSky_16 : decode cX0_clearSky 16 = .ok (.iastore, 1) := by decide +kernel
theorem dX0_clearSky_17 : decode cX0_clearSky 17 = .ok (.iinc 1 1, 3) := by decide +kernel
theorem dX0_clearSky_20 : decode cX0_clearSky 20 = .ok (.goto (-18), 3) := by decide +kernel
theorem dX0_clearSky_23 : decode cX0_clearSky 23 = .ok (.iconst 0, 1) := by decide +kernel
theorem dX0_clearSky_24 : decode cX0_clearSky 24 = .ok (.istore_n 1, 1) := by decide +kernel
theorem dX0_clearSky_25 : decode cX0_clearSky 25 = .ok (.iload_n 1, 1) := by decide +kernel
theorem dX0_clearSky_26 : decode cX0_clearSky 26 = .ok (.bipush 36, 2) := by decide +kernel
theorem dX0_clearSky_28 : decode cX0_clearSky 28 = .ok (.if_icmp .ge 16, 3) := by decide +kernel
theorem dX0_clearSky_31 : decode cX0_clearSky 31 = .ok (.aload_n 0, 1) := by decide +kernel
theorem dX0_clearSky_32 : decode cX0_clearSky 32 = .ok (.getfield 96, 3) := by decide +kernel
theorem dX0_clearSky_35 : decode cX0_clearSky 35 = .ok (.iload_n 1, 1) := by decide +kernel
theorem dX0_clearSky_36 : decode cX0_clearSky 36 = .ok (.iconst 0, 1) := by decide +kernel
theorem dX0_clearSky_37 : decode cX0_clearSky 37 = .ok (.iastore, 1) := by decide +kernel
theorem dX0_clearSky_38 : decode cX0_clearSky 38 = .ok (.iinc 1 1, 3) := by decide +kernel
theorem dX0_clearSky_41 : decode cX0_clearSky 41 = .ok (.goto (-16), 3) := by decide +kernel
theorem dX0_clearSky_44 : decode cX0_clearSky 44 = .ok (.aload_n 0, 1) := by decide +kernel
theorem dX0_clearSky_45 : decode cX0_clearSky 45 = .ok (.iconst 0, 1) := by decide +kernel
theorem dX0_clearSky_46 : decode cX0_clearSky 46 = .ok (.putfield 128, 3) := by decide +kernel
theorem dX0_clearSky_49 : decode cX0_clearSky 49 = .ok (.aload_n 0, 1) := by decide +kernel
theorem dX0_clearSky_50 : decode cX0_clearSky 50 = .ok (.iconst 0, 1) := by decide +kernel
theorem dX0_clearSky_51 : decode cX0_clearSky 51 = .ok (.putfield 131, 3) := by decide +kernel
theorem dX0_clearSky_54 : decode cX0_clearSky 54 = .ok (.aload_n 0, 1) := by decide +kernel
theorem dX0_clearSky_55 : decode cX0_clearSky 55 = .ok (.invokevirtual 134, 3) := by decide +kernel
theorem dX0_clearSky_58 : decode cX0_clearSky 58 = .ok (.aload_n 0, 1) := by decide +kernel
theorem dX0_clearSky_59 : decode cX0_clearSky 59 = .ok (.iconst 0, 1) := by decide +kernel
theorem dX0_clearSky_60 : decode cX0_clearSky 60 = .ok (.putfield 137, 3) := by decide +kernel
theorem dX0_clearSky_63 : decode cX0_clearSky 63 = .ok (.return_, 1) := by decide +kernel
def tb_X0_clearSky (S_X0_clearTold : ma_Cs) : Nat → ma_In := fun pc =>
 (if pc < 32 then
 (if pc < 16 then
 (if pc < 6 then
 (if pc < 2 then
 (if pc < 1 then
 (if pc = 0 then in_push (.int 0) 1 else in_no) else
 (if pc = 1 then in_ist 1 2 else in_no)) else
 (if pc < 3 then
 (if pc = 2 then in_ild 1 3 else in_no) else
 (if pc = 3 then in_push (.int 144) 6 else in_no))) else
 (if pc < 10 then
 (if pc < 9 then
 (if pc = 6 then in_if2 (fun x y => y ≤ x) 23 9 else in_no) else
 (if pc = 9 then in_ald 0 10 else in_no)) else
 (if pc < 13 then
 (if pc = 10 then in_get YX 0 9 13 else in_no) else
 (if pc < 14 then
 (if pc = 13 then in_ild 1 14 else in_no) else
 (if pc = 14 then in_push (.int 2000000) 16 else in_no))))) else
 (if pc < 24 then
 (if pc < 20 then
 (if pc < 17 then
 (if pc = 16 then in_iaw YX 17 else in_no) else
 (if pc = 17 then in_inc 1 1 20 else in_no)) else
 (if pc < 23 then
 (if pc = 20 then in_go 2 else in_no) else
 (if pc = 23 then in_push (.int 0) 24 else in_no))) else
 (if pc < 26 then
 (if pc < 25 then
 (if pc = 24 then in_ist 1 25 else in_no) else
 (if pc = 25 then in_ild 1 26 else in_no)) else
 (if pc < 28 then
 (if pc = 26 then in_push (.int 36) 28 else in_no) else
 (if pc < 31 then
 (if pc = 28 then in_if2 (fun x y => y ≤ x) 44 31 else in_no) else
 (if pc = 31 then in_ald 0 32 else in_no)))))) else
 (if pc < 49 then
 (if pc < 38 then
 (if pc < 36 then
 (if pc < 35 then
 (if pc = 32 then in_get YX 0 27 35 else in_no) else
 (if pc = 35 then in_ild 1 36 else in_no)) else
 (if pc < 37 then
 (if pc = 36 then in_push (.int 0) 37 else in_no) else
 (if pc = 37 then in_iaw YX 38 else in_no))) else
 (if pc < 44 then
 (if pc < 41 then
 (if pc = 38 then in_inc 1 1 41 else in_no) else
 (if pc = 41 then in_go 25 else in_no)) else
 (if pc < 45 then
 (if pc = 44 then in_ald 0 45 else in_no) else
 (if pc < 46 then
 (if pc = 45 then in_push (.int 0) 46 else in_no) else
 (if pc = 46 then in_put YX 0 10 49 else in_no))))) else
 (if pc < 55 then
 (if pc < 51 then
 (if pc < 50 then
 (if pc = 49 then in_ald 0 50 else in_no) else
 (if pc = 50 then in_push (.int 0) 51 else in_no)) else
 (if pc < 54 then
 (if pc = 51 then in_put YX 0 33 54 else in_no) else
 (if pc = 54 then in_ald 0 55 else in_no))) else
 (if pc < 59 then
 (if pc < 58 then
 (if pc = 55 then in_v1 YX 0 S_X0_clearTold 58 else in_no) else
 (if pc = 58 then in_ald 0 59 else in_no)) else
 (if pc < 60 then
 (if pc = 59 then in_push (.int 0) 60 else in_no) else
 (if pc < 63 then
 (if pc = 60 then in_puz YX 0 15 63 else in_no) else
 (if pc = 63 then in_rv else in_no)))))))
theorem tk_X0_clearSky {l : Launch} {w : ma_Wd} {NC : Nat} {A : Nat → Prop} {S_X0_clearTold : ma_Cs} (h_X0_clearTold : ma_Sd l w YX NC A yX0_clearTold cX0_clearTold 2 none rm_X0_clearTold S_X0_clearTold) {p : Program} {e : Env} {s : State} {m : MethodId} {args : Array Value} {below : List Frame} {meth : Method} {c : Code} (X : ma_Cx p s m args meth c w YX NC A yX0_clearSky.cls cX0_clearSky 2 none) : ∀ pc, ma_Ok p l e rm_X0_clearSky s m args below meth c w YX NC A 2 pc (tb_X0_clearSky S_X0_clearTold pc) := fun pc =>
 (mk_lt
 (mk_lt
 (mk_lt
 (mk_lt
 (mk_lt
 (mk_eq (mk_iconst X dX0_clearSky_0 rfl rfl))
 (mk_eq (mk_istore_n X dX0_clearSky_1 rfl (Nat.le_of_ble_eq_true rfl) rfl)))
 (mk_lt
 (mk_eq (mk_iload_n X dX0_clearSky_2 rfl rfl))
 (mk_eq (mk_sipush X dX0_clearSky_3 rfl rfl))))
 (mk_lt
 (mk_lt
 (mk_eq (mk_icge X dX0_clearSky_6 rfl rfl))
 (mk_eq (mk_aload_n X dX0_clearSky_9 rfl rfl)))
 (mk_lt
 (mk_eq (mk_get X (ci := 0) (j := 9) rfl in_X0 (Nat.le_of_ble_eq_true rfl) q243 dX0_clearSky_10 rfl))
 (mk_lt
 (mk_eq (mk_iload_n X dX0_clearSky_13 rfl rfl))
 (mk_eq (mk_ldc X dX0_clearSky_14 q216 rfl))))))
 (mk_lt
 (mk_lt
 (mk_lt
 (mk_eq (mk_iaw X dX0_clearSky_16 rfl))
 (mk_eq (mk_iinc X dX0_clearSky_17 rfl (Nat.le_of_ble_eq_true rfl) rfl)))
 (mk_lt
 (mk_eq (mk_goto X dX0_clearSky_20 rfl))
 (mk_eq (mk_iconst X dX0_clearSky_23 rfl rfl))))
 (mk_lt
 (mk_lt
 (mk_eq (mk_istore_n X dX0_clearSky_24 rfl (Nat.le_of_ble_eq_true rfl) rfl))
 (mk_eq (mk_iload_n X dX0_clearSky_25 rfl rfl)))
 (mk_lt
 (mk_eq (mk_bipush X dX0_clearSky_26 rfl rfl))
 (mk_lt
 (mk_eq (mk_icge X dX0_clearSky_28 rfl rfl))
 (mk_eq (mk_aload_n X dX0_clearSky_31 rfl rfl)))))))
 (mk_lt
 (mk_lt
 (mk_lt
 (mk_lt
 (mk_eq (mk_get X (ci := 0) (j := 27) rfl in_X0 (Nat.le_of_ble_eq_true rfl) q273 dX0_clearSky_32 rfl))
 (mk_eq (mk_iload_n X dX0_clearSky_35 rfl rfl)))
 (mk_lt
 (mk_eq (mk_iconst X dX0_clearSky_36 rfl rfl))
 (mk_eq (mk_iaw X dX0_clearSky_37 rfl))))
 (mk_lt
 (mk_lt
 (mk_eq (mk_iinc X dX0_clearSky_38 rfl (Nat.le_of_ble_eq_true rfl) rfl))
 (mk_eq (mk_goto X dX0_clearSky_41 rfl)))
 (mk_lt
 (mk_eq (mk_aload_n X dX0_clearSky_44 rfl rfl))
 (mk_lt
 (mk_eq (mk_iconst X dX0_clearSky_45 rfl rfl))
 (mk_eq (mk_put X (ci := 0) (j := 10) rfl in_X0 tyX0_ok nmX0 (Nat.le_of_ble_eq_true rfl) rfl rfl q246 dX0_clearSky_46 rfl))))))
 (mk_lt
 (mk_lt
 (mk_lt
 (mk_eq (mk_aload_n X dX0_clearSky_49 rfl rfl))
 (mk_eq (mk_iconst X dX0_clearSky_50 rfl rfl)))
 (mk_lt
 (mk_eq (mk_put X (ci := 0) (j := 33) rfl in_X0 tyX0_ok nmX0 (Nat.le_of_ble_eq_true rfl) rfl rfl q279 dX0_clearSky_51 rfl))
 (mk_eq (mk_aload_n X dX0_clearSky_54 rfl rfl))))
 (mk_lt
 (mk_lt
 (mk_eq (mk_V1 X h_X0_clearTold (ci := 0) rfl (lw_V q217 q219 qs1 q61 q220) ⟨rfl, by decide, by decide, rfl⟩ ⟨(Nat.le_of_ble_eq_true rfl), (Nat.le_of_ble_eq_true rfl)⟩ dX0_clearSky_55 rfl))
 (mk_eq (mk_aload_n X dX0_clearSky_58 rfl rfl)))
 (mk_lt
 (mk_eq (mk_iconst X dX0_clearSky_59 rfl rfl))
 (mk_lt
 (mk_eq (mk_puz X (ci := 0) (j := 15) rfl in_X0 tyX0_ok nmX0 (Nat.le_of_ble_eq_true rfl) rfl rfl q261 dX0_clearSky_60 rfl))
 (mk_eq (mk_rv X dX0_clearSky_63))))))))
theorem sd_X0_clearSky {l : Launch} {w : ma_Wd} {NC : Nat} {A : Nat → Prop} {S_X0_clearTold : ma_Cs} (hw : ma_Wo w YX NC A) (h_X0_clearTold : ma_Sd l w YX NC A yX0_clearTold cX0_clearTold 2 none rm_X0_clearTold S_X0_clearTold) : ma_Sd l w YX NC A yX0_clearSky cX0_clearSky 2 none rm_X0_clearSky (ma_rn (tb_X0_clearSky S_X0_clearTold) 2) := ma_of hw (by decide) ⟨rfl, rfl⟩ (fun X => tk_X0_clearSky h_X0_clearTold X)
theorem dX0_clearTold_0 : decode cX0_clearTold 0 = .ok (.iconst 0, 1) := by decide +kernel
theorem dX0_clearTold_1 : decode cX0_clearTold 1 = .ok (.istore_n 1, 1) := by decide +kernel
theorem dX0_clearTold_2 : decode cX0_clearTold 2 = .ok (.iload_n 1, 1) := by decide +kernel
theorem dX0_clearTold_3 : decode cX0_clearTold 3 = .ok (.bipush 12, 2) := by decide +kernel
theorem dX0_clearTold_5 : decode cX0_clearTold 5 = .ok (.if_icmp .ge 18, 3) := by decide +kernel
theorem dX0_clearTold_8 : decode cX0_clearTold 8 = .ok (.aload_n 0, 1) := by decide +kernel
theorem dX0_clearTold_9 : decode cX0_clearTold 9 = .ok (.getfield 77, 3) := by decide +kernel
theorem dX0_clearTold_12 : decode cX0_clearTold 12 = .ok (.iload_n 1, 1) := by decide +kernel
theorem dX0_clearTold_13 : decode cX0_clearTold 13 = .ok (.ldc2_w 238, 3) := by decide +kernel
theorem dX0_clearTold_16 : decode cX0_clearTold 16 = .ok (.lastore, 1) := by decide +kernel
theorem dX0_clearTold_17 : decode cX0_clearTold 17 = .ok (.iinc 1 1, 3) := by decide +kernel
theorem dX0_clearTold_20 : decode cX0_clearTold 20 = .ok (.goto (-18), 3) := by decide +kernel
theorem dX0_clearTold_23 : decode cX0_clearTold 23 = .ok (.return_, 1) := by decide +kernel
def tb_X0_clearTold : Nat → ma_In := fun pc =>
 (if pc < 9 then
 (if pc < 3 then
 (if pc < 1 then
 (if pc = 0 then in_push (.int 0) 1 else in_no) else
 (if pc < 2 then
 (if pc = 1 then in_ist 1 2 else in_no) else
 (if pc = 2 then in_ild 1 3 else in_no))) else
 (if pc < 5 then
 (if pc = 3 then in_push (.int 12) 5 else in_no) else
 (if pc < 8 then
 (if pc = 5 then in_if2 (fun x y => y ≤ x) 23 8 else in_no) else
 (if pc = 8 then in_ald 0 9 else in_no)))) else
 (if pc < 16 then
 (if pc < 12 then
 (if pc = 9 then in_get YX 0 21 12 else in_no) else
 (if pc < 13 then
 (if pc = 12 then in_ild 1 13 else in_no) else
 (if pc = 13 then in_push (.long 2000000000000) 16 else in_no))) else
 (if pc < 20 then
 (if pc < 17 then
 (if pc = 16 then in_law YX 17 else in_no) else
 (if pc = 17 then in_inc 1 1 20 else in_no)) else
 (if pc < 23 then
 (if pc = 20 then in_go 2 else in_no) else
 (if pc = 23 then in_rv else in_no)))))
theorem tk_X0_clearTold {l : Launch} {w : ma_Wd} {NC : Nat} {A : Nat → Prop} {p : Program} {e : Env} {s : State} {m : MethodId} {args : Array Value} {below : List Frame} {meth : Method} {c : Code} (X : ma_Cx p s m args meth c w YX NC A yX0_clearTold.cls cX0_clearTold 2 none) : ∀ pc, ma_Ok p l e rm_X0_clearTold s m args below meth c w YX NC A 2 pc (tb_X0_clearTold pc) := fun pc =>
 (mk_lt
 (mk_lt
 (mk_lt
 (mk_eq (mk_iconst X dX0_clearTold_0 rfl rfl))
 (mk_lt
 (mk_eq (mk_istore_n X dX0_clearTold_1 rfl (Nat.le_of_ble_eq_true rfl) rfl))
 (mk_eq (mk_iload_n X dX0_clearTold_2 rfl rfl))))
 (mk_lt
 (mk_eq (mk_bipush X dX0_clearTold_3 rfl rfl))
 (mk_lt
 (mk_eq (mk_icge X dX0_clearTold_5 rfl rfl))
 (mk_eq (mk_aload_n X dX0_clearTold_8 rfl rfl)))))
 (mk_lt
 (mk_lt
 (mk_eq (mk_get X (ci := 0) (j := 21) rfl in_X0 (Nat.le_of_ble_eq_true rfl) q267 dX0_clearTold_9 rfl))
 (mk_lt
 (mk_eq (mk_iload_n X dX0_clearTold_12 rfl rfl))
 (mk_eq (mk_ldc2 X dX0_clearTold_13 q221 rfl))))
 (mk_lt
 (mk_lt
 (mk_eq (mk_law X dX0_clearTold_16 rfl))
 (mk_eq (mk_iinc X dX0_clearTold_17 rfl (Nat.le_of_ble_eq_true rfl) rfl)))
 (mk_lt
 (mk_eq (mk_goto X dX0_clearTold_20 rfl))
 (mk_eq (mk_rv X dX0_clearTold_23))))))
theorem sd_X0_clearTold {l : Launch} {w : ma_Wd} {NC : Nat} {A : Nat → Prop} (hw : ma_Wo w YX NC A) : ma_Sd l w YX NC A yX0_clearTold cX0_clearTold 2 none rm_X0_clearTold (ma_rn (tb_X0_clearTold) 2) := ma_of hw (by decide) ⟨rfl, rfl⟩ (fun X => tk_X0_clearTold  X)
theorem dX0_sky_0 : decode cX0_sky 0 = .ok (.iload_n 1, 1) := by decide +kernel
theorem dX0_sky_1 : decode cX0_sky 1 = .ok (.i2l, 1) := by decide +kernel
theorem dX0_sky_2 : decode cX0_sky 2 = .ok (.ldc2_w 141, 3) := by decide +kernel
theorem dX0_sky_5 : decode cX0_sky 5 = .ok (.ldc2_w 143, 3) := by decide +kernel
theorem dX0_sky_8 : decode cX0_sky 8 = .ok (.invokestatic 5, 3) := by decide +kernel
theorem dX0_sky_11 : decode cX0_sky 11 = .ok (.ifCond .eq 17, 3) := by decide +kernel
theorem dX0_sky_14 : decode cX0_sky 14 = .ok (.iload_n 2, 1) := by decide +kernel
theorem dX0_sky_15 : decode cX0_sky 15 = .ok (.i2l, 1) := by decide +kernel
theorem dX0_sky_16 : decode cX0_sky 16 = .ok (.ldc2_w 141, 3) := by decide +kernel
theorem dX0_sky_19 : decode cX0_sky 19 = .ok (.ldc2_w 143, 3) := by decide +kernel
theorem dX0_sky_22 : decode cX0_sky 22 = .ok (.invokestatic 5, 3) := by decide +kernel
theorem dX0_sky_25 : decode cX0_sky 25 = .ok (.ifCond .ne 5, 3) := by decide +kernel
theorem dX0_sky_28 : decode cX0_sky 28 = .ok (.iconst (-1), 1) := by decide +kernel
theorem dX0_sky_29 : decode cX0_sky 29 = .ok (.ireturn, 1) := by decide +kernel
theorem dX0_sky_30 : decode cX0_sky 30 = .ok (.aload_n 0, 1) := by decide +kernel
theorem dX0_sky_31 : decode cX0_sky 31 = .ok (.iload_n 1, 1) := by decide +kernel
theorem dX0_sky_32 : decode cX0_sky 32 = .ok (.putfield 38, 3) := by decide +kernel
theorem dX0_sky_35 : decode cX0_sky 35 = .ok (.aload_n 0, 1) := by decide +kernel
theorem dX0_sky_36 : decode cX0_sky 36 = .ok (.iload_n 2, 1) := by decide +kernel
theorem dX0_sky_37 : decode cX0_sky 37 = .ok (.putfield 42, 3) := by decide +kernel
theorem dX0_sky_40 : decode cX0_sky 40 = .ok (.aload_n 0, 1) := by decide +kernel
theorem dX0_sky_41 : decode cX0_sky 41 = .ok (.invokevirtual 118, 3) := by decide +kernel
theorem dX0_sky_44 : decode cX0_sky 44 = .ok (.aload_n 0, 1) := by decide +kernel
theorem dX0_sky_45 : decode cX0_sky 45 = .ok (.invokevirtual 121, 3) := by decide +kernel
theorem dX0_sky_48 : decode cX0_sky 48 = .ok (.ireturn, 1) := by decide +kernel
def tb_X0_sky (S_X0_isIn S_X0_clearSky S_X0_cells : ma_Cs) : Nat → ma_In := fun pc =>
 (if pc < 28 then
 (if pc < 14 then
 (if pc < 5 then
 (if pc < 1 then
 (if pc = 0 then in_ild 1 1 else in_no) else
 (if pc < 2 then
 (if pc = 1 then in_il (fun x => x.toInt64) 2 else in_no) else
 (if pc = 2 then in_push (.long 2) 5 else in_no))) else
 (if pc < 8 then
 (if pc = 5 then in_push (.long 6) 8 else in_no) else
 (if pc < 11 then
 (if pc = 8 then in_s3 S_X0_isIn 11 else in_no) else
 (if pc = 11 then in_if1 (fun x => x = 0) 28 14 else in_no)))) else
 (if pc < 19 then
 (if pc < 15 then
 (if pc = 14 then in_ild 2 15 else in_no) else
 (if pc < 16 then
 (if pc = 15 then in_il (fun x => x.toInt64) 16 else in_no) else
 (if pc = 16 then in_push (.long 2) 19 else in_no))) else
 (if pc < 22 then
 (if pc = 19 then in_push (.long 6) 22 else in_no) else
 (if pc < 25 then
 (if pc = 22 then in_s3 S_X0_isIn 25 else in_no) else
 (if pc = 25 then in_if1 (fun x => x = 0) 28 30 else in_no))))) else
 (if pc < 36 then
 (if pc < 31 then
 (if pc < 29 then
 (if pc = 28 then in_push (.int (-1)) 29 else in_no) else
 (if pc < 30 then
 (if pc = 29 then in_ri else in_no) else
 (if pc = 30 then in_ald 0 31 else in_no))) else
 (if pc < 32 then
 (if pc = 31 then in_ild 1 32 else in_no) else
 (if pc < 35 then
 (if pc = 32 then in_put YX 0 5 35 else in_no) else
 (if pc = 35 then in_ald 0 36 else in_no)))) else
 (if pc < 41 then
 (if pc < 37 then
 (if pc = 36 then in_ild 2 37 else in_no) else
 (if pc < 40 then
 (if pc = 37 then in_put YX 0 6 40 else in_no) else
 (if pc = 40 then in_ald 0 41 else in_no))) else
 (if pc < 45 then
 (if pc < 44 then
 (if pc = 41 then in_v1 YX 0 S_X0_clearSky 44 else in_no) else
 (if pc = 44 then in_ald 0 45 else in_no)) else
 (if pc < 48 then
 (if pc = 45 then in_v1 YX 0 S_X0_cells 48 else in_no) else
 (if pc = 48 then in_ri else in_no))))))
theorem tk_X0_sky {l : Launch} {w : ma_Wd} {NC : Nat} {A : Nat → Prop} {S_X0_isIn S_X0_clearSky S_X0_cells : ma_Cs} (h_X0_isIn : ma_Sd l w YX NC A yX0_isIn cX0_isIn 6 (some .boolean) rm_X0_isIn S_X0_isIn) (h_X0_clearSky : ma_Sd l w YX NC A yX0_clearSky cX0_clearSky 2 none rm_X0_clearSky S_X0_clearSky) (h_X0_cells : ma_Sd l w YX NC A yX0_cells cX0_cells 1 (some .int) rm_X0_cells S_X0_cells) {p : Program} {e : Env} {s : State} {m : MethodId} {args : Array Value} {below : List Frame} {meth : Method} {c : Code} (X : ma_Cx p s m args meth c w YX NC A yX0_sky.cls cX0_sky 3 (some .int)) : ∀ pc, ma_Ok p l e rm_X0_sky s m args below meth c w YX NC A 3 pc (tb_X0_sky S_X0_isIn S_X0_clearSky S_X0_cells pc) := fun pc =>
 (mk_lt
 (mk_lt
 (mk_lt
 (mk_lt
 (mk_eq (mk_iload_n X dX0_sky_0 rfl rfl))
 (mk_lt
 (mk_eq (mk_i2l X dX0_sky_1 rfl))
 (mk_eq (mk_ldc2 X dX0_sky_2 q353 rfl))))
 (mk_lt
 (mk_eq (mk_ldc2 X dX0_sky_5 q354 rfl))
 (mk_lt
 (mk_eq (mk_S3 X h_X0_isIn (lw_S q355 q356 q61 q357) ⟨by decide, by decide, rfl⟩ ⟨(Nat.le_of_ble_eq_true rfl), (Nat.le_of_ble_eq_true rfl)⟩ dX0_sky_8 rfl))
 (mk_eq (mk_ifeq X dX0_sky_11 rfl rfl)))))
 (mk_lt
 (mk_lt
 (mk_eq (mk_iload_n X dX0_sky_14 rfl rfl))
 (mk_lt
 (mk_eq (mk_i2l X dX0_sky_15 rfl))
 (mk_eq (mk_ldc2 X dX0_sky_16 q353 rfl))))
 (mk_lt
 (mk_eq (mk_ldc2 X dX0_sky_19 q354 rfl))
 (mk_lt
 (mk_eq (mk_S3 X h_X0_isIn (lw_S q355 q356 q61 q357) ⟨by decide, by decide, rfl⟩ ⟨(Nat.le_of_ble_eq_true rfl), (Nat.le_of_ble_eq_true rfl)⟩ dX0_sky_22 rfl))
 (mk_eq (mk_ifne X dX0_sky_25 rfl rfl))))))
 (mk_lt
 (mk_lt
 (mk_lt
 (mk_eq (mk_iconst X dX0_sky_28 rfl rfl))
 (mk_lt
 (mk_eq (mk_ri X dX0_sky_29))
 (mk_eq (mk_aload_n X dX0_sky_30 rfl rfl))))
 (mk_lt
 (mk_eq (mk_iload_n X dX0_sky_31 rfl rfl))
 (mk_lt
 (mk_eq (mk_put X (ci := 0) (j := 5) rfl in_X0 tyX0_ok nmX0 (Nat.le_of_ble_eq_true rfl) rfl rfl q232 dX0_sky_32 rfl))
 (mk_eq (mk_aload_n X dX0_sky_35 rfl rfl)))))
 (mk_lt
 (mk_lt
 (mk_eq (mk_iload_n X dX0_sky_36 rfl rfl))
 (mk_lt
 (mk_eq (mk_put X (ci := 0) (j := 6) rfl in_X0 tyX0_ok nmX0 (Nat.le_of_ble_eq_true rfl) rfl rfl q234 dX0_sky_37 rfl))
 (mk_eq (mk_aload_n X dX0_sky_40 rfl rfl))))
 (mk_lt
 (mk_lt
 (mk_eq (mk_V1 X h_X0_clearSky (ci := 0) rfl (lw_V q212 q214 qs0 q61 q215) ⟨rfl, by decide, by decide, rfl⟩ ⟨(Nat.le_of_ble_eq_true rfl), (Nat.le_of_ble_eq_true rfl)⟩ dX0_sky_41 rfl))
 (mk_eq (mk_aload_n X dX0_sky_44 rfl rfl)))
 (mk_lt
 (mk_eq (mk_V1 X h_X0_cells (ci := 0) rfl (lw_V q358 q360 qs2 q61 q361) ⟨rfl, by decide, by decide, rfl⟩ ⟨(Nat.le_of_ble_eq_true rfl), (Nat.le_of_ble_eq_true rfl)⟩ dX0_sky_45 rfl))
 (mk_eq (mk_ri X dX0_sky_48)))))))
theorem sd_X0_sky {l : Launch} {w : ma_Wd} {NC : Nat} {A : Nat → Prop} {S_X0_isIn S_X0_clearSky S_X0_cells : ma_Cs} (hw : ma_Wo w YX NC A) (h_X0_isIn : ma_Sd l w YX NC A yX0_isIn cX0_isIn 6 (some .boolean) rm_X0_isIn S_X0_isIn) (h_X0_clearSky : ma_Sd l w YX NC A yX0_clearSky cX0_clearSky 2 none rm_X0_clearSky S_X0_clearSky) (h_X0_cells : ma_Sd l w YX NC A yX0_cells cX0_cells 1 (some .int) rm_X0_cells S_X0_cells) : ma_Sd l w YX NC A yX0_sky cX0_sky 3 (some .int) rm_X0_sky (ma_rn (tb_X0_sky S_X0_isIn S_X0_clearSky S_X0_cells) 3) := ma_of hw (by decide) ⟨rfl, rfl⟩ (fun X => tk_X0_sky h_X0_isIn h_X0_clearSky h_X0_cells X)
theorem dX0_isIn_0 : decode cX0_isIn 0 = .ok (.lload_n 0, 1) := by decide +kernel
theorem dX0_isIn_1 : decode cX0_isIn 1 = .ok (.lload_n 2, 1) := by decide +kernel
theorem dX0_isIn_2 : decode cX0_isIn 2 = .ok (.lcmp, 1) := by decide +kernel
theorem dX0_isIn_3 : decode cX0_isIn 3 = .ok (.ifCond .lt 14, 3) := by decide +kernel
theorem dX0_isIn_6 : decode cX0_isIn 6 = .ok (.lload_n 0, 1) := by decide +kernel
theorem dX0_isIn_7 : decode cX0_isIn 7 = .ok (.lload 4, 2) := by decide +kernel
theorem dX0_isIn_9 : decode cX0_isIn 9 = .ok (.lcmp, 1) := by decide +kernel
theorem dX0_isIn_10 : decode cX0_isIn 10 = .ok (.ifCond .gt 7, 3) := by decide +kernel
theorem dX0_isIn_13 : decode cX0_isIn 13 = .ok (.iconst 1, 1) := by decide +kernel
theorem dX0_isIn_14 : decode cX0_isIn 14 = .ok (.goto 4, 3) := by decide +kernel
theorem dX0_isIn_17 : decode cX0_isIn 17 = .ok (.iconst 0, 1) := by decide +kernel
theorem dX0_isIn_18 : decode cX0_isIn 18 = .ok (.ireturn, 1) := by decide +kernel
def tb_X0_isIn : Nat → ma_In := fun pc =>
 (if pc < 9 then
 (if pc < 3 then
 (if pc < 1 then
 (if pc = 0 then in_lld 0 1 else in_no) else
 (if pc < 2 then
 (if pc = 1 then in_lld 2 2 else in_no) else
 (if pc = 2 then in_lli lg_cmp 3 else in_no))) else
 (if pc < 6 then
 (if pc = 3 then in_if1 (fun x => x < 0) 17 6 else in_no) else
 (if pc < 7 then
 (if pc = 6 then in_lld 0 7 else in_no) else
 (if pc = 7 then in_lld 4 9 else in_no)))) else
 (if pc < 14 then
 (if pc < 10 then
 (if pc = 9 then in_lli lg_cmp 10 else in_no) else
 (if pc < 13 then
 (if pc = 10 then in_if1 (fun x => 0 < x) 17 13 else in_no) else
 (if pc = 13 then in_push (.int 1) 14 else in_no))) else
 (if pc < 17 then
 (if pc = 14 then in_go 18 else in_no) else
 (if pc < 18 then
 (if pc = 17 then in_push (.int 0) 18 else in_no) else
 (if pc = 18 then in_rz else in_no)))))
theorem tk_X0_isIn {l : Launch} {w : ma_Wd} {NC : Nat} {A : Nat → Prop} {p : Program} {e : Env} {s : State} {m : MethodId} {args : Array Value} {below : List Frame} {meth : Method} {c : Code} (X : ma_Cx p s m args meth c w YX NC A yX0_isIn.cls cX0_isIn 6 (some .boolean)) : ∀ pc, ma_Ok p l e rm_X0_isIn s m args below meth c w YX NC A 6 pc (tb_X0_isIn pc) := fun pc =>
 (mk_lt
 (mk_lt
 (mk_lt
 (mk_eq (mk_lload_n X dX0_isIn_0 rfl rfl))
 (mk_lt
 (mk_eq (mk_lload_n X dX0_isIn_1 rfl rfl))
 (mk_eq (mk_lcmp X dX0_isIn_2 rfl))))
 (mk_lt
 (mk_eq (mk_iflt X dX0_isIn_3 rfl rfl))
 (mk_lt
 (mk_eq (mk_lload_n X dX0_isIn_6 rfl rfl))
 (mk_eq (mk_lload X dX0_isIn_7 rfl)))))
 (mk_lt
 (mk_lt
 (mk_eq (mk_lcmp X dX0_isIn_9 rfl))
 (mk_lt
 (mk_eq (mk_ifgt X dX0_isIn_10 rfl rfl))
 (mk_eq (mk_iconst X dX0_isIn_13 rfl rfl))))
 (mk_lt
 (mk_eq (mk_goto X dX0_isIn_14 rfl))
 (mk_lt
 (mk_eq (mk_iconst X dX0_isIn_17 rfl rfl))
 (mk_eq (mk_rz X dX0_isIn_18))))))
theorem sd_X0_isIn {l : Launch} {w : ma_Wd} {NC : Nat} {A : Nat → Prop} (hw : ma_Wo w YX NC A) : ma_Sd l w YX NC A yX0_isIn cX0_isIn 6 (some .boolean) rm_X0_isIn (ma_rn (tb_X0_isIn) 6) := ma_of hw (by decide) ⟨rfl, rfl⟩ (fun X => tk_X0_isIn  X)
theorem dX0_cells_0 : decode cX0_cells 0 = .ok (.aload_n 0, 1) := by decide +kernel
theorem dX0_cells_1 : decode cX0_cells 1 = .ok (.getfield 38, 3) := by decide +kernel
theorem dX0_cells_4 : decode cX0_cells 4 = .ok (.aload_n 0, 1) := by decide +kernel
theorem dX0_cells_5 : decode cX0_cells 5 = .ok (.getfield 42, 3) := by decide +kernel
theorem dX0_cells_8 : decode cX0_cells 8 = .ok (.imul, 1) := by decide +kernel
theorem dX0_cells_9 : decode cX0_cells 9 = .ok (.ireturn, 1) := by decide +kernel
def tb_X0_cells : Nat → ma_In := fun pc =>
 (if pc < 5 then
 (if pc < 1 then
 (if pc = 0 then in_ald 0 1 else in_no) else
 (if pc < 4 then
 (if pc = 1 then in_get YX 0 5 4 else in_no) else
 (if pc = 4 then in_ald 0 5 else in_no))) else
 (if pc < 8 then
 (if pc = 5 then in_get YX 0 6 8 else in_no) else
 (if pc < 9 then
 (if pc = 8 then in_iii (fun x y => x * y) 9 else in_no) else
 (if pc = 9 then in_ri else in_no))))
theorem tk_X0_cells {l : Launch} {w : ma_Wd} {NC : Nat} {A : Nat → Prop} {p : Program} {e : Env} {s : State} {m : MethodId} {args : Array Value} {below : List Frame} {meth : Method} {c : Code} (X : ma_Cx p s m args meth c w YX NC A yX0_cells.cls cX0_cells 1 (some .int)) : ∀ pc, ma_Ok p l e rm_X0_cells s m args below meth c w YX NC A 1 pc (tb_X0_cells pc) := fun pc =>
 (mk_lt
 (mk_lt
 (mk_eq (mk_aload_n X dX0_cells_0 rfl rfl))
 (mk_lt
 (mk_eq (mk_get X (ci := 0) (j := 5) rfl in_X0 (Nat.le_of_ble_eq_true rfl) q232 dX0_cells_1 rfl))
 (mk_eq (mk_aload_n X dX0_cells_4 rfl rfl))))
 (mk_lt
 (mk_eq (mk_get X (ci := 0) (j := 6) rfl in_X0 (Nat.le_of_ble_eq_true rfl) q234 dX0_cells_5 rfl))
 (mk_lt
 (mk_eq (mk_imul X dX0_cells_8 rfl))
 (mk_eq (mk_ri X dX0_cells_9)))))
theorem sd_X0_cells {l : Launch} {w : ma_Wd} {NC : Nat} {A : Nat → Prop} (hw : ma_Wo w YX NC A) : ma_Sd l w YX NC A yX0_cells cX0_cells 1 (some .int) rm_X0_cells (ma_rn (tb_X0_cells) 1) := ma_of hw (by decide) ⟨rfl, rfl⟩ (fun X => tk_X0_cells  X)
theorem dX0_rule_0 : decode cX0_rule 0 = .ok (.iload_n 1, 1) := by decide +kernel
theorem dX0_rule_1 : decode cX0_rule 1 = .ok (.i2l, 1) := by decide +kernel
theorem dX0_rule_2 : decode cX0_rule 2 = .ok (.lconst 0, 1) := by decide +kernel
theorem dX0_rule_3 : decode cX0_rule 3 = .ok (.lconst 1, 1) := by decide +kernel
theorem dX0_rule_4 : decode cX0_rule 4 = .ok (.invokestatic 5, 3) := by decide +kernel
theorem dX0_rule_7 : decode cX0_rule 7 = .ok (.ifCond .eq 25, 3) := by decide +kernel
theorem dX0_rule_10 : decode cX0_rule 10 = .ok (.iload_n 2, 1) := by decide +kernel
theorem dX0_rule_11 : decode cX0_rule 11 = .ok (.i2l, 1) := by decide +kernel
theorem dX0_rule_12 : decode cX0_rule 12 = .ok (.lconst 0, 1) := by decide +kernel
theorem dX0_rule_13 : decode cX0_rule 13 = .ok (.iload_n 1, 1) := by decide +kernel
theorem dX0_rule_14 : decode cX0_rule 14 = .ok (.ifCond .ne 9, 3) := by decide +kernel
theorem dX0_rule_17 : decode cX0_rule 17 = .ok (.ldc2_w 141, 3) := by decide +kernel
theorem dX0_rule_20 : decode cX0_rule 20 = .ok (.goto 6, 3) := by decide +kernel
theorem dX0_rule_23 : decode cX0_rule 23 = .ok (.ldc2_w 145, 3) := by decide +kernel
theorem dX0_rule_26 : decode cX0_rule 26 = .ok (.invokestatic 5, 3) := by decide +kernel
theorem dX0_rule_29 : decode cX0_rule 29 = .ok (.ifCond .ne 5, 3) := by decide +kernel
theorem dX0_rule_32 : decode cX0_rule 32 = .ok (.iconst (-1), 1) := by decide +kernel
theorem dX0_rule_33 : decode cX0_rule 33 = .ok (.ireturn, 1) := by decide +kernel
theorem dX0_rule_34 : decode cX0_rule 34 = .ok (.iload_n 1, 1) := by decide +kernel
theorem dX0_rule_35 : decode cX0_rule 35 = .ok (.ifCond .ne 10, 3) := by decide +kernel
theorem dX0_rule_38 : decode cX0_rule 38 = .ok (.aload_n 0, 1) := by decide +kernel
theorem dX0_rule_39 : decode cX0_rule 39 = .ok (.getfield 147, 3) := by decide +kernel
theorem dX0_rule_42 : decode cX0_rule 42 = .ok (.goto 7, 3) := by decide +kernel
theorem dX0_rule_45 : decode cX0_rule 45 = .ok (.aload_n 0, 1) := by decide +kernel
theorem dX0_rule_46 : decode cX0_rule 46 = .ok (.getfield 90, 3) := by decide +kernel
theorem dX0_rule_49 : decode cX0_rule 49 = .ok (.istore_n 3, 1) := by decide +kernel
theorem dX0_rule_50 : decode cX0_rule 50 = .ok (.aload_n 0, 1) := by decide +kernel
theorem dX0_rule_51 : decode cX0_rule 51 = .ok (.iload_n 1, 1) := by decide +kernel
theorem dX0_rule_52 : decode cX0_rule 52 = .ok (.ifCond .ne 7, 3) := by decide +kernel
theorem dX0_rule_55 : decode cX0_rule 55 = .ok (.iload_n 2, 1) := by decide +kernel
theorem dX0_rule_56 : decode cX0_rule 56 = .ok (.goto 7, 3) := by decide +kernel
theorem dX0_rule_59 : decode cX0_rule 59 = .ok (.aload_n 0, 1) := by decide +kernel
theorem dX0_rule_60 : decode cX0_rule 60 = .ok (.getfield 147, 3) := by decide +kernel
theorem dX0_rule_63 : decode cX0_rule 63 = .ok (.putfield 147, 3) := by decide +kernel
theorem dX0_rule_66 : decode cX0_rule 66 = .ok (.aload_n 0, 1) := by decide +kernel
theorem dX0_rule_67 : decode cX0_rule 67 = .ok (.iload_n 1, 1) := by decide +kernel
theorem dX0_rule_68 : decode cX0_rule 68 = .ok (.iconst 1, 1) := by decide +kernel
theorem dX0_rule_69 : decode cX0_rule 69 = .ok (.if_icmp .ne 7, 3) := by decide +kernel
theorem dX0_rule_72 : decode cX0_rule 72 = .ok (.iload_n 2, 1) := by decide +kernel
theorem dX0_rule_73 : decode cX0_rule 73 = .ok (.goto 7, 3) := by decide +kernel
theorem dX0_rule_76 : decode cX0_rule 76 = .ok (.aload_n 0, 1) := by decide +kernel
theorem dX0_rule_77 : decode cX0_rule 77 = .ok (.getfield 90, 3) := by decide +kernel
theorem dX0_rule_80 : decode cX0_rule 80 = .ok (.putfield 90, 3) := by decide +kernel
theorem dX0_rule_83 : decode cX0_rule 83 = .ok (.aload_n 0, 1) := by decide +kernel
theorem dX0_rule_84 : decode cX0_rule 84 = .ok (.iconst 0, 1) := by decide +kernel
theorem dX0_rule_85 : decode cX0_rule 85 = .ok (.putfield 137, 3) := by decide +kernel
theorem dX0_rule_88 : decode cX0_rule 88 = .ok (.iload_n 3, 1) := by decide +kernel
theorem dX0_rule_89 : decode cX0_rule 89 = .ok (.ireturn, 1) := by decide +kernel
def tb_X0_rule (S_X0_isIn : ma_Cs) : Nat → ma_In := fun pc =>
 (if pc < 46 then
 (if pc < 20 then
 (if pc < 10 then
 (if pc < 3 then
 (if pc < 1 then
 (if pc = 0 then in_ild 1 1 else in_no) else
 (if pc < 2 then
 (if pc = 1 then in_il (fun x => x.toInt64) 2 else in_no) else
 (if pc = 2 then in_push (.long 0) 3 else in_no))) else
 (if pc < 4 then
 (if pc = 3 then in_push (.long 1) 4 else in_no) else
 (if pc < 7 then
 (if pc = 4 then in_s3 S_X0_isIn 7 else in_no) else
 (if pc = 7 then in_if1 (fun x => x = 0) 32 10 else in_no)))) else
 (if pc < 13 then
 (if pc < 11 then
 (if pc = 10 then in_ild 2 11 else in_no) else
 (if pc < 12 then
 (if pc = 11 then in_il (fun x => x.toInt64) 12 else in_no) else
 (if pc = 12 then in_push (.long 0) 13 else in_no))) else
 (if pc < 14 then
 (if pc = 13 then in_ild 1 14 else in_no) else
 (if pc < 17 then
 (if pc = 14 then in_if1 (fun x => x = 0) 17 23 else in_no) else
 (if pc = 17 then in_push (.long 2) 20 else in_no))))) else
 (if pc < 34 then
 (if pc < 29 then
 (if pc < 23 then
 (if pc = 20 then in_go 26 else in_no) else
 (if pc < 26 then
 (if pc = 23 then in_push (.long 9) 26 else in_no) else
 (if pc = 26 then in_s3 S_X0_isIn 29 else in_no))) else
 (if pc < 32 then
 (if pc = 29 then in_if1 (fun x => x = 0) 32 34 else in_no) else
 (if pc < 33 then
 (if pc = 32 then in_push (.int (-1)) 33 else in_no) else
 (if pc = 33 then in_ri else in_no)))) else
 (if pc < 39 then
 (if pc < 35 then
 (if pc = 34 then in_ild 1 35 else in_no) else
 (if pc < 38 then
 (if pc = 35 then in_if1 (fun x => x = 0) 38 45 else in_no) else
 (if pc = 38 then in_ald 0 39 else in_no))) else
 (if pc < 42 then
 (if pc = 39 then in_get YX 0 7 42 else in_no) else
 (if pc < 45 then
 (if pc = 42 then in_go 49 else in_no) else
 (if pc = 45 then in_ald 0 46 else in_no)))))) else
 (if pc < 68 then
 (if pc < 56 then
 (if pc < 51 then
 (if pc < 49 then
 (if pc = 46 then in_get YX 0 25 49 else in_no) else
 (if pc < 50 then
 (if pc = 49 then in_ist 3 50 else in_no) else
 (if pc = 50 then in_ald 0 51 else in_no))) else
 (if pc < 52 then
 (if pc = 51 then in_ild 1 52 else in_no) else
 (if pc < 55 then
 (if pc = 52 then in_if1 (fun x => x = 0) 55 59 else in_no) else
 (if pc = 55 then in_ild 2 56 else in_no)))) else
 (if pc < 63 then
 (if pc < 59 then
 (if pc = 56 then in_go 63 else in_no) else
 (if pc < 60 then
 (if pc = 59 then in_ald 0 60 else in_no) else
 (if pc = 60 then in_get YX 0 7 63 else in_no))) else
 (if pc < 66 then
 (if pc = 63 then in_put YX 0 7 66 else in_no) else
 (if pc < 67 then
 (if pc = 66 then in_ald 0 67 else in_no) else
 (if pc = 67 then in_ild 1 68 else in_no))))) else
 (if pc < 80 then
 (if pc < 73 then
 (if pc < 69 then
 (if pc = 68 then in_push (.int 1) 69 else in_no) else
 (if pc < 72 then
 (if pc = 69 then in_if2 (fun x y => x = y) 72 76 else in_no) else
 (if pc = 72 then in_ild 2 73 else in_no))) else
 (if pc < 76 then
 (if pc = 73 then in_go 80 else in_no) else
 (if pc < 77 then
 (if pc = 76 then in_ald 0 77 else in_no) else
 (if pc = 77 then in_get YX 0 25 80 else in_no)))) else
 (if pc < 85 then
 (if pc < 83 then
 (if pc = 80 then in_put YX 0 25 83 else in_no) else
 (if pc < 84 then
 (if pc = 83 then in_ald 0 84 else in_no) else
 (if pc = 84 then in_push (.int 0) 85 else in_no))) else
 (if pc < 88 then
 (if pc = 85 then in_puz YX 0 15 88 else in_no) else
 (if pc < 89 then
 (if pc = 88 then in_ild 3 89 else in_no) else
 (if pc = 89 then in_ri else in_no)))))))
theorem tk_X0_rule {l : Launch} {w : ma_Wd} {NC : Nat} {A : Nat → Prop} {S_X0_isIn : ma_Cs} (h_X0_isIn : ma_Sd l w YX NC A yX0_isIn cX0_isIn 6 (some .boolean) rm_X0_isIn S_X0_isIn) {p : Program} {e : Env} {s : State} {m : MethodId} {args : Array Value} {below : List Frame} {meth : Method} {c : Code} (X : ma_Cx p s m args meth c w YX NC A yX0_rule.cls cX0_rule 4 (some .int)) : ∀ pc, ma_Ok p l e rm_X0_rule s m args below meth c w YX NC A 4 pc (tb_X0_rule S_X0_isIn pc) := fun pc =>
 (mk_lt
 (mk_lt
 (mk_lt
 (mk_lt
 (mk_lt
 (mk_eq (mk_iload_n X dX0_rule_0 rfl rfl))
 (mk_lt
 (mk_eq (mk_i2l X dX0_rule_1 rfl))
 (mk_eq (mk_lconst X dX0_rule_2 rfl rfl))))
 (mk_lt
 (mk_eq (mk_lconst X dX0_rule_3 rfl rfl))
 (mk_lt
 (mk_eq (mk_S3 X h_X0_isIn (lw_S q355 q356 q61 q357) ⟨by decide, by decide, rfl⟩ ⟨(Nat.le_of_ble_eq_true rfl), (Nat.le_of_ble_eq_true rfl)⟩ dX0_rule_4 rfl))
 (mk_eq (mk_ifeq X dX0_rule_7 rfl rfl)))))
 (mk_lt
 (mk_lt
 (mk_eq (mk_iload_n X dX0_rule_10 rfl rfl))
 (mk_lt
 (mk_eq (mk_i2l X dX0_rule_11 rfl))
 (mk_eq (mk_lconst X dX0_rule_12 rfl rfl))))
 (mk_lt
 (mk_eq (mk_iload_n X dX0_rule_13 rfl rfl))
 (mk_lt
 (mk_eq (mk_ifne X dX0_rule_14 rfl rfl))
 (mk_eq (mk_ldc2 X dX0_rule_17 q353 rfl))))))
 (mk_lt
 (mk_lt
 (mk_lt
 (mk_eq (mk_goto X dX0_rule_20 rfl))
 (mk_lt
 (mk_eq (mk_ldc2 X dX0_rule_23 q366 rfl))
 (mk_eq (mk_S3 X h_X0_isIn (lw_S q355 q356 q61 q357) ⟨by decide, by decide, rfl⟩ ⟨(Nat.le_of_ble_eq_true rfl), (Nat.le_of_ble_eq_true rfl)⟩ dX0_rule_26 rfl))))
 (mk_lt
 (mk_eq (mk_ifne X dX0_rule_29 rfl rfl))
 (mk_lt
 (mk_eq (mk_iconst X dX0_rule_32 rfl rfl))
 (mk_eq (mk_ri X dX0_rule_33)))))
 (mk_lt
 (mk_lt
 (mk_eq (mk_iload_n X dX0_rule_34 rfl rfl))
 (mk_lt
 (mk_eq (mk_ifne X dX0_rule_35 rfl rfl))
 (mk_eq (mk_aload_n X dX0_rule_38 rfl rfl))))
 (mk_lt
 (mk_eq (mk_get X (ci := 0) (j := 7) rfl in_X0 (Nat.le_of_ble_eq_true rfl) q238 dX0_rule_39 rfl))
 (mk_lt
 (mk_eq (mk_goto X dX0_rule_42 rfl))
 (mk_eq (mk_aload_n X dX0_rule_45 rfl rfl)))))))
 (mk_lt
 (mk_lt
 (mk_lt
 (mk_lt
 (mk_eq (mk_get X (ci := 0) (j := 25) rfl in_X0 (Nat.le_of_ble_eq_true rfl) q271 dX0_rule_46 rfl))
 (mk_lt
 (mk_eq (mk_istore_n X dX0_rule_49 rfl (Nat.le_of_ble_eq_true rfl) rfl))
 (mk_eq (mk_aload_n X dX0_rule_50 rfl rfl))))
 (mk_lt
 (mk_eq (mk_iload_n X dX0_rule_51 rfl rfl))
 (mk_lt
 (mk_eq (mk_ifne X dX0_rule_52 rfl rfl))
 (mk_eq (mk_iload_n X dX0_rule_55 rfl rfl)))))
 (mk_lt
 (mk_lt
 (mk_eq (mk_goto X dX0_rule_56 rfl))
 (mk_lt
 (mk_eq (mk_aload_n X dX0_rule_59 rfl rfl))
 (mk_eq (mk_get X (ci := 0) (j := 7) rfl in_X0 (Nat.le_of_ble_eq_true rfl) q238 dX0_rule_60 rfl))))
 (mk_lt
 (mk_eq (mk_put X (ci := 0) (j := 7) rfl in_X0 tyX0_ok nmX0 (Nat.le_of_ble_eq_true rfl) rfl rfl q238 dX0_rule_63 rfl))
 (mk_lt
 (mk_eq (mk_aload_n X dX0_rule_66 rfl rfl))
 (mk_eq (mk_iload_n X dX0_rule_67 rfl rfl))))))
 (mk_lt
 (mk_lt
 (mk_lt
 (mk_eq (mk_iconst X dX0_rule_68 rfl rfl))
 (mk_lt
 (mk_eq (mk_icne X dX0_rule_69 rfl rfl))
 (mk_eq (mk_iload_n X dX0_rule_72 rfl rfl))))
 (mk_lt
 (mk_eq (mk_goto X dX0_rule_73 rfl))
 (mk_lt
 (mk_eq (mk_aload_n X dX0_rule_76 rfl rfl))
 (mk_eq (mk_get X (ci := 0) (j := 25) rfl in_X0 (Nat.le_of_ble_eq_true rfl) q271 dX0_rule_77 rfl)))))
 (mk_lt
 (mk_lt
 (mk_eq (mk_put X (ci := 0) (j := 25) rfl in_X0 tyX0_ok nmX0 (Nat.le_of_ble_eq_true rfl) rfl rfl q271 dX0_rule_80 rfl))
 (mk_lt
 (mk_eq (mk_aload_n X dX0_rule_83 rfl rfl))
 (mk_eq (mk_iconst X dX0_rule_84 rfl rfl))))
 (mk_lt
 (mk_eq (mk_puz X (ci := 0) (j := 15) rfl in_X0 tyX0_ok nmX0 (Nat.le_of_ble_eq_true rfl) rfl rfl q261 dX0_rule_85 rfl))
 (mk_lt
 (mk_eq (mk_iload_n X dX0_rule_88 rfl rfl))
 (mk_eq (mk_ri X dX0_rule_89))))))))
theorem sd_X0_rule {l : Launch} {w : ma_Wd} {NC : Nat} {A : Nat → Prop} {S_X0_isIn : ma_Cs} (hw : ma_Wo w YX NC A) (h_X0_isIn : ma_Sd l w YX NC A yX0_isIn cX0_isIn 6 (some .boolean) rm_X0_isIn S_X0_isIn) : ma_Sd l w YX NC A yX0_rule cX0_rule 4 (some .int) rm_X0_rule (ma_rn (tb_X0_rule S_X0_isIn) 4) := ma_of hw (by decide) ⟨rfl, rfl⟩ (fun X => tk_X0_rule h_X0_isIn X)
theorem dX0_rim_0 : decode cX0_rim 0 = .ok (.iload_n 1, 1) := by decide +kernel
theorem dX0_rim_1 : decode cX0_rim 1 = .ok (.invokestatic 150, 3) := by decide +kernel
theorem dX0_rim_4 : decode cX0_rim 4 = .ok (.ifCond .eq 17, 3) := by decide +kernel
theorem dX0_rim_7 : decode cX0_rim 7 = .ok (.iload_n 2, 1) := by decide +kernel
theorem dX0_rim_8 : decode cX0_rim 8 = .ok (.i2l, 1) := by decide +kernel
theorem dX0_rim_9 : decode cX0_rim 9 = .ok (.ldc2_w 154, 3) := by decide +kernel
theorem dX0_rim_12 : decode cX0_rim 12 = .ok (.ldc2_w 156, 3) := by decide +kernel
theorem dX0_rim_15 : decode cX0_rim 15 = .ok (.invokestatic 5, 3) := by decide +kernel
theorem dX0_rim_18 : decode cX0_rim 18 = .ok (.ifCond .ne 6, 3) := by decide +kernel
theorem dX0_rim_21 : decode cX0_rim 21 = .ok (.ldc 158, 2) := by decide +kernel
theorem dX0_rim_23 : decode cX0_rim 23 = .ok (.ireturn, 1) := by decide +kernel
theorem dX0_rim_24 : decode cX0_rim 24 = .ok (.aload_n 0, 1) := by decide +kernel
theorem dX0_rim_25 : decode cX0_rim 25 = .ok (.getfield 45, 3) := by decide +kernel
theorem dX0_rim_28 : decode cX0_rim 28 = .ok (.iload_n 1, 1) := by decide +kernel
theorem dX0_rim_29 : decode cX0_rim 29 = .ok (.iaload, 1) := by decide +kernel
theorem dX0_rim_30 : decode cX0_rim 30 = .ok (.istore_n 3, 1) := by decide +kernel
theorem dX0_rim_31 : decode cX0_rim 31 = .ok (.aload_n 0, 1) := by decide +kernel
theorem dX0_rim_32 : decode cX0_rim 32 = .ok (.getfield 45, 3) := by decide +kernel
theorem dX0_rim_35 : decode cX0_rim 35 = .ok (.iload_n 1, 1) := by decide +kernel
theorem dX0_rim_36 : decode cX0_rim 36 = .ok (.iload_n 2, 1) := by decide +kernel
theorem dX0_rim_37 : decode cX0_rim 37 = .ok (.iastore, 1) := by decide +kernel
theorem dX0_rim_38 : decode cX0_rim 38 = .ok (.aload_n 0, 1) := by decide +kernel
theorem dX0_rim_39 : decode cX0_rim 39 = .ok (.iconst 0, 1) := by decide +kernel
theorem dX0_rim_40 : decode cX0_rim 40 = .ok (.putfield 137, 3) := by decide +kernel
theorem dX0_rim_43 : decode cX0_rim 43 = .ok (.iload_n 3, 1) := by decide +kernel
theorem dX0_rim_44 : decode cX0_rim 44 = .ok (.ireturn, 1) := by decide +kernel
def tb_X0_rim (S_X0_isLetter S_X0_isIn : ma_Cs) : Nat → ma_In := fun pc =>
 (if pc < 28 then
 (if pc < 12 then
 (if pc < 7 then
 (if pc < 1 then
 (if pc = 0 then in_ild 1 1 else in_no) else
 (if pc < 4 then
 (if pc = 1 then in_s1 S_X0_isLetter 4 else in_no) else
 (if pc = 4 then in_if1 (fun x => x = 0) 21 7 else in_no))) else
 (if pc < 8 then
 (if pc = 7 then in_ild 2 8 else in_no) else
 (if pc < 9 then
 (if pc = 8 then in_il (fun x => x.toInt64) 9 else in_no) else
 (if pc = 9 then in_push (.long (-1000000)) 12 else in_no)))) else
 (if pc < 21 then
 (if pc < 15 then
 (if pc = 12 then in_push (.long 1000000) 15 else in_no) else
 (if pc < 18 then
 (if pc = 15 then in_s3 S_X0_isIn 18 else in_no) else
 (if pc = 18 then in_if1 (fun x => x = 0) 21 24 else in_no))) else
 (if pc < 24 then
 (if pc < 23 then
 (if pc = 21 then in_push (.int (-2000000)) 23 else in_no) else
 (if pc = 23 then in_ri else in_no)) else
 (if pc < 25 then
 (if pc = 24 then in_ald 0 25 else in_no) else
 (if pc = 25 then in_get YX 0 8 28 else in_no))))) else
 (if pc < 36 then
 (if pc < 31 then
 (if pc < 29 then
 (if pc = 28 then in_ild 1 29 else in_no) else
 (if pc < 30 then
 (if pc = 29 then in_iar YX 30 else in_no) else
 (if pc = 30 then in_ist 3 31 else in_no))) else
 (if pc < 32 then
 (if pc = 31 then in_ald 0 32 else in_no) else
 (if pc < 35 then
 (if pc = 32 then in_get YX 0 8 35 else in_no) else
 (if pc = 35 then in_ild 1 36 else in_no)))) else
 (if pc < 39 then
 (if pc < 37 then
 (if pc = 36 then in_ild 2 37 else in_no) else
 (if pc < 38 then
 (if pc = 37 then in_iaw YX 38 else in_no) else
 (if pc = 38 then in_ald 0 39 else in_no))) else
 (if pc < 43 then
 (if pc < 40 then
 (if pc = 39 then in_push (.int 0) 40 else in_no) else
 (if pc = 40 then in_puz YX 0 15 43 else in_no)) else
 (if pc < 44 then
 (if pc = 43 then in_ild 3 44 else in_no) else
 (if pc = 44 then in_ri else in_no))))))
theorem tk_X0_rim {l : Launch} {w : ma_Wd} {NC : Nat} {A : Nat → Prop} {S_X0_isLetter S_X0_isIn : ma_Cs} (h_X0_isLetter : ma_Sd l w YX NC A yX0_isLetter cX0_isLetter 1 (some .boolean) rm_X0_isLetter S_X0_isLetter) (h_X0_isIn : ma_Sd l w YX NC A yX0_isIn cX0_isIn 6 (some .boolean) rm_X0_isIn S_X0_isIn) {p : Program} {e : Env} {s : State} {m : MethodId} {args : Array Value} {below : List Frame} {meth : Method} {c : Code} (X : ma_Cx p s m args meth c w YX NC A yX0_rim.cls cX0_rim 4 (some .int)) : ∀ pc, ma_Ok p l e rm_X0_rim s m args below meth c w YX NC A 4 pc (tb_X0_rim S_X0_isLetter S_X0_isIn pc) := fun pc =>
 (mk_lt
 (mk_lt
 (mk_lt
 (mk_lt
 (mk_eq (mk_iload_n X dX0_rim_0 rfl rfl))
 (mk_lt
 (mk_eq (mk_S1 X h_X0_isLetter (lw_S q371 q372 q61 q373) ⟨by decide, by decide, rfl⟩ ⟨(Nat.le_of_ble_eq_true rfl), (Nat.le_of_ble_eq_true rfl)⟩ dX0_rim_1 rfl))
 (mk_eq (mk_ifeq X dX0_rim_4 rfl rfl))))
 (mk_lt
 (mk_eq (mk_iload_n X dX0_rim_7 rfl rfl))
 (mk_lt
 (mk_eq (mk_i2l X dX0_rim_8 rfl))
 (mk_eq (mk_ldc2 X dX0_rim_9 q375 rfl)))))
 (mk_lt
 (mk_lt
 (mk_eq (mk_ldc2 X dX0_rim_12 q376 rfl))
 (mk_lt
 (mk_eq (mk_S3 X h_X0_isIn (lw_S q355 q356 q61 q357) ⟨by decide, by decide, rfl⟩ ⟨(Nat.le_of_ble_eq_true rfl), (Nat.le_of_ble_eq_true rfl)⟩ dX0_rim_15 rfl))
 (mk_eq (mk_ifne X dX0_rim_18 rfl rfl))))
 (mk_lt
 (mk_lt
 (mk_eq (mk_ldc X dX0_rim_21 q377 rfl))
 (mk_eq (mk_ri X dX0_rim_23)))
 (mk_lt
 (mk_eq (mk_aload_n X dX0_rim_24 rfl rfl))
 (mk_eq (mk_get X (ci := 0) (j := 8) rfl in_X0 (Nat.le_of_ble_eq_true rfl) q240 dX0_rim_25 rfl))))))
 (mk_lt
 (mk_lt
 (mk_lt
 (mk_eq (mk_iload_n X dX0_rim_28 rfl rfl))
 (mk_lt
 (mk_eq (mk_iar X dX0_rim_29 rfl))
 (mk_eq (mk_istore_n X dX0_rim_30 rfl (Nat.le_of_ble_eq_true rfl) rfl))))
 (mk_lt
 (mk_eq (mk_aload_n X dX0_rim_31 rfl rfl))
 (mk_lt
 (mk_eq (mk_get X (ci := 0) (j := 8) rfl in_X0 (Nat.le_of_ble_eq_true rfl) q240 dX0_rim_32 rfl))
 (mk_eq (mk_iload_n X dX0_rim_35 rfl rfl)))))
 (mk_lt
 (mk_lt
 (mk_eq (mk_iload_n X dX0_rim_36 rfl rfl))
 (mk_lt
 (mk_eq (mk_iaw X dX0_rim_37 rfl))
 (mk_eq (mk_aload_n X dX0_rim_38 rfl rfl))))
 (mk_lt
 (mk_lt
 (mk_eq (mk_iconst X dX0_rim_39 rfl rfl))
 (mk_eq (mk_puz X (ci := 0) (j := 15) rfl in_X0 tyX0_ok nmX0 (Nat.le_of_ble_eq_true rfl) rfl rfl q261 dX0_rim_40 rfl)))
 (mk_lt
 (mk_eq (mk_iload_n X dX0_rim_43 rfl rfl))
 (mk_eq (mk_ri X dX0_rim_44)))))))
theorem sd_X0_rim {l : Launch} {w : ma_Wd} {NC : Nat} {A : Nat → Prop} {S_X0_isLetter S_X0_isIn : ma_Cs} (hw : ma_Wo w YX NC A) (h_X0_isLetter : ma_Sd l w YX NC A yX0_isLetter cX0_isLetter 1 (some .boolean) rm_X0_isLetter S_X0_isLetter) (h_X0_isIn : ma_Sd l w YX NC A yX0_isIn cX0_isIn 6 (some .boolean) rm_X0_isIn S_X0_isIn) : ma_Sd l w YX NC A yX0_rim cX0_rim 4 (some .int) rm_X0_rim (ma_rn (tb_X0_rim S_X0_isLetter S_X0_isIn) 4) := ma_of hw (by decide) ⟨rfl, rfl⟩ (fun X => tk_X0_rim h_X0_isLetter h_X0_isIn X)
theorem dX0_isLetter_0 : decode cX0_isLetter 0 = .ok (.iload_n 0, 1) := by decide +kernel
theorem dX0_isLetter_1 : decode cX0_isLetter 1 = .ok (.i2l, 1) := by decide +kernel
theorem dX0_isLetter_2 : decode cX0_isLetter 2 = .ok (.lconst 0, 1) := by decide +kernel
theorem dX0_isLetter_3 : decode cX0_isLetter 3 = .ok (.ldc2_w 3, 3) := by decide +kernel
theorem dX0_isLetter_6 : decode cX0_isLetter 6 = .ok (.invokestatic 5, 3) := by decide +kernel
theorem dX0_isLetter_9 : decode cX0_isLetter 9 = .ok (.ireturn, 1) := by decide +kernel
def tb_X0_isLetter (S_X0_isIn : ma_Cs) : Nat → ma_In := fun pc =>
 (if pc < 3 then
 (if pc < 1 then
 (if pc = 0 then in_ild 0 1 else in_no) else
 (if pc < 2 then
 (if pc = 1 then in_il (fun x => x.toInt64) 2 else in_no) else
 (if pc = 2 then in_push (.long 0) 3 else in_no))) else
 (if pc < 6 then
 (if pc = 3 then in_push (.long 3) 6 else in_no) else
 (if pc < 9 then
 (if pc = 6 then in_s3 S_X0_isIn 9 else in_no) else
 (if pc = 9 then in_rz else in_no))))
theorem tk_X0_isLetter {l : Launch} {w : ma_Wd} {NC : Nat} {A : Nat → Prop} {S_X0_isIn : ma_Cs} (h_X0_isIn : ma_Sd l w YX NC A yX0_isIn cX0_isIn 6 (some .boolean) rm_X0_isIn S_X0_isIn) {p : Program} {e : Env} {s : State} {m : MethodId} {args : Array Value} {below : List Frame} {meth : Method} {c : Code} (X : ma_Cx p s m args meth c w YX NC A yX0_isLetter.cls cX0_isLetter 1 (some .boolean)) : ∀ pc, ma_Ok p l e rm_X0_isLetter s m args below meth c w YX NC A 1 pc (tb_X0_isLetter S_X0_isIn pc) := fun pc =>
 (mk_lt
 (mk_lt
 (mk_eq (mk_iload_n X dX0_isLetter_0 rfl rfl))
 (mk_lt
 (mk_eq (mk_i2l X dX0_isLetter_1 rfl))
 (mk_eq (mk_lconst X dX0_isLetter_2 rfl rfl))))
 (mk_lt
 (mk_eq (mk_ldc2 X dX0_isLetter_3 q374 rfl))
 (mk_lt
 (mk_eq (mk_S3 X h_X0_isIn (lw_S q355 q356 q61 q357) ⟨by decide, by decide, rfl⟩ ⟨(Nat.le_of_ble_eq_true rfl), (Nat.le_of_ble_eq_true rfl)⟩ dX0_isLetter_6 rfl))
 (mk_eq (mk_rz X dX0_isLetter_9)))))
theorem sd_X0_isLetter {l : Launch} {w : ma_Wd} {NC : Nat} {A : Nat → Prop} {S_X0_isIn : ma_Cs} (hw : ma_Wo w YX NC A) (h_X0_isIn : ma_Sd l w YX NC A yX0_isIn cX0_isIn 6 (some .boolean) rm_X0_isIn S_X0_isIn) : ma_Sd l w YX NC A yX0_isLetter cX0_isLetter 1 (some .boolean) rm_X0_isLetter (ma_rn (tb_X0_isLetter S_X0_isIn) 1) := ma_of hw (by decide) ⟨rfl, rfl⟩ (fun X => tk_X0_isLetter h_X0_isIn X)
theorem dX0_write_0 : decode cX0_write 0 = .ok (.iload_n 1, 1) := by decide +kernel
theorem dX0_write_1 : decode cX0_write 1 = .ok (.i2l, 1) := by decide +kernel
theorem dX0_write_2 : decode cX0_write 2 = .ok (.lconst 1, 1) := by decide +kernel
theorem dX0_write_3 : decode cX0_write 3 = .ok (.ldc2_w 159, 3) := by decide +kernel
theorem dX0_write_6 : decode cX0_write 6 = .ok (.invokestatic 5, 3) := by decide +kernel
theorem dX0_write_9 : decode cX0_write 9 = .ok (.ifCond .ne 5, 3) := by decide +kernel
theorem dX0_write_12 : decode cX0_write 12 = .ok (.iconst (-1), 1) := by decide +kernel
theorem dX0_write_13 : decode cX0_write 13 = .ok (.ireturn, 1) := by decide +kernel
theorem dX0_write_14 : decode cX0_write 14 = .ok (.aload_n 0, 1) := by decide +kernel
theorem dX0_write_15 : decode cX0_write 15 = .ok (.getfield 161, 3) := by decide +kernel
theorem dX0_write_18 : decode cX0_write 18 = .ok (.iload_n 1, 1) := by decide +kernel
theorem dX0_write_19 : decode cX0_write 19 = .ok (.iadd, 1) := by decide +kernel
theorem dX0_write_20 : decode cX0_write 20 = .ok (.sipush 160, 3) := by decide +kernel
theorem dX0_write_23 : decode cX0_write 23 = .ok (.if_icmp .le 6, 3) := by decide +kernel
theorem dX0_write_26 : decode cX0_write 26 = .ok (.bipush (-3), 2) := by decide +kernel
theorem dX0_write_28 : decode cX0_write 28 = .ok (.ireturn, 1) := by decide +kernel
theorem dX0_write_29 : decode cX0_write 29 = .ok (.iload_n 1, 1) := by decide +kernel
theorem dX0_write_30 : decode cX0_write 30 = .ok (.iconst 1, 1) := by decide +kernel
theorem dX0_write_31 : decode cX0_write 31 = .ok (.isub, 1) := by decide +kernel
theorem dX0_write_32 : decode cX0_write 32 = .ok (.istore 4, 2) := by decide +kernel
theorem dX0_write_34 : decode cX0_write 34 = .ok (.iload 4, 2) := by decide +kernel
theorem dX0_write_36 : decode cX0_write 36 = .ok (.ifCond .lt 37, 3) := by decide +kernel
theorem dX0_write_39 : decode cX0_write 39 = .ok (.aload_n 0, 1) := by decide +kernel
theorem dX0_write_40 : decode cX0_write 40 = .ok (.getfield 15, 3) := by decide +kernel
theorem dX0_write_43 : decode cX0_write 43 = .ok (.aload_n 0, 1) := by decide +kernel
theorem dX0_write_44 : decode cX0_write 44 = .ok (.getfield 161, 3) := by decide +kernel
theorem dX0_write_47 : decode cX0_write 47 = .ok (.lload_n 2, 1) := by decide +kernel
theorem dX0_write_48 : decode cX0_write 48 = .ok (.bipush 8, 2) := by decide +kernel
theorem dX0_write_50 : decode cX0_write 50 = .ok (.iload 4, 2) := by decide +kernel
theorem dX0_write_52 : decode cX0_write 52 = .ok (.imul, 1) := by decide +kernel
theorem dX0_write_53 : decode cX0_write 53 = .ok (.lshr, 1) := by decide +kernel
theorem dX0_write_54 : decode cX0_write 54 = .ok (.l2i, 1) := by decide +kernel
theorem dX0_write_55 : decode cX0_write 55 = .ok (.i2b, 1) := by decide +kernel
theorem dX0_write_56 : decode cX0_write 56 = .ok (.bastore, 1) := by decide +kernel
theorem dX0_write_57 : decode cX0_write 57 = .ok (.aload_n 0, 1) := by decide +kernel
theorem dX0_write_58 : decode cX0_write 58 = .ok (.dup, 1) := by decide +kernel
theorem dX0_write_59 : decode cX0_write 59 = .ok (.getfield 161, 3) := by decide +kernel
theorem dX0_write_62 : decode cX0_write 62 = .ok (.iconst 1, 1) := by decide +kernel
theorem dX0_write_63 : decode cX0_write 63 = .ok (.iadd, 1) := by decide +kernel
theorem dX0_write_64 : decode cX0_write 64 = .ok (.putfield 161, 3) := by decide +kernel
theorem dX0_write_67 : decode cX0_write 67 = .ok (.iinc 4 (-1), 3) := by decide +kernel
theorem dX0_write_70 : decode cX0_write 70 = .ok (.goto (-36), 3) := by decide +kernel
theorem dX0_write_73 : decode cX0_write 73 = .ok (.aload_n 0, 1) := by decide +kernel
theorem dX0_write_74 : decode cX0_write 74 = .ok (.getfield 161, 3) := by decide +kernel
theorem dX0_write_77 : decode cX0_write 77 = .ok (.ireturn, 1) := by decide +kernel
def tb_X0_write (S_X0_isIn : ma_Cs) : Nat → ma_In := fun pc =>
 (if pc < 39 then
 (if pc < 19 then
 (if pc < 9 then
 (if pc < 2 then
 (if pc < 1 then
 (if pc = 0 then in_ild 1 1 else in_no) else
 (if pc = 1 then in_il (fun x => x.toInt64) 2 else in_no)) else
 (if pc < 3 then
 (if pc = 2 then in_push (.long 1) 3 else in_no) else
 (if pc < 6 then
 (if pc = 3 then in_push (.long 8) 6 else in_no) else
 (if pc = 6 then in_s3 S_X0_isIn 9 else in_no)))) else
 (if pc < 14 then
 (if pc < 12 then
 (if pc = 9 then in_if1 (fun x => x = 0) 12 14 else in_no) else
 (if pc < 13 then
 (if pc = 12 then in_push (.int (-1)) 13 else in_no) else
 (if pc = 13 then in_ri else in_no))) else
 (if pc < 15 then
 (if pc = 14 then in_ald 0 15 else in_no) else
 (if pc < 18 then
 (if pc = 15 then in_get YX 0 0 18 else in_no) else
 (if pc = 18 then in_ild 1 19 else in_no))))) else
 (if pc < 29 then
 (if pc < 23 then
 (if pc < 20 then
 (if pc = 19 then in_iii (fun x y => x + y) 20 else in_no) else
 (if pc = 20 then in_push (.int 160) 23 else in_no)) else
 (if pc < 26 then
 (if pc = 23 then in_if2 (fun x y => x ≤ y) 29 26 else in_no) else
 (if pc < 28 then
 (if pc = 26 then in_push (.int (-3)) 28 else in_no) else
 (if pc = 28 then in_ri else in_no)))) else
 (if pc < 32 then
 (if pc < 30 then
 (if pc = 29 then in_ild 1 30 else in_no) else
 (if pc < 31 then
 (if pc = 30 then in_push (.int 1) 31 else in_no) else
 (if pc = 31 then in_iii (fun x y => x - y) 32 else in_no))) else
 (if pc < 34 then
 (if pc = 32 then in_ist 4 34 else in_no) else
 (if pc < 36 then
 (if pc = 34 then in_ild 4 36 else in_no) else
 (if pc = 36 then in_if1 (fun x => x < 0) 73 39 else in_no)))))) else
 (if pc < 56 then
 (if pc < 48 then
 (if pc < 43 then
 (if pc < 40 then
 (if pc = 39 then in_ald 0 40 else in_no) else
 (if pc = 40 then in_get YX 0 1 43 else in_no)) else
 (if pc < 44 then
 (if pc = 43 then in_ald 0 44 else in_no) else
 (if pc < 47 then
 (if pc = 44 then in_get YX 0 0 47 else in_no) else
 (if pc = 47 then in_lld 2 48 else in_no)))) else
 (if pc < 53 then
 (if pc < 50 then
 (if pc = 48 then in_push (.int 8) 50 else in_no) else
 (if pc < 52 then
 (if pc = 50 then in_ild 4 52 else in_no) else
 (if pc = 52 then in_iii (fun x y => x * y) 53 else in_no))) else
 (if pc < 54 then
 (if pc = 53 then in_lil (fun x y => x >>> (y.toInt64 &&& 63)) 54 else in_no) else
 (if pc < 55 then
 (if pc = 54 then in_li (fun x => x.toInt32) 55 else in_no) else
 (if pc = 55 then in_ii (fun x => x.toInt8.toInt32) 56 else in_no))))) else
 (if pc < 64 then
 (if pc < 59 then
 (if pc < 57 then
 (if pc = 56 then in_baw YX 57 else in_no) else
 (if pc < 58 then
 (if pc = 57 then in_ald 0 58 else in_no) else
 (if pc = 58 then in_dup 59 else in_no))) else
 (if pc < 62 then
 (if pc = 59 then in_get YX 0 0 62 else in_no) else
 (if pc < 63 then
 (if pc = 62 then in_push (.int 1) 63 else in_no) else
 (if pc = 63 then in_iii (fun x y => x + y) 64 else in_no)))) else
 (if pc < 73 then
 (if pc < 67 then
 (if pc = 64 then in_put YX 0 0 67 else in_no) else
 (if pc < 70 then
 (if pc = 67 then in_inc 4 (-1) 70 else in_no) else
 (if pc = 70 then in_go 34 else in_no))) else
 (if pc < 74 then
 (if pc = 73 then in_ald 0 74 else in_no) else
 (if pc < 77 then
 (if pc = 74 then in_get YX 0 0 77 else in_no) else
 (if pc = 77 then in_ri else in_no)))))))
theorem tk_X0_write {l : Launch} {w : ma_Wd} {NC : Nat} {A : Nat → Prop} {S_X0_isIn : ma_Cs} (h_X0_isIn : ma_Sd l w YX NC A yX0_isIn cX0_isIn 6 (some .boolean) rm_X0_isIn S_X0_isIn) {p : Program} {e : Env} {s : State} {m : MethodId} {args : Array Value} {below : List Frame} {meth : Method} {c : Code} (X : ma_Cx p s m args meth c w YX NC A yX0_write.cls cX0_write 5 (some .int)) : ∀ pc, ma_Ok p l e rm_X0_write s m args below meth c w YX NC A 5 pc (tb_X0_write S_X0_isIn pc) := fun pc =>
 (mk_lt
 (mk_lt
 (mk_lt
 (mk_lt
 (mk_lt
 (mk_eq (mk_iload_n X dX0_write_0 rfl rfl))
 (mk_eq (mk_i2l X dX0_write_1 rfl)))
 (mk_lt
 (mk_eq (mk_lconst X dX0_write_2 rfl rfl))
 (mk_lt
 (mk_eq (mk_ldc2 X dX0_write_3 q382 rfl))
 (mk_eq (mk_S3 X h_X0_isIn (lw_S q355 q356 q61 q357) ⟨by decide, by decide, rfl⟩ ⟨(Nat.le_of_ble_eq_true rfl), (Nat.le_of_ble_eq_true rfl)⟩ dX0_write_6 rfl)))))
 (mk_lt
 (mk_lt
 (mk_eq (mk_ifne X dX0_write_9 rfl rfl))
 (mk_lt
 (mk_eq (mk_iconst X dX0_write_12 rfl rfl))
 (mk_eq (mk_ri X dX0_write_13))))
 (mk_lt
 (mk_eq (mk_aload_n X dX0_write_14 rfl rfl))
 (mk_lt
 (mk_eq (mk_get X (ci := 0) (j := 0) rfl in_X0 (Nat.le_of_ble_eq_true rfl) q223 dX0_write_15 rfl))
 (mk_eq (mk_iload_n X dX0_write_18 rfl rfl))))))
 (mk_lt
 (mk_lt
 (mk_lt
 (mk_eq (mk_iadd X dX0_write_19 rfl))
 (mk_eq (mk_sipush X dX0_write_20 rfl rfl)))
 (mk_lt
 (mk_eq (mk_icle X dX0_write_23 rfl rfl))
 (mk_lt
 (mk_eq (mk_bipush X dX0_write_26 rfl rfl))
 (mk_eq (mk_ri X dX0_write_28)))))
 (mk_lt
 (mk_lt
 (mk_eq (mk_iload_n X dX0_write_29 rfl rfl))
 (mk_lt
 (mk_eq (mk_iconst X dX0_write_30 rfl rfl))
 (mk_eq (mk_isub X dX0_write_31 rfl))))
 (mk_lt
 (mk_eq (mk_istore X dX0_write_32 (Nat.le_of_ble_eq_true rfl) rfl))
 (mk_lt
 (mk_eq (mk_iload X dX0_write_34 rfl))
 (mk_eq (mk_iflt X dX0_write_36 rfl rfl)))))))
 (mk_lt
 (mk_lt
 (mk_lt
 (mk_lt
 (mk_eq (mk_aload_n X dX0_write_39 rfl rfl))
 (mk_eq (mk_get X (ci := 0) (j := 1) rfl in_X0 (Nat.le_of_ble_eq_true rfl) q225 dX0_write_40 rfl)))
 (mk_lt
 (mk_eq (mk_aload_n X dX0_write_43 rfl rfl))
 (mk_lt
 (mk_eq (mk_get X (ci := 0) (j := 0) rfl in_X0 (Nat.le_of_ble_eq_true rfl) q223 dX0_write_44 rfl))
 (mk_eq (mk_lload_n X dX0_write_47 rfl rfl)))))
 (mk_lt
 (mk_lt
 (mk_eq (mk_bipush X dX0_write_48 rfl rfl))
 (mk_lt
 (mk_eq (mk_iload X dX0_write_50 rfl))
 (mk_eq (mk_imul X dX0_write_52 rfl))))
 (mk_lt
 (mk_eq (mk_lshr X dX0_write_53 rfl))
 (mk_lt
 (mk_eq (mk_l2i X dX0_write_54 rfl))
 (mk_eq (mk_i2b X dX0_write_55 rfl))))))
 (mk_lt
 (mk_lt
 (mk_lt
 (mk_eq (mk_baw X dX0_write_56 rfl))
 (mk_lt
 (mk_eq (mk_aload_n X dX0_write_57 rfl rfl))
 (mk_eq (mk_dup X dX0_write_58 rfl))))
 (mk_lt
 (mk_eq (mk_get X (ci := 0) (j := 0) rfl in_X0 (Nat.le_of_ble_eq_true rfl) q223 dX0_write_59 rfl))
 (mk_lt
 (mk_eq (mk_iconst X dX0_write_62 rfl rfl))
 (mk_eq (mk_iadd X dX0_write_63 rfl)))))
 (mk_lt
 (mk_lt
 (mk_eq (mk_put X (ci := 0) (j := 0) rfl in_X0 tyX0_ok nmX0 (Nat.le_of_ble_eq_true rfl) rfl rfl q223 dX0_write_64 rfl))
 (mk_lt
 (mk_eq (mk_iinc X dX0_write_67 rfl (Nat.le_of_ble_eq_true rfl) rfl))
 (mk_eq (mk_goto X dX0_write_70 rfl))))
 (mk_lt
 (mk_eq (mk_aload_n X dX0_write_73 rfl rfl))
 (mk_lt
 (mk_eq (mk_get X (ci := 0) (j := 0) rfl in_X0 (Nat.le_of_ble_eq_true rfl) q223 dX0_write_74 rfl))
 (mk_eq (mk_ri X dX0_write_77))))))))
theorem sd_X0_write {l : Launch} {w : ma_Wd} {NC : Nat} {A : Nat → Prop} {S_X0_isIn : ma_Cs} (hw : ma_Wo w YX NC A) (h_X0_isIn : ma_Sd l w YX NC A yX0_isIn cX0_isIn 6 (some .boolean) rm_X0_isIn S_X0_isIn) : ma_Sd l w YX NC A yX0_write cX0_write 5 (some .int) rm_X0_write (ma_rn (tb_X0_write S_X0_isIn) 5) := ma_of hw (by decide) ⟨rfl, rfl⟩ (fun X => tk_X0_write h_X0_isIn X)
theorem dX0_wipe_0 : decode cX0_wipe 0 = .ok (.aload_n 0, 1) := by decide +kernel
theorem dX0_wipe_1 : decode cX0_wipe 1 = .ok (.getfield 161, 3) := by decide +kernel
theorem dX0_wipe_4 : decode cX0_wipe 4 = .ok (.istore_n 1, 1) := by decide +kernel
theorem dX0_wipe_5 : decode cX0_wipe 5 = .ok (.aload_n 0, 1) := by decide +kernel
theorem dX0_wipe_6 : decode cX0_wipe 6 = .ok (.iconst 0, 1) := by decide +kernel
theorem dX0_wipe_7 : decode cX0_wipe 7 = .ok (.putfield 161, 3) := by decide +kernel
theorem dX0_wipe_10 : decode cX0_wipe 10 = .ok (.iload_n 1, 1) := by decide +kernel
theorem dX0_wipe_11 : decode cX0_wipe 11 = .ok (.ireturn, 1) := by decide +kernel
def tb_X0_wipe : Nat → ma_In := fun pc =>
 (if pc < 6 then
 (if pc < 4 then
 (if pc < 1 then
 (if pc = 0 then in_ald 0 1 else in_no) else
 (if pc = 1 then in_get YX 0 0 4 else in_no)) else
 (if pc < 5 then
 (if pc = 4 then in_ist 1 5 else in_no) else
 (if pc = 5 then in_ald 0 6 else in_no))) else
 (if pc < 10 then
 (if pc < 7 then
 (if pc = 6 then in_push (.int 0) 7 else in_no) else
 (if pc = 7 then in_put YX 0 0 10 else in_no)) else
 (if pc < 11 then
 (if pc = 10 then in_ild 1 11 else in_no) else
 (if pc = 11 then in_ri else in_no))))
theorem tk_X0_wipe {l : Launch} {w : ma_Wd} {NC : Nat} {A : Nat → Prop} {p : Program} {e : Env} {s : State} {m : MethodId} {args : Array Value} {below : List Frame} {meth : Method} {c : Code} (X : ma_Cx p s m args meth c w YX NC A yX0_wipe.cls cX0_wipe 2 (some .int)) : ∀ pc, ma_Ok p l e rm_X0_wipe s m args below meth c w YX NC A 2 pc (tb_X0_wipe pc) := fun pc =>
 (mk_lt
 (mk_lt
 (mk_lt
 (mk_eq (mk_aload_n X dX0_wipe_0 rfl rfl))
 (mk_eq (mk_get X (ci := 0) (j := 0) rfl in_X0 (Nat.le_of_ble_eq_true rfl) q223 dX0_wipe_1 rfl)))
 (mk_lt
 (mk_eq (mk_istore_n X dX0_wipe_4 rfl (Nat.le_of_ble_eq_true rfl) rfl))
 (mk_eq (mk_aload_n X dX0_wipe_5 rfl rfl))))
 (mk_lt
 (mk_lt
 (mk_eq (mk_iconst X dX0_wipe_6 rfl rfl))
 (mk_eq (mk_put X (ci := 0) (j := 0) rfl in_X0 tyX0_ok nmX0 (Nat.le_of_ble_eq_true rfl) rfl rfl q223 dX0_wipe_7 rfl)))
 (mk_lt
 (mk_eq (mk_iload_n X dX0_wipe_10 rfl rfl))
 (mk_eq (mk_ri X dX0_wipe_11)))))
theorem sd_X0_wipe {l : Launch} {w : ma_Wd} {NC : Nat} {A : Nat → Prop} (hw : ma_Wo w YX NC A) : ma_Sd l w YX NC A yX0_wipe cX0_wipe 2 (some .int) rm_X0_wipe (ma_rn (tb_X0_wipe) 2) := ma_of hw (by decide) ⟨rfl, rfl⟩ (fun X => tk_X0_wipe  X)
theorem dX0_fault_0 : decode cX0_fault 0 = .ok (.aload_n 0, 1) := by decide +kernel
theorem dX0_fault_1 : decode cX0_fault 1 = .ok (.getfield 24, 3) := by decide +kernel
theorem dX0_fault_4 : decode cX0_fault 4 = .ok (.invokevirtual 164, 3) := by decide +kernel
theorem dX0_fault_7 : decode cX0_fault 7 = .ok (.ireturn, 1) := by decide +kernel
def tb_X0_fault (S_X1_reads : ma_Cs) : Nat → ma_In := fun pc =>
 (if pc < 4 then
 (if pc < 1 then
 (if pc = 0 then in_ald 0 1 else in_no) else
 (if pc = 1 then in_get YX 0 2 4 else in_no)) else
 (if pc < 7 then
 (if pc = 4 then in_v1 YX 1 S_X1_reads 7 else in_no) else
 (if pc = 7 then in_ri else in_no)))
theorem tk_X0_fault {l : Launch} {w : ma_Wd} {NC : Nat} {A : Nat → Prop} {S_X1_reads : ma_Cs} (h_X1_reads : ma_Sd l w YX NC A yX1_reads cX1_reads 1 (some .int) rm_X1_reads S_X1_reads) {p : Program} {e : Env} {s : State} {m : MethodId} {args : Array Value} {below : List Frame} {meth : Method} {c : Code} (X : ma_Cx p s m args meth c w YX NC A yX0_fault.cls cX0_fault 1 (some .int)) : ∀ pc, ma_Ok p l e rm_X0_fault s m args below meth c w YX NC A 1 pc (tb_X0_fault S_X1_reads pc) := fun pc =>
 (mk_lt
 (mk_lt
 (mk_eq (mk_aload_n X dX0_fault_0 rfl rfl))
 (mk_eq (mk_get X (ci := 0) (j := 2) rfl in_X0 (Nat.le_of_ble_eq_true rfl) q226 dX0_fault_1 rfl)))
 (mk_lt
 (mk_eq (mk_V1 X h_X1_reads (ci := 1) rfl (lw_V q391 q392 q393 q62 q394) ⟨rfl, by decide, by decide, rfl⟩ ⟨(Nat.le_of_ble_eq_true rfl), (Nat.le_of_ble_eq_true rfl)⟩ dX0_fault_4 rfl))
 (mk_eq (mk_ri X dX0_fault_7))))
theorem sd_X0_fault {l : Launch} {w : ma_Wd} {NC : Nat} {A : Nat → Prop} {S_X1_reads : ma_Cs} (hw : ma_Wo w YX NC A) (h_X1_reads : ma_Sd l w YX NC A yX1_reads cX1_reads 1 (some .int) rm_X1_reads S_X1_reads) : ma_Sd l w YX NC A yX0_fault cX0_fault 1 (some .int) rm_X0_fault (ma_rn (tb_X0_fault S_X1_reads) 1) := ma_of hw (by decide) ⟨rfl, rfl⟩ (fun X => tk_X0_fault h_X1_reads X)
theorem dX0_plan_0 : decode cX0_plan 0 = .ok (.aload_n 0, 1) := by decide +kernel
theorem dX0_plan_1 : decode cX0_plan 1 = .ok (.getfield 24, 3) := by decide +kernel
theorem dX0_plan_4 : decode cX0_plan 4 = .ok (.invokevirtual 164, 3) := by decide +kernel
theorem dX0_plan_7 : decode cX0_plan 7 = .ok (.bipush (-4), 2) := by decide +kernel
theorem dX0_plan_9 : decode cX0_plan 9 = .ok (.if_icmp .eq 6, 3) := by decide +kernel
theorem dX0_plan_12 : decode cX0_plan 12 = .ok (.bipush (-2), 2) := by decide +kernel
theorem dX0_plan_14 : decode cX0_plan 14 = .ok (.ireturn, 1) := by decide +kernel
theorem dX0_plan_15 : decode cX0_plan 15 = .ok (.aload_n 0, 1) := by decide +kernel
theorem dX0_plan_16 : decode cX0_plan 16 = .ok (.getfield 35, 3) := by decide +kernel
theorem dX0_plan_19 : decode cX0_plan 19 = .ok (.aload_n 0, 1) := by decide +kernel
theorem dX0_plan_20 : decode cX0_plan 20 = .ok (.getfield 31, 3) := by decide +kernel
theorem dX0_plan_23 : decode cX0_plan 23 = .ok (.invokevirtual 167, 3) := by decide +kernel
theorem dX0_plan_26 : decode cX0_plan 26 = .ok (.aload_n 0, 1) := by decide +kernel
theorem dX0_plan_27 : decode cX0_plan 27 = .ok (.iconst 0, 1) := by decide +kernel
theorem dX0_plan_28 : decode cX0_plan 28 = .ok (.putfield 137, 3) := by decide +kernel
theorem dX0_plan_31 : decode cX0_plan 31 = .ok (.aload_n 0, 1) := by decide +kernel
theorem dX0_plan_32 : decode cX0_plan 32 = .ok (.getfield 35, 3) := by decide +kernel
theorem dX0_plan_35 : decode cX0_plan 35 = .ok (.getfield 171, 3) := by decide +kernel
theorem dX0_plan_38 : decode cX0_plan 38 = .ok (.ireturn, 1) := by decide +kernel
def tb_X0_plan (S_X1_reads S_X2_copy : ma_Cs) : Nat → ma_In := fun pc =>
 (if pc < 19 then
 (if pc < 9 then
 (if pc < 4 then
 (if pc < 1 then
 (if pc = 0 then in_ald 0 1 else in_no) else
 (if pc = 1 then in_get YX 0 2 4 else in_no)) else
 (if pc < 7 then
 (if pc = 4 then in_v1 YX 1 S_X1_reads 7 else in_no) else
 (if pc = 7 then in_push (.int (-4)) 9 else in_no))) else
 (if pc < 14 then
 (if pc < 12 then
 (if pc = 9 then in_if2 (fun x y => x = y) 15 12 else in_no) else
 (if pc = 12 then in_push (.int (-2)) 14 else in_no)) else
 (if pc < 15 then
 (if pc = 14 then in_ri else in_no) else
 (if pc < 16 then
 (if pc = 15 then in_ald 0 16 else in_no) else
 (if pc = 16 then in_get YX 0 4 19 else in_no))))) else
 (if pc < 28 then
 (if pc < 23 then
 (if pc < 20 then
 (if pc = 19 then in_ald 0 20 else in_no) else
 (if pc = 20 then in_get YX 0 3 23 else in_no)) else
 (if pc < 26 then
 (if pc = 23 then in_v2 YX 2 S_X2_copy 26 else in_no) else
 (if pc < 27 then
 (if pc = 26 then in_ald 0 27 else in_no) else
 (if pc = 27 then in_push (.int 0) 28 else in_no)))) else
 (if pc < 32 then
 (if pc < 31 then
 (if pc = 28 then in_puz YX 0 15 31 else in_no) else
 (if pc = 31 then in_ald 0 32 else in_no)) else
 (if pc < 35 then
 (if pc = 32 then in_get YX 0 4 35 else in_no) else
 (if pc < 38 then
 (if pc = 35 then in_get YX 2 0 38 else in_no) else
 (if pc = 38 then in_ri else in_no))))))
theorem tk_X0_plan {l : Launch} {w : ma_Wd} {NC : Nat} {A : Nat → Prop} {S_X1_reads S_X2_copy : ma_Cs} (h_X1_reads : ma_Sd l w YX NC A yX1_reads cX1_reads 1 (some .int) rm_X1_reads S_X1_reads) (h_X2_copy : ma_Sd l w YX NC A yX2_copy cX2_copy 2 none rm_X2_copy S_X2_copy) {p : Program} {e : Env} {s : State} {m : MethodId} {args : Array Value} {below : List Frame} {meth : Method} {c : Code} (X : ma_Cx p s m args meth c w YX NC A yX0_plan.cls cX0_plan 1 (some .int)) : ∀ pc, ma_Ok p l e rm_X0_plan s m args below meth c w YX NC A 1 pc (tb_X0_plan S_X1_reads S_X2_copy pc) := fun pc =>
 (mk_lt
 (mk_lt
 (mk_lt
 (mk_lt
 (mk_eq (mk_aload_n X dX0_plan_0 rfl rfl))
 (mk_eq (mk_get X (ci := 0) (j := 2) rfl in_X0 (Nat.le_of_ble_eq_true rfl) q226 dX0_plan_1 rfl)))
 (mk_lt
 (mk_eq (mk_V1 X h_X1_reads (ci := 1) rfl (lw_V q391 q392 q393 q62 q394) ⟨rfl, by decide, by decide, rfl⟩ ⟨(Nat.le_of_ble_eq_true rfl), (Nat.le_of_ble_eq_true rfl)⟩ dX0_plan_4 rfl))
 (mk_eq (mk_bipush X dX0_plan_7 rfl rfl))))
 (mk_lt
 (mk_lt
 (mk_eq (mk_iceq X dX0_plan_9 rfl rfl))
 (mk_eq (mk_bipush X dX0_plan_12 rfl rfl)))
 (mk_lt
 (mk_eq (mk_ri X dX0_plan_14))
 (mk_lt
 (mk_eq (mk_aload_n X dX0_plan_15 rfl rfl))
 (mk_eq (mk_get X (ci := 0) (j := 4) rfl in_X0 (Nat.le_of_ble_eq_true rfl) q230 dX0_plan_16 rfl))))))
 (mk_lt
 (mk_lt
 (mk_lt
 (mk_eq (mk_aload_n X dX0_plan_19 rfl rfl))
 (mk_eq (mk_get X (ci := 0) (j := 3) rfl in_X0 (Nat.le_of_ble_eq_true rfl) q227 dX0_plan_20 rfl)))
 (mk_lt
 (mk_eq (mk_V2 X h_X2_copy (ci := 2) rfl (lw_V q443 q444 q445 q63 q446) ⟨rfl, by decide, by decide, rfl⟩ ⟨(Nat.le_of_ble_eq_true rfl), (Nat.le_of_ble_eq_true rfl)⟩ dX0_plan_23 rfl))
 (mk_lt
 (mk_eq (mk_aload_n X dX0_plan_26 rfl rfl))
 (mk_eq (mk_iconst X dX0_plan_27 rfl rfl)))))
 (mk_lt
 (mk_lt
 (mk_eq (mk_puz X (ci := 0) (j := 15) rfl in_X0 tyX0_ok nmX0 (Nat.le_of_ble_eq_true rfl) rfl rfl q261 dX0_plan_28 rfl))
 (mk_eq (mk_aload_n X dX0_plan_31 rfl rfl)))
 (mk_lt
 (mk_eq (mk_get X (ci := 0) (j := 4) rfl in_X0 (Nat.le_of_ble_eq_true rfl) q230 dX0_plan_32 rfl))
 (mk_lt
 (mk_eq (mk_getN X (ci := 2) (j := 0) rfl in_X2 (Nat.le_of_ble_eq_true rfl) (List.mem_of_getElem? (i := 0) rfl) dX0_plan_35 rfl))
 (mk_eq (mk_ri X dX0_plan_38)))))))
theorem sd_X0_plan {l : Launch} {w : ma_Wd} {NC : Nat} {A : Nat → Prop} {S_X1_reads S_X2_copy : ma_Cs} (hw : ma_Wo w YX NC A) (h_X1_reads : ma_Sd l w YX NC A yX1_reads cX1_reads 1 (some .int) rm_X1_reads S_X1_reads) (h_X2_copy : ma_Sd l w YX NC A yX2_copy cX2_copy 2 none rm_X2_copy S_X2_copy) : ma_Sd l w YX NC A yX0_plan cX0_plan 1 (some .int) rm_X0_plan (ma_rn (tb_X0_plan S_X1_reads S_X2_copy) 1) := ma_of hw (by decide) ⟨rfl, rfl⟩ (fun X => tk_X0_plan h_X1_reads h_X2_copy X)
theorem dX0_line_0 : decode cX0_line 0 = .ok (.iload_n 1, 1) := by decide +kernel
theorem dX0_line_1 : decode cX0_line 1 = .ok (.invokestatic 150, 3) := by decide +kernel
theorem dX0_line_4 : decode cX0_line 4 = .ok (.ifCond .eq 15, 3) := by decide +kernel
theorem dX0_line_7 : decode cX0_line 7 = .ok (.iload_n 2, 1) := by decide +kernel
theorem dX0_line_8 : decode cX0_line 8 = .ok (.i2l, 1) := by decide +kernel
theorem dX0_line_9 : decode cX0_line 9 = .ok (.lconst 0, 1) := by decide +kernel
theorem dX0_line_10 : decode cX0_line 10 = .ok (.ldc2_w 174, 3) := by decide +kernel
theorem dX0_line_13 : decode cX0_line 13 = .ok (.invokestatic 5, 3) := by decide +kernel
theorem dX0_line_16 : decode cX0_line 16 = .ok (.ifCond .ne 5, 3) := by decide +kernel
theorem dX0_line_19 : decode cX0_line 19 = .ok (.iconst (-1), 1) := by decide +kernel
theorem dX0_line_20 : decode cX0_line 20 = .ok (.ireturn, 1) := by decide +kernel
theorem dX0_line_21 : decode cX0_line 21 = .ok (.aload_n 0, 1) := by decide +kernel
theorem dX0_line_22 : decode cX0_line 22 = .ok (.getfield 35, 3) := by decide +kernel
theorem dX0_line_25 : decode cX0_line 25 = .ok (.iload_n 1, 1) := by decide +kernel
theorem dX0_line_26 : decode cX0_line 26 = .ok (.invokevirtual 176, 3) := by decide +kernel
theorem dX0_line_29 : decode cX0_line 29 = .ok (.istore_n 3, 1) := by decide +kernel
theorem dX0_line_30 : decode cX0_line 30 = .ok (.iload_n 3, 1) := by decide +kernel
theorem dX0_line_31 : decode cX0_line 31 = .ok (.bipush (-4), 2) := by decide +kernel
theorem dX0_line_33 : decode cX0_line 33 = .ok (.if_icmp .ne 6, 3) := by decide +kernel
theorem dX0_line_36 : decode cX0_line 36 = .ok (.bipush (-4), 2) := by decide +kernel
theorem dX0_line_38 : decode cX0_line 38 = .ok (.ireturn, 1) := by decide +kernel
theorem dX0_line_39 : decode cX0_line 39 = .ok (.iload_n 2, 1) := by decide +kernel
theorem dX0_line_40 : decode cX0_line 40 = .ok (.tableswitch 84 0 3 #[32, 34, 56, 66], 32) := by decide +kernel
theorem dX0_line_72 : decode cX0_line 72 = .ok (.iload_n 3, 1) := by decide +kernel
theorem dX0_line_73 : decode cX0_line 73 = .ok (.ireturn, 1) := by decide +kernel
theorem dX0_line_74 : decode cX0_line 74 = .ok (.aload_n 0, 1) := by decide +kernel
theorem dX0_line_75 : decode cX0_line 75 = .ok (.getfield 35, 3) := by decide +kernel
theorem dX0_line_78 : decode cX0_line 78 = .ok (.getfield 180, 3) := by decide +kernel
theorem dX0_line_81 : decode cX0_line 81 = .ok (.iload_n 3, 1) := by decide +kernel
theorem dX0_line_82 : decode cX0_line 82 = .ok (.iconst 1, 1) := by decide +kernel
theorem dX0_line_83 : decode cX0_line 83 = .ok (.iadd, 1) := by decide +kernel
theorem dX0_line_84 : decode cX0_line 84 = .ok (.iaload, 1) := by decide +kernel
theorem dX0_line_85 : decode cX0_line 85 = .ok (.aload_n 0, 1) := by decide +kernel
theorem dX0_line_86 : decode cX0_line 86 = .ok (.getfield 35, 3) := by decide +kernel
theorem dX0_line_89 : decode cX0_line 89 = .ok (.getfield 180, 3) := by decide +kernel
theorem dX0_line_92 : decode cX0_line 92 = .ok (.iload_n 3, 1) := by decide +kernel
theorem dX0_line_93 : decode cX0_line 93 = .ok (.iaload, 1) := by decide +kernel
theorem dX0_line_94 : decode cX0_line 94 = .ok (.isub, 1) := by decide +kernel
theorem dX0_line_95 : decode cX0_line 95 = .ok (.ireturn, 1) := by decide +kernel
theorem dX0_line_96 : decode cX0_line 96 = .ok (.aload_n 0, 1) := by decide +kernel
theorem dX0_line_97 : decode cX0_line 97 = .ok (.getfield 35, 3) := by decide +kernel
theorem dX0_line_100 : decode cX0_line 100 = .ok (.getfield 183, 3) := by decide +kernel
theorem dX0_line_103 : decode cX0_line 103 = .ok (.iload_n 3, 1) := by decide +kernel
theorem dX0_line_104 : decode cX0_line 104 = .ok (.iaload, 1) := by decide +kernel
theorem dX0_line_105 : decode cX0_line 105 = .ok (.ireturn, 1) := by decide +kernel
theorem dX0_line_106 : decode cX0_line 106 = .ok (.aload_n 0, 1) := by decide +kernel
theorem dX0_line_107 : decode cX0_line 107 = .ok (.getfield 35, 3) := by decide +kernel
theorem dX0_line_110 : decode cX0_line 110 = .ok (.getfield 186, 3) := by decide +kernel
theorem dX0_line_113 : decode cX0_line 113 = .ok (.iload_n 3, 1) := by decide +kernel
theorem dX0_line_114 : decode cX0_line 114 = .ok (.baload, 1) := by decide +kernel
theorem dX0_line_115 : decode cX0_line 115 = .ok (.ifCond .eq 7, 3) := by decide +kernel
theorem dX0_line_118 : decode cX0_line 118 = .ok (.iconst 1, 1) := by decide +kernel
theorem dX0_line_119 : decode cX0_line 119 = .ok (.goto 4, 3) := by decide +kernel
theorem dX0_line_122 : decode cX0_line 122 = .ok (.iconst 0, 1) := by decide +kernel
theorem dX0_line_123 : decode cX0_line 123 = .ok (.ireturn, 1) := by decide +kernel
theorem dX0_line_124 : decode cX0_line 124 = .ok (.aload_n 0, 1) := by decide +kernel
theorem dX0_line_125 : decode cX0_line 125 = .ok (.getfield 35, 3) := by decide +kernel
theorem dX0_line_128 : decode cX0_line 128 = .ok (.iload_n 3, 1) := by decide +kernel
theorem dX0_line_129 : decode cX0_line 129 = .ok (.invokevirtual 190, 3) := by decide +kernel
theorem dX0_line_132 : decode cX0_line 132 = .ok (.ifCond .eq 7, 3) := by decide +kernel
theorem dX0_line_135 : decode cX0_line 135 = .ok (.iconst 1, 1) := by decide +kernel
theorem dX0_line_136 : decode cX0_line 136 = .ok (.goto 4, 3) := by decide +kernel
theorem dX0_line_139 : decode cX0_line 139 = .ok (.iconst 0, 1) := by decide +kernel
theorem dX0_line_140 : decode cX0_line 140 = .ok (.ireturn, 1) := by decide +kernel
def tb_X0_line (S_X0_isLetter S_X0_isIn S_X2_lineOf S_X2_hasProduct : ma_Cs) : Nat → ma_In := fun pc =>
 (if pc < 85 then
 (if pc < 30 then
 (if pc < 16 then
 (if pc < 8 then
 (if pc < 4 then
 (if pc < 1 then
 (if pc = 0 then in_ild 1 1 else in_no) else
 (if pc = 1 then in_s1 S_X0_isLetter 4 else in_no)) else
 (if pc < 7 then
 (if pc = 4 then in_if1 (fun x => x = 0) 19 7 else in_no) else
 (if pc = 7 then in_ild 2 8 else in_no))) else
 (if pc < 10 then
 (if pc < 9 then
 (if pc = 8 then in_il (fun x => x.toInt64) 9 else in_no) else
 (if pc = 9 then in_push (.long 0) 10 else in_no)) else
 (if pc < 13 then
 (if pc = 10 then in_push (.long 4) 13 else in_no) else
 (if pc = 13 then in_s3 S_X0_isIn 16 else in_no)))) else
 (if pc < 22 then
 (if pc < 20 then
 (if pc < 19 then
 (if pc = 16 then in_if1 (fun x => x = 0) 19 21 else in_no) else
 (if pc = 19 then in_push (.int (-1)) 20 else in_no)) else
 (if pc < 21 then
 (if pc = 20 then in_ri else in_no) else
 (if pc = 21 then in_ald 0 22 else in_no))) else
 (if pc < 26 then
 (if pc < 25 then
 (if pc = 22 then in_get YX 0 4 25 else in_no) else
 (if pc = 25 then in_ild 1 26 else in_no)) else
 (if pc < 29 then
 (if pc = 26 then in_v2 YX 2 S_X2_lineOf 29 else in_no) else
 (if pc = 29 then in_ist 3 30 else in_no))))) else
 (if pc < 73 then
 (if pc < 38 then
 (if pc < 33 then
 (if pc < 31 then
 (if pc = 30 then in_ild 3 31 else in_no) else
 (if pc = 31 then in_push (.int (-4)) 33 else in_no)) else
 (if pc < 36 then
 (if pc = 33 then in_if2 (fun x y => x = y) 36 39 else in_no) else
 (if pc = 36 then in_push (.int (-4)) 38 else in_no))) else
 (if pc < 40 then
 (if pc < 39 then
 (if pc = 38 then in_ri else in_no) else
 (if pc = 39 then in_ild 2 40 else in_no)) else
 (if pc < 72 then
 (if pc = 40 then in_sw [72, 74, 96, 106] 124 else in_no) else
 (if pc = 72 then in_ild 3 73 else in_no)))) else
 (if pc < 81 then
 (if pc < 75 then
 (if pc < 74 then
 (if pc = 73 then in_ri else in_no) else
 (if pc = 74 then in_ald 0 75 else in_no)) else
 (if pc < 78 then
 (if pc = 75 then in_get YX 0 4 78 else in_no) else
 (if pc = 78 then in_get YX 2 2 81 else in_no))) else
 (if pc < 83 then
 (if pc < 82 then
 (if pc = 81 then in_ild 3 82 else in_no) else
 (if pc = 82 then in_push (.int 1) 83 else in_no)) else
 (if pc < 84 then
 (if pc = 83 then in_iii (fun x y => x + y) 84 else in_no) else
 (if pc = 84 then in_iar YX 85 else in_no)))))) else
 (if pc < 113 then
 (if pc < 97 then
 (if pc < 93 then
 (if pc < 89 then
 (if pc < 86 then
 (if pc = 85 then in_ald 0 86 else in_no) else
 (if pc = 86 then in_get YX 0 4 89 else in_no)) else
 (if pc < 92 then
 (if pc = 89 then in_get YX 2 2 92 else in_no) else
 (if pc = 92 then in_ild 3 93 else in_no))) else
 (if pc < 95 then
 (if pc < 94 then
 (if pc = 93 then in_iar YX 94 else in_no) else
 (if pc = 94 then in_iii (fun x y => x - y) 95 else in_no)) else
 (if pc < 96 then
 (if pc = 95 then in_ri else in_no) else
 (if pc = 96 then in_ald 0 97 else in_no)))) else
 (if pc < 105 then
 (if pc < 103 then
 (if pc < 100 then
 (if pc = 97 then in_get YX 0 4 100 else in_no) else
 (if pc = 100 then in_get YX 2 3 103 else in_no)) else
 (if pc < 104 then
 (if pc = 103 then in_ild 3 104 else in_no) else
 (if pc = 104 then in_iar YX 105 else in_no))) else
 (if pc < 107 then
 (if pc < 106 then
 (if pc = 105 then in_ri else in_no) else
 (if pc = 106 then in_ald 0 107 else in_no)) else
 (if pc < 110 then
 (if pc = 107 then in_get YX 0 4 110 else in_no) else
 (if pc = 110 then in_get YX 2 4 113 else in_no))))) else
 (if pc < 125 then
 (if pc < 119 then
 (if pc < 115 then
 (if pc < 114 then
 (if pc = 113 then in_ild 3 114 else in_no) else
 (if pc = 114 then in_bar YX 115 else in_no)) else
 (if pc < 118 then
 (if pc = 115 then in_if1 (fun x => x = 0) 122 118 else in_no) else
 (if pc = 118 then in_push (.int 1) 119 else in_no))) else
 (if pc < 123 then
 (if pc < 122 then
 (if pc = 119 then in_go 123 else in_no) else
 (if pc = 122 then in_push (.int 0) 123 else in_no)) else
 (if pc < 124 then
 (if pc = 123 then in_ri else in_no) else
 (if pc = 124 then in_ald 0 125 else in_no)))) else
 (if pc < 135 then
 (if pc < 129 then
 (if pc < 128 then
 (if pc = 125 then in_get YX 0 4 128 else in_no) else
 (if pc = 128 then in_ild 3 129 else in_no)) else
 (if pc < 132 then
 (if pc = 129 then in_v2 YX 2 S_X2_hasProduct 132 else in_no) else
 (if pc = 132 then in_if1 (fun x => x = 0) 139 135 else in_no))) else
 (if pc < 139 then
 (if pc < 136 then
 (if pc = 135 then in_push (.int 1) 136 else in_no) else
 (if pc = 136 then in_go 140 else in_no)) else
 (if pc < 140 then
 (if pc = 139 then in_push (.int 0) 140 else in_no) else
 (if pc = 140 then in_ri else in_no)))))))
theorem tk_X0_line {l : Launch} {w : ma_Wd} {NC : Nat} {A : Nat → Prop} {S_X0_isLetter S_X0_isIn S_X2_lineOf S_X2_hasProduct : ma_Cs} (h_X0_isLetter : ma_Sd l w YX NC A yX0_isLetter cX0_isLetter 1 (some .boolean) rm_X0_isLetter S_X0_isLetter) (h_X0_isIn : ma_Sd l w YX NC A yX0_isIn cX0_isIn 6 (some .boolean) rm_X0_isIn S_X0_isIn) (h_X2_lineOf : ma_Sd l w YX NC A yX2_lineOf cX2_lineOf 3 (some .int) rm_X2_lineOf S_X2_lineOf) (h_X2_hasProduct : ma_Sd l w YX NC A yX2_hasProduct cX2_hasProduct 4 (some .boolean) rm_X2_hasProduct S_X2_hasProduct) {p : Program} {e : Env} {s : State} {m : MethodId} {args : Array Value} {below : List Frame} {meth : Method} {c : Code} (X : ma_Cx p s m args meth c w YX NC A yX0_line.cls cX0_line 4 (some .int)) : ∀ pc, ma_Ok p l e rm_X0_line s m args below meth c w YX NC A 4 pc (tb_X0_line S_X0_isLetter S_X0_isIn S_X2_lineOf S_X2_hasProduct pc) := fun pc =>
 (mk_lt
 (mk_lt
 (mk_lt
 (mk_lt
 (mk_lt
 (mk_lt
 (mk_eq (mk_iload_n X dX0_line_0 rfl rfl))
 (mk_eq (mk_S1 X h_X0_isLetter (lw_S q371 q372 q61 q373) ⟨by decide, by decide, rfl⟩ ⟨(Nat.le_of_ble_eq_true rfl), (Nat.le_of_ble_eq_true rfl)⟩ dX0_line_1 rfl)))
 (mk_lt
 (mk_eq (mk_ifeq X dX0_line_4 rfl rfl))
 (mk_eq (mk_iload_n X dX0_line_7 rfl rfl))))
 (mk_lt
 (mk_lt
 (mk_eq (mk_i2l X dX0_line_8 rfl))
 (mk_eq (mk_lconst X dX0_line_9 rfl rfl)))
 (mk_lt
 (mk_eq (mk_ldc2 X dX0_line_10 q454 rfl))
 (mk_eq (mk_S3 X h_X0_isIn (lw_S q355 q356 q61 q357) ⟨by decide, by decide, rfl⟩ ⟨(Nat.le_of_ble_eq_true rfl), (Nat.le_of_ble_eq_true rfl)⟩ dX0_line_13 rfl)))))
 (mk_lt
 (mk_lt
 (mk_lt
 (mk_eq (mk_ifne X dX0_line_16 rfl rfl))
 (mk_eq (mk_iconst X dX0_line_19 rfl rfl)))
 (mk_lt
 (mk_eq (mk_ri X dX0_line_20))
 (mk_eq (mk_aload_n X dX0_line_21 rfl rfl))))
 (mk_lt
 (mk_lt
 (mk_eq (mk_get X (ci := 0) (j := 4) rfl in_X0 (Nat.le_of_ble_eq_true rfl) q230 dX0_line_22 rfl))
 (mk_eq (mk_iload_n X dX0_line_25 rfl rfl)))
 (mk_lt
 (mk_eq (mk_V2 X h_X2_lineOf (ci := 2) rfl (lw_V q455 q405 q406 q63 q407) ⟨rfl, by decide, by decide, rfl⟩ ⟨(Nat.le_of_ble_eq_true rfl), (Nat.le_of_ble_eq_true rfl)⟩ dX0_line_26 rfl))
 (mk_eq (mk_istore_n X dX0_line_29 rfl (Nat.le_of_ble_eq_true rfl) rfl))))))
 (mk_lt
 (mk_lt
 (mk_lt
 (mk_lt
 (mk_eq (mk_iload_n X dX0_line_30 rfl rfl))
 (mk_eq (mk_bipush X dX0_line_31 rfl rfl)))
 (mk_lt
 (mk_eq (mk_icne X dX0_line_33 rfl rfl))
 (mk_eq (mk_bipush X dX0_line_36 rfl rfl))))
 (mk_lt
 (mk_lt
 (mk_eq (mk_ri X dX0_line_38))
 (mk_eq (mk_iload_n X dX0_line_39 rfl rfl)))
 (mk_lt
 (mk_eq (mk_sw X dX0_line_40 rfl rfl (Nat.le_of_ble_eq_true rfl) rfl))
 (mk_eq (mk_iload_n X dX0_line_72 rfl rfl)))))
 (mk_lt
 (mk_lt
 (mk_lt
 (mk_eq (mk_ri X dX0_line_73))
 (mk_eq (mk_aload_n X dX0_line_74 rfl rfl)))
 (mk_lt
 (mk_eq (mk_get X (ci := 0) (j := 4) rfl in_X0 (Nat.le_of_ble_eq_true rfl) q230 dX0_line_75 rfl))
 (mk_eq (mk_getN X (ci := 2) (j := 2) rfl in_X2 (Nat.le_of_ble_eq_true rfl) (List.mem_of_getElem? (i := 1) rfl) dX0_line_78 rfl))))
 (mk_lt
 (mk_lt
 (mk_eq (mk_iload_n X dX0_line_81 rfl rfl))
 (mk_eq (mk_iconst X dX0_line_82 rfl rfl)))
 (mk_lt
 (mk_eq (mk_iadd X dX0_line_83 rfl))
 (mk_eq (mk_iar X dX0_line_84 rfl)))))))
 (mk_lt
 (mk_lt
 (mk_lt
 (mk_lt
 (mk_lt
 (mk_eq (mk_aload_n X dX0_line_85 rfl rfl))
 (mk_eq (mk_get X (ci := 0) (j := 4) rfl in_X0 (Nat.le_of_ble_eq_true rfl) q230 dX0_line_86 rfl)))
 (mk_lt
 (mk_eq (mk_getN X (ci := 2) (j := 2) rfl in_X2 (Nat.le_of_ble_eq_true rfl) (List.mem_of_getElem? (i := 1) rfl) dX0_line_89 rfl))
 (mk_eq (mk_iload_n X dX0_line_92 rfl rfl))))
 (mk_lt
 (mk_lt
 (mk_eq (mk_iar X dX0_line_93 rfl))
 (mk_eq (mk_isub X dX0_line_94 rfl)))
 (mk_lt
 (mk_eq (mk_ri X dX0_line_95))
 (mk_eq (mk_aload_n X dX0_line_96 rfl rfl)))))
 (mk_lt
 (mk_lt
 (mk_lt
 (mk_eq (mk_get X (ci := 0) (j := 4) rfl in_X0 (Nat.le_of_ble_eq_true rfl) q230 dX0_line_97 rfl))
 (mk_eq (mk_getN X (ci := 2) (j := 3) rfl in_X2 (Nat.le_of_ble_eq_true rfl) (List.mem_of_getElem? (i := 2) rfl) dX0_line_100 rfl)))
 (mk_lt
 (mk_eq (mk_iload_n X dX0_line_103 rfl rfl))
 (mk_eq (mk_iar X dX0_line_104 rfl))))
 (mk_lt
 (mk_lt
 (mk_eq (mk_ri X dX0_line_105))
 (mk_eq (mk_aload_n X dX0_line_106 rfl rfl)))
 (mk_lt
 (mk_eq (mk_get X (ci := 0) (j := 4) rfl in_X0 (Nat.le_of_ble_eq_true rfl) q230 dX0_line_107 rfl))
 (mk_eq (mk_getN X (ci := 2) (j := 4) rfl in_X2 (Nat.le_of_ble_eq_true rfl) (List.mem_of_getElem? (i := 3) rfl) dX0_line_110 rfl))))))
 (mk_lt
 (mk_lt
 (mk_lt
 (mk_lt
 (mk_eq (mk_iload_n X dX0_line_113 rfl rfl))
 (mk_eq (mk_bar X dX0_line_114 rfl)))
 (mk_lt
 (mk_eq (mk_ifeq X dX0_line_115 rfl rfl))
 (mk_eq (mk_iconst X dX0_line_118 rfl rfl))))
 (mk_lt
 (mk_lt
 (mk_eq (mk_goto X dX0_line_119 rfl))
 (mk_eq (mk_iconst X dX0_line_122 rfl rfl)))
 (mk_lt
 (mk_eq (mk_ri X dX0_line_123))
 (mk_eq (mk_aload_n X dX0_line_124 rfl rfl)))))
 (mk_lt
 (mk_lt
 (mk_lt
 (mk_eq (mk_get X (ci := 0) (j := 4) rfl in_X0 (Nat.le_of_ble_eq_true rfl) q230 dX0_line_125 rfl))
 (mk_eq (mk_iload_n X dX0_line_128 rfl rfl)))
 (mk_lt
 (mk_eq (mk_V2 X h_X2_hasProduct (ci := 2) rfl (lw_V q456 q457 q458 q63 q459) ⟨rfl, by decide, by decide, rfl⟩ ⟨(Nat.le_of_ble_eq_true rfl), (Nat.le_of_ble_eq_true rfl)⟩ dX0_line_129 rfl))
 (mk_eq (mk_ifeq X dX0_line_132 rfl rfl))))
 (mk_lt
 (mk_lt
 (mk_eq (mk_iconst X dX0_line_135 rfl rfl))
 (mk_eq (mk_goto X dX0_line_136 rfl)))
 (mk_lt
 (mk_eq (mk_iconst X dX0_line_139 rfl rfl))
 (mk_eq (mk_ri X dX0_line_140))))))))
theorem sd_X0_line {l : Launch} {w : ma_Wd} {NC : Nat} {A : Nat → Prop} {S_X0_isLetter S_X0_isIn S_X2_lineOf S_X2_hasProduct : ma_Cs} (hw : ma_Wo w YX NC A) (h_X0_isLetter : ma_Sd l w YX NC A yX0_isLetter cX0_isLetter 1 (some .boolean) rm_X0_isLetter S_X0_isLetter) (h_X0_isIn : ma_Sd l w YX NC A yX0_isIn cX0_isIn 6 (some .boolean) rm_X0_isIn S_X0_isIn) (h_X2_lineOf : ma_Sd l w YX NC A yX2_lineOf cX2_lineOf 3 (some .int) rm_X2_lineOf S_X2_lineOf) (h_X2_hasProduct : ma_Sd l w YX NC A yX2_hasProduct cX2_hasProduct 4 (some .boolean) rm_X2_hasProduct S_X2_hasProduct) : ma_Sd l w YX NC A yX0_line cX0_line 4 (some .int) rm_X0_line (ma_rn (tb_X0_line S_X0_isLetter S_X0_isIn S_X2_lineOf S_X2_hasProduct) 4) := ma_of hw (by decide) ⟨rfl, rfl⟩ (fun X => tk_X0_line h_X0_isLetter h_X0_isIn h_X2_lineOf h_X2_hasProduct X)
theorem dX0_first_0 : decode cX0_first 0 = .ok (.aload_n 0, 1) := by decide +kernel
theorem dX0_first_1 : decode cX0_first 1 = .ok (.iload_n 1, 1) := by decide +kernel
theorem dX0_first_2 : decode cX0_first 2 = .ok (.invokevirtual 200, 3) := by decide +kernel
theorem dX0_first_5 : decode cX0_first 5 = .ok (.ifCond .eq 30, 3) := by decide +kernel
theorem dX0_first_8 : decode cX0_first 8 = .ok (.iload_n 2, 1) := by decide +kernel
theorem dX0_first_9 : decode cX0_first 9 = .ok (.invokestatic 150, 3) := by decide +kernel
theorem dX0_first_12 : decode cX0_first 12 = .ok (.ifCond .eq 23, 3) := by decide +kernel
theorem dX0_first_15 : decode cX0_first 15 = .ok (.iload_n 3, 1) := by decide +kernel
theorem dX0_first_16 : decode cX0_first 16 = .ok (.i2l, 1) := by decide +kernel
theorem dX0_first_17 : decode cX0_first 17 = .ok (.ldc2_w 154, 3) := by decide +kernel
theorem dX0_first_20 : decode cX0_first 20 = .ok (.ldc2_w 156, 3) := by decide +kernel
theorem dX0_first_23 : decode cX0_first 23 = .ok (.invokestatic 5, 3) := by decide +kernel
theorem dX0_first_26 : decode cX0_first 26 = .ok (.ifCond .ne 12, 3) := by decide +kernel
theorem dX0_first_29 : decode cX0_first 29 = .ok (.iload_n 3, 1) := by decide +kernel
theorem dX0_first_30 : decode cX0_first 30 = .ok (.ldc 127, 2) := by decide +kernel
theorem dX0_first_32 : decode cX0_first 32 = .ok (.if_icmp .eq 6, 3) := by decide +kernel
theorem dX0_first_35 : decode cX0_first 35 = .ok (.ldc 158, 2) := by decide +kernel
theorem dX0_first_37 : decode cX0_first 37 = .ok (.ireturn, 1) := by decide +kernel
theorem dX0_first_38 : decode cX0_first 38 = .ok (.aload_n 0, 1) := by decide +kernel
theorem dX0_first_39 : decode cX0_first 39 = .ok (.getfield 49, 3) := by decide +kernel
theorem dX0_first_42 : decode cX0_first 42 = .ok (.iconst 4, 1) := by decide +kernel
theorem dX0_first_43 : decode cX0_first 43 = .ok (.iload_n 1, 1) := by decide +kernel
theorem dX0_first_44 : decode cX0_first 44 = .ok (.imul, 1) := by decide +kernel
theorem dX0_first_45 : decode cX0_first 45 = .ok (.iload_n 2, 1) := by decide +kernel
theorem dX0_first_46 : decode cX0_first 46 = .ok (.iadd, 1) := by decide +kernel
theorem dX0_first_47 : decode cX0_first 47 = .ok (.iaload, 1) := by decide +kernel
theorem dX0_first_48 : decode cX0_first 48 = .ok (.istore 4, 2) := by decide +kernel
theorem dX0_first_50 : decode cX0_first 50 = .ok (.aload_n 0, 1) := by decide +kernel
theorem dX0_first_51 : decode cX0_first 51 = .ok (.getfield 49, 3) := by decide +kernel
theorem dX0_first_54 : decode cX0_first 54 = .ok (.iconst 4, 1) := by decide +kernel
theorem dX0_first_55 : decode cX0_first 55 = .ok (.iload_n 1, 1) := by decide +kernel
theorem dX0_first_56 : decode cX0_first 56 = .ok (.imul, 1) := by decide +kernel
theorem dX0_first_57 : decode cX0_first 57 = .ok (.iload_n 2, 1) := by decide +kernel
theorem dX0_first_58 : decode cX0_first 58 = .ok (.iadd, 1) := by decide +kernel
theorem dX0_first_59 : decode cX0_first 59 = .ok (.iload_n 3, 1) := by decide +kernel
theorem dX0_first_60 : decode cX0_first 60 = .ok (.iastore, 1) := by decide +kernel
theorem dX0_first_61 : decode cX0_first 61 = .ok (.aload_n 0, 1) := by decide +kernel
theorem dX0_first_62 : decode cX0_first 62 = .ok (.iconst 0, 1) := by decide +kernel
theorem dX0_first_63 : decode cX0_first 63 = .ok (.putfield 137, 3) := by decide +kernel
theorem dX0_first_66 : decode cX0_first 66 = .ok (.iload 4, 2) := by decide +kernel
theorem dX0_first_68 : decode cX0_first 68 = .ok (.ireturn, 1) := by decide +kernel
def tb_X0_first (S_X0_isCell S_X0_isLetter S_X0_isIn : ma_Cs) : Nat → ma_In := fun pc =>
 (if pc < 42 then
 (if pc < 20 then
 (if pc < 9 then
 (if pc < 2 then
 (if pc < 1 then
 (if pc = 0 then in_ald 0 1 else in_no) else
 (if pc = 1 then in_ild 1 2 else in_no)) else
 (if pc < 5 then
 (if pc = 2 then in_v2 YX 0 S_X0_isCell 5 else in_no) else
 (if pc < 8 then
 (if pc = 5 then in_if1 (fun x => x = 0) 35 8 else in_no) else
 (if pc = 8 then in_ild 2 9 else in_no)))) else
 (if pc < 15 then
 (if pc < 12 then
 (if pc = 9 then in_s1 S_X0_isLetter 12 else in_no) else
 (if pc = 12 then in_if1 (fun x => x = 0) 35 15 else in_no)) else
 (if pc < 16 then
 (if pc = 15 then in_ild 3 16 else in_no) else
 (if pc < 17 then
 (if pc = 16 then in_il (fun x => x.toInt64) 17 else in_no) else
 (if pc = 17 then in_push (.long (-1000000)) 20 else in_no))))) else
 (if pc < 32 then
 (if pc < 26 then
 (if pc < 23 then
 (if pc = 20 then in_push (.long 1000000) 23 else in_no) else
 (if pc = 23 then in_s3 S_X0_isIn 26 else in_no)) else
 (if pc < 29 then
 (if pc = 26 then in_if1 (fun x => x = 0) 29 38 else in_no) else
 (if pc < 30 then
 (if pc = 29 then in_ild 3 30 else in_no) else
 (if pc = 30 then in_push (.int 2000000) 32 else in_no)))) else
 (if pc < 37 then
 (if pc < 35 then
 (if pc = 32 then in_if2 (fun x y => x = y) 38 35 else in_no) else
 (if pc = 35 then in_push (.int (-2000000)) 37 else in_no)) else
 (if pc < 38 then
 (if pc = 37 then in_ri else in_no) else
 (if pc < 39 then
 (if pc = 38 then in_ald 0 39 else in_no) else
 (if pc = 39 then in_get YX 0 9 42 else in_no)))))) else
 (if pc < 55 then
 (if pc < 47 then
 (if pc < 44 then
 (if pc < 43 then
 (if pc = 42 then in_push (.int 4) 43 else in_no) else
 (if pc = 43 then in_ild 1 44 else in_no)) else
 (if pc < 45 then
 (if pc = 44 then in_iii (fun x y => x * y) 45 else in_no) else
 (if pc < 46 then
 (if pc = 45 then in_ild 2 46 else in_no) else
 (if pc = 46 then in_iii (fun x y => x + y) 47 else in_no)))) else
 (if pc < 50 then
 (if pc < 48 then
 (if pc = 47 then in_iar YX 48 else in_no) else
 (if pc = 48 then in_ist 4 50 else in_no)) else
 (if pc < 51 then
 (if pc = 50 then in_ald 0 51 else in_no) else
 (if pc < 54 then
 (if pc = 51 then in_get YX 0 9 54 else in_no) else
 (if pc = 54 then in_push (.int 4) 55 else in_no))))) else
 (if pc < 60 then
 (if pc < 57 then
 (if pc < 56 then
 (if pc = 55 then in_ild 1 56 else in_no) else
 (if pc = 56 then in_iii (fun x y => x * y) 57 else in_no)) else
 (if pc < 58 then
 (if pc = 57 then in_ild 2 58 else in_no) else
 (if pc < 59 then
 (if pc = 58 then in_iii (fun x y => x + y) 59 else in_no) else
 (if pc = 59 then in_ild 3 60 else in_no)))) else
 (if pc < 63 then
 (if pc < 61 then
 (if pc = 60 then in_iaw YX 61 else in_no) else
 (if pc < 62 then
 (if pc = 61 then in_ald 0 62 else in_no) else
 (if pc = 62 then in_push (.int 0) 63 else in_no))) else
 (if pc < 66 then
 (if pc = 63 then in_puz YX 0 15 66 else in_no) else
 (if pc < 68 then
 (if pc = 66 then in_ild 4 68 else in_no) else
 (if pc = 68 then in_ri else in_no)))))))
theorem tk_X0_first {l : Launch} {w : ma_Wd} {NC : Nat} {A : Nat → Prop} {S_X0_isCell S_X0_isLetter S_X0_isIn : ma_Cs} (h_X0_isCell : ma_Sd l w YX NC A yX0_isCell cX0_isCell 2 (some .boolean) rm_X0_isCell S_X0_isCell) (h_X0_isLetter : ma_Sd l w YX NC A yX0_isLetter cX0_isLetter 1 (some .boolean) rm_X0_isLetter S_X0_isLetter) (h_X0_isIn : ma_Sd l w YX NC A yX0_isIn cX0_isIn 6 (some .boolean) rm_X0_isIn S_X0_isIn) {p : Program} {e : Env} {s : State} {m : MethodId} {args : Array Value} {below : List Frame} {meth : Method} {c : Code} (X : ma_Cx p s m args meth c w YX NC A yX0_first.cls cX0_first 5 (some .int)) : ∀ pc, ma_Ok p l e rm_X0_first s m args below meth c w YX NC A 5 pc (tb_X0_first S_X0_isCell S_X0_isLetter S_X0_isIn pc) := fun pc =>
 (mk_lt
 (mk_lt
 (mk_lt
 (mk_lt
 (mk_lt
 (mk_eq (mk_aload_n X dX0_first_0 rfl rfl))
 (mk_eq (mk_iload_n X dX0_first_1 rfl rfl)))
 (mk_lt
 (mk_eq (mk_V2 X h_X0_isCell (ci := 0) rfl (lw_V q464 q466 qs11 q61 q467) ⟨rfl, by decide, by decide, rfl⟩ ⟨(Nat.le_of_ble_eq_true rfl), (Nat.le_of_ble_eq_true rfl)⟩ dX0_first_2 rfl))
 (mk_lt
 (mk_eq (mk_ifeq X dX0_first_5 rfl rfl))
 (mk_eq (mk_iload_n X dX0_first_8 rfl rfl)))))
 (mk_lt
 (mk_lt
 (mk_eq (mk_S1 X h_X0_isLetter (lw_S q371 q372 q61 q373) ⟨by decide, by decide, rfl⟩ ⟨(Nat.le_of_ble_eq_true rfl), (Nat.le_of_ble_eq_true rfl)⟩ dX0_first_9 rfl))
 (mk_eq (mk_ifeq X dX0_first_12 rfl rfl)))
 (mk_lt
 (mk_eq (mk_iload_n X dX0_first_15 rfl rfl))
 (mk_lt
 (mk_eq (mk_i2l X dX0_first_16 rfl))
 (mk_eq (mk_ldc2 X dX0_first_17 q375 rfl))))))
 (mk_lt
 (mk_lt
 (mk_lt
 (mk_eq (mk_ldc2 X dX0_first_20 q376 rfl))
 (mk_eq (mk_S3 X h_X0_isIn (lw_S q355 q356 q61 q357) ⟨by decide, by decide, rfl⟩ ⟨(Nat.le_of_ble_eq_true rfl), (Nat.le_of_ble_eq_true rfl)⟩ dX0_first_23 rfl)))
 (mk_lt
 (mk_eq (mk_ifne X dX0_first_26 rfl rfl))
 (mk_lt
 (mk_eq (mk_iload_n X dX0_first_29 rfl rfl))
 (mk_eq (mk_ldc X dX0_first_30 q216 rfl)))))
 (mk_lt
 (mk_lt
 (mk_eq (mk_iceq X dX0_first_32 rfl rfl))
 (mk_eq (mk_ldc X dX0_first_35 q377 rfl)))
 (mk_lt
 (mk_eq (mk_ri X dX0_first_37))
 (mk_lt
 (mk_eq (mk_aload_n X dX0_first_38 rfl rfl))
 (mk_eq (mk_get X (ci := 0) (j := 9) rfl in_X0 (Nat.le_of_ble_eq_true rfl) q243 dX0_first_39 rfl)))))))
 (mk_lt
 (mk_lt
 (mk_lt
 (mk_lt
 (mk_eq (mk_iconst X dX0_first_42 rfl rfl))
 (mk_eq (mk_iload_n X dX0_first_43 rfl rfl)))
 (mk_lt
 (mk_eq (mk_imul X dX0_first_44 rfl))
 (mk_lt
 (mk_eq (mk_iload_n X dX0_first_45 rfl rfl))
 (mk_eq (mk_iadd X dX0_first_46 rfl)))))
 (mk_lt
 (mk_lt
 (mk_eq (mk_iar X dX0_first_47 rfl))
 (mk_eq (mk_istore X dX0_first_48 (Nat.le_of_ble_eq_true rfl) rfl)))
 (mk_lt
 (mk_eq (mk_aload_n X dX0_first_50 rfl rfl))
 (mk_lt
 (mk_eq (mk_get X (ci := 0) (j := 9) rfl in_X0 (Nat.le_of_ble_eq_true rfl) q243 dX0_first_51 rfl))
 (mk_eq (mk_iconst X dX0_first_54 rfl rfl))))))
 (mk_lt
 (mk_lt
 (mk_lt
 (mk_eq (mk_iload_n X dX0_first_55 rfl rfl))
 (mk_eq (mk_imul X dX0_first_56 rfl)))
 (mk_lt
 (mk_eq (mk_iload_n X dX0_first_57 rfl rfl))
 (mk_lt
 (mk_eq (mk_iadd X dX0_first_58 rfl))
 (mk_eq (mk_iload_n X dX0_first_59 rfl rfl)))))
 (mk_lt
 (mk_lt
 (mk_eq (mk_iaw X dX0_first_60 rfl))
 (mk_lt
 (mk_eq (mk_aload_n X dX0_first_61 rfl rfl))
 (mk_eq (mk_iconst X dX0_first_62 rfl rfl))))
 (mk_lt
 (mk_eq (mk_puz X (ci := 0) (j := 15) rfl in_X0 tyX0_ok nmX0 (Nat.le_of_ble_eq_true rfl) rfl rfl q261 dX0_first_63 rfl))
 (mk_lt
 (mk_eq (mk_iload X dX0_first_66 rfl))
 (mk_eq (mk_ri X dX0_first_68))))))))
theorem sd_X0_first {l : Launch} {w : ma_Wd} {NC : Nat} {A : Nat → Prop} {S_X0_isCell S_X0_isLetter S_X0_isIn : ma_Cs} (hw : ma_Wo w YX NC A) (h_X0_isCell : ma_Sd l w YX NC A yX0_isCell cX0_isCell 2 (some .boolean) rm_X0_isCell S_X0_isCell) (h_X0_isLetter : ma_Sd l w YX NC A yX0_isLetter cX0_isLetter 1 (some .boolean) rm_X0_isLetter S_X0_isLetter) (h_X0_isIn : ma_Sd l w YX NC A yX0_isIn cX0_isIn 6 (some .boolean) rm_X0_isIn S_X0_isIn) : ma_Sd l w YX NC A yX0_first cX0_first 5 (some .int) rm_X0_first (ma_rn (tb_X0_first S_X0_isCell S_X0_isLetter S_X0_isIn) 5) := ma_of hw (by decide) ⟨rfl, rfl⟩ (fun X => tk_X0_first h_X0_isCell h_X0_isLetter h_X0_isIn X)
theorem dX0_isCell_0 : decode cX0_isCell 0 = .ok (.iload_n 1, 1) := by decide +kernel
theorem dX0_isCell_1 : decode cX0_isCell 1 = .ok (.i2l, 1) := by decide +kernel
theorem dX0_isCell_2 : decode cX0_isCell 2 = .ok (.lconst 0, 1) := by decide +kernel
theorem dX0_isCell_3 : decode cX0_isCell 3 = .ok (.aload_n 0, 1) := by decide +kernel
theorem dX0_isCell_4 : decode cX0_isCell 4 = .ok (.invokevirtual 121, 3) := by decide +kernel
theorem dX0_isCell_7 : decode cX0_isCell 7 = .ok (.iconst 1, 1) := by decide +kernel
theorem dX0_isCell_8 : decode cX0_isCell 8 = .ok (.isub, 1) := by decide +kernel
theorem dX0_isCell_9 : decode cX0_isCell 9 = .ok (.i2l, 1) := by decide +kernel
theorem dX0_isCell_10 : decode cX0_isCell 10 = .ok (.invokestatic 5, 3) := by decide +kernel
theorem dX0_isCell_13 : decode cX0_isCell 13 = .ok (.ireturn, 1) := by decide +kernel
def tb_X0_isCell (S_X0_cells S_X0_isIn : ma_Cs) : Nat → ma_In := fun pc =>
 (if pc < 7 then
 (if pc < 2 then
 (if pc < 1 then
 (if pc = 0 then in_ild 1 1 else in_no) else
 (if pc = 1 then in_il (fun x => x.toInt64) 2 else in_no)) else
 (if pc < 3 then
 (if pc = 2 then in_push (.long 0) 3 else in_no) else
 (if pc < 4 then
 (if pc = 3 then in_ald 0 4 else in_no) else
 (if pc = 4 then in_v1 YX 0 S_X0_cells 7 else in_no)))) else
 (if pc < 9 then
 (if pc < 8 then
 (if pc = 7 then in_push (.int 1) 8 else in_no) else
 (if pc = 8 then in_iii (fun x y => x - y) 9 else in_no)) else
 (if pc < 10 then
 (if pc = 9 then in_il (fun x => x.toInt64) 10 else in_no) else
 (if pc < 13 then
 (if pc = 10 then in_s3 S_X0_isIn 13 else in_no) else
 (if pc = 13 then in_rz else in_no)))))
theorem tk_X0_isCell {l : Launch} {w : ma_Wd} {NC : Nat} {A : Nat → Prop} {S_X0_cells S_X0_isIn : ma_Cs} (h_X0_cells : ma_Sd l w YX NC A yX0_cells cX0_cells 1 (some .int) rm_X0_cells S_X0_cells) (h_X0_isIn : ma_Sd l w YX NC A yX0_isIn cX0_isIn 6 (some .boolean) rm_X0_isIn S_X0_isIn) {p : Program} {e : Env} {s : State} {m : MethodId} {args : Array Value} {below : List Frame} {meth : Method} {c : Code} (X : ma_Cx p s m args meth c w YX NC A yX0_isCell.cls cX0_isCell 2 (some .boolean)) : ∀ pc, ma_Ok p l e rm_X0_isCell s m args below meth c w YX NC A 2 pc (tb_X0_isCell S_X0_cells S_X0_isIn pc) := fun pc =>
 (mk_lt
 (mk_lt
 (mk_lt
 (mk_eq (mk_iload_n X dX0_isCell_0 rfl rfl))
 (mk_eq (mk_i2l X dX0_isCell_1 rfl)))
 (mk_lt
 (mk_eq (mk_lconst X dX0_isCell_2 rfl rfl))
 (mk_lt
 (mk_eq (mk_aload_n X dX0_isCell_3 rfl rfl))
 (mk_eq (mk_V1 X h_X0_cells (ci := 0) rfl (lw_V q358 q360 qs2 q61 q361) ⟨rfl, by decide, by decide, rfl⟩ ⟨(Nat.le_of_ble_eq_true rfl), (Nat.le_of_ble_eq_true rfl)⟩ dX0_isCell_4 rfl)))))
 (mk_lt
 (mk_lt
 (mk_eq (mk_iconst X dX0_isCell_7 rfl rfl))
 (mk_eq (mk_isub X dX0_isCell_8 rfl)))
 (mk_lt
 (mk_eq (mk_i2l X dX0_isCell_9 rfl))
 (mk_lt
 (mk_eq (mk_S3 X h_X0_isIn (lw_S q355 q356 q61 q357) ⟨by decide, by decide, rfl⟩ ⟨(Nat.le_of_ble_eq_true rfl), (Nat.le_of_ble_eq_true rfl)⟩ dX0_isCell_10 rfl))
 (mk_eq (mk_rz X dX0_isCell_13))))))
theorem sd_X0_isCell {l : Launch} {w : ma_Wd} {NC : Nat} {A : Nat → Prop} {S_X0_cells S_X0_isIn : ma_Cs} (hw : ma_Wo w YX NC A) (h_X0_cells : ma_Sd l w YX NC A yX0_cells cX0_cells 1 (some .int) rm_X0_cells S_X0_cells) (h_X0_isIn : ma_Sd l w YX NC A yX0_isIn cX0_isIn 6 (some .boolean) rm_X0_isIn S_X0_isIn) : ma_Sd l w YX NC A yX0_isCell cX0_isCell 2 (some .boolean) rm_X0_isCell (ma_rn (tb_X0_isCell S_X0_cells S_X0_isIn) 2) := ma_of hw (by decide) ⟨rfl, rfl⟩ (fun X => tk_X0_isCell h_X0_cells h_X0_isIn X)
theorem dX0_at_0 : decode cX0_at 0 = .ok (.aload_n 0, 1) := by decide +kernel
theorem dX0_at_1 : decode cX0_at 1 = .ok (.iload_n 2, 1) := by decide +kernel
theorem dX0_at_2 : decode cX0_at 2 = .ok (.iload_n 3, 1) := by decide +kernel
theorem dX0_at_3 : decode cX0_at 3 = .ok (.iload 4, 2) := by decide +kernel
theorem dX0_at_5 : decode cX0_at 5 = .ok (.invokevirtual 206, 3) := by decide +kernel
theorem dX0_at_8 : decode cX0_at 8 = .ok (.ifCond .ne 6, 3) := by decide +kernel
theorem dX0_at_11 : decode cX0_at 11 = .ok (.ldc 210, 2) := by decide +kernel
theorem dX0_at_13 : decode cX0_at 13 = .ok (.ireturn, 1) := by decide +kernel
theorem dX0_at_14 : decode cX0_at 14 = .ok (.aload_n 0, 1) := by decide +kernel
theorem dX0_at_15 : decode cX0_at 15 = .ok (.invokevirtual 211, 3) := by decide +kernel
theorem dX0_at_18 : decode cX0_at 18 = .ok (.iload_n 1, 1) := by decide +kernel
theorem dX0_at_19 : decode cX0_at 19 = .ok (.ifCond .eq 17, 3) := by decide +kernel
theorem dX0_at_22 : decode cX0_at 22 = .ok (.aload_n 0, 1) := by decide +kernel
theorem dX0_at_23 : decode cX0_at 23 = .ok (.getfield 67, 3) := by decide +kernel
theorem dX0_at_26 : decode cX0_at 26 = .ok (.iload_n 2, 1) := by decide +kernel
theorem dX0_at_27 : decode cX0_at 27 = .ok (.iload_n 3, 1) := by decide +kernel
theorem dX0_at_28 : decode cX0_at 28 = .ok (.iload 4, 2) := by decide +kernel
theorem dX0_at_30 : decode cX0_at 30 = .ok (.invokevirtual 214, 3) := by decide +kernel
theorem dX0_at_33 : decode cX0_at 33 = .ok (.goto 14, 3) := by decide +kernel
theorem dX0_at_36 : decode cX0_at 36 = .ok (.aload_n 0, 1) := by decide +kernel
theorem dX0_at_37 : decode cX0_at 37 = .ok (.getfield 71, 3) := by decide +kernel
theorem dX0_at_40 : decode cX0_at 40 = .ok (.iload_n 2, 1) := by decide +kernel
theorem dX0_at_41 : decode cX0_at 41 = .ok (.iload_n 3, 1) := by decide +kernel
theorem dX0_at_42 : decode cX0_at 42 = .ok (.iload 4, 2) := by decide +kernel
theorem dX0_at_44 : decode cX0_at 44 = .ok (.invokevirtual 214, 3) := by decide +kernel
theorem dX0_at_47 : decode cX0_at 47 = .ok (.ireturn, 1) := by decide +kernel
def tb_X0_at (S_X0_isPlace S_X0_refresh S_X3_at : ma_Cs) : Nat → ma_In := fun pc =>
 (if pc < 23 then
 (if pc < 11 then
 (if pc < 3 then
 (if pc < 1 then
 (if pc = 0 then in_ald 0 1 else in_no) else
 (if pc < 2 then
 (if pc = 1 then in_ild 2 2 else in_no) else
 (if pc = 2 then in_ild 3 3 else in_no))) else
 (if pc < 5 then
 (if pc = 3 then in_ild 4 5 else in_no) else
 (if pc < 8 then
 (if pc = 5 then in_v4 YX 0 S_X0_isPlace 8 else in_no) else
 (if pc = 8 then in_if1 (fun x => x = 0) 11 14 else in_no)))) else
 (if pc < 15 then
 (if pc < 13 then
 (if pc = 11 then in_push (.int (-2000000000)) 13 else in_no) else
 (if pc < 14 then
 (if pc = 13 then in_ri else in_no) else
 (if pc = 14 then in_ald 0 15 else in_no))) else
 (if pc < 19 then
 (if pc < 18 then
 (if pc = 15 then in_v1 YX 0 S_X0_refresh 18 else in_no) else
 (if pc = 18 then in_ild 1 19 else in_no)) else
 (if pc < 22 then
 (if pc = 19 then in_if1 (fun x => x = 0) 36 22 else in_no) else
 (if pc = 22 then in_ald 0 23 else in_no))))) else
 (if pc < 36 then
 (if pc < 28 then
 (if pc < 26 then
 (if pc = 23 then in_get YX 0 16 26 else in_no) else
 (if pc < 27 then
 (if pc = 26 then in_ild 2 27 else in_no) else
 (if pc = 27 then in_ild 3 28 else in_no))) else
 (if pc < 30 then
 (if pc = 28 then in_ild 4 30 else in_no) else
 (if pc < 33 then
 (if pc = 30 then in_v4 YX 3 S_X3_at 33 else in_no) else
 (if pc = 33 then in_go 47 else in_no)))) else
 (if pc < 41 then
 (if pc < 37 then
 (if pc = 36 then in_ald 0 37 else in_no) else
 (if pc < 40 then
 (if pc = 37 then in_get YX 0 17 40 else in_no) else
 (if pc = 40 then in_ild 2 41 else in_no))) else
 (if pc < 44 then
 (if pc < 42 then
 (if pc = 41 then in_ild 3 42 else in_no) else
 (if pc = 42 then in_ild 4 44 else in_no)) else
 (if pc < 47 then
 (if pc = 44 then in_v4 YX 3 S_X3_at 47 else in_no) else
 (if pc = 47 then in_ri else in_no))))))
theorem tk_X0_at {l : Launch} {w : ma_Wd} {NC : Nat} {A : Nat → Prop} {S_X0_isPlace S_X0_refresh S_X3_at : ma_Cs} (h_X0_isPlace : ma_Sd l w YX NC A yX0_isPlace cX0_isPlace 4 (some .boolean) rm_X0_isPlace S_X0_isPlace) (h_X0_refresh : ma_Sd l w YX NC A yX0_refresh cX0_refresh 1 none rm_X0_refresh S_X0_refresh) (h_X3_at : ma_Sd l w YX NC A yX3_at cX3_at 4 (some .int) rm_X3_at S_X3_at) {p : Program} {e : Env} {s : State} {m : MethodId} {args : Array Value} {below : List Frame} {meth : Method} {c : Code} (X : ma_Cx p s m args meth c w YX NC A yX0_at.cls cX0_at 5 (some .int)) : ∀ pc, ma_Ok p l e rm_X0_at s m args below meth c w YX NC A 5 pc (tb_X0_at S_X0_isPlace S_X0_refresh S_X3_at pc) := fun pc =>
 (mk_lt
 (mk_lt
 (mk_lt
 (mk_lt
 (mk_eq (mk_aload_n X dX0_at_0 rfl rfl))
 (mk_lt
 (mk_eq (mk_iload_n X dX0_at_1 rfl rfl))
 (mk_eq (mk_iload_n X dX0_at_2 rfl rfl))))
 (mk_lt
 (mk_eq (mk_iload X dX0_at_3 rfl))
 (mk_lt
 (mk_eq (mk_V4 X h_X0_isPlace (ci := 0) rfl (lw_V q472 q474 qs12 q61 q475) ⟨rfl, by decide, by decide, rfl⟩ ⟨(Nat.le_of_ble_eq_true rfl), (Nat.le_of_ble_eq_true rfl)⟩ dX0_at_5 rfl))
 (mk_eq (mk_ifne X dX0_at_8 rfl rfl)))))
 (mk_lt
 (mk_lt
 (mk_eq (mk_ldc X dX0_at_11 q480 rfl))
 (mk_lt
 (mk_eq (mk_ri X dX0_at_13))
 (mk_eq (mk_aload_n X dX0_at_14 rfl rfl))))
 (mk_lt
 (mk_lt
 (mk_eq (mk_V1 X h_X0_refresh (ci := 0) rfl (lw_V q481 q483 qs13 q61 q484) ⟨rfl, by decide, by decide, rfl⟩ ⟨(Nat.le_of_ble_eq_true rfl), (Nat.le_of_ble_eq_true rfl)⟩ dX0_at_15 rfl))
 (mk_eq (mk_iload_n X dX0_at_18 rfl rfl)))
 (mk_lt
 (mk_eq (mk_ifeq X dX0_at_19 rfl rfl))
 (mk_eq (mk_aload_n X dX0_at_22 rfl rfl))))))
 (mk_lt
 (mk_lt
 (mk_lt
 (mk_eq (mk_get X (ci := 0) (j := 16) rfl in_X0 (Nat.le_of_ble_eq_true rfl) q262 dX0_at_23 rfl))
 (mk_lt
 (mk_eq (mk_iload_n X dX0_at_26 rfl rfl))
 (mk_eq (mk_iload_n X dX0_at_27 rfl rfl))))
 (mk_lt
 (mk_eq (mk_iload X dX0_at_28 rfl))
 (mk_lt
 (mk_eq (mk_V4 X h_X3_at (ci := 3) rfl (lw_V q553 q516 q517 q64 q518) ⟨rfl, by decide, by decide, rfl⟩ ⟨(Nat.le_of_ble_eq_true rfl), (Nat.le_of_ble_eq_true rfl)⟩ dX0_at_30 rfl))
 (mk_eq (mk_goto X dX0_at_33 rfl)))))
 (mk_lt
 (mk_lt
 (mk_eq (mk_aload_n X dX0_at_36 rfl rfl))
 (mk_lt
 (mk_eq (mk_get X (ci := 0) (j := 17) rfl in_X0 (Nat.le_of_ble_eq_true rfl) q263 dX0_at_37 rfl))
 (mk_eq (mk_iload_n X dX0_at_40 rfl rfl))))
 (mk_lt
 (mk_lt
 (mk_eq (mk_iload_n X dX0_at_41 rfl rfl))
 (mk_eq (mk_iload X dX0_at_42 rfl)))
 (mk_lt
 (mk_eq (mk_V4 X h_X3_at (ci := 3) rfl (lw_V q553 q516 q517 q64 q518) ⟨rfl, by decide, by decide, rfl⟩ ⟨(Nat.le_of_ble_eq_true rfl), (Nat.le_of_ble_eq_true rfl)⟩ dX0_at_44 rfl))
 (mk_eq (mk_ri X dX0_at_47)))))))
theorem sd_X0_at {l : Launch} {w : ma_Wd} {NC : Nat} {A : Nat → Prop} {S_X0_isPlace S_X0_refresh S_X3_at : ma_Cs} (hw : ma_Wo w YX NC A) (h_X0_isPlace : ma_Sd l w YX NC A yX0_isPlace cX0_isPlace 4 (some .boolean) rm_X0_isPlace S_X0_isPlace) (h_X0_refresh : ma_Sd l w YX NC A yX0_refresh cX0_refresh 1 none rm_X0_refresh S_X0_refresh) (h_X3_at : ma_Sd l w YX NC A yX3_at cX3_at 4 (some .int) rm_X3_at S_X3_at) : ma_Sd l w YX NC A yX0_at cX0_at 5 (some .int) rm_X0_at (ma_rn (tb_X0_at S_X0_isPlace S_X0_refresh S_X3_at) 5) := ma_of hw (by decide) ⟨rfl, rfl⟩ (fun X => tk_X0_at h_X0_isPlace h_X0_refresh h_X3_at X)
theorem dX0_isPlace_0 : decode cX0_isPlace 0 = .ok (.iload_n 1, 1) := by decide +kernel
theorem dX0_isPlace_1 : decode cX0_isPlace 1 = .ok (.invokestatic 203, 3) := by decide +kernel
theorem dX0_isPlace_4 : decode cX0_isPlace 4 = .ok (.ifCond .eq 22, 3) := by decide +kernel
theorem dX0_isPlace_7 : decode cX0_isPlace 7 = .ok (.aload_n 0, 1) := by decide +kernel
theorem dX0_isPlace_8 : decode cX0_isPlace 8 = .ok (.iload_n 2, 1) := by decide +kernel
theorem dX0_isPlace_9 : decode cX0_isPlace 9 = .ok (.invokevirtual 200, 3) := by decide +kernel
theorem dX0_isPlace_12 : decode cX0_isPlace 12 = .ok (.ifCond .eq 14, 3) := by decide +kernel
theorem dX0_isPlace_15 : decode cX0_isPlace 15 = .ok (.iload_n 3, 1) := by decide +kernel
theorem dX0_isPlace_16 : decode cX0_isPlace 16 = .ok (.invokestatic 150, 3) := by decide +kernel
theorem dX0_isPlace_19 : decode cX0_isPlace 19 = .ok (.ifCond .eq 7, 3) := by decide +kernel
theorem dX0_isPlace_22 : decode cX0_isPlace 22 = .ok (.iconst 1, 1) := by decide +kernel
theorem dX0_isPlace_23 : decode cX0_isPlace 23 = .ok (.goto 4, 3) := by decide +kernel
theorem dX0_isPlace_26 : decode cX0_isPlace 26 = .ok (.iconst 0, 1) := by decide +kernel
theorem dX0_isPlace_27 : decode cX0_isPlace 27 = .ok (.ireturn, 1) := by decide +kernel
def tb_X0_isPlace (S_X0_isStep S_X0_isCell S_X0_isLetter : ma_Cs) : Nat → ma_In := fun pc =>
 (if pc < 15 then
 (if pc < 7 then
 (if pc < 1 then
 (if pc = 0 then in_ild 1 1 else in_no) else
 (if pc < 4 then
 (if pc = 1 then in_s1 S_X0_isStep 4 else in_no) else
 (if pc = 4 then in_if1 (fun x => x = 0) 26 7 else in_no))) else
 (if pc < 9 then
 (if pc < 8 then
 (if pc = 7 then in_ald 0 8 else in_no) else
 (if pc = 8 then in_ild 2 9 else in_no)) else
 (if pc < 12 then
 (if pc = 9 then in_v2 YX 0 S_X0_isCell 12 else in_no) else
 (if pc = 12 then in_if1 (fun x => x = 0) 26 15 else in_no)))) else
 (if pc < 22 then
 (if pc < 16 then
 (if pc = 15 then in_ild 3 16 else in_no) else
 (if pc < 19 then
 (if pc = 16 then in_s1 S_X0_isLetter 19 else in_no) else
 (if pc = 19 then in_if1 (fun x => x = 0) 26 22 else in_no))) else
 (if pc < 26 then
 (if pc < 23 then
 (if pc = 22 then in_push (.int 1) 23 else in_no) else
 (if pc = 23 then in_go 27 else in_no)) else
 (if pc < 27 then
 (if pc = 26 then in_push (.int 0) 27 else in_no) else
 (if pc = 27 then in_rz else in_no)))))
theorem tk_X0_isPlace {l : Launch} {w : ma_Wd} {NC : Nat} {A : Nat → Prop} {S_X0_isStep S_X0_isCell S_X0_isLetter : ma_Cs} (h_X0_isStep : ma_Sd l w YX NC A yX0_isStep cX0_isStep 1 (some .boolean) rm_X0_isStep S_X0_isStep) (h_X0_isCell : ma_Sd l w YX NC A yX0_isCell cX0_isCell 2 (some .boolean) rm_X0_isCell S_X0_isCell) (h_X0_isLetter : ma_Sd l w YX NC A yX0_isLetter cX0_isLetter 1 (some .boolean) rm_X0_isLetter S_X0_isLetter) {p : Program} {e : Env} {s : State} {m : MethodId} {args : Array Value} {below : List Frame} {meth : Method} {c : Code} (X : ma_Cx p s m args meth c w YX NC A yX0_isPlace.cls cX0_isPlace 4 (some .boolean)) : ∀ pc, ma_Ok p l e rm_X0_isPlace s m args below meth c w YX NC A 4 pc (tb_X0_isPlace S_X0_isStep S_X0_isCell S_X0_isLetter pc) := fun pc =>
 (mk_lt
 (mk_lt
 (mk_lt
 (mk_eq (mk_iload_n X dX0_isPlace_0 rfl rfl))
 (mk_lt
 (mk_eq (mk_S1 X h_X0_isStep (lw_S q476 q477 q61 q478) ⟨by decide, by decide, rfl⟩ ⟨(Nat.le_of_ble_eq_true rfl), (Nat.le_of_ble_eq_true rfl)⟩ dX0_isPlace_1 rfl))
 (mk_eq (mk_ifeq X dX0_isPlace_4 rfl rfl))))
 (mk_lt
 (mk_lt
 (mk_eq (mk_aload_n X dX0_isPlace_7 rfl rfl))
 (mk_eq (mk_iload_n X dX0_isPlace_8 rfl rfl)))
 (mk_lt
 (mk_eq (mk_V2 X h_X0_isCell (ci := 0) rfl (lw_V q464 q466 qs11 q61 q467) ⟨rfl, by decide, by decide, rfl⟩ ⟨(Nat.le_of_ble_eq_true rfl), (Nat.le_of_ble_eq_true rfl)⟩ dX0_isPlace_9 rfl))
 (mk_eq (mk_ifeq X dX0_isPlace_12 rfl rfl)))))
 (mk_lt
 (mk_lt
 (mk_eq (mk_iload_n X dX0_isPlace_15 rfl rfl))
 (mk_lt
 (mk_eq (mk_S1 X h_X0_isLetter (lw_S q371 q372 q61 q373) ⟨by decide, by decide, rfl⟩ ⟨(Nat.le_of_ble_eq_true rfl), (Nat.le_of_ble_eq_true rfl)⟩ dX0_isPlace_16 rfl))
 (mk_eq (mk_ifeq X dX0_isPlace_19 rfl rfl))))
 (mk_lt
 (mk_lt
 (mk_eq (mk_iconst X dX0_isPlace_22 rfl rfl))
 (mk_eq (mk_goto X dX0_isPlace_23 rfl)))
 (mk_lt
 (mk_eq (mk_iconst X dX0_isPlace_26 rfl rfl))
 (mk_eq (mk_rz X dX0_isPlace_27))))))
theorem sd_X0_isPlace {l : Launch} {w : ma_Wd} {NC : Nat} {A : Nat → Prop} {S_X0_isStep S_X0_isCell S_X0_isLetter : ma_Cs} (hw : ma_Wo w YX NC A) (h_X0_isStep : ma_Sd l w YX NC A yX0_isStep cX0_isStep 1 (some .boolean) rm_X0_isStep S_X0_isStep) (h_X0_isCell : ma_Sd l w YX NC A yX0_isCell cX0_isCell 2 (some .boolean) rm_X0_isCell S_X0_isCell) (h_X0_isLetter : ma_Sd l w YX NC A yX0_isLetter cX0_isLetter 1 (some .boolean) rm_X0_isLetter S_X0_isLetter) : ma_Sd l w YX NC A yX0_isPlace cX0_isPlace 4 (some .boolean) rm_X0_isPlace (ma_rn (tb_X0_isPlace S_X0_isStep S_X0_isCell S_X0_isLetter) 4) := ma_of hw (by decide) ⟨rfl, rfl⟩ (fun X => tk_X0_isPlace h_X0_isStep h_X0_isCell h_X0_isLetter X)
theorem dX0_isStep_0 : decode cX0_isStep 0 = .ok (.iload_n 0, 1) := by decide +kernel
theorem dX0_isStep_1 : decode cX0_isStep 1 = .ok (.i2l, 1) := by decide +kernel
theorem dX0_isStep_2 : decode cX0_isStep 2 = .ok (.lconst 0, 1) := by decide +kernel
theorem dX0_isStep_3 : decode cX0_isStep 3 = .ok (.ldc2_w 125, 3) := by decide +kernel
theorem dX0_isStep_6 : decode cX0_isStep 6 = .ok (.invokestatic 5, 3) := by decide +kernel
theorem dX0_isStep_9 : decode cX0_isStep 9 = .ok (.ireturn, 1) := by decide +kernel
def tb_X0_isStep (S_X0_isIn : ma_Cs) : Nat → ma_In := fun pc =>
 (if pc < 3 then
 (if pc < 1 then
 (if pc = 0 then in_ild 0 1 else in_no) else
 (if pc < 2 then
 (if pc = 1 then in_il (fun x => x.toInt64) 2 else in_no) else
 (if pc = 2 then in_push (.long 0) 3 else in_no))) else
 (if pc < 6 then
 (if pc = 3 then in_push (.long 12) 6 else in_no) else
 (if pc < 9 then
 (if pc = 6 then in_s3 S_X0_isIn 9 else in_no) else
 (if pc = 9 then in_rz else in_no))))
theorem tk_X0_isStep {l : Launch} {w : ma_Wd} {NC : Nat} {A : Nat → Prop} {S_X0_isIn : ma_Cs} (h_X0_isIn : ma_Sd l w YX NC A yX0_isIn cX0_isIn 6 (some .boolean) rm_X0_isIn S_X0_isIn) {p : Program} {e : Env} {s : State} {m : MethodId} {args : Array Value} {below : List Frame} {meth : Method} {c : Code} (X : ma_Cx p s m args meth c w YX NC A yX0_isStep.cls cX0_isStep 1 (some .boolean)) : ∀ pc, ma_Ok p l e rm_X0_isStep s m args below meth c w YX NC A 1 pc (tb_X0_isStep S_X0_isIn pc) := fun pc =>
 (mk_lt
 (mk_lt
 (mk_eq (mk_iload_n X dX0_isStep_0 rfl rfl))
 (mk_lt
 (mk_eq (mk_i2l X dX0_isStep_1 rfl))
 (mk_eq (mk_lconst X dX0_isStep_2 rfl rfl))))
 (mk_lt
 (mk_eq (mk_ldc2 X dX0_isStep_3 q479 rfl))
 (mk_lt
 (mk_eq (mk_S3 X h_X0_isIn (lw_S q355 q356 q61 q357) ⟨by decide, by decide, rfl⟩ ⟨(Nat.le_of_ble_eq_true rfl), (Nat.le_of_ble_eq_true rfl)⟩ dX0_isStep_6 rfl))
 (mk_eq (mk_rz X dX0_isStep_9)))))
theorem sd_X0_isStep {l : Launch} {w : ma_Wd} {NC : Nat} {A : Nat → Prop} {S_X0_isIn : ma_Cs} (hw : ma_Wo w YX NC A) (h_X0_isIn : ma_Sd l w YX NC A yX0_isIn cX0_isIn 6 (some .boolean) rm_X0_isIn S_X0_isIn) : ma_Sd l w YX NC A yX0_isStep cX0_isStep 1 (some .boolean) rm_X0_isStep (ma_rn (tb_X0_isStep S_X0_isIn) 1) := ma_of hw (by decide) ⟨rfl, rfl⟩ (fun X => tk_X0_isStep h_X0_isIn X)
theorem dX0_refresh_0 : decode cX0_refresh 0 = .ok (.aload_n 0, 1) := by decide +kernel
theorem dX0_refresh_1 : decode cX0_refresh 1 = .ok (.getfield 137, 3) := by decide +kernel
theorem dX0_refresh_4 : decode cX0_refresh 4 = .ok (.ifCond .ne 44, 3) := by decide +kernel
theorem dX0_refresh_7 : decode cX0_refresh 7 = .ok (.aload_n 0, 1) := by decide +kernel
theorem dX0_refresh_8 : decode cX0_refresh 8 = .ok (.getfield 67, 3) := by decide +kernel
theorem dX0_refresh_11 : decode cX0_refresh 11 = .ok (.invokevirtual 193, 3) := by decide +kernel
theorem dX0_refresh_14 : decode cX0_refresh 14 = .ok (.aload_n 0, 1) := by decide +kernel
theorem dX0_refresh_15 : decode cX0_refresh 15 = .ok (.getfield 67, 3) := by decide +kernel
theorem dX0_refresh_18 : decode cX0_refresh 18 = .ok (.bipush 12, 2) := by decide +kernel
theorem dX0_refresh_20 : decode cX0_refresh 20 = .ok (.bipush (-5), 2) := by decide +kernel
theorem dX0_refresh_22 : decode cX0_refresh 22 = .ok (.invokevirtual 196, 3) := by decide +kernel
theorem dX0_refresh_25 : decode cX0_refresh 25 = .ok (.aload_n 0, 1) := by decide +kernel
theorem dX0_refresh_26 : decode cX0_refresh 26 = .ok (.getfield 71, 3) := by decide +kernel
theorem dX0_refresh_29 : decode cX0_refresh 29 = .ok (.invokevirtual 193, 3) := by decide +kernel
theorem dX0_refresh_32 : decode cX0_refresh 32 = .ok (.aload_n 0, 1) := by decide +kernel
theorem dX0_refresh_33 : decode cX0_refresh 33 = .ok (.getfield 71, 3) := by decide +kernel
theorem dX0_refresh_36 : decode cX0_refresh 36 = .ok (.bipush 12, 2) := by decide +kernel
theorem dX0_refresh_38 : decode cX0_refresh 38 = .ok (.bipush (-4), 2) := by decide +kernel
theorem dX0_refresh_40 : decode cX0_refresh 40 = .ok (.invokevirtual 196, 3) := by decide +kernel
theorem dX0_refresh_43 : decode cX0_refresh 43 = .ok (.aload_n 0, 1) := by decide +kernel
theorem dX0_refresh_44 : decode cX0_refresh 44 = .ok (.iconst 1, 1) := by decide +kernel
theorem dX0_refresh_45 : decode cX0_refresh 45 = .ok (.putfield 137, 3) := by decide +kernel
theorem dX0_refresh_48 : decode cX0_refresh 48 = .ok (.return_, 1) := by decide +kernel
def tb_X0_refresh (S_X3_begin S_X3_run : ma_Cs) : Nat → ma_In := fun pc =>
 (if pc < 25 then
 (if pc < 11 then
 (if pc < 4 then
 (if pc < 1 then
 (if pc = 0 then in_ald 0 1 else in_no) else
 (if pc = 1 then in_get YX 0 15 4 else in_no)) else
 (if pc < 7 then
 (if pc = 4 then in_if1 (fun x => x = 0) 7 48 else in_no) else
 (if pc < 8 then
 (if pc = 7 then in_ald 0 8 else in_no) else
 (if pc = 8 then in_get YX 0 16 11 else in_no)))) else
 (if pc < 18 then
 (if pc < 14 then
 (if pc = 11 then in_v1 YX 3 S_X3_begin 14 else in_no) else
 (if pc < 15 then
 (if pc = 14 then in_ald 0 15 else in_no) else
 (if pc = 15 then in_get YX 0 16 18 else in_no))) else
 (if pc < 20 then
 (if pc = 18 then in_push (.int 12) 20 else in_no) else
 (if pc < 22 then
 (if pc = 20 then in_push (.int (-5)) 22 else in_no) else
 (if pc = 22 then in_v3 YX 3 S_X3_run 25 else in_no))))) else
 (if pc < 38 then
 (if pc < 32 then
 (if pc < 26 then
 (if pc = 25 then in_ald 0 26 else in_no) else
 (if pc < 29 then
 (if pc = 26 then in_get YX 0 17 29 else in_no) else
 (if pc = 29 then in_v1 YX 3 S_X3_begin 32 else in_no))) else
 (if pc < 33 then
 (if pc = 32 then in_ald 0 33 else in_no) else
 (if pc < 36 then
 (if pc = 33 then in_get YX 0 17 36 else in_no) else
 (if pc = 36 then in_push (.int 12) 38 else in_no)))) else
 (if pc < 44 then
 (if pc < 40 then
 (if pc = 38 then in_push (.int (-4)) 40 else in_no) else
 (if pc < 43 then
 (if pc = 40 then in_v3 YX 3 S_X3_run 43 else in_no) else
 (if pc = 43 then in_ald 0 44 else in_no))) else
 (if pc < 45 then
 (if pc = 44 then in_push (.int 1) 45 else in_no) else
 (if pc < 48 then
 (if pc = 45 then in_puz YX 0 15 48 else in_no) else
 (if pc = 48 then in_rv else in_no))))))
theorem tk_X0_refresh {l : Launch} {w : ma_Wd} {NC : Nat} {A : Nat → Prop} {S_X3_begin S_X3_run : ma_Cs} (h_X3_begin : ma_Sd l w YX NC A yX3_begin cX3_begin 4 none rm_X3_begin S_X3_begin) (h_X3_run : ma_Sd l w YX NC A yX3_run cX3_run 8 none rm_X3_run S_X3_run) {p : Program} {e : Env} {s : State} {m : MethodId} {args : Array Value} {below : List Frame} {meth : Method} {c : Code} (X : ma_Cx p s m args meth c w YX NC A yX0_refresh.cls cX0_refresh 1 none) : ∀ pc, ma_Ok p l e rm_X0_refresh s m args below meth c w YX NC A 1 pc (tb_X0_refresh S_X3_begin S_X3_run pc) := fun pc =>
 (mk_lt
 (mk_lt
 (mk_lt
 (mk_lt
 (mk_eq (mk_aload_n X dX0_refresh_0 rfl rfl))
 (mk_eq (mk_get X (ci := 0) (j := 15) rfl in_X0 (Nat.le_of_ble_eq_true rfl) q261 dX0_refresh_1 rfl)))
 (mk_lt
 (mk_eq (mk_ifne X dX0_refresh_4 rfl rfl))
 (mk_lt
 (mk_eq (mk_aload_n X dX0_refresh_7 rfl rfl))
 (mk_eq (mk_get X (ci := 0) (j := 16) rfl in_X0 (Nat.le_of_ble_eq_true rfl) q262 dX0_refresh_8 rfl)))))
 (mk_lt
 (mk_lt
 (mk_eq (mk_V1 X h_X3_begin (ci := 3) rfl (lw_V q485 q486 q487 q64 q488) ⟨rfl, by decide, by decide, rfl⟩ ⟨(Nat.le_of_ble_eq_true rfl), (Nat.le_of_ble_eq_true rfl)⟩ dX0_refresh_11 rfl))
 (mk_lt
 (mk_eq (mk_aload_n X dX0_refresh_14 rfl rfl))
 (mk_eq (mk_get X (ci := 0) (j := 16) rfl in_X0 (Nat.le_of_ble_eq_true rfl) q262 dX0_refresh_15 rfl))))
 (mk_lt
 (mk_eq (mk_bipush X dX0_refresh_18 rfl rfl))
 (mk_lt
 (mk_eq (mk_bipush X dX0_refresh_20 rfl rfl))
 (mk_eq (mk_V3 X h_X3_run (ci := 3) rfl (lw_V q510 q511 q512 q64 q513) ⟨rfl, by decide, by decide, rfl⟩ ⟨(Nat.le_of_ble_eq_true rfl), (Nat.le_of_ble_eq_true rfl)⟩ dX0_refresh_22 rfl))))))
 (mk_lt
 (mk_lt
 (mk_lt
 (mk_eq (mk_aload_n X dX0_refresh_25 rfl rfl))
 (mk_lt
 (mk_eq (mk_get X (ci := 0) (j := 17) rfl in_X0 (Nat.le_of_ble_eq_true rfl) q263 dX0_refresh_26 rfl))
 (mk_eq (mk_V1 X h_X3_begin (ci := 3) rfl (lw_V q485 q486 q487 q64 q488) ⟨rfl, by decide, by decide, rfl⟩ ⟨(Nat.le_of_ble_eq_true rfl), (Nat.le_of_ble_eq_true rfl)⟩ dX0_refresh_29 rfl))))
 (mk_lt
 (mk_eq (mk_aload_n X dX0_refresh_32 rfl rfl))
 (mk_lt
 (mk_eq (mk_get X (ci := 0) (j := 17) rfl in_X0 (Nat.le_of_ble_eq_true rfl) q263 dX0_refresh_33 rfl))
 (mk_eq (mk_bipush X dX0_refresh_36 rfl rfl)))))
 (mk_lt
 (mk_lt
 (mk_eq (mk_bipush X dX0_refresh_38 rfl rfl))
 (mk_lt
 (mk_eq (mk_V3 X h_X3_run (ci := 3) rfl (lw_V q510 q511 q512 q64 q513) ⟨rfl, by decide, by decide, rfl⟩ ⟨(Nat.le_of_ble_eq_true rfl), (Nat.le_of_ble_eq_true rfl)⟩ dX0_refresh_40 rfl))
 (mk_eq (mk_aload_n X dX0_refresh_43 rfl rfl))))
 (mk_lt
 (mk_eq (mk_iconst X dX0_refresh_44 rfl rfl))
 (mk_lt
 (mk_eq (mk_puz X (ci := 0) (j := 15) rfl in_X0 tyX0_ok nmX0 (Nat.le_of_ble_eq_true rfl) rfl rfl q261 dX0_refresh_45 rfl))
 (mk_eq (mk_rv X dX0_refresh_48)))))))
theorem sd_X0_refresh {l : Launch} {w : ma_Wd} {NC : Nat} {A : Nat → Prop} {S_X3_begin S_X3_run : ma_Cs} (hw : ma_Wo w YX NC A) (h_X3_begin : ma_Sd l w YX NC A yX3_begin cX3_begin 4 none rm_X3_begin S_X3_begin) (h_X3_run : ma_Sd l w YX NC A yX3_run cX3_run 8 none rm_X3_run S_X3_run) : ma_Sd l w YX NC A yX0_refresh cX0_refresh 1 none rm_X0_refresh (ma_rn (tb_X0_refresh S_X3_begin S_X3_run) 1) := ma_of hw (by decide) ⟨rfl, rfl⟩ (fun X => tk_X0_refresh h_X3_begin h_X3_run X)
theorem dX0_marked_0 : decode cX0_marked 0 = .ok (.aload_n 0, 1) := by decide +kernel
theorem dX0_marked_1 : decode cX0_marked 1 = .ok (.iload_n 1, 1) := by decide +kernel
theorem dX0_marked_2 : decode cX0_marked 2 = .ok (.iload_n 2, 1) := by decide +kernel
theorem dX0_marked_3 : decode cX0_marked 3 = .ok (.iload_n 3, 1) := by decide +kernel
theorem dX0_marked_4 : decode cX0_marked 4 = .ok (.invokevirtual 206, 3) := by decide +kernel
theorem dX0_marked_7 : decode cX0_marked 7 = .ok (.ifCond .ne 5, 3) := by decide +kernel
theorem dX0_marked_10 : decode cX0_marked 10 = .ok (.iconst (-1), 1) := by decide +kernel
theorem dX0_marked_11 : decode cX0_marked 11 = .ok (.ireturn, 1) := by decide +kernel
theorem dX0_marked_12 : decode cX0_marked 12 = .ok (.aload_n 0, 1) := by decide +kernel
theorem dX0_marked_13 : decode cX0_marked 13 = .ok (.invokevirtual 211, 3) := by decide +kernel
theorem dX0_marked_16 : decode cX0_marked 16 = .ok (.aload_n 0, 1) := by decide +kernel
theorem dX0_marked_17 : decode cX0_marked 17 = .ok (.getfield 71, 3) := by decide +kernel
theorem dX0_marked_20 : decode cX0_marked 20 = .ok (.getfield 218, 3) := by decide +kernel
theorem dX0_marked_23 : decode cX0_marked 23 = .ok (.aload_n 0, 1) := by decide +kernel
theorem dX0_marked_24 : decode cX0_marked 24 = .ok (.getfield 71, 3) := by decide +kernel
theorem dX0_marked_27 : decode cX0_marked 27 = .ok (.iload_n 1, 1) := by decide +kernel
theorem dX0_marked_28 : decode cX0_marked 28 = .ok (.iload_n 2, 1) := by decide +kernel
theorem dX0_marked_29 : decode cX0_marked 29 = .ok (.iload_n 3, 1) := by decide +kernel
theorem dX0_marked_30 : decode cX0_marked 30 = .ok (.invokevirtual 221, 3) := by decide +kernel
theorem dX0_marked_33 : decode cX0_marked 33 = .ok (.baload, 1) := by decide +kernel
theorem dX0_marked_34 : decode cX0_marked 34 = .ok (.ifCond .eq 7, 3) := by decide +kernel
theorem dX0_marked_37 : decode cX0_marked 37 = .ok (.iconst 1, 1) := by decide +kernel
theorem dX0_marked_38 : decode cX0_marked 38 = .ok (.goto 4, 3) := by decide +kernel
theorem dX0_marked_41 : decode cX0_marked 41 = .ok (.iconst 0, 1) := by decide +kernel
theorem dX0_marked_42 : decode cX0_marked 42 = .ok (.ireturn, 1) := by decide +kernel
def tb_X0_marked (S_X0_isPlace S_X0_refresh S_X3_place : ma_Cs) : Nat → ma_In := fun pc =>
 (if pc < 20 then
 (if pc < 10 then
 (if pc < 3 then
 (if pc < 1 then
 (if pc = 0 then in_ald 0 1 else in_no) else
 (if pc < 2 then
 (if pc = 1 then in_ild 1 2 else in_no) else
 (if pc = 2 then in_ild 2 3 else in_no))) else
 (if pc < 4 then
 (if pc = 3 then in_ild 3 4 else in_no) else
 (if pc < 7 then
 (if pc = 4 then in_v4 YX 0 S_X0_isPlace 7 else in_no) else
 (if pc = 7 then in_if1 (fun x => x = 0) 10 12 else in_no)))) else
 (if pc < 13 then
 (if pc < 11 then
 (if pc = 10 then in_push (.int (-1)) 11 else in_no) else
 (if pc < 12 then
 (if pc = 11 then in_ri else in_no) else
 (if pc = 12 then in_ald 0 13 else in_no))) else
 (if pc < 16 then
 (if pc = 13 then in_v1 YX 0 S_X0_refresh 16 else in_no) else
 (if pc < 17 then
 (if pc = 16 then in_ald 0 17 else in_no) else
 (if pc = 17 then in_get YX 0 17 20 else in_no))))) else
 (if pc < 30 then
 (if pc < 27 then
 (if pc < 23 then
 (if pc = 20 then in_get YX 3 3 23 else in_no) else
 (if pc < 24 then
 (if pc = 23 then in_ald 0 24 else in_no) else
 (if pc = 24 then in_get YX 0 17 27 else in_no))) else
 (if pc < 28 then
 (if pc = 27 then in_ild 1 28 else in_no) else
 (if pc < 29 then
 (if pc = 28 then in_ild 2 29 else in_no) else
 (if pc = 29 then in_ild 3 30 else in_no)))) else
 (if pc < 37 then
 (if pc < 33 then
 (if pc = 30 then in_v4 YX 3 S_X3_place 33 else in_no) else
 (if pc < 34 then
 (if pc = 33 then in_bar YX 34 else in_no) else
 (if pc = 34 then in_if1 (fun x => x = 0) 41 37 else in_no))) else
 (if pc < 41 then
 (if pc < 38 then
 (if pc = 37 then in_push (.int 1) 38 else in_no) else
 (if pc = 38 then in_go 42 else in_no)) else
 (if pc < 42 then
 (if pc = 41 then in_push (.int 0) 42 else in_no) else
 (if pc = 42 then in_ri else in_no))))))
theorem tk_X0_marked {l : Launch} {w : ma_Wd} {NC : Nat} {A : Nat → Prop} {S_X0_isPlace S_X0_refresh S_X3_place : ma_Cs} (h_X0_isPlace : ma_Sd l w YX NC A yX0_isPlace cX0_isPlace 4 (some .boolean) rm_X0_isPlace S_X0_isPlace) (h_X0_refresh : ma_Sd l w YX NC A yX0_refresh cX0_refresh 1 none rm_X0_refresh S_X0_refresh) (h_X3_place : ma_Sd l w YX NC A yX3_place cX3_place 4 (some .int) rm_X3_place S_X3_place) {p : Program} {e : Env} {s : State} {m : MethodId} {args : Array Value} {below : List Frame} {meth : Method} {c : Code} (X : ma_Cx p s m args meth c w YX NC A yX0_marked.cls cX0_marked 4 (some .int)) : ∀ pc, ma_Ok p l e rm_X0_marked s m args below meth c w YX NC A 4 pc (tb_X0_marked S_X0_isPlace S_X0_refresh S_X3_place pc) := fun pc =>
 (mk_lt
 (mk_lt
 (mk_lt
 (mk_lt
 (mk_eq (mk_aload_n X dX0_marked_0 rfl rfl))
 (mk_lt
 (mk_eq (mk_iload_n X dX0_marked_1 rfl rfl))
 (mk_eq (mk_iload_n X dX0_marked_2 rfl rfl))))
 (mk_lt
 (mk_eq (mk_iload_n X dX0_marked_3 rfl rfl))
 (mk_lt
 (mk_eq (mk_V4 X h_X0_isPlace (ci := 0) rfl (lw_V q472 q474 qs12 q61 q475) ⟨rfl, by decide, by decide, rfl⟩ ⟨(Nat.le_of_ble_eq_true rfl), (Nat.le_of_ble_eq_true rfl)⟩ dX0_marked_4 rfl))
 (mk_eq (mk_ifne X dX0_marked_7 rfl rfl)))))
 (mk_lt
 (mk_lt
 (mk_eq (mk_iconst X dX0_marked_10 rfl rfl))
 (mk_lt
 (mk_eq (mk_ri X dX0_marked_11))
 (mk_eq (mk_aload_n X dX0_marked_12 rfl rfl))))
 (mk_lt
 (mk_eq (mk_V1 X h_X0_refresh (ci := 0) rfl (lw_V q481 q483 qs13 q61 q484) ⟨rfl, by decide, by decide, rfl⟩ ⟨(Nat.le_of_ble_eq_true rfl), (Nat.le_of_ble_eq_true rfl)⟩ dX0_marked_13 rfl))
 (mk_lt
 (mk_eq (mk_aload_n X dX0_marked_16 rfl rfl))
 (mk_eq (mk_get X (ci := 0) (j := 17) rfl in_X0 (Nat.le_of_ble_eq_true rfl) q263 dX0_marked_17 rfl))))))
 (mk_lt
 (mk_lt
 (mk_lt
 (mk_eq (mk_getN X (ci := 3) (j := 3) rfl in_X3 (Nat.le_of_ble_eq_true rfl) (List.mem_of_getElem? (i := 6) rfl) dX0_marked_20 rfl))
 (mk_lt
 (mk_eq (mk_aload_n X dX0_marked_23 rfl rfl))
 (mk_eq (mk_get X (ci := 0) (j := 17) rfl in_X0 (Nat.le_of_ble_eq_true rfl) q263 dX0_marked_24 rfl))))
 (mk_lt
 (mk_eq (mk_iload_n X dX0_marked_27 rfl rfl))
 (mk_lt
 (mk_eq (mk_iload_n X dX0_marked_28 rfl rfl))
 (mk_eq (mk_iload_n X dX0_marked_29 rfl rfl)))))
 (mk_lt
 (mk_lt
 (mk_eq (mk_V4 X h_X3_place (ci := 3) rfl (lw_V q558 q507 q508 q64 q509) ⟨rfl, by decide, by decide, rfl⟩ ⟨(Nat.le_of_ble_eq_true rfl), (Nat.le_of_ble_eq_true rfl)⟩ dX0_marked_30 rfl))
 (mk_lt
 (mk_eq (mk_bar X dX0_marked_33 rfl))
 (mk_eq (mk_ifeq X dX0_marked_34 rfl rfl))))
 (mk_lt
 (mk_lt
 (mk_eq (mk_iconst X dX0_marked_37 rfl rfl))
 (mk_eq (mk_goto X dX0_marked_38 rfl)))
 (mk_lt
 (mk_eq (mk_iconst X dX0_marked_41 rfl rfl))
 (mk_eq (mk_ri X dX0_marked_42)))))))
theorem sd_X0_marked {l : Launch} {w : ma_Wd} {NC : Nat} {A : Nat → Prop} {S_X0_isPlace S_X0_refresh S_X3_place : ma_Cs} (hw : ma_Wo w YX NC A) (h_X0_isPlace : ma_Sd l w YX NC A yX0_isPlace cX0_isPlace 4 (some .boolean) rm_X0_isPlace S_X0_isPlace) (h_X0_refresh : ma_Sd l w YX NC A yX0_refresh cX0_refresh 1 none rm_X0_refresh S_X0_refresh) (h_X3_place : ma_Sd l w YX NC A yX3_place cX3_place 4 (some .int) rm_X3_place S_X3_place) : ma_Sd l w YX NC A yX0_marked cX0_marked 4 (some .int) rm_X0_marked (ma_rn (tb_X0_marked S_X0_isPlace S_X0_refresh S_X3_place) 4) := ma_of hw (by decide) ⟨rfl, rfl⟩ (fun X => tk_X0_marked h_X0_isPlace h_X0_refresh h_X3_place X)
theorem dX0_sum_0 : decode cX0_sum 0 = .ok (.iload_n 2, 1) := by decide +kernel
theorem dX0_sum_1 : decode cX0_sum 1 = .ok (.invokestatic 203, 3) := by decide +kernel
theorem dX0_sum_4 : decode cX0_sum 4 = .ok (.ifCond .eq 10, 3) := by decide +kernel
theorem dX0_sum_7 : decode cX0_sum 7 = .ok (.iload_n 3, 1) := by decide +kernel
theorem dX0_sum_8 : decode cX0_sum 8 = .ok (.invokestatic 150, 3) := by decide +kernel
theorem dX0_sum_11 : decode cX0_sum 11 = .ok (.ifCond .ne 7, 3) := by decide +kernel
theorem dX0_sum_14 : decode cX0_sum 14 = .ok (.ldc2_w 225, 3) := by decide +kernel
theorem dX0_sum_17 : decode cX0_sum 17 = .ok (.lreturn, 1) := by decide +kernel
theorem dX0_sum_18 : decode cX0_sum 18 = .ok (.aload_n 0, 1) := by decide +kernel
theorem dX0_sum_19 : decode cX0_sum 19 = .ok (.invokevirtual 211, 3) := by decide +kernel
theorem dX0_sum_22 : decode cX0_sum 22 = .ok (.lconst 0, 1) := by decide +kernel
theorem dX0_sum_23 : decode cX0_sum 23 = .ok (.lstore 4, 2) := by decide +kernel
theorem dX0_sum_25 : decode cX0_sum 25 = .ok (.iconst 0, 1) := by decide +kernel
theorem dX0_sum_26 : decode cX0_sum 26 = .ok (.istore 6, 2) := by decide +kernel
theorem dX0_sum_28 : decode cX0_sum 28 = .ok (.iload 6, 2) := by decide +kernel
theorem dX0_sum_30 : decode cX0_sum 30 = .ok (.aload_n 0, 1) := by decide +kernel
theorem dX0_sum_31 : decode cX0_sum 31 = .ok (.invokevirtual 121, 3) := by decide +kernel
theorem dX0_sum_34 : decode cX0_sum 34 = .ok (.if_icmp .ge 46, 3) := by decide +kernel
theorem dX0_sum_37 : decode cX0_sum 37 = .ok (.lload 4, 2) := by decide +kernel
theorem dX0_sum_39 : decode cX0_sum 39 = .ok (.iload_n 1, 1) := by decide +kernel
theorem dX0_sum_40 : decode cX0_sum 40 = .ok (.ifCond .eq 17, 3) := by decide +kernel
theorem dX0_sum_43 : decode cX0_sum 43 = .ok (.aload_n 0, 1) := by decide +kernel
theorem dX0_sum_44 : decode cX0_sum 44 = .ok (.getfield 67, 3) := by decide +kernel
theorem dX0_sum_47 : decode cX0_sum 47 = .ok (.iload_n 2, 1) := by decide +kernel
theorem dX0_sum_48 : decode cX0_sum 48 = .ok (.iload 6, 2) := by decide +kernel
theorem dX0_sum_50 : decode cX0_sum 50 = .ok (.iload_n 3, 1) := by decide +kernel
theorem dX0_sum_51 : decode cX0_sum 51 = .ok (.invokevirtual 214, 3) := by decide +kernel
theorem dX0_sum_54 : decode cX0_sum 54 = .ok (.goto 14, 3) := by decide +kernel
theorem dX0_sum_57 : decode cX0_sum 57 = .ok (.aload_n 0, 1) := by decide +kernel
theorem dX0_sum_58 : decode cX0_sum 58 = .ok (.getfield 71, 3) := by decide +kernel
theorem dX0_sum_61 : decode cX0_sum 61 = .ok (.iload_n 2, 1) := by decide +kernel
theorem dX0_sum_62 : decode cX0_sum 62 = .ok (.iload 6, 2) := by decide +kernel
theorem dX0_sum_64 : decode cX0_sum 64 = .ok (.iload_n 3, 1) := by decide +kernel
theorem dX0_sum_65 : decode cX0_sum 65 = .ok (.invokevirtual 214, 3) := by decide +kernel
theorem dX0_sum_68 : decode cX0_sum 68 = .ok (.invokestatic 227, 3) := by decide +kernel
theorem dX0_sum_71 : decode cX0_sum 71 = .ok (.ladd, 1) := by decide +kernel
theorem dX0_sum_72 : decode cX0_sum 72 = .ok (.lstore 4, 2) := by decide +kernel
theorem dX0_sum_74 : decode cX0_sum 74 = .ok (.iinc 6 1, 3) := by decide +kernel
theorem dX0_sum_77 : decode cX0_sum 77 = .ok (.goto (-49), 3) := by decide +kernel
theorem dX0_sum_80 : decode cX0_sum 80 = .ok (.lload 4, 2) := by decide +kernel
theorem dX0_sum_82 : decode cX0_sum 82 = .ok (.lreturn, 1) := by decide +kernel
def tb_X0_sum (S_X0_isStep S_X0_isLetter S_X0_refresh S_X0_cells S_X3_at S_X0_countOf : ma_Cs) : Nat → ma_In := fun pc =>
 (if pc < 40 then
 (if pc < 22 then
 (if pc < 11 then
 (if pc < 4 then
 (if pc < 1 then
 (if pc = 0 then in_ild 2 1 else in_no) else
 (if pc = 1 then in_s1 S_X0_isStep 4 else in_no)) else
 (if pc < 7 then
 (if pc = 4 then in_if1 (fun x => x = 0) 14 7 else in_no) else
 (if pc < 8 then
 (if pc = 7 then in_ild 3 8 else in_no) else
 (if pc = 8 then in_s1 S_X0_isLetter 11 else in_no)))) else
 (if pc < 17 then
 (if pc < 14 then
 (if pc = 11 then in_if1 (fun x => x = 0) 14 18 else in_no) else
 (if pc = 14 then in_push (.long (-2000000000000)) 17 else in_no)) else
 (if pc < 18 then
 (if pc = 17 then in_rl else in_no) else
 (if pc < 19 then
 (if pc = 18 then in_ald 0 19 else in_no) else
 (if pc = 19 then in_v1 YX 0 S_X0_refresh 22 else in_no))))) else
 (if pc < 30 then
 (if pc < 25 then
 (if pc < 23 then
 (if pc = 22 then in_push (.long 0) 23 else in_no) else
 (if pc = 23 then in_lst 4 25 else in_no)) else
 (if pc < 26 then
 (if pc = 25 then in_push (.int 0) 26 else in_no) else
 (if pc < 28 then
 (if pc = 26 then in_ist 6 28 else in_no) else
 (if pc = 28 then in_ild 6 30 else in_no)))) else
 (if pc < 34 then
 (if pc < 31 then
 (if pc = 30 then in_ald 0 31 else in_no) else
 (if pc = 31 then in_v1 YX 0 S_X0_cells 34 else in_no)) else
 (if pc < 37 then
 (if pc = 34 then in_if2 (fun x y => y ≤ x) 80 37 else in_no) else
 (if pc < 39 then
 (if pc = 37 then in_lld 4 39 else in_no) else
 (if pc = 39 then in_ild 1 40 else in_no)))))) else
 (if pc < 61 then
 (if pc < 50 then
 (if pc < 44 then
 (if pc < 43 then
 (if pc = 40 then in_if1 (fun x => x = 0) 57 43 else in_no) else
 (if pc = 43 then in_ald 0 44 else in_no)) else
 (if pc < 47 then
 (if pc = 44 then in_get YX 0 16 47 else in_no) else
 (if pc < 48 then
 (if pc = 47 then in_ild 2 48 else in_no) else
 (if pc = 48 then in_ild 6 50 else in_no)))) else
 (if pc < 54 then
 (if pc < 51 then
 (if pc = 50 then in_ild 3 51 else in_no) else
 (if pc = 51 then in_v4 YX 3 S_X3_at 54 else in_no)) else
 (if pc < 57 then
 (if pc = 54 then in_go 68 else in_no) else
 (if pc < 58 then
 (if pc = 57 then in_ald 0 58 else in_no) else
 (if pc = 58 then in_get YX 0 17 61 else in_no))))) else
 (if pc < 71 then
 (if pc < 64 then
 (if pc < 62 then
 (if pc = 61 then in_ild 2 62 else in_no) else
 (if pc = 62 then in_ild 6 64 else in_no)) else
 (if pc < 65 then
 (if pc = 64 then in_ild 3 65 else in_no) else
 (if pc < 68 then
 (if pc = 65 then in_v4 YX 3 S_X3_at 68 else in_no) else
 (if pc = 68 then in_s1 S_X0_countOf 71 else in_no)))) else
 (if pc < 77 then
 (if pc < 72 then
 (if pc = 71 then in_lll (fun x y => x + y) 72 else in_no) else
 (if pc < 74 then
 (if pc = 72 then in_lst 4 74 else in_no) else
 (if pc = 74 then in_inc 6 1 77 else in_no))) else
 (if pc < 80 then
 (if pc = 77 then in_go 28 else in_no) else
 (if pc < 82 then
 (if pc = 80 then in_lld 4 82 else in_no) else
 (if pc = 82 then in_rl else in_no)))))))
theorem tk_X0_sum {l : Launch} {w : ma_Wd} {NC : Nat} {A : Nat → Prop} {S_X0_isStep S_X0_isLetter S_X0_refresh S_X0_cells S_X3_at S_X0_countOf : ma_Cs} (h_X0_isStep : ma_Sd l w YX NC A yX0_isStep cX0_isStep 1 (some .boolean) rm_X0_isStep S_X0_isStep) (h_X0_isLetter : ma_Sd l w YX NC A yX0_isLetter cX0_isLetter 1 (some .boolean) rm_X0_isLetter S_X0_isLetter) (h_X0_refresh : ma_Sd l w YX NC A yX0_refresh cX0_refresh 1 none rm_X0_refresh S_X0_refresh) (h_X0_cells : ma_Sd l w YX NC A yX0_cells cX0_cells 1 (some .int) rm_X0_cells S_X0_cells) (h_X3_at : ma_Sd l w YX NC A yX3_at cX3_at 4 (some .int) rm_X3_at S_X3_at) (h_X0_countOf : ma_Sd l w YX NC A yX0_countOf cX0_countOf 1 (some .long) rm_X0_countOf S_X0_countOf) {p : Program} {e : Env} {s : State} {m : MethodId} {args : Array Value} {below : List Frame} {meth : Method} {c : Code} (X : ma_Cx p s m args meth c w YX NC A yX0_sum.cls cX0_sum 7 (some .long)) : ∀ pc, ma_Ok p l e rm_X0_sum s m args below meth c w YX NC A 7 pc (tb_X0_sum S_X0_isStep S_X0_isLetter S_X0_refresh S_X0_cells S_X3_at S_X0_countOf pc) := fun pc =>
 (mk_lt
 (mk_lt
 (mk_lt
 (mk_lt
 (mk_lt
 (mk_eq (mk_iload_n X dX0_sum_0 rfl rfl))
 (mk_eq (mk_S1 X h_X0_isStep (lw_S q476 q477 q61 q478) ⟨by decide, by decide, rfl⟩ ⟨(Nat.le_of_ble_eq_true rfl), (Nat.le_of_ble_eq_true rfl)⟩ dX0_sum_1 rfl)))
 (mk_lt
 (mk_eq (mk_ifeq X dX0_sum_4 rfl rfl))
 (mk_lt
 (mk_eq (mk_iload_n X dX0_sum_7 rfl rfl))
 (mk_eq (mk_S1 X h_X0_isLetter (lw_S q371 q372 q61 q373) ⟨by decide, by decide, rfl⟩ ⟨(Nat.le_of_ble_eq_true rfl), (Nat.le_of_ble_eq_true rfl)⟩ dX0_sum_8 rfl)))))
 (mk_lt
 (mk_lt
 (mk_eq (mk_ifne X dX0_sum_11 rfl rfl))
 (mk_eq (mk_ldc2 X dX0_sum_14 q563 rfl)))
 (mk_lt
 (mk_eq (mk_rl X dX0_sum_17))
 (mk_lt
 (mk_eq (mk_aload_n X dX0_sum_18 rfl rfl))
 (mk_eq (mk_V1 X h_X0_refresh (ci := 0) rfl (lw_V q481 q483 qs13 q61 q484) ⟨rfl, by decide, by decide, rfl⟩ ⟨(Nat.le_of_ble_eq_true rfl), (Nat.le_of_ble_eq_true rfl)⟩ dX0_sum_19 rfl))))))
 (mk_lt
 (mk_lt
 (mk_lt
 (mk_eq (mk_lconst X dX0_sum_22 rfl rfl))
 (mk_eq (mk_lstore X dX0_sum_23 (Nat.le_of_ble_eq_true rfl) rfl)))
 (mk_lt
 (mk_eq (mk_iconst X dX0_sum_25 rfl rfl))
 (mk_lt
 (mk_eq (mk_istore X dX0_sum_26 (Nat.le_of_ble_eq_true rfl) rfl))
 (mk_eq (mk_iload X dX0_sum_28 rfl)))))
 (mk_lt
 (mk_lt
 (mk_eq (mk_aload_n X dX0_sum_30 rfl rfl))
 (mk_eq (mk_V1 X h_X0_cells (ci := 0) rfl (lw_V q358 q360 qs2 q61 q361) ⟨rfl, by decide, by decide, rfl⟩ ⟨(Nat.le_of_ble_eq_true rfl), (Nat.le_of_ble_eq_true rfl)⟩ dX0_sum_31 rfl)))
 (mk_lt
 (mk_eq (mk_icge X dX0_sum_34 rfl rfl))
 (mk_lt
 (mk_eq (mk_lload X dX0_sum_37 rfl))
 (mk_eq (mk_iload_n X dX0_sum_39 rfl rfl)))))))
 (mk_lt
 (mk_lt
 (mk_lt
 (mk_lt
 (mk_eq (mk_ifeq X dX0_sum_40 rfl rfl))
 (mk_eq (mk_aload_n X dX0_sum_43 rfl rfl)))
 (mk_lt
 (mk_eq (mk_get X (ci := 0) (j := 16) rfl in_X0 (Nat.le_of_ble_eq_true rfl) q262 dX0_sum_44 rfl))
 (mk_lt
 (mk_eq (mk_iload_n X dX0_sum_47 rfl rfl))
 (mk_eq (mk_iload X dX0_sum_48 rfl)))))
 (mk_lt
 (mk_lt
 (mk_eq (mk_iload_n X dX0_sum_50 rfl rfl))
 (mk_eq (mk_V4 X h_X3_at (ci := 3) rfl (lw_V q553 q516 q517 q64 q518) ⟨rfl, by decide, by decide, rfl⟩ ⟨(Nat.le_of_ble_eq_true rfl), (Nat.le_of_ble_eq_true rfl)⟩ dX0_sum_51 rfl)))
 (mk_lt
 (mk_eq (mk_goto X dX0_sum_54 rfl))
 (mk_lt
 (mk_eq (mk_aload_n X dX0_sum_57 rfl rfl))
 (mk_eq (mk_get X (ci := 0) (j := 17) rfl in_X0 (Nat.le_of_ble_eq_true rfl) q263 dX0_sum_58 rfl))))))
 (mk_lt
 (mk_lt
 (mk_lt
 (mk_eq (mk_iload_n X dX0_sum_61 rfl rfl))
 (mk_eq (mk_iload X dX0_sum_62 rfl)))
 (mk_lt
 (mk_eq (mk_iload_n X dX0_sum_64 rfl rfl))
 (mk_lt
 (mk_eq (mk_V4 X h_X3_at (ci := 3) rfl (lw_V q553 q516 q517 q64 q518) ⟨rfl, by decide, by decide, rfl⟩ ⟨(Nat.le_of_ble_eq_true rfl), (Nat.le_of_ble_eq_true rfl)⟩ dX0_sum_65 rfl))
 (mk_eq (mk_S1 X h_X0_countOf (lw_S q564 q565 q61 q566) ⟨by decide, by decide, rfl⟩ ⟨(Nat.le_of_ble_eq_true rfl), (Nat.le_of_ble_eq_true rfl)⟩ dX0_sum_68 rfl)))))
 (mk_lt
 (mk_lt
 (mk_eq (mk_ladd X dX0_sum_71 rfl))
 (mk_lt
 (mk_eq (mk_lstore X dX0_sum_72 (Nat.le_of_ble_eq_true rfl) rfl))
 (mk_eq (mk_iinc X dX0_sum_74 rfl (Nat.le_of_ble_eq_true rfl) rfl))))
 (mk_lt
 (mk_eq (mk_goto X dX0_sum_77 rfl))
 (mk_lt
 (mk_eq (mk_lload X dX0_sum_80 rfl))
 (mk_eq (mk_rl X dX0_sum_82))))))))
theorem sd_X0_sum {l : Launch} {w : ma_Wd} {NC : Nat} {A : Nat → Prop} {S_X0_isStep S_X0_isLetter S_X0_refresh S_X0_cells S_X3_at S_X0_countOf : ma_Cs} (hw : ma_Wo w YX NC A) (h_X0_isStep : ma_Sd l w YX NC A yX0_isStep cX0_isStep 1 (some .boolean) rm_X0_isStep S_X0_isStep) (h_X0_isLetter : ma_Sd l w YX NC A yX0_isLetter cX0_isLetter 1 (some .boolean) rm_X0_isLetter S_X0_isLetter) (h_X0_refresh : ma_Sd l w YX NC A yX0_refresh cX0_refresh 1 none rm_X0_refresh S_X0_refresh) (h_X0_cells : ma_Sd l w YX NC A yX0_cells cX0_cells 1 (some .int) rm_X0_cells S_X0_cells) (h_X3_at : ma_Sd l w YX NC A yX3_at cX3_at 4 (some .int) rm_X3_at S_X3_at) (h_X0_countOf : ma_Sd l w YX NC A yX0_countOf cX0_countOf 1 (some .long) rm_X0_countOf S_X0_countOf) : ma_Sd l w YX NC A yX0_sum cX0_sum 7 (some .long) rm_X0_sum (ma_rn (tb_X0_sum S_X0_isStep S_X0_isLetter S_X0_refresh S_X0_cells S_X3_at S_X0_countOf) 7) := ma_of hw (by decide) ⟨rfl, rfl⟩ (fun X => tk_X0_sum h_X0_isStep h_X0_isLetter h_X0_refresh h_X0_cells h_X3_at h_X0_countOf X)
theorem dX0_countOf_0 : decode cX0_countOf 0 = .ok (.iload_n 0, 1) := by decide +kernel
theorem dX0_countOf_1 : decode cX0_countOf 1 = .ok (.ldc 224, 2) := by decide +kernel
theorem dX0_countOf_3 : decode cX0_countOf 3 = .ok (.if_icmp .ne 7, 3) := by decide +kernel
theorem dX0_countOf_6 : decode cX0_countOf 6 = .ok (.lconst 0, 1) := by decide +kernel
theorem dX0_countOf_7 : decode cX0_countOf 7 = .ok (.goto 5, 3) := by decide +kernel
theorem dX0_countOf_10 : decode cX0_countOf 10 = .ok (.iload_n 0, 1) := by decide +kernel
theorem dX0_countOf_11 : decode cX0_countOf 11 = .ok (.i2l, 1) := by decide +kernel
theorem dX0_countOf_12 : decode cX0_countOf 12 = .ok (.lreturn, 1) := by decide +kernel
def tb_X0_countOf : Nat → ma_In := fun pc =>
 (if pc < 7 then
 (if pc < 3 then
 (if pc < 1 then
 (if pc = 0 then in_ild 0 1 else in_no) else
 (if pc = 1 then in_push (.int 2000000000) 3 else in_no)) else
 (if pc < 6 then
 (if pc = 3 then in_if2 (fun x y => x = y) 6 10 else in_no) else
 (if pc = 6 then in_push (.long 0) 7 else in_no))) else
 (if pc < 11 then
 (if pc < 10 then
 (if pc = 7 then in_go 12 else in_no) else
 (if pc = 10 then in_ild 0 11 else in_no)) else
 (if pc < 12 then
 (if pc = 11 then in_il (fun x => x.toInt64) 12 else in_no) else
 (if pc = 12 then in_rl else in_no))))
theorem tk_X0_countOf {l : Launch} {w : ma_Wd} {NC : Nat} {A : Nat → Prop} {p : Program} {e : Env} {s : State} {m : MethodId} {args : Array Value} {below : List Frame} {meth : Method} {c : Code} (X : ma_Cx p s m args meth c w YX NC A yX0_countOf.cls cX0_countOf 1 (some .long)) : ∀ pc, ma_Ok p l e rm_X0_countOf s m args below meth c w YX NC A 1 pc (tb_X0_countOf pc) := fun pc =>
 (mk_lt
 (mk_lt
 (mk_lt
 (mk_eq (mk_iload_n X dX0_countOf_0 rfl rfl))
 (mk_eq (mk_ldc X dX0_countOf_1 q567 rfl)))
 (mk_lt
 (mk_eq (mk_icne X dX0_countOf_3 rfl rfl))
 (mk_eq (mk_lconst X dX0_countOf_6 rfl rfl))))
 (mk_lt
 (mk_lt
 (mk_eq (mk_goto X dX0_countOf_7 rfl))
 (mk_eq (mk_iload_n X dX0_countOf_10 rfl rfl)))
 (mk_lt
 (mk_eq (mk_i2l X dX0_countOf_11 rfl))
 (mk_eq (mk_rl X dX0_countOf_12)))))
theorem sd_X0_countOf {l : Launch} {w : ma_Wd} {NC : Nat} {A : Nat → Prop} (hw : ma_Wo w YX NC A) : ma_Sd l w YX NC A yX0_countOf cX0_countOf 1 (some .long) rm_X0_countOf (ma_rn (tb_X0_countOf) 1) := ma_of hw (by decide) ⟨rfl, rfl⟩ (fun X => tk_X0_countOf  X)
theorem dX0_slip_0 : decode cX0_slip 0 = .ok (.aload_n 0, 1) := by decide +kernel
theorem dX0_slip_1 : decode cX0_slip 1 = .ok (.iload_n 1, 1) := by decide +kernel
theorem dX0_slip_2 : decode cX0_slip 2 = .ok (.iload_n 2, 1) := by decide +kernel
theorem dX0_slip_3 : decode cX0_slip 3 = .ok (.iload_n 3, 1) := by decide +kernel
theorem dX0_slip_4 : decode cX0_slip 4 = .ok (.invokevirtual 206, 3) := by decide +kernel
theorem dX0_slip_7 : decode cX0_slip 7 = .ok (.ifCond .eq 27, 3) := by decide +kernel
theorem dX0_slip_10 : decode cX0_slip 10 = .ok (.iload_n 1, 1) := by decide +kernel
theorem dX0_slip_11 : decode cX0_slip 11 = .ok (.ifCond .eq 23, 3) := by decide +kernel
theorem dX0_slip_14 : decode cX0_slip 14 = .ok (.iload 4, 2) := by decide +kernel
theorem dX0_slip_16 : decode cX0_slip 16 = .ok (.ifCond .eq 18, 3) := by decide +kernel
theorem dX0_slip_19 : decode cX0_slip 19 = .ok (.iload 4, 2) := by decide +kernel
theorem dX0_slip_21 : decode cX0_slip 21 = .ok (.i2l, 1) := by decide +kernel
theorem dX0_slip_22 : decode cX0_slip 22 = .ok (.ldc2_w 154, 3) := by decide +kernel
theorem dX0_slip_25 : decode cX0_slip 25 = .ok (.ldc2_w 156, 3) := by decide +kernel
theorem dX0_slip_28 : decode cX0_slip 28 = .ok (.invokestatic 5, 3) := by decide +kernel
theorem dX0_slip_31 : decode cX0_slip 31 = .ok (.ifCond .ne 5, 3) := by decide +kernel
theorem dX0_slip_34 : decode cX0_slip 34 = .ok (.iconst (-1), 1) := by decide +kernel
theorem dX0_slip_35 : decode cX0_slip 35 = .ok (.ireturn, 1) := by decide +kernel
theorem dX0_slip_36 : decode cX0_slip 36 = .ok (.aload_n 0, 1) := by decide +kernel
theorem dX0_slip_37 : decode cX0_slip 37 = .ok (.getfield 128, 3) := by decide +kernel
theorem dX0_slip_40 : decode cX0_slip 40 = .ok (.bipush 12, 2) := by decide +kernel
theorem dX0_slip_42 : decode cX0_slip 42 = .ok (.if_icmp .ne 6, 3) := by decide +kernel
theorem dX0_slip_45 : decode cX0_slip 45 = .ok (.bipush (-3), 2) := by decide +kernel
theorem dX0_slip_47 : decode cX0_slip 47 = .ok (.ireturn, 1) := by decide +kernel
theorem dX0_slip_48 : decode cX0_slip 48 = .ok (.aload_n 0, 1) := by decide +kernel
theorem dX0_slip_49 : decode cX0_slip 49 = .ok (.getfield 52, 3) := by decide +kernel
theorem dX0_slip_52 : decode cX0_slip 52 = .ok (.aload_n 0, 1) := by decide +kernel
theorem dX0_slip_53 : decode cX0_slip 53 = .ok (.getfield 128, 3) := by decide +kernel
theorem dX0_slip_56 : decode cX0_slip 56 = .ok (.iload_n 1, 1) := by decide +kernel
theorem dX0_slip_57 : decode cX0_slip 57 = .ok (.iastore, 1) := by decide +kernel
theorem dX0_slip_58 : decode cX0_slip 58 = .ok (.aload_n 0, 1) := by decide +kernel
theorem dX0_slip_59 : decode cX0_slip 59 = .ok (.getfield 55, 3) := by decide +kernel
theorem dX0_slip_62 : decode cX0_slip 62 = .ok (.aload_n 0, 1) := by decide +kernel
theorem dX0_slip_63 : decode cX0_slip 63 = .ok (.getfield 128, 3) := by decide +kernel
theorem dX0_slip_66 : decode cX0_slip 66 = .ok (.iload_n 2, 1) := by decide +kernel
theorem dX0_slip_67 : decode cX0_slip 67 = .ok (.iastore, 1) := by decide +kernel
theorem dX0_slip_68 : decode cX0_slip 68 = .ok (.aload_n 0, 1) := by decide +kernel
theorem dX0_slip_69 : decode cX0_slip 69 = .ok (.getfield 58, 3) := by decide +kernel
theorem dX0_slip_72 : decode cX0_slip 72 = .ok (.aload_n 0, 1) := by decide +kernel
theorem dX0_slip_73 : decode cX0_slip 73 = .ok (.getfield 128, 3) := by decide +kernel
theorem dX0_slip_76 : decode cX0_slip 76 = .ok (.iload_n 3, 1) := by decide +kernel
theorem dX0_slip_77 : decode cX0_slip 77 = .ok (.iastore, 1) := by decide +kernel
theorem dX0_slip_78 : decode cX0_slip 78 = .ok (.aload_n 0, 1) := by decide +kernel
theorem dX0_slip_79 : decode cX0_slip 79 = .ok (.getfield 61, 3) := by decide +kernel
theorem dX0_slip_82 : decode cX0_slip 82 = .ok (.aload_n 0, 1) := by decide +kernel
theorem dX0_slip_83 : decode cX0_slip 83 = .ok (.getfield 128, 3) := by decide +kernel
theorem dX0_slip_86 : decode cX0_slip 86 = .ok (.iload 4, 2) := by decide +kernel
theorem dX0_slip_88 : decode cX0_slip 88 = .ok (.iastore, 1) := by decide +kernel
theorem dX0_slip_89 : decode cX0_slip 89 = .ok (.aload_n 0, 1) := by decide +kernel
theorem dX0_slip_90 : decode cX0_slip 90 = .ok (.dup, 1) := by decide +kernel
theorem dX0_slip_91 : decode cX0_slip 91 = .ok (.getfield 128, 3) := by decide +kernel
theorem dX0_slip_94 : decode cX0_slip 94 = .ok (.iconst 1, 1) := by decide +kernel
theorem dX0_slip_95 : decode cX0_slip 95 = .ok (.iadd, 1) := by decide +kernel
theorem dX0_slip_96 : decode cX0_slip 96 = .ok (.putfield 128, 3) := by decide +kernel
theorem dX0_slip_99 : decode cX0_slip 99 = .ok (.aload_n 0, 1) := by decide +kernel
theorem dX0_slip_100 : decode cX0_slip 100 = .ok (.iconst 0, 1) := by decide +kernel
theorem dX0_slip_101 : decode cX0_slip 101 = .ok (.putfield 137, 3) := by decide +kernel
theorem dX0_slip_104 : decode cX0_slip 104 = .ok (.aload_n 0, 1) := by decide +kernel
theorem dX0_slip_105 : decode cX0_slip 105 = .ok (.getfield 128, 3) := by decide +kernel
theorem dX0_slip_108 : decode cX0_slip 108 = .ok (.ireturn, 1) := by decide +kernel
def tb_X0_slip (S_X0_isPlace S_X0_isIn : ma_Cs) : Nat → ma_In := fun pc =>
 (if pc < 58 then
 (if pc < 31 then
 (if pc < 11 then
 (if pc < 3 then
 (if pc < 1 then
 (if pc = 0 then in_ald 0 1 else in_no) else
 (if pc < 2 then
 (if pc = 1 then in_ild 1 2 else in_no) else
 (if pc = 2 then in_ild 2 3 else in_no))) else
 (if pc < 7 then
 (if pc < 4 then
 (if pc = 3 then in_ild 3 4 else in_no) else
 (if pc = 4 then in_v4 YX 0 S_X0_isPlace 7 else in_no)) else
 (if pc < 10 then
 (if pc = 7 then in_if1 (fun x => x = 0) 34 10 else in_no) else
 (if pc = 10 then in_ild 1 11 else in_no)))) else
 (if pc < 21 then
 (if pc < 16 then
 (if pc < 14 then
 (if pc = 11 then in_if1 (fun x => x = 0) 34 14 else in_no) else
 (if pc = 14 then in_ild 4 16 else in_no)) else
 (if pc < 19 then
 (if pc = 16 then in_if1 (fun x => x = 0) 34 19 else in_no) else
 (if pc = 19 then in_ild 4 21 else in_no))) else
 (if pc < 25 then
 (if pc < 22 then
 (if pc = 21 then in_il (fun x => x.toInt64) 22 else in_no) else
 (if pc = 22 then in_push (.long (-1000000)) 25 else in_no)) else
 (if pc < 28 then
 (if pc = 25 then in_push (.long 1000000) 28 else in_no) else
 (if pc = 28 then in_s3 S_X0_isIn 31 else in_no))))) else
 (if pc < 45 then
 (if pc < 36 then
 (if pc < 34 then
 (if pc = 31 then in_if1 (fun x => x = 0) 34 36 else in_no) else
 (if pc < 35 then
 (if pc = 34 then in_push (.int (-1)) 35 else in_no) else
 (if pc = 35 then in_ri else in_no))) else
 (if pc < 40 then
 (if pc < 37 then
 (if pc = 36 then in_ald 0 37 else in_no) else
 (if pc = 37 then in_get YX 0 10 40 else in_no)) else
 (if pc < 42 then
 (if pc = 40 then in_push (.int 12) 42 else in_no) else
 (if pc = 42 then in_if2 (fun x y => x = y) 45 48 else in_no)))) else
 (if pc < 52 then
 (if pc < 48 then
 (if pc < 47 then
 (if pc = 45 then in_push (.int (-3)) 47 else in_no) else
 (if pc = 47 then in_ri else in_no)) else
 (if pc < 49 then
 (if pc = 48 then in_ald 0 49 else in_no) else
 (if pc = 49 then in_get YX 0 11 52 else in_no))) else
 (if pc < 56 then
 (if pc < 53 then
 (if pc = 52 then in_ald 0 53 else in_no) else
 (if pc = 53 then in_get YX 0 10 56 else in_no)) else
 (if pc < 57 then
 (if pc = 56 then in_ild 1 57 else in_no) else
 (if pc = 57 then in_iaw YX 58 else in_no)))))) else
 (if pc < 83 then
 (if pc < 69 then
 (if pc < 63 then
 (if pc < 59 then
 (if pc = 58 then in_ald 0 59 else in_no) else
 (if pc < 62 then
 (if pc = 59 then in_get YX 0 12 62 else in_no) else
 (if pc = 62 then in_ald 0 63 else in_no))) else
 (if pc < 67 then
 (if pc < 66 then
 (if pc = 63 then in_get YX 0 10 66 else in_no) else
 (if pc = 66 then in_ild 2 67 else in_no)) else
 (if pc < 68 then
 (if pc = 67 then in_iaw YX 68 else in_no) else
 (if pc = 68 then in_ald 0 69 else in_no)))) else
 (if pc < 77 then
 (if pc < 73 then
 (if pc < 72 then
 (if pc = 69 then in_get YX 0 13 72 else in_no) else
 (if pc = 72 then in_ald 0 73 else in_no)) else
 (if pc < 76 then
 (if pc = 73 then in_get YX 0 10 76 else in_no) else
 (if pc = 76 then in_ild 3 77 else in_no))) else
 (if pc < 79 then
 (if pc < 78 then
 (if pc = 77 then in_iaw YX 78 else in_no) else
 (if pc = 78 then in_ald 0 79 else in_no)) else
 (if pc < 82 then
 (if pc = 79 then in_get YX 0 14 82 else in_no) else
 (if pc = 82 then in_ald 0 83 else in_no))))) else
 (if pc < 95 then
 (if pc < 89 then
 (if pc < 86 then
 (if pc = 83 then in_get YX 0 10 86 else in_no) else
 (if pc < 88 then
 (if pc = 86 then in_ild 4 88 else in_no) else
 (if pc = 88 then in_iaw YX 89 else in_no))) else
 (if pc < 91 then
 (if pc < 90 then
 (if pc = 89 then in_ald 0 90 else in_no) else
 (if pc = 90 then in_dup 91 else in_no)) else
 (if pc < 94 then
 (if pc = 91 then in_get YX 0 10 94 else in_no) else
 (if pc = 94 then in_push (.int 1) 95 else in_no)))) else
 (if pc < 101 then
 (if pc < 99 then
 (if pc < 96 then
 (if pc = 95 then in_iii (fun x y => x + y) 96 else in_no) else
 (if pc = 96 then in_put YX 0 10 99 else in_no)) else
 (if pc < 100 then
 (if pc = 99 then in_ald 0 100 else in_no) else
 (if pc = 100 then in_push (.int 0) 101 else in_no))) else
 (if pc < 105 then
 (if pc < 104 then
 (if pc = 101 then in_puz YX 0 15 104 else in_no) else
 (if pc = 104 then in_ald 0 105 else in_no)) else
 (if pc < 108 then
 (if pc = 105 then in_get YX 0 10 108 else in_no) else
 (if pc = 108 then in_ri else in_no)))))))
theorem tk_X0_slip {l : Launch} {w : ma_Wd} {NC : Nat} {A : Nat → Prop} {S_X0_isPlace S_X0_isIn : ma_Cs} (h_X0_isPlace : ma_Sd l w YX NC A yX0_isPlace cX0_isPlace 4 (some .boolean) rm_X0_isPlace S_X0_isPlace) (h_X0_isIn : ma_Sd l w YX NC A yX0_isIn cX0_isIn 6 (some .boolean) rm_X0_isIn S_X0_isIn) {p : Program} {e : Env} {s : State} {m : MethodId} {args : Array Value} {below : List Frame} {meth : Method} {c : Code} (X : ma_Cx p s m args meth c w YX NC A yX0_slip.cls cX0_slip 5 (some .int)) : ∀ pc, ma_Ok p l e rm_X0_slip s m args below meth c w YX NC A 5 pc (tb_X0_slip S_X0_isPlace S_X0_isIn pc) := fun pc =>
 (mk_lt
 (mk_lt
 (mk_lt
 (mk_lt
 (mk_lt
 (mk_eq (mk_aload_n X dX0_slip_0 rfl rfl))
 (mk_lt
 (mk_eq (mk_iload_n X dX0_slip_1 rfl rfl))
 (mk_eq (mk_iload_n X dX0_slip_2 rfl rfl))))
 (mk_lt
 (mk_lt
 (mk_eq (mk_iload_n X dX0_slip_3 rfl rfl))
 (mk_eq (mk_V4 X h_X0_isPlace (ci := 0) rfl (lw_V q472 q474 qs12 q61 q475) ⟨rfl, by decide, by decide, rfl⟩ ⟨(Nat.le_of_ble_eq_true rfl), (Nat.le_of_ble_eq_true rfl)⟩ dX0_slip_4 rfl)))
 (mk_lt
 (mk_eq (mk_ifeq X dX0_slip_7 rfl rfl))
 (mk_eq (mk_iload_n X dX0_slip_10 rfl rfl)))))
 (mk_lt
 (mk_lt
 (mk_lt
 (mk_eq (mk_ifeq X dX0_slip_11 rfl rfl))
 (mk_eq (mk_iload X dX0_slip_14 rfl)))
 (mk_lt
 (mk_eq (mk_ifeq X dX0_slip_16 rfl rfl))
 (mk_eq (mk_iload X dX0_slip_19 rfl))))
 (mk_lt
 (mk_lt
 (mk_eq (mk_i2l X dX0_slip_21 rfl))
 (mk_eq (mk_ldc2 X dX0_slip_22 q375 rfl)))
 (mk_lt
 (mk_eq (mk_ldc2 X dX0_slip_25 q376 rfl))
 (mk_eq (mk_S3 X h_X0_isIn (lw_S q355 q356 q61 q357) ⟨by decide, by decide, rfl⟩ ⟨(Nat.le_of_ble_eq_true rfl), (Nat.le_of_ble_eq_true rfl)⟩ dX0_slip_28 rfl))))))
 (mk_lt
 (mk_lt
 (mk_lt
 (mk_eq (mk_ifne X dX0_slip_31 rfl rfl))
 (mk_lt
 (mk_eq (mk_iconst X dX0_slip_34 rfl rfl))
 (mk_eq (mk_ri X dX0_slip_35))))
 (mk_lt
 (mk_lt
 (mk_eq (mk_aload_n X dX0_slip_36 rfl rfl))
 (mk_eq (mk_get X (ci := 0) (j := 10) rfl in_X0 (Nat.le_of_ble_eq_true rfl) q246 dX0_slip_37 rfl)))
 (mk_lt
 (mk_eq (mk_bipush X dX0_slip_40 rfl rfl))
 (mk_eq (mk_icne X dX0_slip_42 rfl rfl)))))
 (mk_lt
 (mk_lt
 (mk_lt
 (mk_eq (mk_bipush X dX0_slip_45 rfl rfl))
 (mk_eq (mk_ri X dX0_slip_47)))
 (mk_lt
 (mk_eq (mk_aload_n X dX0_slip_48 rfl rfl))
 (mk_eq (mk_get X (ci := 0) (j := 11) rfl in_X0 (Nat.le_of_ble_eq_true rfl) q249 dX0_slip_49 rfl))))
 (mk_lt
 (mk_lt
 (mk_eq (mk_aload_n X dX0_slip_52 rfl rfl))
 (mk_eq (mk_get X (ci := 0) (j := 10) rfl in_X0 (Nat.le_of_ble_eq_true rfl) q246 dX0_slip_53 rfl)))
 (mk_lt
 (mk_eq (mk_iload_n X dX0_slip_56 rfl rfl))
 (mk_eq (mk_iaw X dX0_slip_57 rfl)))))))
 (mk_lt
 (mk_lt
 (mk_lt
 (mk_lt
 (mk_eq (mk_aload_n X dX0_slip_58 rfl rfl))
 (mk_lt
 (mk_eq (mk_get X (ci := 0) (j := 12) rfl in_X0 (Nat.le_of_ble_eq_true rfl) q252 dX0_slip_59 rfl))
 (mk_eq (mk_aload_n X dX0_slip_62 rfl rfl))))
 (mk_lt
 (mk_lt
 (mk_eq (mk_get X (ci := 0) (j := 10) rfl in_X0 (Nat.le_of_ble_eq_true rfl) q246 dX0_slip_63 rfl))
 (mk_eq (mk_iload_n X dX0_slip_66 rfl rfl)))
 (mk_lt
 (mk_eq (mk_iaw X dX0_slip_67 rfl))
 (mk_eq (mk_aload_n X dX0_slip_68 rfl rfl)))))
 (mk_lt
 (mk_lt
 (mk_lt
 (mk_eq (mk_get X (ci := 0) (j := 13) rfl in_X0 (Nat.le_of_ble_eq_true rfl) q255 dX0_slip_69 rfl))
 (mk_eq (mk_aload_n X dX0_slip_72 rfl rfl)))
 (mk_lt
 (mk_eq (mk_get X (ci := 0) (j := 10) rfl in_X0 (Nat.le_of_ble_eq_true rfl) q246 dX0_slip_73 rfl))
 (mk_eq (mk_iload_n X dX0_slip_76 rfl rfl))))
 (mk_lt
 (mk_lt
 (mk_eq (mk_iaw X dX0_slip_77 rfl))
 (mk_eq (mk_aload_n X dX0_slip_78 rfl rfl)))
 (mk_lt
 (mk_eq (mk_get X (ci := 0) (j := 14) rfl in_X0 (Nat.le_of_ble_eq_true rfl) q258 dX0_slip_79 rfl))
 (mk_eq (mk_aload_n X dX0_slip_82 rfl rfl))))))
 (mk_lt
 (mk_lt
 (mk_lt
 (mk_eq (mk_get X (ci := 0) (j := 10) rfl in_X0 (Nat.le_of_ble_eq_true rfl) q246 dX0_slip_83 rfl))
 (mk_lt
 (mk_eq (mk_iload X dX0_slip_86 rfl))
 (mk_eq (mk_iaw X dX0_slip_88 rfl))))
 (mk_lt
 (mk_lt
 (mk_eq (mk_aload_n X dX0_slip_89 rfl rfl))
 (mk_eq (mk_dup X dX0_slip_90 rfl)))
 (mk_lt
 (mk_eq (mk_get X (ci := 0) (j := 10) rfl in_X0 (Nat.le_of_ble_eq_true rfl) q246 dX0_slip_91 rfl))
 (mk_eq (mk_iconst X dX0_slip_94 rfl rfl)))))
 (mk_lt
 (mk_lt
 (mk_lt
 (mk_eq (mk_iadd X dX0_slip_95 rfl))
 (mk_eq (mk_put X (ci := 0) (j := 10) rfl in_X0 tyX0_ok nmX0 (Nat.le_of_ble_eq_true rfl) rfl rfl q246 dX0_slip_96 rfl)))
 (mk_lt
 (mk_eq (mk_aload_n X dX0_slip_99 rfl rfl))
 (mk_eq (mk_iconst X dX0_slip_100 rfl rfl))))
 (mk_lt
 (mk_lt
 (mk_eq (mk_puz X (ci := 0) (j := 15) rfl in_X0 tyX0_ok nmX0 (Nat.le_of_ble_eq_true rfl) rfl rfl q261 dX0_slip_101 rfl))
 (mk_eq (mk_aload_n X dX0_slip_104 rfl rfl)))
 (mk_lt
 (mk_eq (mk_get X (ci := 0) (j := 10) rfl in_X0 (Nat.le_of_ble_eq_true rfl) q246 dX0_slip_105 rfl))
 (mk_eq (mk_ri X dX0_slip_108))))))))
theorem sd_X0_slip {l : Launch} {w : ma_Wd} {NC : Nat} {A : Nat → Prop} {S_X0_isPlace S_X0_isIn : ma_Cs} (hw : ma_Wo w YX NC A) (h_X0_isPlace : ma_Sd l w YX NC A yX0_isPlace cX0_isPlace 4 (some .boolean) rm_X0_isPlace S_X0_isPlace) (h_X0_isIn : ma_Sd l w YX NC A yX0_isIn cX0_isIn 6 (some .boolean) rm_X0_isIn S_X0_isIn) : ma_Sd l w YX NC A yX0_slip cX0_slip 5 (some .int) rm_X0_slip (ma_rn (tb_X0_slip S_X0_isPlace S_X0_isIn) 5) := ma_of hw (by decide) ⟨rfl, rfl⟩ (fun X => tk_X0_slip h_X0_isPlace h_X0_isIn X)
theorem dX0_mend_0 : decode cX0_mend 0 = .ok (.aload_n 0, 1) := by decide +kernel
theorem dX0_mend_1 : decode cX0_mend 1 = .ok (.getfield 128, 3) := by decide +kernel
theorem dX0_mend_4 : decode cX0_mend 4 = .ok (.ifCond .ne 6, 3) := by decide +kernel
theorem dX0_mend_7 : decode cX0_mend 7 = .ok (.bipush (-2), 2) := by decide +kernel
theorem dX0_mend_9 : decode cX0_mend 9 = .ok (.ireturn, 1) := by decide +kernel
theorem dX0_mend_10 : decode cX0_mend 10 = .ok (.aload_n 0, 1) := by decide +kernel
theorem dX0_mend_11 : decode cX0_mend 11 = .ok (.dup, 1) := by decide +kernel
theorem dX0_mend_12 : decode cX0_mend 12 = .ok (.getfield 128, 3) := by decide +kernel
theorem dX0_mend_15 : decode cX0_mend 15 = .ok (.iconst 1, 1) := by decide +kernel
theorem dX0_mend_16 : decode cX0_mend 16 = .ok (.isub, 1) := by decide +kernel
theorem dX0_mend_17 : decode cX0_mend 17 = .ok (.putfield 128, 3) := by decide +kernel
theorem dX0_mend_20 : decode cX0_mend 20 = .ok (.aload_n 0, 1) := by decide +kernel
theorem dX0_mend_21 : decode cX0_mend 21 = .ok (.iconst 0, 1) := by decide +kernel
theorem dX0_mend_22 : decode cX0_mend 22 = .ok (.putfield 137, 3) := by decide +kernel
theorem dX0_mend_25 : decode cX0_mend 25 = .ok (.aload_n 0, 1) := by decide +kernel
theorem dX0_mend_26 : decode cX0_mend 26 = .ok (.getfield 128, 3) := by decide +kernel
theorem dX0_mend_29 : decode cX0_mend 29 = .ok (.ireturn, 1) := by decide +kernel
def tb_X0_mend : Nat → ma_In := fun pc =>
 (if pc < 15 then
 (if pc < 9 then
 (if pc < 4 then
 (if pc < 1 then
 (if pc = 0 then in_ald 0 1 else in_no) else
 (if pc = 1 then in_get YX 0 10 4 else in_no)) else
 (if pc < 7 then
 (if pc = 4 then in_if1 (fun x => x = 0) 7 10 else in_no) else
 (if pc = 7 then in_push (.int (-2)) 9 else in_no))) else
 (if pc < 11 then
 (if pc < 10 then
 (if pc = 9 then in_ri else in_no) else
 (if pc = 10 then in_ald 0 11 else in_no)) else
 (if pc < 12 then
 (if pc = 11 then in_dup 12 else in_no) else
 (if pc = 12 then in_get YX 0 10 15 else in_no)))) else
 (if pc < 21 then
 (if pc < 17 then
 (if pc < 16 then
 (if pc = 15 then in_push (.int 1) 16 else in_no) else
 (if pc = 16 then in_iii (fun x y => x - y) 17 else in_no)) else
 (if pc < 20 then
 (if pc = 17 then in_put YX 0 10 20 else in_no) else
 (if pc = 20 then in_ald 0 21 else in_no))) else
 (if pc < 25 then
 (if pc < 22 then
 (if pc = 21 then in_push (.int 0) 22 else in_no) else
 (if pc = 22 then in_puz YX 0 15 25 else in_no)) else
 (if pc < 26 then
 (if pc = 25 then in_ald 0 26 else in_no) else
 (if pc < 29 then
 (if pc = 26 then in_get YX 0 10 29 else in_no) else
 (if pc = 29 then in_ri else in_no))))))
theorem tk_X0_mend {l : Launch} {w : ma_Wd} {NC : Nat} {A : Nat → Prop} {p : Program} {e : Env} {s : State} {m : MethodId} {args : Array Value} {below : List Frame} {meth : Method} {c : Code} (X : ma_Cx p s m args meth c w YX NC A yX0_mend.cls cX0_mend 1 (some .int)) : ∀ pc, ma_Ok p l e rm_X0_mend s m args below meth c w YX NC A 1 pc (tb_X0_mend pc) := fun pc =>
 (mk_lt
 (mk_lt
 (mk_lt
 (mk_lt
 (mk_eq (mk_aload_n X dX0_mend_0 rfl rfl))
 (mk_eq (mk_get X (ci := 0) (j := 10) rfl in_X0 (Nat.le_of_ble_eq_true rfl) q246 dX0_mend_1 rfl)))
 (mk_lt
 (mk_eq (mk_ifne X dX0_mend_4 rfl rfl))
 (mk_eq (mk_bipush X dX0_mend_7 rfl rfl))))
 (mk_lt
 (mk_lt
 (mk_eq (mk_ri X dX0_mend_9))
 (mk_eq (mk_aload_n X dX0_mend_10 rfl rfl)))
 (mk_lt
 (mk_eq (mk_dup X dX0_mend_11 rfl))
 (mk_eq (mk_get X (ci := 0) (j := 10) rfl in_X0 (Nat.le_of_ble_eq_true rfl) q246 dX0_mend_12 rfl)))))
 (mk_lt
 (mk_lt
 (mk_lt
 (mk_eq (mk_iconst X dX0_mend_15 rfl rfl))
 (mk_eq (mk_isub X dX0_mend_16 rfl)))
 (mk_lt
 (mk_eq (mk_put X (ci := 0) (j := 10) rfl in_X0 tyX0_ok nmX0 (Nat.le_of_ble_eq_true rfl) rfl rfl q246 dX0_mend_17 rfl))
 (mk_eq (mk_aload_n X dX0_mend_20 rfl rfl))))
 (mk_lt
 (mk_lt
 (mk_eq (mk_iconst X dX0_mend_21 rfl rfl))
 (mk_eq (mk_puz X (ci := 0) (j := 15) rfl in_X0 tyX0_ok nmX0 (Nat.le_of_ble_eq_true rfl) rfl rfl q261 dX0_mend_22 rfl)))
 (mk_lt
 (mk_eq (mk_aload_n X dX0_mend_25 rfl rfl))
 (mk_lt
 (mk_eq (mk_get X (ci := 0) (j := 10) rfl in_X0 (Nat.le_of_ble_eq_true rfl) q246 dX0_mend_26 rfl))
 (mk_eq (mk_ri X dX0_mend_29)))))))
theorem sd_X0_mend {l : Launch} {w : ma_Wd} {NC : Nat} {A : Nat → Prop} (hw : ma_Wo w YX NC A) : ma_Sd l w YX NC A yX0_mend cX0_mend 1 (some .int) rm_X0_mend (ma_rn (tb_X0_mend) 1) := ma_of hw (by decide) ⟨rfl, rfl⟩ (fun X => tk_X0_mend  X)
theorem dX0_spread_0 : decode cX0_spread 0 = .ok (.iload_n 1, 1) := by decide +kernel
theorem dX0_spread_1 : decode cX0_spread 1 = .ok (.ifCond .lt 27, 3) := by decide +kernel
theorem dX0_spread_4 : decode cX0_spread 4 = .ok (.iload_n 2, 1) := by decide +kernel
theorem dX0_spread_5 : decode cX0_spread 5 = .ok (.i2l, 1) := by decide +kernel
theorem dX0_spread_6 : decode cX0_spread 6 = .ok (.lconst 1, 1) := by decide +kernel
theorem dX0_spread_7 : decode cX0_spread 7 = .ok (.ldc2_w 125, 3) := by decide +kernel
theorem dX0_spread_10 : decode cX0_spread 10 = .ok (.invokestatic 5, 3) := by decide +kernel
theorem dX0_spread_13 : decode cX0_spread 13 = .ok (.ifCond .eq 15, 3) := by decide +kernel
theorem dX0_spread_16 : decode cX0_spread 16 = .ok (.iload_n 3, 1) := by decide +kernel
theorem dX0_spread_17 : decode cX0_spread 17 = .ok (.i2l, 1) := by decide +kernel
theorem dX0_spread_18 : decode cX0_spread 18 = .ok (.lconst 0, 1) := by decide +kernel
theorem dX0_spread_19 : decode cX0_spread 19 = .ok (.ldc2_w 141, 3) := by decide +kernel
theorem dX0_spread_22 : decode cX0_spread 22 = .ok (.invokestatic 5, 3) := by decide +kernel
theorem dX0_spread_25 : decode cX0_spread 25 = .ok (.ifCond .ne 5, 3) := by decide +kernel
theorem dX0_spread_28 : decode cX0_spread 28 = .ok (.iconst (-1), 1) := by decide +kernel
theorem dX0_spread_29 : decode cX0_spread 29 = .ok (.ireturn, 1) := by decide +kernel
theorem dX0_spread_30 : decode cX0_spread 30 = .ok (.iload_n 1, 1) := by decide +kernel
theorem dX0_spread_31 : decode cX0_spread 31 = .ok (.aload_n 0, 1) := by decide +kernel
theorem dX0_spread_32 : decode cX0_spread 32 = .ok (.getfield 128, 3) := by decide +kernel
theorem dX0_spread_35 : decode cX0_spread 35 = .ok (.if_icmp .lt 6, 3) := by decide +kernel
theorem dX0_spread_38 : decode cX0_spread 38 = .ok (.bipush (-2), 2) := by decide +kernel
theorem dX0_spread_40 : decode cX0_spread 40 = .ok (.ireturn, 1) := by decide +kernel
theorem dX0_spread_41 : decode cX0_spread 41 = .ok (.aload_n 0, 1) := by decide +kernel
theorem dX0_spread_42 : decode cX0_spread 42 = .ok (.invokevirtual 211, 3) := by decide +kernel
theorem dX0_spread_45 : decode cX0_spread 45 = .ok (.aload_n 0, 1) := by decide +kernel
theorem dX0_spread_46 : decode cX0_spread 46 = .ok (.getfield 74, 3) := by decide +kernel
theorem dX0_spread_49 : decode cX0_spread 49 = .ok (.invokevirtual 193, 3) := by decide +kernel
theorem dX0_spread_52 : decode cX0_spread 52 = .ok (.aload_n 0, 1) := by decide +kernel
theorem dX0_spread_53 : decode cX0_spread 53 = .ok (.getfield 74, 3) := by decide +kernel
theorem dX0_spread_56 : decode cX0_spread 56 = .ok (.iload_n 2, 1) := by decide +kernel
theorem dX0_spread_57 : decode cX0_spread 57 = .ok (.iload_n 1, 1) := by decide +kernel
theorem dX0_spread_58 : decode cX0_spread 58 = .ok (.invokevirtual 196, 3) := by decide +kernel
theorem dX0_spread_61 : decode cX0_spread 61 = .ok (.iconst 0, 1) := by decide +kernel
theorem dX0_spread_62 : decode cX0_spread 62 = .ok (.istore 4, 2) := by decide +kernel
theorem dX0_spread_64 : decode cX0_spread 64 = .ok (.bipush (-4), 2) := by decide +kernel
theorem dX0_spread_66 : decode cX0_spread 66 = .ok (.istore 5, 2) := by decide +kernel
theorem dX0_spread_68 : decode cX0_spread 68 = .ok (.iconst 1, 1) := by decide +kernel
theorem dX0_spread_69 : decode cX0_spread 69 = .ok (.istore 6, 2) := by decide +kernel
theorem dX0_spread_71 : decode cX0_spread 71 = .ok (.iload 6, 2) := by decide +kernel
theorem dX0_spread_73 : decode cX0_spread 73 = .ok (.iload_n 2, 1) := by decide +kernel
theorem dX0_spread_74 : decode cX0_spread 74 = .ok (.if_icmp .gt 107, 3) := by decide +kernel
theorem dX0_spread_77 : decode cX0_spread 77 = .ok (.iconst 0, 1) := by decide +kernel
theorem dX0_spread_78 : decode cX0_spread 78 = .ok (.istore 7, 2) := by decide +kernel
theorem dX0_spread_80 : decode cX0_spread 80 = .ok (.iload 7, 2) := by decide +kernel
theorem dX0_spread_82 : decode cX0_spread 82 = .ok (.aload_n 0, 1) := by decide +kernel
theorem dX0_spread_83 : decode cX0_spread 83 = .ok (.invokevirtual 121, 3) := by decide +kernel
theorem dX0_spread_86 : decode cX0_spread 86 = .ok (.if_icmp .ge 89, 3) := by decide +kernel
theorem dX0_spread_89 : decode cX0_spread 89 = .ok (.iconst 0, 1) := by decide +kernel
theorem dX0_spread_90 : decode cX0_spread 90 = .ok (.istore 8, 2) := by decide +kernel
theorem dX0_spread_92 : decode cX0_spread 92 = .ok (.iload 8, 2) := by decide +kernel
theorem dX0_spread_94 : decode cX0_spread 94 = .ok (.iconst 4, 1) := by decide +kernel
theorem dX0_spread_95 : decode cX0_spread 95 = .ok (.if_icmp .ge 74, 3) := by decide +kernel
theorem dX0_spread_98 : decode cX0_spread 98 = .ok (.aload_n 0, 1) := by decide +kernel
theorem dX0_spread_99 : decode cX0_spread 99 = .ok (.getfield 71, 3) := by decide +kernel
theorem dX0_spread_102 : decode cX0_spread 102 = .ok (.iload 6, 2) := by decide +kernel
theorem dX0_spread_104 : decode cX0_spread 104 = .ok (.iload 7, 2) := by decide +kernel
theorem dX0_spread_106 : decode cX0_spread 106 = .ok (.iload 8, 2) := by decide +kernel
theorem dX0_spread_108 : decode cX0_spread 108 = .ok (.invokevirtual 214, 3) := by decide +kernel
theorem dX0_spread_111 : decode cX0_spread 111 = .ok (.aload_n 0, 1) := by decide +kernel
theorem dX0_spread_112 : decode cX0_spread 112 = .ok (.getfield 74, 3) := by decide +kernel
theorem dX0_spread_115 : decode cX0_spread 115 = .ok (.iload 6, 2) := by decide +kernel
theorem dX0_spread_117 : decode cX0_spread 117 = .ok (.iload 7, 2) := by decide +kernel
theorem dX0_spread_119 : decode cX0_spread 119 = .ok (.iload 8, 2) := by decide +kernel
theorem dX0_spread_121 : decode cX0_spread 121 = .ok (.invokevirtual 214, 3) := by decide +kernel
theorem dX0_spread_124 : decode cX0_spread 124 = .ok (.if_icmp .eq 7, 3) := by decide +kernel
theorem dX0_spread_127 : decode cX0_spread 127 = .ok (.iconst 1, 1) := by decide +kernel
theorem dX0_spread_128 : decode cX0_spread 128 = .ok (.goto 4, 3) := by decide +kernel
theorem dX0_spread_131 : decode cX0_spread 131 = .ok (.iconst 0, 1) := by decide +kernel
theorem dX0_spread_132 : decode cX0_spread 132 = .ok (.istore 9, 2) := by decide +kernel
theorem dX0_spread_134 : decode cX0_spread 134 = .ok (.iload 4, 2) := by decide +kernel
theorem dX0_spread_136 : decode cX0_spread 136 = .ok (.iload 9, 2) := by decide +kernel
theorem dX0_spread_138 : decode cX0_spread 138 = .ok (.ifCond .eq 7, 3) := by decide +kernel
theorem dX0_spread_141 : decode cX0_spread 141 = .ok (.iconst 1, 1) := by decide +kernel
theorem dX0_spread_142 : decode cX0_spread 142 = .ok (.goto 4, 3) := by decide +kernel
theorem dX0_spread_145 : decode cX0_spread 145 = .ok (.iconst 0, 1) := by decide +kernel
theorem dX0_spread_146 : decode cX0_spread 146 = .ok (.iadd, 1) := by decide +kernel
theorem dX0_spread_147 : decode cX0_spread 147 = .ok (.istore 4, 2) := by decide +kernel
theorem dX0_spread_149 : decode cX0_spread 149 = .ok (.iload 9, 2) := by decide +kernel
theorem dX0_spread_151 : decode cX0_spread 151 = .ok (.ifCond .eq 8, 3) := by decide +kernel
theorem dX0_spread_154 : decode cX0_spread 154 = .ok (.iload 6, 2) := by decide +kernel
theorem dX0_spread_156 : decode cX0_spread 156 = .ok (.goto 5, 3) := by decide +kernel
theorem dX0_spread_159 : decode cX0_spread 159 = .ok (.iload 5, 2) := by decide +kernel
theorem dX0_spread_161 : decode cX0_spread 161 = .ok (.istore 5, 2) := by decide +kernel
theorem dX0_spread_163 : decode cX0_spread 163 = .ok (.iinc 8 1, 3) := by decide +kernel
theorem dX0_spread_166 : decode cX0_spread 166 = .ok (.goto (-74), 3) := by decide +kernel
theorem dX0_spread_169 : decode cX0_spread 169 = .ok (.iinc 7 1, 3) := by decide +kernel
theorem dX0_spread_172 : decode cX0_spread 172 = .ok (.goto (-92), 3) := by decide +kernel
theorem dX0_spread_175 : decode cX0_spread 175 = .ok (.iinc 6 1, 3) := by decide +kernel
theorem dX0_spread_178 : decode cX0_spread 178 = .ok (.goto (-107), 3) := by decide +kernel
theorem dX0_spread_181 : decode cX0_spread 181 = .ok (.iload_n 3, 1) := by decide +kernel
theorem dX0_spread_182 : decode cX0_spread 182 = .ok (.ifCond .ne 8, 3) := by decide +kernel
theorem dX0_spread_185 : decode cX0_spread 185 = .ok (.iload 4, 2) := by decide +kernel
theorem dX0_spread_187 : decode cX0_spread 187 = .ok (.goto 24, 3) := by decide +kernel
theorem dX0_spread_190 : decode cX0_spread 190 = .ok (.iload_n 3, 1) := by decide +kernel
theorem dX0_spread_191 : decode cX0_spread 191 = .ok (.iconst 1, 1) := by decide +kernel
theorem dX0_spread_192 : decode cX0_spread 192 = .ok (.if_icmp .ne 8, 3) := by decide +kernel
theorem dX0_spread_195 : decode cX0_spread 195 = .ok (.iload 5, 2) := by decide +kernel
theorem dX0_spread_197 : decode cX0_spread 197 = .ok (.goto 14, 3) := by decide +kernel
theorem dX0_spread_200 : decode cX0_spread 200 = .ok (.iload 5, 2) := by decide +kernel
theorem dX0_spread_202 : decode cX0_spread 202 = .ok (.iload_n 2, 1) := by decide +kernel
theorem dX0_spread_203 : decode cX0_spread 203 = .ok (.if_icmp .ne 7, 3) := by decide +kernel
theorem dX0_spread_206 : decode cX0_spread 206 = .ok (.iconst 0, 1) := by decide +kernel
theorem dX0_spread_207 : decode cX0_spread 207 = .ok (.goto 4, 3) := by decide +kernel
theorem dX0_spread_210 : decode cX0_spread 210 = .ok (.iconst 1, 1) := by decide +kernel
theorem dX0_spread_211 : decode cX0_spread 211 = .ok (.ireturn, 1) := by decide +kernel
def tb_X0_spread (S_X0_isIn S_X0_refresh S_X3_begin S_X3_run S_X0_cells S_X3_at : ma_Cs) : Nat → ma_In := fun pc =>
 (if pc < 98 then
 (if pc < 49 then
 (if pc < 25 then
 (if pc < 10 then
 (if pc < 5 then
 (if pc < 1 then
 (if pc = 0 then in_ild 1 1 else in_no) else
 (if pc < 4 then
 (if pc = 1 then in_if1 (fun x => x < 0) 28 4 else in_no) else
 (if pc = 4 then in_ild 2 5 else in_no))) else
 (if pc < 6 then
 (if pc = 5 then in_il (fun x => x.toInt64) 6 else in_no) else
 (if pc < 7 then
 (if pc = 6 then in_push (.long 1) 7 else in_no) else
 (if pc = 7 then in_push (.long 12) 10 else in_no)))) else
 (if pc < 17 then
 (if pc < 13 then
 (if pc = 10 then in_s3 S_X0_isIn 13 else in_no) else
 (if pc < 16 then
 (if pc = 13 then in_if1 (fun x => x = 0) 28 16 else in_no) else
 (if pc = 16 then in_ild 3 17 else in_no))) else
 (if pc < 19 then
 (if pc < 18 then
 (if pc = 17 then in_il (fun x => x.toInt64) 18 else in_no) else
 (if pc = 18 then in_push (.long 0) 19 else in_no)) else
 (if pc < 22 then
 (if pc = 19 then in_push (.long 2) 22 else in_no) else
 (if pc = 22 then in_s3 S_X0_isIn 25 else in_no))))) else
 (if pc < 35 then
 (if pc < 30 then
 (if pc < 28 then
 (if pc = 25 then in_if1 (fun x => x = 0) 28 30 else in_no) else
 (if pc < 29 then
 (if pc = 28 then in_push (.int (-1)) 29 else in_no) else
 (if pc = 29 then in_ri else in_no))) else
 (if pc < 31 then
 (if pc = 30 then in_ild 1 31 else in_no) else
 (if pc < 32 then
 (if pc = 31 then in_ald 0 32 else in_no) else
 (if pc = 32 then in_get YX 0 10 35 else in_no)))) else
 (if pc < 41 then
 (if pc < 38 then
 (if pc = 35 then in_if2 (fun x y => x < y) 41 38 else in_no) else
 (if pc < 40 then
 (if pc = 38 then in_push (.int (-2)) 40 else in_no) else
 (if pc = 40 then in_ri else in_no))) else
 (if pc < 45 then
 (if pc < 42 then
 (if pc = 41 then in_ald 0 42 else in_no) else
 (if pc = 42 then in_v1 YX 0 S_X0_refresh 45 else in_no)) else
 (if pc < 46 then
 (if pc = 45 then in_ald 0 46 else in_no) else
 (if pc = 46 then in_get YX 0 18 49 else in_no)))))) else
 (if pc < 73 then
 (if pc < 61 then
 (if pc < 56 then
 (if pc < 52 then
 (if pc = 49 then in_v1 YX 3 S_X3_begin 52 else in_no) else
 (if pc < 53 then
 (if pc = 52 then in_ald 0 53 else in_no) else
 (if pc = 53 then in_get YX 0 18 56 else in_no))) else
 (if pc < 57 then
 (if pc = 56 then in_ild 2 57 else in_no) else
 (if pc < 58 then
 (if pc = 57 then in_ild 1 58 else in_no) else
 (if pc = 58 then in_v3 YX 3 S_X3_run 61 else in_no)))) else
 (if pc < 66 then
 (if pc < 62 then
 (if pc = 61 then in_push (.int 0) 62 else in_no) else
 (if pc < 64 then
 (if pc = 62 then in_ist 4 64 else in_no) else
 (if pc = 64 then in_push (.int (-4)) 66 else in_no))) else
 (if pc < 69 then
 (if pc < 68 then
 (if pc = 66 then in_ist 5 68 else in_no) else
 (if pc = 68 then in_push (.int 1) 69 else in_no)) else
 (if pc < 71 then
 (if pc = 69 then in_ist 6 71 else in_no) else
 (if pc = 71 then in_ild 6 73 else in_no))))) else
 (if pc < 83 then
 (if pc < 78 then
 (if pc < 74 then
 (if pc = 73 then in_ild 2 74 else in_no) else
 (if pc < 77 then
 (if pc = 74 then in_if2 (fun x y => y < x) 181 77 else in_no) else
 (if pc = 77 then in_push (.int 0) 78 else in_no))) else
 (if pc < 80 then
 (if pc = 78 then in_ist 7 80 else in_no) else
 (if pc < 82 then
 (if pc = 80 then in_ild 7 82 else in_no) else
 (if pc = 82 then in_ald 0 83 else in_no)))) else
 (if pc < 90 then
 (if pc < 86 then
 (if pc = 83 then in_v1 YX 0 S_X0_cells 86 else in_no) else
 (if pc < 89 then
 (if pc = 86 then in_if2 (fun x y => y ≤ x) 175 89 else in_no) else
 (if pc = 89 then in_push (.int 0) 90 else in_no))) else
 (if pc < 94 then
 (if pc < 92 then
 (if pc = 90 then in_ist 8 92 else in_no) else
 (if pc = 92 then in_ild 8 94 else in_no)) else
 (if pc < 95 then
 (if pc = 94 then in_push (.int 4) 95 else in_no) else
 (if pc = 95 then in_if2 (fun x y => y ≤ x) 169 98 else in_no))))))) else
 (if pc < 151 then
 (if pc < 127 then
 (if pc < 111 then
 (if pc < 104 then
 (if pc < 99 then
 (if pc = 98 then in_ald 0 99 else in_no) else
 (if pc < 102 then
 (if pc = 99 then in_get YX 0 17 102 else in_no) else
 (if pc = 102 then in_ild 6 104 else in_no))) else
 (if pc < 106 then
 (if pc = 104 then in_ild 7 106 else in_no) else
 (if pc < 108 then
 (if pc = 106 then in_ild 8 108 else in_no) else
 (if pc = 108 then in_v4 YX 3 S_X3_at 111 else in_no)))) else
 (if pc < 117 then
 (if pc < 112 then
 (if pc = 111 then in_ald 0 112 else in_no) else
 (if pc < 115 then
 (if pc = 112 then in_get YX 0 18 115 else in_no) else
 (if pc = 115 then in_ild 6 117 else in_no))) else
 (if pc < 121 then
 (if pc < 119 then
 (if pc = 117 then in_ild 7 119 else in_no) else
 (if pc = 119 then in_ild 8 121 else in_no)) else
 (if pc < 124 then
 (if pc = 121 then in_v4 YX 3 S_X3_at 124 else in_no) else
 (if pc = 124 then in_if2 (fun x y => x = y) 131 127 else in_no))))) else
 (if pc < 138 then
 (if pc < 132 then
 (if pc < 128 then
 (if pc = 127 then in_push (.int 1) 128 else in_no) else
 (if pc < 131 then
 (if pc = 128 then in_go 132 else in_no) else
 (if pc = 131 then in_push (.int 0) 132 else in_no))) else
 (if pc < 134 then
 (if pc = 132 then in_ist 9 134 else in_no) else
 (if pc < 136 then
 (if pc = 134 then in_ild 4 136 else in_no) else
 (if pc = 136 then in_ild 9 138 else in_no)))) else
 (if pc < 145 then
 (if pc < 141 then
 (if pc = 138 then in_if1 (fun x => x = 0) 145 141 else in_no) else
 (if pc < 142 then
 (if pc = 141 then in_push (.int 1) 142 else in_no) else
 (if pc = 142 then in_go 146 else in_no))) else
 (if pc < 147 then
 (if pc < 146 then
 (if pc = 145 then in_push (.int 0) 146 else in_no) else
 (if pc = 146 then in_iii (fun x y => x + y) 147 else in_no)) else
 (if pc < 149 then
 (if pc = 147 then in_ist 4 149 else in_no) else
 (if pc = 149 then in_ild 9 151 else in_no)))))) else
 (if pc < 185 then
 (if pc < 166 then
 (if pc < 159 then
 (if pc < 154 then
 (if pc = 151 then in_if1 (fun x => x = 0) 159 154 else in_no) else
 (if pc < 156 then
 (if pc = 154 then in_ild 6 156 else in_no) else
 (if pc = 156 then in_go 161 else in_no))) else
 (if pc < 161 then
 (if pc = 159 then in_ild 5 161 else in_no) else
 (if pc < 163 then
 (if pc = 161 then in_ist 5 163 else in_no) else
 (if pc = 163 then in_inc 8 1 166 else in_no)))) else
 (if pc < 175 then
 (if pc < 169 then
 (if pc = 166 then in_go 92 else in_no) else
 (if pc < 172 then
 (if pc = 169 then in_inc 7 1 172 else in_no) else
 (if pc = 172 then in_go 80 else in_no))) else
 (if pc < 181 then
 (if pc < 178 then
 (if pc = 175 then in_inc 6 1 178 else in_no) else
 (if pc = 178 then in_go 71 else in_no)) else
 (if pc < 182 then
 (if pc = 181 then in_ild 3 182 else in_no) else
 (if pc = 182 then in_if1 (fun x => x = 0) 185 190 else in_no))))) else
 (if pc < 200 then
 (if pc < 191 then
 (if pc < 187 then
 (if pc = 185 then in_ild 4 187 else in_no) else
 (if pc < 190 then
 (if pc = 187 then in_go 211 else in_no) else
 (if pc = 190 then in_ild 3 191 else in_no))) else
 (if pc < 195 then
 (if pc < 192 then
 (if pc = 191 then in_push (.int 1) 192 else in_no) else
 (if pc = 192 then in_if2 (fun x y => x = y) 195 200 else in_no)) else
 (if pc < 197 then
 (if pc = 195 then in_ild 5 197 else in_no) else
 (if pc = 197 then in_go 211 else in_no)))) else
 (if pc < 206 then
 (if pc < 202 then
 (if pc = 200 then in_ild 5 202 else in_no) else
 (if pc < 203 then
 (if pc = 202 then in_ild 2 203 else in_no) else
 (if pc = 203 then in_if2 (fun x y => x = y) 206 210 else in_no))) else
 (if pc < 210 then
 (if pc < 207 then
 (if pc = 206 then in_push (.int 0) 207 else in_no) else
 (if pc = 207 then in_go 211 else in_no)) else
 (if pc < 211 then
 (if pc = 210 then in_push (.int 1) 211 else in_no) else
 (if pc = 211 then in_ri else in_no))))))))
theorem tk_X0_spread {l : Launch} {w : ma_Wd} {NC : Nat} {A : Nat → Prop} {S_X0_isIn S_X0_refresh S_X3_begin S_X3_run S_X0_cells S_X3_at : ma_Cs} (h_X0_isIn : ma_Sd l w YX NC A yX0_isIn cX0_isIn 6 (some .boolean) rm_X0_isIn S_X0_isIn) (h_X0_refresh : ma_Sd l w YX NC A yX0_refresh cX0_refresh 1 none rm_X0_refresh S_X0_refresh) (h_X3_begin : ma_Sd l w YX NC A yX3_begin cX3_begin 4 none rm_X3_begin S_X3_begin) (h_X3_run : ma_Sd l w YX NC A yX3_run cX3_run 8 none rm_X3_run S_X3_run) (h_X0_cells : ma_Sd l w YX NC A yX0_cells cX0_cells 1 (some .int) rm_X0_cells S_X0_cells) (h_X3_at : ma_Sd l w YX NC A yX3_at cX3_at 4 (some .int) rm_X3_at S_X3_at) {p : Program} {e : Env} {s : State} {m : MethodId} {args : Array Value} {below : List Frame} {meth : Method} {c : Code} (X : ma_Cx p s m args meth c w YX NC A yX0_spread.cls cX0_spread 10 (some .int)) : ∀ pc, ma_Ok p l e rm_X0_spread s m args below meth c w YX NC A 10 pc (tb_X0_spread S_X0_isIn S_X0_refresh S_X3_begin S_X3_run S_X0_cells S_X3_at pc) := fun pc =>
 (mk_lt
 (mk_lt
 (mk_lt
 (mk_lt
 (mk_lt
 (mk_lt
 (mk_eq (mk_iload_n X dX0_spread_0 rfl rfl))
 (mk_lt
 (mk_eq (mk_iflt X dX0_spread_1 rfl rfl))
 (mk_eq (mk_iload_n X dX0_spread_4 rfl rfl))))
 (mk_lt
 (mk_eq (mk_i2l X dX0_spread_5 rfl))
 (mk_lt
 (mk_eq (mk_lconst X dX0_spread_6 rfl rfl))
 (mk_eq (mk_ldc2 X dX0_spread_7 q479 rfl)))))
 (mk_lt
 (mk_lt
 (mk_eq (mk_S3 X h_X0_isIn (lw_S q355 q356 q61 q357) ⟨by decide, by decide, rfl⟩ ⟨(Nat.le_of_ble_eq_true rfl), (Nat.le_of_ble_eq_true rfl)⟩ dX0_spread_10 rfl))
 (mk_lt
 (mk_eq (mk_ifeq X dX0_spread_13 rfl rfl))
 (mk_eq (mk_iload_n X dX0_spread_16 rfl rfl))))
 (mk_lt
 (mk_lt
 (mk_eq (mk_i2l X dX0_spread_17 rfl))
 (mk_eq (mk_lconst X dX0_spread_18 rfl rfl)))
 (mk_lt
 (mk_eq (mk_ldc2 X dX0_spread_19 q353 rfl))
 (mk_eq (mk_S3 X h_X0_isIn (lw_S q355 q356 q61 q357) ⟨by decide, by decide, rfl⟩ ⟨(Nat.le_of_ble_eq_true rfl), (Nat.le_of_ble_eq_true rfl)⟩ dX0_spread_22 rfl))))))
 (mk_lt
 (mk_lt
 (mk_lt
 (mk_eq (mk_ifne X dX0_spread_25 rfl rfl))
 (mk_lt
 (mk_eq (mk_iconst X dX0_spread_28 rfl rfl))
 (mk_eq (mk_ri X dX0_spread_29))))
 (mk_lt
 (mk_eq (mk_iload_n X dX0_spread_30 rfl rfl))
 (mk_lt
 (mk_eq (mk_aload_n X dX0_spread_31 rfl rfl))
 (mk_eq (mk_get X (ci := 0) (j := 10) rfl in_X0 (Nat.le_of_ble_eq_true rfl) q246 dX0_spread_32 rfl)))))
 (mk_lt
 (mk_lt
 (mk_eq (mk_iclt X dX0_spread_35 rfl rfl))
 (mk_lt
 (mk_eq (mk_bipush X dX0_spread_38 rfl rfl))
 (mk_eq (mk_ri X dX0_spread_40))))
 (mk_lt
 (mk_lt
 (mk_eq (mk_aload_n X dX0_spread_41 rfl rfl))
 (mk_eq (mk_V1 X h_X0_refresh (ci := 0) rfl (lw_V q481 q483 qs13 q61 q484) ⟨rfl, by decide, by decide, rfl⟩ ⟨(Nat.le_of_ble_eq_true rfl), (Nat.le_of_ble_eq_true rfl)⟩ dX0_spread_42 rfl)))
 (mk_lt
 (mk_eq (mk_aload_n X dX0_spread_45 rfl rfl))
 (mk_eq (mk_get X (ci := 0) (j := 18) rfl in_X0 (Nat.le_of_ble_eq_true rfl) q264 dX0_spread_46 rfl)))))))
 (mk_lt
 (mk_lt
 (mk_lt
 (mk_lt
 (mk_eq (mk_V1 X h_X3_begin (ci := 3) rfl (lw_V q485 q486 q487 q64 q488) ⟨rfl, by decide, by decide, rfl⟩ ⟨(Nat.le_of_ble_eq_true rfl), (Nat.le_of_ble_eq_true rfl)⟩ dX0_spread_49 rfl))
 (mk_lt
 (mk_eq (mk_aload_n X dX0_spread_52 rfl rfl))
 (mk_eq (mk_get X (ci := 0) (j := 18) rfl in_X0 (Nat.le_of_ble_eq_true rfl) q264 dX0_spread_53 rfl))))
 (mk_lt
 (mk_eq (mk_iload_n X dX0_spread_56 rfl rfl))
 (mk_lt
 (mk_eq (mk_iload_n X dX0_spread_57 rfl rfl))
 (mk_eq (mk_V3 X h_X3_run (ci := 3) rfl (lw_V q510 q511 q512 q64 q513) ⟨rfl, by decide, by decide, rfl⟩ ⟨(Nat.le_of_ble_eq_true rfl), (Nat.le_of_ble_eq_true rfl)⟩ dX0_spread_58 rfl)))))
 (mk_lt
 (mk_lt
 (mk_eq (mk_iconst X dX0_spread_61 rfl rfl))
 (mk_lt
 (mk_eq (mk_istore X dX0_spread_62 (Nat.le_of_ble_eq_true rfl) rfl))
 (mk_eq (mk_bipush X dX0_spread_64 rfl rfl))))
 (mk_lt
 (mk_lt
 (mk_eq (mk_istore X dX0_spread_66 (Nat.le_of_ble_eq_true rfl) rfl))
 (mk_eq (mk_iconst X dX0_spread_68 rfl rfl)))
 (mk_lt
 (mk_eq (mk_istore X dX0_spread_69 (Nat.le_of_ble_eq_true rfl) rfl))
 (mk_eq (mk_iload X dX0_spread_71 rfl))))))
 (mk_lt
 (mk_lt
 (mk_lt
 (mk_eq (mk_iload_n X dX0_spread_73 rfl rfl))
 (mk_lt
 (mk_eq (mk_icgt X dX0_spread_74 rfl rfl))
 (mk_eq (mk_iconst X dX0_spread_77 rfl rfl))))
 (mk_lt
 (mk_eq (mk_istore X dX0_spread_78 (Nat.le_of_ble_eq_true rfl) rfl))
 (mk_lt
 (mk_eq (mk_iload X dX0_spread_80 rfl))
 (mk_eq (mk_aload_n X dX0_spread_82 rfl rfl)))))
 (mk_lt
 (mk_lt
 (mk_eq (mk_V1 X h_X0_cells (ci := 0) rfl (lw_V q358 q360 qs2 q61 q361) ⟨rfl, by decide, by decide, rfl⟩ ⟨(Nat.le_of_ble_eq_true rfl), (Nat.le_of_ble_eq_true rfl)⟩ dX0_spread_83 rfl))
 (mk_lt
 (mk_eq (mk_icge X dX0_spread_86 rfl rfl))
 (mk_eq (mk_iconst X dX0_spread_89 rfl rfl))))
 (mk_lt
 (mk_lt
 (mk_eq (mk_istore X dX0_spread_90 (Nat.le_of_ble_eq_true rfl) rfl))
 (mk_eq (mk_iload X dX0_spread_92 rfl)))
 (mk_lt
 (mk_eq (mk_iconst X dX0_spread_94 rfl rfl))
 (mk_eq (mk_icge X dX0_spread_95 rfl rfl))))))))
 (mk_lt
 (mk_lt
 (mk_lt
 (mk_lt
 (mk_lt
 (mk_eq (mk_aload_n X dX0_spread_98 rfl rfl))
 (mk_lt
 (mk_eq (mk_get X (ci := 0) (j := 17) rfl in_X0 (Nat.le_of_ble_eq_true rfl) q263 dX0_spread_99 rfl))
 (mk_eq (mk_iload X dX0_spread_102 rfl))))
 (mk_lt
 (mk_eq (mk_iload X dX0_spread_104 rfl))
 (mk_lt
 (mk_eq (mk_iload X dX0_spread_106 rfl))
 (mk_eq (mk_V4 X h_X3_at (ci := 3) rfl (lw_V q553 q516 q517 q64 q518) ⟨rfl, by decide, by decide, rfl⟩ ⟨(Nat.le_of_ble_eq_true rfl), (Nat.le_of_ble_eq_true rfl)⟩ dX0_spread_108 rfl)))))
 (mk_lt
 (mk_lt
 (mk_eq (mk_aload_n X dX0_spread_111 rfl rfl))
 (mk_lt
 (mk_eq (mk_get X (ci := 0) (j := 18) rfl in_X0 (Nat.le_of_ble_eq_true rfl) q264 dX0_spread_112 rfl))
 (mk_eq (mk_iload X dX0_spread_115 rfl))))
 (mk_lt
 (mk_lt
 (mk_eq (mk_iload X dX0_spread_117 rfl))
 (mk_eq (mk_iload X dX0_spread_119 rfl)))
 (mk_lt
 (mk_eq (mk_V4 X h_X3_at (ci := 3) rfl (lw_V q553 q516 q517 q64 q518) ⟨rfl, by decide, by decide, rfl⟩ ⟨(Nat.le_of_ble_eq_true rfl), (Nat.le_of_ble_eq_true rfl)⟩ dX0_spread_121 rfl))
 (mk_eq (mk_iceq X dX0_spread_124 rfl rfl))))))
 (mk_lt
 (mk_lt
 (mk_lt
 (mk_eq (mk_iconst X dX0_spread_127 rfl rfl))
 (mk_lt
 (mk_eq (mk_goto X dX0_spread_128 rfl))
 (mk_eq (mk_iconst X dX0_spread_131 rfl rfl))))
 (mk_lt
 (mk_eq (mk_istore X dX0_spread_132 (Nat.le_of_ble_eq_true rfl) rfl))
 (mk_lt
 (mk_eq (mk_iload X dX0_spread_134 rfl))
 (mk_eq (mk_iload X dX0_spread_136 rfl)))))
 (mk_lt
 (mk_lt
 (mk_eq (mk_ifeq X dX0_spread_138 rfl rfl))
 (mk_lt
 (mk_eq (mk_iconst X dX0_spread_141 rfl rfl))
 (mk_eq (mk_goto X dX0_spread_142 rfl))))
 (mk_lt
 (mk_lt
 (mk_eq (mk_iconst X dX0_spread_145 rfl rfl))
 (mk_eq (mk_iadd X dX0_spread_146 rfl)))
 (mk_lt
 (mk_eq (mk_istore X dX0_spread_147 (Nat.le_of_ble_eq_true rfl) rfl))
 (mk_eq (mk_iload X dX0_spread_149 rfl)))))))
 (mk_lt
 (mk_lt
 (mk_lt
 (mk_lt
 (mk_eq (mk_ifeq X dX0_spread_151 rfl rfl))
 (mk_lt
 (mk_eq (mk_iload X dX0_spread_154 rfl))
 (mk_eq (mk_goto X dX0_spread_156 rfl))))
 (mk_lt
 (mk_eq (mk_iload X dX0_spread_159 rfl))
 (mk_lt
 (mk_eq (mk_istore X dX0_spread_161 (Nat.le_of_ble_eq_true rfl) rfl))
 (mk_eq (mk_iinc X dX0_spread_163 rfl (Nat.le_of_ble_eq_true rfl) rfl)))))
 (mk_lt
 (mk_lt
 (mk_eq (mk_goto X dX0_spread_166 rfl))
 (mk_lt
 (mk_eq (mk_iinc X dX0_spread_169 rfl (Nat.le_of_ble_eq_true rfl) rfl))
 (mk_eq (mk_goto X dX0_spread_172 rfl))))
 (mk_lt
 (mk_lt
 (mk_eq (mk_iinc X dX0_spread_175 rfl (Nat.le_of_ble_eq_true rfl) rfl))
 (mk_eq (mk_goto X dX0_spread_178 rfl)))
 (mk_lt
 (mk_eq (mk_iload_n X dX0_spread_181 rfl rfl))
 (mk_eq (mk_ifne X dX0_spread_182 rfl rfl))))))
 (mk_lt
 (mk_lt
 (mk_lt
 (mk_eq (mk_iload X dX0_spread_185 rfl))
 (mk_lt
 (mk_eq (mk_goto X dX0_spread_187 rfl))
 (mk_eq (mk_iload_n X dX0_spread_190 rfl rfl))))
 (mk_lt
 (mk_lt
 (mk_eq (mk_iconst X dX0_spread_191 rfl rfl))
 (mk_eq (mk_icne X dX0_spread_192 rfl rfl)))
 (mk_lt
 (mk_eq (mk_iload X dX0_spread_195 rfl))
 (mk_eq (mk_goto X dX0_spread_197 rfl)))))
 (mk_lt
 (mk_lt
 (mk_eq (mk_iload X dX0_spread_200 rfl))
 (mk_lt
 (mk_eq (mk_iload_n X dX0_spread_202 rfl rfl))
 (mk_eq (mk_icne X dX0_spread_203 rfl rfl))))
 (mk_lt
 (mk_lt
 (mk_eq (mk_iconst X dX0_spread_206 rfl rfl))
 (mk_eq (mk_goto X dX0_spread_207 rfl)))
 (mk_lt
 (mk_eq (mk_iconst X dX0_spread_210 rfl rfl))
 (mk_eq (mk_ri X dX0_spread_211)))))))))
theorem sd_X0_spread {l : Launch} {w : ma_Wd} {NC : Nat} {A : Nat → Prop} {S_X0_isIn S_X0_refresh S_X3_begin S_X3_run S_X0_cells S_X3_at : ma_Cs} (hw : ma_Wo w YX NC A) (h_X0_isIn : ma_Sd l w YX NC A yX0_isIn cX0_isIn 6 (some .boolean) rm_X0_isIn S_X0_isIn) (h_X0_refresh : ma_Sd l w YX NC A yX0_refresh cX0_refresh 1 none rm_X0_refresh S_X0_refresh) (h_X3_begin : ma_Sd l w YX NC A yX3_begin cX3_begin 4 none rm_X3_begin S_X3_begin) (h_X3_run : ma_Sd l w YX NC A yX3_run cX3_run 8 none rm_X3_run S_X3_run) (h_X0_cells : ma_Sd l w YX NC A yX0_cells cX0_cells 1 (some .int) rm_X0_cells S_X0_cells) (h_X3_at : ma_Sd l w YX NC A yX3_at cX3_at 4 (some .int) rm_X3_at S_X3_at) : ma_Sd l w YX NC A yX0_spread cX0_spread 10 (some .int) rm_X0_spread (ma_rn (tb_X0_spread S_X0_isIn S_X0_refresh S_X3_begin S_X3_run S_X0_cells S_X3_at) 10) := ma_of hw (by decide) ⟨rfl, rfl⟩ (fun X => tk_X0_spread h_X0_isIn h_X0_refresh h_X3_begin h_X3_run h_X0_cells h_X3_at X)
