/-! tables: X0_kept X0_grows X0_tell X0_fails X0_toldMany X0_offOf X0_least X0_isGroup X0_second X0_anew X0_put X0_judge X0_pace X0_isPerson X0_give X0_when -/
set_option maxRecDepth 100000
set_option maxHeartbeats 4000000
theorem dX0_kept_0 : decode cX0_kept 0 = .ok (.iload_n 1, 1) := by decide +kernel
theorem dX0_kept_1 : decode cX0_kept 1 = .ok (.invokestatic 150, 3) := by decide +kernel
theorem dX0_kept_4 : decode cX0_kept 4 = .ok (.ifCond .ne 5, 3) := by decide +kernel
theorem dX0_kept_7 : decode cX0_kept 7 = .ok (.iconst (-1), 1) := by decide +kernel
theorem dX0_kept_8 : decode cX0_kept 8 = .ok (.ireturn, 1) := by decide +kernel
theorem dX0_kept_9 : decode cX0_kept 9 = .ok (.aload_n 0, 1) := by decide +kernel
theorem dX0_kept_10 : decode cX0_kept 10 = .ok (.getfield 35, 3) := by decide +kernel
theorem dX0_kept_13 : decode cX0_kept 13 = .ok (.iload_n 1, 1) := by decide +kernel
theorem dX0_kept_14 : decode cX0_kept 14 = .ok (.invokevirtual 176, 3) := by decide +kernel
theorem dX0_kept_17 : decode cX0_kept 17 = .ok (.istore_n 2, 1) := by decide +kernel
theorem dX0_kept_18 : decode cX0_kept 18 = .ok (.iload_n 2, 1) := by decide +kernel
theorem dX0_kept_19 : decode cX0_kept 19 = .ok (.bipush (-4), 2) := by decide +kernel
theorem dX0_kept_21 : decode cX0_kept 21 = .ok (.if_icmp .ne 5, 3) := by decide +kernel
theorem dX0_kept_24 : decode cX0_kept 24 = .ok (.iconst 1, 1) := by decide +kernel
theorem dX0_kept_25 : decode cX0_kept 25 = .ok (.ireturn, 1) := by decide +kernel
theorem dX0_kept_26 : decode cX0_kept 26 = .ok (.aload_n 0, 1) := by decide +kernel
theorem dX0_kept_27 : decode cX0_kept 27 = .ok (.getfield 147, 3) := by decide +kernel
theorem dX0_kept_30 : decode cX0_kept 30 = .ok (.ifCond .ne 50, 3) := by decide +kernel
theorem dX0_kept_33 : decode cX0_kept 33 = .ok (.aload_n 0, 1) := by decide +kernel
theorem dX0_kept_34 : decode cX0_kept 34 = .ok (.getfield 35, 3) := by decide +kernel
theorem dX0_kept_37 : decode cX0_kept 37 = .ok (.iload_n 2, 1) := by decide +kernel
theorem dX0_kept_38 : decode cX0_kept 38 = .ok (.invokevirtual 190, 3) := by decide +kernel
theorem dX0_kept_41 : decode cX0_kept 41 = .ok (.ifCond .ne 39, 3) := by decide +kernel
theorem dX0_kept_44 : decode cX0_kept 44 = .ok (.aload_n 0, 1) := by decide +kernel
theorem dX0_kept_45 : decode cX0_kept 45 = .ok (.getfield 35, 3) := by decide +kernel
theorem dX0_kept_48 : decode cX0_kept 48 = .ok (.iload_n 2, 1) := by decide +kernel
theorem dX0_kept_49 : decode cX0_kept 49 = .ok (.invokevirtual 231, 3) := by decide +kernel
theorem dX0_kept_52 : decode cX0_kept 52 = .ok (.ifCond .eq 28, 3) := by decide +kernel
theorem dX0_kept_55 : decode cX0_kept 55 = .ok (.aload_n 0, 1) := by decide +kernel
theorem dX0_kept_56 : decode cX0_kept 56 = .ok (.getfield 35, 3) := by decide +kernel
theorem dX0_kept_59 : decode cX0_kept 59 = .ok (.iload_n 2, 1) := by decide +kernel
theorem dX0_kept_60 : decode cX0_kept 60 = .ok (.iconst 0, 1) := by decide +kernel
theorem dX0_kept_61 : decode cX0_kept 61 = .ok (.invokevirtual 234, 3) := by decide +kernel
theorem dX0_kept_64 : decode cX0_kept 64 = .ok (.aload_n 0, 1) := by decide +kernel
theorem dX0_kept_65 : decode cX0_kept 65 = .ok (.getfield 35, 3) := by decide +kernel
theorem dX0_kept_68 : decode cX0_kept 68 = .ok (.getfield 183, 3) := by decide +kernel
theorem dX0_kept_71 : decode cX0_kept 71 = .ok (.iload_n 2, 1) := by decide +kernel
theorem dX0_kept_72 : decode cX0_kept 72 = .ok (.iaload, 1) := by decide +kernel
theorem dX0_kept_73 : decode cX0_kept 73 = .ok (.if_icmp .ne 7, 3) := by decide +kernel
theorem dX0_kept_76 : decode cX0_kept 76 = .ok (.iconst 1, 1) := by decide +kernel
theorem dX0_kept_77 : decode cX0_kept 77 = .ok (.goto 4, 3) := by decide +kernel
theorem dX0_kept_80 : decode cX0_kept 80 = .ok (.iconst 0, 1) := by decide +kernel
theorem dX0_kept_81 : decode cX0_kept 81 = .ok (.istore_n 3, 1) := by decide +kernel
theorem dX0_kept_82 : decode cX0_kept 82 = .ok (.iload_n 3, 1) := by decide +kernel
theorem dX0_kept_83 : decode cX0_kept 83 = .ok (.ifCond .eq 7, 3) := by decide +kernel
theorem dX0_kept_86 : decode cX0_kept 86 = .ok (.iconst 1, 1) := by decide +kernel
theorem dX0_kept_87 : decode cX0_kept 87 = .ok (.goto 4, 3) := by decide +kernel
theorem dX0_kept_90 : decode cX0_kept 90 = .ok (.iconst 0, 1) := by decide +kernel
theorem dX0_kept_91 : decode cX0_kept 91 = .ok (.ireturn, 1) := by decide +kernel
def tb_X0_kept (S_X0_isLetter S_X2_lineOf S_X2_hasProduct S_X2_isOwn S_X2_factors : ma_Cs) : Nat → ma_In := fun pc =>
 (if pc < 45 then
 (if pc < 21 then
 (if pc < 10 then
 (if pc < 7 then
 (if pc < 1 then
 (if pc = 0 then in_ild 1 1 else in_no) else
 (if pc < 4 then
 (if pc = 1 then in_s1 S_X0_isLetter 4 else in_no) else
 (if pc = 4 then in_if1 (fun x => x = 0) 7 9 else in_no))) else
 (if pc < 8 then
 (if pc = 7 then in_push (.int (-1)) 8 else in_no) else
 (if pc < 9 then
 (if pc = 8 then in_ri else in_no) else
 (if pc = 9 then in_ald 0 10 else in_no)))) else
 (if pc < 17 then
 (if pc < 13 then
 (if pc = 10 then in_get YX 0 4 13 else in_no) else
 (if pc < 14 then
 (if pc = 13 then in_ild 1 14 else in_no) else
 (if pc = 14 then in_v2 YX 2 S_X2_lineOf 17 else in_no))) else
 (if pc < 18 then
 (if pc = 17 then in_ist 2 18 else in_no) else
 (if pc < 19 then
 (if pc = 18 then in_ild 2 19 else in_no) else
 (if pc = 19 then in_push (.int (-4)) 21 else in_no))))) else
 (if pc < 33 then
 (if pc < 26 then
 (if pc < 24 then
 (if pc = 21 then in_if2 (fun x y => x = y) 24 26 else in_no) else
 (if pc < 25 then
 (if pc = 24 then in_push (.int 1) 25 else in_no) else
 (if pc = 25 then in_ri else in_no))) else
 (if pc < 27 then
 (if pc = 26 then in_ald 0 27 else in_no) else
 (if pc < 30 then
 (if pc = 27 then in_get YX 0 7 30 else in_no) else
 (if pc = 30 then in_if1 (fun x => x = 0) 33 80 else in_no)))) else
 (if pc < 38 then
 (if pc < 34 then
 (if pc = 33 then in_ald 0 34 else in_no) else
 (if pc < 37 then
 (if pc = 34 then in_get YX 0 4 37 else in_no) else
 (if pc = 37 then in_ild 2 38 else in_no))) else
 (if pc < 41 then
 (if pc = 38 then in_v2 YX 2 S_X2_hasProduct 41 else in_no) else
 (if pc < 44 then
 (if pc = 41 then in_if1 (fun x => x = 0) 44 80 else in_no) else
 (if pc = 44 then in_ald 0 45 else in_no)))))) else
 (if pc < 71 then
 (if pc < 59 then
 (if pc < 52 then
 (if pc < 48 then
 (if pc = 45 then in_get YX 0 4 48 else in_no) else
 (if pc < 49 then
 (if pc = 48 then in_ild 2 49 else in_no) else
 (if pc = 49 then in_v2 YX 2 S_X2_isOwn 52 else in_no))) else
 (if pc < 55 then
 (if pc = 52 then in_if1 (fun x => x = 0) 80 55 else in_no) else
 (if pc < 56 then
 (if pc = 55 then in_ald 0 56 else in_no) else
 (if pc = 56 then in_get YX 0 4 59 else in_no)))) else
 (if pc < 64 then
 (if pc < 60 then
 (if pc = 59 then in_ild 2 60 else in_no) else
 (if pc < 61 then
 (if pc = 60 then in_push (.int 0) 61 else in_no) else
 (if pc = 61 then in_v3 YX 2 S_X2_factors 64 else in_no))) else
 (if pc < 65 then
 (if pc = 64 then in_ald 0 65 else in_no) else
 (if pc < 68 then
 (if pc = 65 then in_get YX 0 4 68 else in_no) else
 (if pc = 68 then in_get YX 2 3 71 else in_no))))) else
 (if pc < 81 then
 (if pc < 76 then
 (if pc < 72 then
 (if pc = 71 then in_ild 2 72 else in_no) else
 (if pc < 73 then
 (if pc = 72 then in_iar YX 73 else in_no) else
 (if pc = 73 then in_if2 (fun x y => x = y) 76 80 else in_no))) else
 (if pc < 77 then
 (if pc = 76 then in_push (.int 1) 77 else in_no) else
 (if pc < 80 then
 (if pc = 77 then in_go 81 else in_no) else
 (if pc = 80 then in_push (.int 0) 81 else in_no)))) else
 (if pc < 86 then
 (if pc < 82 then
 (if pc = 81 then in_ist 3 82 else in_no) else
 (if pc < 83 then
 (if pc = 82 then in_ild 3 83 else in_no) else
 (if pc = 83 then in_if1 (fun x => x = 0) 90 86 else in_no))) else
 (if pc < 90 then
 (if pc < 87 then
 (if pc = 86 then in_push (.int 1) 87 else in_no) else
 (if pc = 87 then in_go 91 else in_no)) else
 (if pc < 91 then
 (if pc = 90 then in_push (.int 0) 91 else in_no) else
 (if pc = 91 then in_ri else in_no)))))))
theorem tk_X0_kept {l : Launch} {w : ma_Wd} {NC : Nat} {A : Nat → Prop} {S_X0_isLetter S_X2_lineOf S_X2_hasProduct S_X2_isOwn S_X2_factors : ma_Cs} (h_X0_isLetter : ma_Sd l w YX NC A yX0_isLetter cX0_isLetter 1 (some .boolean) rm_X0_isLetter S_X0_isLetter) (h_X2_lineOf : ma_Sd l w YX NC A yX2_lineOf cX2_lineOf 3 (some .int) rm_X2_lineOf S_X2_lineOf) (h_X2_hasProduct : ma_Sd l w YX NC A yX2_hasProduct cX2_hasProduct 4 (some .boolean) rm_X2_hasProduct S_X2_hasProduct) (h_X2_isOwn : ma_Sd l w YX NC A yX2_isOwn cX2_isOwn 4 (some .boolean) rm_X2_isOwn S_X2_isOwn) (h_X2_factors : ma_Sd l w YX NC A yX2_factors cX2_factors 5 (some .int) rm_X2_factors S_X2_factors) {p : Program} {e : Env} {s : State} {m : MethodId} {args : Array Value} {below : List Frame} {meth : Method} {c : Code} (X : ma_Cx p s m args meth c w YX NC A yX0_kept.cls cX0_kept 4 (some .int)) : ∀ pc, ma_Ok p l e rm_X0_kept s m args below meth c w YX NC A 4 pc (tb_X0_kept S_X0_isLetter S_X2_lineOf S_X2_hasProduct S_X2_isOwn S_X2_factors pc) := fun pc =>
 (mk_lt
 (mk_lt
 (mk_lt
 (mk_lt
 (mk_lt
 (mk_eq (mk_iload_n X dX0_kept_0 rfl rfl))
 (mk_lt
 (mk_eq (mk_S1 X h_X0_isLetter (lw_S q371 q372 q61 q373) ⟨by decide, by decide, rfl⟩ ⟨(Nat.le_of_ble_eq_true rfl), (Nat.le_of_ble_eq_true rfl)⟩ dX0_kept_1 rfl))
 (mk_eq (mk_ifne X dX0_kept_4 rfl rfl))))
 (mk_lt
 (mk_eq (mk_iconst X dX0_kept_7 rfl rfl))
 (mk_lt
 (mk_eq (mk_ri X dX0_kept_8))
 (mk_eq (mk_aload_n X dX0_kept_9 rfl rfl)))))
 (mk_lt
 (mk_lt
 (mk_eq (mk_get X (ci := 0) (j := 4) rfl in_X0 (Nat.le_of_ble_eq_true rfl) q230 dX0_kept_10 rfl))
 (mk_lt
 (mk_eq (mk_iload_n X dX0_kept_13 rfl rfl))
 (mk_eq (mk_V2 X h_X2_lineOf (ci := 2) rfl (lw_V q455 q405 q406 q63 q407) ⟨rfl, by decide, by decide, rfl⟩ ⟨(Nat.le_of_ble_eq_true rfl), (Nat.le_of_ble_eq_true rfl)⟩ dX0_kept_14 rfl))))
 (mk_lt
 (mk_eq (mk_istore_n X dX0_kept_17 rfl (Nat.le_of_ble_eq_true rfl) rfl))
 (mk_lt
 (mk_eq (mk_iload_n X dX0_kept_18 rfl rfl))
 (mk_eq (mk_bipush X dX0_kept_19 rfl rfl))))))
 (mk_lt
 (mk_lt
 (mk_lt
 (mk_eq (mk_icne X dX0_kept_21 rfl rfl))
 (mk_lt
 (mk_eq (mk_iconst X dX0_kept_24 rfl rfl))
 (mk_eq (mk_ri X dX0_kept_25))))
 (mk_lt
 (mk_eq (mk_aload_n X dX0_kept_26 rfl rfl))
 (mk_lt
 (mk_eq (mk_get X (ci := 0) (j := 7) rfl in_X0 (Nat.le_of_ble_eq_true rfl) q238 dX0_kept_27 rfl))
 (mk_eq (mk_ifne X dX0_kept_30 rfl rfl)))))
 (mk_lt
 (mk_lt
 (mk_eq (mk_aload_n X dX0_kept_33 rfl rfl))
 (mk_lt
 (mk_eq (mk_get X (ci := 0) (j := 4) rfl in_X0 (Nat.le_of_ble_eq_true rfl) q230 dX0_kept_34 rfl))
 (mk_eq (mk_iload_n X dX0_kept_37 rfl rfl))))
 (mk_lt
 (mk_eq (mk_V2 X h_X2_hasProduct (ci := 2) rfl (lw_V q456 q457 q458 q63 q459) ⟨rfl, by decide, by decide, rfl⟩ ⟨(Nat.le_of_ble_eq_true rfl), (Nat.le_of_ble_eq_true rfl)⟩ dX0_kept_38 rfl))
 (mk_lt
 (mk_eq (mk_ifne X dX0_kept_41 rfl rfl))
 (mk_eq (mk_aload_n X dX0_kept_44 rfl rfl)))))))
 (mk_lt
 (mk_lt
 (mk_lt
 (mk_lt
 (mk_eq (mk_get X (ci := 0) (j := 4) rfl in_X0 (Nat.le_of_ble_eq_true rfl) q230 dX0_kept_45 rfl))
 (mk_lt
 (mk_eq (mk_iload_n X dX0_kept_48 rfl rfl))
 (mk_eq (mk_V2 X h_X2_isOwn (ci := 2) rfl (lw_V q584 q585 q586 q63 q587) ⟨rfl, by decide, by decide, rfl⟩ ⟨(Nat.le_of_ble_eq_true rfl), (Nat.le_of_ble_eq_true rfl)⟩ dX0_kept_49 rfl))))
 (mk_lt
 (mk_eq (mk_ifeq X dX0_kept_52 rfl rfl))
 (mk_lt
 (mk_eq (mk_aload_n X dX0_kept_55 rfl rfl))
 (mk_eq (mk_get X (ci := 0) (j := 4) rfl in_X0 (Nat.le_of_ble_eq_true rfl) q230 dX0_kept_56 rfl)))))
 (mk_lt
 (mk_lt
 (mk_eq (mk_iload_n X dX0_kept_59 rfl rfl))
 (mk_lt
 (mk_eq (mk_iconst X dX0_kept_60 rfl rfl))
 (mk_eq (mk_V3 X h_X2_factors (ci := 2) rfl (lw_V q588 q589 q590 q63 q591) ⟨rfl, by decide, by decide, rfl⟩ ⟨(Nat.le_of_ble_eq_true rfl), (Nat.le_of_ble_eq_true rfl)⟩ dX0_kept_61 rfl))))
 (mk_lt
 (mk_eq (mk_aload_n X dX0_kept_64 rfl rfl))
 (mk_lt
 (mk_eq (mk_get X (ci := 0) (j := 4) rfl in_X0 (Nat.le_of_ble_eq_true rfl) q230 dX0_kept_65 rfl))
 (mk_eq (mk_getN X (ci := 2) (j := 3) rfl in_X2 (Nat.le_of_ble_eq_true rfl) (List.mem_of_getElem? (i := 2) rfl) dX0_kept_68 rfl))))))
 (mk_lt
 (mk_lt
 (mk_lt
 (mk_eq (mk_iload_n X dX0_kept_71 rfl rfl))
 (mk_lt
 (mk_eq (mk_iar X dX0_kept_72 rfl))
 (mk_eq (mk_icne X dX0_kept_73 rfl rfl))))
 (mk_lt
 (mk_eq (mk_iconst X dX0_kept_76 rfl rfl))
 (mk_lt
 (mk_eq (mk_goto X dX0_kept_77 rfl))
 (mk_eq (mk_iconst X dX0_kept_80 rfl rfl)))))
 (mk_lt
 (mk_lt
 (mk_eq (mk_istore_n X dX0_kept_81 rfl (Nat.le_of_ble_eq_true rfl) rfl))
 (mk_lt
 (mk_eq (mk_iload_n X dX0_kept_82 rfl rfl))
 (mk_eq (mk_ifeq X dX0_kept_83 rfl rfl))))
 (mk_lt
 (mk_lt
 (mk_eq (mk_iconst X dX0_kept_86 rfl rfl))
 (mk_eq (mk_goto X dX0_kept_87 rfl)))
 (mk_lt
 (mk_eq (mk_iconst X dX0_kept_90 rfl rfl))
 (mk_eq (mk_ri X dX0_kept_91))))))))
theorem sd_X0_kept {l : Launch} {w : ma_Wd} {NC : Nat} {A : Nat → Prop} {S_X0_isLetter S_X2_lineOf S_X2_hasProduct S_X2_isOwn S_X2_factors : ma_Cs} (hw : ma_Wo w YX NC A) (h_X0_isLetter : ma_Sd l w YX NC A yX0_isLetter cX0_isLetter 1 (some .boolean) rm_X0_isLetter S_X0_isLetter) (h_X2_lineOf : ma_Sd l w YX NC A yX2_lineOf cX2_lineOf 3 (some .int) rm_X2_lineOf S_X2_lineOf) (h_X2_hasProduct : ma_Sd l w YX NC A yX2_hasProduct cX2_hasProduct 4 (some .boolean) rm_X2_hasProduct S_X2_hasProduct) (h_X2_isOwn : ma_Sd l w YX NC A yX2_isOwn cX2_isOwn 4 (some .boolean) rm_X2_isOwn S_X2_isOwn) (h_X2_factors : ma_Sd l w YX NC A yX2_factors cX2_factors 5 (some .int) rm_X2_factors S_X2_factors) : ma_Sd l w YX NC A yX0_kept cX0_kept 4 (some .int) rm_X0_kept (ma_rn (tb_X0_kept S_X0_isLetter S_X2_lineOf S_X2_hasProduct S_X2_isOwn S_X2_factors) 4) := ma_of hw (by decide) ⟨rfl, rfl⟩ (fun X => tk_X0_kept h_X0_isLetter h_X2_lineOf h_X2_hasProduct h_X2_isOwn h_X2_factors X)
theorem dX0_grows_0 : decode cX0_grows 0 = .ok (.iconst 1, 1) := by decide +kernel
theorem dX0_grows_1 : decode cX0_grows 1 = .ok (.istore_n 1, 1) := by decide +kernel
theorem dX0_grows_2 : decode cX0_grows 2 = .ok (.iconst 0, 1) := by decide +kernel
theorem dX0_grows_3 : decode cX0_grows 3 = .ok (.istore_n 2, 1) := by decide +kernel
theorem dX0_grows_4 : decode cX0_grows 4 = .ok (.iload_n 2, 1) := by decide +kernel
theorem dX0_grows_5 : decode cX0_grows 5 = .ok (.aload_n 0, 1) := by decide +kernel
theorem dX0_grows_6 : decode cX0_grows 6 = .ok (.getfield 35, 3) := by decide +kernel
theorem dX0_grows_9 : decode cX0_grows 9 = .ok (.getfield 171, 3) := by decide +kernel
theorem dX0_grows_12 : decode cX0_grows 12 = .ok (.if_icmp .ge 49, 3) := by decide +kernel
theorem dX0_grows_15 : decode cX0_grows 15 = .ok (.iload_n 1, 1) := by decide +kernel
theorem dX0_grows_16 : decode cX0_grows 16 = .ok (.aload_n 0, 1) := by decide +kernel
theorem dX0_grows_17 : decode cX0_grows 17 = .ok (.getfield 35, 3) := by decide +kernel
theorem dX0_grows_20 : decode cX0_grows 20 = .ok (.iload_n 2, 1) := by decide +kernel
theorem dX0_grows_21 : decode cX0_grows 21 = .ok (.invokevirtual 190, 3) := by decide +kernel
theorem dX0_grows_24 : decode cX0_grows 24 = .ok (.ifCond .ne 28, 3) := by decide +kernel
theorem dX0_grows_27 : decode cX0_grows 27 = .ok (.aload_n 0, 1) := by decide +kernel
theorem dX0_grows_28 : decode cX0_grows 28 = .ok (.getfield 35, 3) := by decide +kernel
theorem dX0_grows_31 : decode cX0_grows 31 = .ok (.iload_n 2, 1) := by decide +kernel
theorem dX0_grows_32 : decode cX0_grows 32 = .ok (.iconst 1, 1) := by decide +kernel
theorem dX0_grows_33 : decode cX0_grows 33 = .ok (.invokevirtual 234, 3) := by decide +kernel
theorem dX0_grows_36 : decode cX0_grows 36 = .ok (.aload_n 0, 1) := by decide +kernel
theorem dX0_grows_37 : decode cX0_grows 37 = .ok (.getfield 35, 3) := by decide +kernel
theorem dX0_grows_40 : decode cX0_grows 40 = .ok (.getfield 183, 3) := by decide +kernel
theorem dX0_grows_43 : decode cX0_grows 43 = .ok (.iload_n 2, 1) := by decide +kernel
theorem dX0_grows_44 : decode cX0_grows 44 = .ok (.iaload, 1) := by decide +kernel
theorem dX0_grows_45 : decode cX0_grows 45 = .ok (.if_icmp .gt 7, 3) := by decide +kernel
theorem dX0_grows_48 : decode cX0_grows 48 = .ok (.iconst 1, 1) := by decide +kernel
theorem dX0_grows_49 : decode cX0_grows 49 = .ok (.goto 4, 3) := by decide +kernel
theorem dX0_grows_52 : decode cX0_grows 52 = .ok (.iconst 0, 1) := by decide +kernel
theorem dX0_grows_53 : decode cX0_grows 53 = .ok (.iand, 1) := by decide +kernel
theorem dX0_grows_54 : decode cX0_grows 54 = .ok (.istore_n 1, 1) := by decide +kernel
theorem dX0_grows_55 : decode cX0_grows 55 = .ok (.iinc 2 1, 3) := by decide +kernel
theorem dX0_grows_58 : decode cX0_grows 58 = .ok (.goto (-54), 3) := by decide +kernel
theorem dX0_grows_61 : decode cX0_grows 61 = .ok (.iload_n 1, 1) := by decide +kernel
theorem dX0_grows_62 : decode cX0_grows 62 = .ok (.ifCond .eq 7, 3) := by decide +kernel
theorem dX0_grows_65 : decode cX0_grows 65 = .ok (.iconst 1, 1) := by decide +kernel
theorem dX0_grows_66 : decode cX0_grows 66 = .ok (.goto 4, 3) := by decide +kernel
theorem dX0_grows_69 : decode cX0_grows 69 = .ok (.iconst 0, 1) := by decide +kernel
theorem dX0_grows_70 : decode cX0_grows 70 = .ok (.ireturn, 1) := by decide +kernel
def tb_X0_grows (S_X2_hasProduct S_X2_factors : ma_Cs) : Nat → ma_In := fun pc =>
 (if pc < 33 then
 (if pc < 15 then
 (if pc < 4 then
 (if pc < 2 then
 (if pc < 1 then
 (if pc = 0 then in_push (.int 1) 1 else in_no) else
 (if pc = 1 then in_ist 1 2 else in_no)) else
 (if pc < 3 then
 (if pc = 2 then in_push (.int 0) 3 else in_no) else
 (if pc = 3 then in_ist 2 4 else in_no))) else
 (if pc < 6 then
 (if pc < 5 then
 (if pc = 4 then in_ild 2 5 else in_no) else
 (if pc = 5 then in_ald 0 6 else in_no)) else
 (if pc < 9 then
 (if pc = 6 then in_get YX 0 4 9 else in_no) else
 (if pc < 12 then
 (if pc = 9 then in_get YX 2 0 12 else in_no) else
 (if pc = 12 then in_if2 (fun x y => y ≤ x) 61 15 else in_no))))) else
 (if pc < 24 then
 (if pc < 17 then
 (if pc < 16 then
 (if pc = 15 then in_ild 1 16 else in_no) else
 (if pc = 16 then in_ald 0 17 else in_no)) else
 (if pc < 20 then
 (if pc = 17 then in_get YX 0 4 20 else in_no) else
 (if pc < 21 then
 (if pc = 20 then in_ild 2 21 else in_no) else
 (if pc = 21 then in_v2 YX 2 S_X2_hasProduct 24 else in_no)))) else
 (if pc < 28 then
 (if pc < 27 then
 (if pc = 24 then in_if1 (fun x => x = 0) 27 52 else in_no) else
 (if pc = 27 then in_ald 0 28 else in_no)) else
 (if pc < 31 then
 (if pc = 28 then in_get YX 0 4 31 else in_no) else
 (if pc < 32 then
 (if pc = 31 then in_ild 2 32 else in_no) else
 (if pc = 32 then in_push (.int 1) 33 else in_no)))))) else
 (if pc < 53 then
 (if pc < 44 then
 (if pc < 37 then
 (if pc < 36 then
 (if pc = 33 then in_v3 YX 2 S_X2_factors 36 else in_no) else
 (if pc = 36 then in_ald 0 37 else in_no)) else
 (if pc < 40 then
 (if pc = 37 then in_get YX 0 4 40 else in_no) else
 (if pc < 43 then
 (if pc = 40 then in_get YX 2 3 43 else in_no) else
 (if pc = 43 then in_ild 2 44 else in_no)))) else
 (if pc < 48 then
 (if pc < 45 then
 (if pc = 44 then in_iar YX 45 else in_no) else
 (if pc = 45 then in_if2 (fun x y => y < x) 52 48 else in_no)) else
 (if pc < 49 then
 (if pc = 48 then in_push (.int 1) 49 else in_no) else
 (if pc < 52 then
 (if pc = 49 then in_go 53 else in_no) else
 (if pc = 52 then in_push (.int 0) 53 else in_no))))) else
 (if pc < 62 then
 (if pc < 55 then
 (if pc < 54 then
 (if pc = 53 then in_iii (fun x y => x &&& y) 54 else in_no) else
 (if pc = 54 then in_ist 1 55 else in_no)) else
 (if pc < 58 then
 (if pc = 55 then in_inc 2 1 58 else in_no) else
 (if pc < 61 then
 (if pc = 58 then in_go 4 else in_no) else
 (if pc = 61 then in_ild 1 62 else in_no)))) else
 (if pc < 66 then
 (if pc < 65 then
 (if pc = 62 then in_if1 (fun x => x = 0) 69 65 else in_no) else
 (if pc = 65 then in_push (.int 1) 66 else in_no)) else
 (if pc < 69 then
 (if pc = 66 then in_go 70 else in_no) else
 (if pc < 70 then
 (if pc = 69 then in_push (.int 0) 70 else in_no) else
 (if pc = 70 then in_ri else in_no)))))))
theorem tk_X0_grows {l : Launch} {w : ma_Wd} {NC : Nat} {A : Nat → Prop} {S_X2_hasProduct S_X2_factors : ma_Cs} (h_X2_hasProduct : ma_Sd l w YX NC A yX2_hasProduct cX2_hasProduct 4 (some .boolean) rm_X2_hasProduct S_X2_hasProduct) (h_X2_factors : ma_Sd l w YX NC A yX2_factors cX2_factors 5 (some .int) rm_X2_factors S_X2_factors) {p : Program} {e : Env} {s : State} {m : MethodId} {args : Array Value} {below : List Frame} {meth : Method} {c : Code} (X : ma_Cx p s m args meth c w YX NC A yX0_grows.cls cX0_grows 3 (some .int)) : ∀ pc, ma_Ok p l e rm_X0_grows s m args below meth c w YX NC A 3 pc (tb_X0_grows S_X2_hasProduct S_X2_factors pc) := fun pc =>
 (mk_lt
 (mk_lt
 (mk_lt
 (mk_lt
 (mk_lt
 (mk_eq (mk_iconst X dX0_grows_0 rfl rfl))
 (mk_eq (mk_istore_n X dX0_grows_1 rfl (Nat.le_of_ble_eq_true rfl) rfl)))
 (mk_lt
 (mk_eq (mk_iconst X dX0_grows_2 rfl rfl))
 (mk_eq (mk_istore_n X dX0_grows_3 rfl (Nat.le_of_ble_eq_true rfl) rfl))))
 (mk_lt
 (mk_lt
 (mk_eq (mk_iload_n X dX0_grows_4 rfl rfl))
 (mk_eq (mk_aload_n X dX0_grows_5 rfl rfl)))
 (mk_lt
 (mk_eq (mk_get X (ci := 0) (j := 4) rfl in_X0 (Nat.le_of_ble_eq_true rfl) q230 dX0_grows_6 rfl))
 (mk_lt
 (mk_eq (mk_getN X (ci := 2) (j := 0) rfl in_X2 (Nat.le_of_ble_eq_true rfl) (List.mem_of_getElem? (i := 0) rfl) dX0_grows_9 rfl))
 (mk_eq (mk_icge X dX0_grows_12 rfl rfl))))))
 (mk_lt
 (mk_lt
 (mk_lt
 (mk_eq (mk_iload_n X dX0_grows_15 rfl rfl))
 (mk_eq (mk_aload_n X dX0_grows_16 rfl rfl)))
 (mk_lt
 (mk_eq (mk_get X (ci := 0) (j := 4) rfl in_X0 (Nat.le_of_ble_eq_true rfl) q230 dX0_grows_17 rfl))
 (mk_lt
 (mk_eq (mk_iload_n X dX0_grows_20 rfl rfl))
 (mk_eq (mk_V2 X h_X2_hasProduct (ci := 2) rfl (lw_V q456 q457 q458 q63 q459) ⟨rfl, by decide, by decide, rfl⟩ ⟨(Nat.le_of_ble_eq_true rfl), (Nat.le_of_ble_eq_true rfl)⟩ dX0_grows_21 rfl)))))
 (mk_lt
 (mk_lt
 (mk_eq (mk_ifne X dX0_grows_24 rfl rfl))
 (mk_eq (mk_aload_n X dX0_grows_27 rfl rfl)))
 (mk_lt
 (mk_eq (mk_get X (ci := 0) (j := 4) rfl in_X0 (Nat.le_of_ble_eq_true rfl) q230 dX0_grows_28 rfl))
 (mk_lt
 (mk_eq (mk_iload_n X dX0_grows_31 rfl rfl))
 (mk_eq (mk_iconst X dX0_grows_32 rfl rfl)))))))
 (mk_lt
 (mk_lt
 (mk_lt
 (mk_lt
 (mk_eq (mk_V3 X h_X2_factors (ci := 2) rfl (lw_V q588 q589 q590 q63 q591) ⟨rfl, by decide, by decide, rfl⟩ ⟨(Nat.le_of_ble_eq_true rfl), (Nat.le_of_ble_eq_true rfl)⟩ dX0_grows_33 rfl))
 (mk_eq (mk_aload_n X dX0_grows_36 rfl rfl)))
 (mk_lt
 (mk_eq (mk_get X (ci := 0) (j := 4) rfl in_X0 (Nat.le_of_ble_eq_true rfl) q230 dX0_grows_37 rfl))
 (mk_lt
 (mk_eq (mk_getN X (ci := 2) (j := 3) rfl in_X2 (Nat.le_of_ble_eq_true rfl) (List.mem_of_getElem? (i := 2) rfl) dX0_grows_40 rfl))
 (mk_eq (mk_iload_n X dX0_grows_43 rfl rfl)))))
 (mk_lt
 (mk_lt
 (mk_eq (mk_iar X dX0_grows_44 rfl))
 (mk_eq (mk_icgt X dX0_grows_45 rfl rfl)))
 (mk_lt
 (mk_eq (mk_iconst X dX0_grows_48 rfl rfl))
 (mk_lt
 (mk_eq (mk_goto X dX0_grows_49 rfl))
 (mk_eq (mk_iconst X dX0_grows_52 rfl rfl))))))
 (mk_lt
 (mk_lt
 (mk_lt
 (mk_eq (mk_iand X dX0_grows_53 rfl))
 (mk_eq (mk_istore_n X dX0_grows_54 rfl (Nat.le_of_ble_eq_true rfl) rfl)))
 (mk_lt
 (mk_eq (mk_iinc X dX0_grows_55 rfl (Nat.le_of_ble_eq_true rfl) rfl))
 (mk_lt
 (mk_eq (mk_goto X dX0_grows_58 rfl))
 (mk_eq (mk_iload_n X dX0_grows_61 rfl rfl)))))
 (mk_lt
 (mk_lt
 (mk_eq (mk_ifeq X dX0_grows_62 rfl rfl))
 (mk_eq (mk_iconst X dX0_grows_65 rfl rfl)))
 (mk_lt
 (mk_eq (mk_goto X dX0_grows_66 rfl))
 (mk_lt
 (mk_eq (mk_iconst X dX0_grows_69 rfl rfl))
 (mk_eq (mk_ri X dX0_grows_70))))))))
theorem sd_X0_grows {l : Launch} {w : ma_Wd} {NC : Nat} {A : Nat → Prop} {S_X2_hasProduct S_X2_factors : ma_Cs} (hw : ma_Wo w YX NC A) (h_X2_hasProduct : ma_Sd l w YX NC A yX2_hasProduct cX2_hasProduct 4 (some .boolean) rm_X2_hasProduct S_X2_hasProduct) (h_X2_factors : ma_Sd l w YX NC A yX2_factors cX2_factors 5 (some .int) rm_X2_factors S_X2_factors) : ma_Sd l w YX NC A yX0_grows cX0_grows 3 (some .int) rm_X0_grows (ma_rn (tb_X0_grows S_X2_hasProduct S_X2_factors) 3) := ma_of hw (by decide) ⟨rfl, rfl⟩ (fun X => tk_X0_grows h_X2_hasProduct h_X2_factors X)
theorem dX0_tell_0 : decode cX0_tell 0 = .ok (.iload_n 1, 1) := by decide +kernel
theorem dX0_tell_1 : decode cX0_tell 1 = .ok (.invokestatic 203, 3) := by decide +kernel
theorem dX0_tell_4 : decode cX0_tell 4 = .ok (.ifCond .eq 42, 3) := by decide +kernel
theorem dX0_tell_7 : decode cX0_tell 7 = .ok (.iload_n 2, 1) := by decide +kernel
theorem dX0_tell_8 : decode cX0_tell 8 = .ok (.invokestatic 150, 3) := by decide +kernel
theorem dX0_tell_11 : decode cX0_tell 11 = .ok (.ifCond .eq 35, 3) := by decide +kernel
theorem dX0_tell_14 : decode cX0_tell 14 = .ok (.iload 4, 2) := by decide +kernel
theorem dX0_tell_16 : decode cX0_tell 16 = .ok (.i2l, 1) := by decide +kernel
theorem dX0_tell_17 : decode cX0_tell 17 = .ok (.lconst 0, 1) := by decide +kernel
theorem dX0_tell_18 : decode cX0_tell 18 = .ok (.iload_n 3, 1) := by decide +kernel
theorem dX0_tell_19 : decode cX0_tell 19 = .ok (.ifCond .eq 10, 3) := by decide +kernel
theorem dX0_tell_22 : decode cX0_tell 22 = .ok (.aload_n 0, 1) := by decide +kernel
theorem dX0_tell_23 : decode cX0_tell 23 = .ok (.getfield 38, 3) := by decide +kernel
theorem dX0_tell_26 : decode cX0_tell 26 = .ok (.goto 7, 3) := by decide +kernel
theorem dX0_tell_29 : decode cX0_tell 29 = .ok (.aload_n 0, 1) := by decide +kernel
theorem dX0_tell_30 : decode cX0_tell 30 = .ok (.getfield 42, 3) := by decide +kernel
theorem dX0_tell_33 : decode cX0_tell 33 = .ok (.iconst 1, 1) := by decide +kernel
theorem dX0_tell_34 : decode cX0_tell 34 = .ok (.isub, 1) := by decide +kernel
theorem dX0_tell_35 : decode cX0_tell 35 = .ok (.i2l, 1) := by decide +kernel
theorem dX0_tell_36 : decode cX0_tell 36 = .ok (.invokestatic 5, 3) := by decide +kernel
theorem dX0_tell_39 : decode cX0_tell 39 = .ok (.ifCond .eq 7, 3) := by decide +kernel
theorem dX0_tell_42 : decode cX0_tell 42 = .ok (.iconst 1, 1) := by decide +kernel
theorem dX0_tell_43 : decode cX0_tell 43 = .ok (.goto 4, 3) := by decide +kernel
theorem dX0_tell_46 : decode cX0_tell 46 = .ok (.iconst 0, 1) := by decide +kernel
theorem dX0_tell_47 : decode cX0_tell 47 = .ok (.istore 7, 2) := by decide +kernel
theorem dX0_tell_49 : decode cX0_tell 49 = .ok (.iload 7, 2) := by decide +kernel
theorem dX0_tell_51 : decode cX0_tell 51 = .ok (.ifCond .eq 26, 3) := by decide +kernel
theorem dX0_tell_54 : decode cX0_tell 54 = .ok (.lload 5, 2) := by decide +kernel
theorem dX0_tell_56 : decode cX0_tell 56 = .ok (.ldc2_w 240, 3) := by decide +kernel
theorem dX0_tell_59 : decode cX0_tell 59 = .ok (.ldc2_w 242, 3) := by decide +kernel
theorem dX0_tell_62 : decode cX0_tell 62 = .ok (.invokestatic 5, 3) := by decide +kernel
theorem dX0_tell_65 : decode cX0_tell 65 = .ok (.ifCond .ne 14, 3) := by decide +kernel
theorem dX0_tell_68 : decode cX0_tell 68 = .ok (.lload 5, 2) := by decide +kernel
theorem dX0_tell_70 : decode cX0_tell 70 = .ok (.ldc2_w 238, 3) := by decide +kernel
theorem dX0_tell_73 : decode cX0_tell 73 = .ok (.lcmp, 1) := by decide +kernel
theorem dX0_tell_74 : decode cX0_tell 74 = .ok (.ifCond .eq 5, 3) := by decide +kernel
theorem dX0_tell_77 : decode cX0_tell 77 = .ok (.iconst (-1), 1) := by decide +kernel
theorem dX0_tell_78 : decode cX0_tell 78 = .ok (.ireturn, 1) := by decide +kernel
theorem dX0_tell_79 : decode cX0_tell 79 = .ok (.iload_n 1, 1) := by decide +kernel
theorem dX0_tell_80 : decode cX0_tell 80 = .ok (.aload_n 0, 1) := by decide +kernel
theorem dX0_tell_81 : decode cX0_tell 81 = .ok (.getfield 244, 3) := by decide +kernel
theorem dX0_tell_84 : decode cX0_tell 84 = .ok (.if_icmp .ne 11, 3) := by decide +kernel
theorem dX0_tell_87 : decode cX0_tell 87 = .ok (.iload_n 2, 1) := by decide +kernel
theorem dX0_tell_88 : decode cX0_tell 88 = .ok (.aload_n 0, 1) := by decide +kernel
theorem dX0_tell_89 : decode cX0_tell 89 = .ok (.getfield 247, 3) := by decide +kernel
theorem dX0_tell_92 : decode cX0_tell 92 = .ok (.if_icmp .eq 7, 3) := by decide +kernel
theorem dX0_tell_95 : decode cX0_tell 95 = .ok (.aload_n 0, 1) := by decide +kernel
theorem dX0_tell_96 : decode cX0_tell 96 = .ok (.invokevirtual 134, 3) := by decide +kernel
theorem dX0_tell_99 : decode cX0_tell 99 = .ok (.aload_n 0, 1) := by decide +kernel
theorem dX0_tell_100 : decode cX0_tell 100 = .ok (.iload_n 1, 1) := by decide +kernel
theorem dX0_tell_101 : decode cX0_tell 101 = .ok (.putfield 244, 3) := by decide +kernel
theorem dX0_tell_104 : decode cX0_tell 104 = .ok (.aload_n 0, 1) := by decide +kernel
theorem dX0_tell_105 : decode cX0_tell 105 = .ok (.iload_n 2, 1) := by decide +kernel
theorem dX0_tell_106 : decode cX0_tell 106 = .ok (.putfield 247, 3) := by decide +kernel
theorem dX0_tell_109 : decode cX0_tell 109 = .ok (.aload_n 0, 1) := by decide +kernel
theorem dX0_tell_110 : decode cX0_tell 110 = .ok (.getfield 77, 3) := by decide +kernel
theorem dX0_tell_113 : decode cX0_tell 113 = .ok (.iload_n 3, 1) := by decide +kernel
theorem dX0_tell_114 : decode cX0_tell 114 = .ok (.ifCond .eq 11, 3) := by decide +kernel
theorem dX0_tell_117 : decode cX0_tell 117 = .ok (.bipush 6, 2) := by decide +kernel
theorem dX0_tell_119 : decode cX0_tell 119 = .ok (.iload 4, 2) := by decide +kernel
theorem dX0_tell_121 : decode cX0_tell 121 = .ok (.iadd, 1) := by decide +kernel
theorem dX0_tell_122 : decode cX0_tell 122 = .ok (.goto 5, 3) := by decide +kernel
theorem dX0_tell_125 : decode cX0_tell 125 = .ok (.iload 4, 2) := by decide +kernel
theorem dX0_tell_127 : decode cX0_tell 127 = .ok (.lload 5, 2) := by decide +kernel
theorem dX0_tell_129 : decode cX0_tell 129 = .ok (.lastore, 1) := by decide +kernel
theorem dX0_tell_130 : decode cX0_tell 130 = .ok (.iconst 0, 1) := by decide +kernel
theorem dX0_tell_131 : decode cX0_tell 131 = .ok (.ireturn, 1) := by decide +kernel
def tb_X0_tell (S_X0_isStep S_X0_isLetter S_X0_isIn S_X0_clearTold : ma_Cs) : Nat → ma_In := fun pc =>
 (if pc < 70 then
 (if pc < 33 then
 (if pc < 17 then
 (if pc < 8 then
 (if pc < 4 then
 (if pc < 1 then
 (if pc = 0 then in_ild 1 1 else in_no) else
 (if pc = 1 then in_s1 S_X0_isStep 4 else in_no)) else
 (if pc < 7 then
 (if pc = 4 then in_if1 (fun x => x = 0) 46 7 else in_no) else
 (if pc = 7 then in_ild 2 8 else in_no))) else
 (if pc < 14 then
 (if pc < 11 then
 (if pc = 8 then in_s1 S_X0_isLetter 11 else in_no) else
 (if pc = 11 then in_if1 (fun x => x = 0) 46 14 else in_no)) else
 (if pc < 16 then
 (if pc = 14 then in_ild 4 16 else in_no) else
 (if pc = 16 then in_il (fun x => x.toInt64) 17 else in_no)))) else
 (if pc < 23 then
 (if pc < 19 then
 (if pc < 18 then
 (if pc = 17 then in_push (.long 0) 18 else in_no) else
 (if pc = 18 then in_ild 3 19 else in_no)) else
 (if pc < 22 then
 (if pc = 19 then in_if1 (fun x => x = 0) 29 22 else in_no) else
 (if pc = 22 then in_ald 0 23 else in_no))) else
 (if pc < 29 then
 (if pc < 26 then
 (if pc = 23 then in_get YX 0 5 26 else in_no) else
 (if pc = 26 then in_go 33 else in_no)) else
 (if pc < 30 then
 (if pc = 29 then in_ald 0 30 else in_no) else
 (if pc = 30 then in_get YX 0 6 33 else in_no))))) else
 (if pc < 47 then
 (if pc < 39 then
 (if pc < 35 then
 (if pc < 34 then
 (if pc = 33 then in_push (.int 1) 34 else in_no) else
 (if pc = 34 then in_iii (fun x y => x - y) 35 else in_no)) else
 (if pc < 36 then
 (if pc = 35 then in_il (fun x => x.toInt64) 36 else in_no) else
 (if pc = 36 then in_s3 S_X0_isIn 39 else in_no))) else
 (if pc < 43 then
 (if pc < 42 then
 (if pc = 39 then in_if1 (fun x => x = 0) 46 42 else in_no) else
 (if pc = 42 then in_push (.int 1) 43 else in_no)) else
 (if pc < 46 then
 (if pc = 43 then in_go 47 else in_no) else
 (if pc = 46 then in_push (.int 0) 47 else in_no)))) else
 (if pc < 56 then
 (if pc < 51 then
 (if pc < 49 then
 (if pc = 47 then in_ist 7 49 else in_no) else
 (if pc = 49 then in_ild 7 51 else in_no)) else
 (if pc < 54 then
 (if pc = 51 then in_if1 (fun x => x = 0) 77 54 else in_no) else
 (if pc = 54 then in_lld 5 56 else in_no))) else
 (if pc < 62 then
 (if pc < 59 then
 (if pc = 56 then in_push (.long (-1000000000000)) 59 else in_no) else
 (if pc = 59 then in_push (.long 1000000000000) 62 else in_no)) else
 (if pc < 65 then
 (if pc = 62 then in_s3 S_X0_isIn 65 else in_no) else
 (if pc < 68 then
 (if pc = 65 then in_if1 (fun x => x = 0) 68 79 else in_no) else
 (if pc = 68 then in_lld 5 70 else in_no))))))) else
 (if pc < 101 then
 (if pc < 84 then
 (if pc < 78 then
 (if pc < 74 then
 (if pc < 73 then
 (if pc = 70 then in_push (.long 2000000000000) 73 else in_no) else
 (if pc = 73 then in_lli lg_cmp 74 else in_no)) else
 (if pc < 77 then
 (if pc = 74 then in_if1 (fun x => x = 0) 79 77 else in_no) else
 (if pc = 77 then in_push (.int (-1)) 78 else in_no))) else
 (if pc < 80 then
 (if pc < 79 then
 (if pc = 78 then in_ri else in_no) else
 (if pc = 79 then in_ild 1 80 else in_no)) else
 (if pc < 81 then
 (if pc = 80 then in_ald 0 81 else in_no) else
 (if pc = 81 then in_get YX 0 19 84 else in_no)))) else
 (if pc < 92 then
 (if pc < 88 then
 (if pc < 87 then
 (if pc = 84 then in_if2 (fun x y => x = y) 87 95 else in_no) else
 (if pc = 87 then in_ild 2 88 else in_no)) else
 (if pc < 89 then
 (if pc = 88 then in_ald 0 89 else in_no) else
 (if pc = 89 then in_get YX 0 20 92 else in_no))) else
 (if pc < 96 then
 (if pc < 95 then
 (if pc = 92 then in_if2 (fun x y => x = y) 99 95 else in_no) else
 (if pc = 95 then in_ald 0 96 else in_no)) else
 (if pc < 99 then
 (if pc = 96 then in_v1 YX 0 S_X0_clearTold 99 else in_no) else
 (if pc < 100 then
 (if pc = 99 then in_ald 0 100 else in_no) else
 (if pc = 100 then in_ild 1 101 else in_no)))))) else
 (if pc < 117 then
 (if pc < 109 then
 (if pc < 105 then
 (if pc < 104 then
 (if pc = 101 then in_put YX 0 19 104 else in_no) else
 (if pc = 104 then in_ald 0 105 else in_no)) else
 (if pc < 106 then
 (if pc = 105 then in_ild 2 106 else in_no) else
 (if pc = 106 then in_put YX 0 20 109 else in_no))) else
 (if pc < 113 then
 (if pc < 110 then
 (if pc = 109 then in_ald 0 110 else in_no) else
 (if pc = 110 then in_get YX 0 21 113 else in_no)) else
 (if pc < 114 then
 (if pc = 113 then in_ild 3 114 else in_no) else
 (if pc = 114 then in_if1 (fun x => x = 0) 125 117 else in_no)))) else
 (if pc < 125 then
 (if pc < 121 then
 (if pc < 119 then
 (if pc = 117 then in_push (.int 6) 119 else in_no) else
 (if pc = 119 then in_ild 4 121 else in_no)) else
 (if pc < 122 then
 (if pc = 121 then in_iii (fun x y => x + y) 122 else in_no) else
 (if pc = 122 then in_go 127 else in_no))) else
 (if pc < 129 then
 (if pc < 127 then
 (if pc = 125 then in_ild 4 127 else in_no) else
 (if pc = 127 then in_lld 5 129 else in_no)) else
 (if pc < 130 then
 (if pc = 129 then in_law YX 130 else in_no) else
 (if pc < 131 then
 (if pc = 130 then in_push (.int 0) 131 else in_no) else
 (if pc = 131 then in_ri else in_no))))))))
theorem tk_X0_tell {l : Launch} {w : ma_Wd} {NC : Nat} {A : Nat → Prop} {S_X0_isStep S_X0_isLetter S_X0_isIn S_X0_clearTold : ma_Cs} (h_X0_isStep : ma_Sd l w YX NC A yX0_isStep cX0_isStep 1 (some .boolean) rm_X0_isStep S_X0_isStep) (h_X0_isLetter : ma_Sd l w YX NC A yX0_isLetter cX0_isLetter 1 (some .boolean) rm_X0_isLetter S_X0_isLetter) (h_X0_isIn : ma_Sd l w YX NC A yX0_isIn cX0_isIn 6 (some .boolean) rm_X0_isIn S_X0_isIn) (h_X0_clearTold : ma_Sd l w YX NC A yX0_clearTold cX0_clearTold 2 none rm_X0_clearTold S_X0_clearTold) {p : Program} {e : Env} {s : State} {m : MethodId} {args : Array Value} {below : List Frame} {meth : Method} {c : Code} (X : ma_Cx p s m args meth c w YX NC A yX0_tell.cls cX0_tell 8 (some .int)) : ∀ pc, ma_Ok p l e rm_X0_tell s m args below meth c w YX NC A 8 pc (tb_X0_tell S_X0_isStep S_X0_isLetter S_X0_isIn S_X0_clearTold pc) := fun pc =>
 (mk_lt
 (mk_lt
 (mk_lt
 (mk_lt
 (mk_lt
 (mk_lt
 (mk_eq (mk_iload_n X dX0_tell_0 rfl rfl))
 (mk_eq (mk_S1 X h_X0_isStep (lw_S q476 q477 q61 q478) ⟨by decide, by decide, rfl⟩ ⟨(Nat.le_of_ble_eq_true rfl), (Nat.le_of_ble_eq_true rfl)⟩ dX0_tell_1 rfl)))
 (mk_lt
 (mk_eq (mk_ifeq X dX0_tell_4 rfl rfl))
 (mk_eq (mk_iload_n X dX0_tell_7 rfl rfl))))
 (mk_lt
 (mk_lt
 (mk_eq (mk_S1 X h_X0_isLetter (lw_S q371 q372 q61 q373) ⟨by decide, by decide, rfl⟩ ⟨(Nat.le_of_ble_eq_true rfl), (Nat.le_of_ble_eq_true rfl)⟩ dX0_tell_8 rfl))
 (mk_eq (mk_ifeq X dX0_tell_11 rfl rfl)))
 (mk_lt
 (mk_eq (mk_iload X dX0_tell_14 rfl))
 (mk_eq (mk_i2l X dX0_tell_16 rfl)))))
 (mk_lt
 (mk_lt
 (mk_lt
 (mk_eq (mk_lconst X dX0_tell_17 rfl rfl))
 (mk_eq (mk_iload_n X dX0_tell_18 rfl rfl)))
 (mk_lt
 (mk_eq (mk_ifeq X dX0_tell_19 rfl rfl))
 (mk_eq (mk_aload_n X dX0_tell_22 rfl rfl))))
 (mk_lt
 (mk_lt
 (mk_eq (mk_get X (ci := 0) (j := 5) rfl in_X0 (Nat.le_of_ble_eq_true rfl) q232 dX0_tell_23 rfl))
 (mk_eq (mk_goto X dX0_tell_26 rfl)))
 (mk_lt
 (mk_eq (mk_aload_n X dX0_tell_29 rfl rfl))
 (mk_eq (mk_get X (ci := 0) (j := 6) rfl in_X0 (Nat.le_of_ble_eq_true rfl) q234 dX0_tell_30 rfl))))))
 (mk_lt
 (mk_lt
 (mk_lt
 (mk_lt
 (mk_eq (mk_iconst X dX0_tell_33 rfl rfl))
 (mk_eq (mk_isub X dX0_tell_34 rfl)))
 (mk_lt
 (mk_eq (mk_i2l X dX0_tell_35 rfl))
 (mk_eq (mk_S3 X h_X0_isIn (lw_S q355 q356 q61 q357) ⟨by decide, by decide, rfl⟩ ⟨(Nat.le_of_ble_eq_true rfl), (Nat.le_of_ble_eq_true rfl)⟩ dX0_tell_36 rfl))))
 (mk_lt
 (mk_lt
 (mk_eq (mk_ifeq X dX0_tell_39 rfl rfl))
 (mk_eq (mk_iconst X dX0_tell_42 rfl rfl)))
 (mk_lt
 (mk_eq (mk_goto X dX0_tell_43 rfl))
 (mk_eq (mk_iconst X dX0_tell_46 rfl rfl)))))
 (mk_lt
 (mk_lt
 (mk_lt
 (mk_eq (mk_istore X dX0_tell_47 (Nat.le_of_ble_eq_true rfl) rfl))
 (mk_eq (mk_iload X dX0_tell_49 rfl)))
 (mk_lt
 (mk_eq (mk_ifeq X dX0_tell_51 rfl rfl))
 (mk_eq (mk_lload X dX0_tell_54 rfl))))
 (mk_lt
 (mk_lt
 (mk_eq (mk_ldc2 X dX0_tell_56 q603 rfl))
 (mk_eq (mk_ldc2 X dX0_tell_59 q604 rfl)))
 (mk_lt
 (mk_eq (mk_S3 X h_X0_isIn (lw_S q355 q356 q61 q357) ⟨by decide, by decide, rfl⟩ ⟨(Nat.le_of_ble_eq_true rfl), (Nat.le_of_ble_eq_true rfl)⟩ dX0_tell_62 rfl))
 (mk_lt
 (mk_eq (mk_ifne X dX0_tell_65 rfl rfl))
 (mk_eq (mk_lload X dX0_tell_68 rfl))))))))
 (mk_lt
 (mk_lt
 (mk_lt
 (mk_lt
 (mk_lt
 (mk_eq (mk_ldc2 X dX0_tell_70 q221 rfl))
 (mk_eq (mk_lcmp X dX0_tell_73 rfl)))
 (mk_lt
 (mk_eq (mk_ifeq X dX0_tell_74 rfl rfl))
 (mk_eq (mk_iconst X dX0_tell_77 rfl rfl))))
 (mk_lt
 (mk_lt
 (mk_eq (mk_ri X dX0_tell_78))
 (mk_eq (mk_iload_n X dX0_tell_79 rfl rfl)))
 (mk_lt
 (mk_eq (mk_aload_n X dX0_tell_80 rfl rfl))
 (mk_eq (mk_get X (ci := 0) (j := 19) rfl in_X0 (Nat.le_of_ble_eq_true rfl) q265 dX0_tell_81 rfl)))))
 (mk_lt
 (mk_lt
 (mk_lt
 (mk_eq (mk_icne X dX0_tell_84 rfl rfl))
 (mk_eq (mk_iload_n X dX0_tell_87 rfl rfl)))
 (mk_lt
 (mk_eq (mk_aload_n X dX0_tell_88 rfl rfl))
 (mk_eq (mk_get X (ci := 0) (j := 20) rfl in_X0 (Nat.le_of_ble_eq_true rfl) q266 dX0_tell_89 rfl))))
 (mk_lt
 (mk_lt
 (mk_eq (mk_iceq X dX0_tell_92 rfl rfl))
 (mk_eq (mk_aload_n X dX0_tell_95 rfl rfl)))
 (mk_lt
 (mk_eq (mk_V1 X h_X0_clearTold (ci := 0) rfl (lw_V q217 q219 qs1 q61 q220) ⟨rfl, by decide, by decide, rfl⟩ ⟨(Nat.le_of_ble_eq_true rfl), (Nat.le_of_ble_eq_true rfl)⟩ dX0_tell_96 rfl))
 (mk_lt
 (mk_eq (mk_aload_n X dX0_tell_99 rfl rfl))
 (mk_eq (mk_iload_n X dX0_tell_100 rfl rfl)))))))
 (mk_lt
 (mk_lt
 (mk_lt
 (mk_lt
 (mk_eq (mk_put X (ci := 0) (j := 19) rfl in_X0 tyX0_ok nmX0 (Nat.le_of_ble_eq_true rfl) rfl rfl q265 dX0_tell_101 rfl))
 (mk_eq (mk_aload_n X dX0_tell_104 rfl rfl)))
 (mk_lt
 (mk_eq (mk_iload_n X dX0_tell_105 rfl rfl))
 (mk_eq (mk_put X (ci := 0) (j := 20) rfl in_X0 tyX0_ok nmX0 (Nat.le_of_ble_eq_true rfl) rfl rfl q266 dX0_tell_106 rfl))))
 (mk_lt
 (mk_lt
 (mk_eq (mk_aload_n X dX0_tell_109 rfl rfl))
 (mk_eq (mk_get X (ci := 0) (j := 21) rfl in_X0 (Nat.le_of_ble_eq_true rfl) q267 dX0_tell_110 rfl)))
 (mk_lt
 (mk_eq (mk_iload_n X dX0_tell_113 rfl rfl))
 (mk_eq (mk_ifeq X dX0_tell_114 rfl rfl)))))
 (mk_lt
 (mk_lt
 (mk_lt
 (mk_eq (mk_bipush X dX0_tell_117 rfl rfl))
 (mk_eq (mk_iload X dX0_tell_119 rfl)))
 (mk_lt
 (mk_eq (mk_iadd X dX0_tell_121 rfl))
 (mk_eq (mk_goto X dX0_tell_122 rfl))))
 (mk_lt
 (mk_lt
 (mk_eq (mk_iload X dX0_tell_125 rfl))
 (mk_eq (mk_lload X dX0_tell_127 rfl)))
 (mk_lt
 (mk_eq (mk_law X dX0_tell_129 rfl))
 (mk_lt
 (mk_eq (mk_iconst X dX0_tell_130 rfl rfl))
 (mk_eq (mk_ri X dX0_tell_131)))))))))
theorem sd_X0_tell {l : Launch} {w : ma_Wd} {NC : Nat} {A : Nat → Prop} {S_X0_isStep S_X0_isLetter S_X0_isIn S_X0_clearTold : ma_Cs} (hw : ma_Wo w YX NC A) (h_X0_isStep : ma_Sd l w YX NC A yX0_isStep cX0_isStep 1 (some .boolean) rm_X0_isStep S_X0_isStep) (h_X0_isLetter : ma_Sd l w YX NC A yX0_isLetter cX0_isLetter 1 (some .boolean) rm_X0_isLetter S_X0_isLetter) (h_X0_isIn : ma_Sd l w YX NC A yX0_isIn cX0_isIn 6 (some .boolean) rm_X0_isIn S_X0_isIn) (h_X0_clearTold : ma_Sd l w YX NC A yX0_clearTold cX0_clearTold 2 none rm_X0_clearTold S_X0_clearTold) : ma_Sd l w YX NC A yX0_tell cX0_tell 8 (some .int) rm_X0_tell (ma_rn (tb_X0_tell S_X0_isStep S_X0_isLetter S_X0_isIn S_X0_clearTold) 8) := ma_of hw (by decide) ⟨rfl, rfl⟩ (fun X => tk_X0_tell h_X0_isStep h_X0_isLetter h_X0_isIn h_X0_clearTold X)
theorem dX0_fails_0 : decode cX0_fails 0 = .ok (.aload_n 0, 1) := by decide +kernel
theorem dX0_fails_1 : decode cX0_fails 1 = .ok (.invokevirtual 250, 3) := by decide +kernel
theorem dX0_fails_4 : decode cX0_fails 4 = .ok (.ifCond .ne 6, 3) := by decide +kernel
theorem dX0_fails_7 : decode cX0_fails 7 = .ok (.bipush (-2), 2) := by decide +kernel
theorem dX0_fails_9 : decode cX0_fails 9 = .ok (.ireturn, 1) := by decide +kernel
theorem dX0_fails_10 : decode cX0_fails 10 = .ok (.aload_n 0, 1) := by decide +kernel
theorem dX0_fails_11 : decode cX0_fails 11 = .ok (.invokevirtual 211, 3) := by decide +kernel
theorem dX0_fails_14 : decode cX0_fails 14 = .ok (.iconst 0, 1) := by decide +kernel
theorem dX0_fails_15 : decode cX0_fails 15 = .ok (.istore_n 1, 1) := by decide +kernel
theorem dX0_fails_16 : decode cX0_fails 16 = .ok (.iconst 0, 1) := by decide +kernel
theorem dX0_fails_17 : decode cX0_fails 17 = .ok (.istore_n 2, 1) := by decide +kernel
theorem dX0_fails_18 : decode cX0_fails 18 = .ok (.iload_n 2, 1) := by decide +kernel
theorem dX0_fails_19 : decode cX0_fails 19 = .ok (.bipush 12, 2) := by decide +kernel
theorem dX0_fails_21 : decode cX0_fails 21 = .ok (.if_icmp .ge 42, 3) := by decide +kernel
theorem dX0_fails_24 : decode cX0_fails 24 = .ok (.iload_n 1, 1) := by decide +kernel
theorem dX0_fails_25 : decode cX0_fails 25 = .ok (.aload_n 0, 1) := by decide +kernel
theorem dX0_fails_26 : decode cX0_fails 26 = .ok (.getfield 77, 3) := by decide +kernel
theorem dX0_fails_29 : decode cX0_fails 29 = .ok (.iload_n 2, 1) := by decide +kernel
theorem dX0_fails_30 : decode cX0_fails 30 = .ok (.laload, 1) := by decide +kernel
theorem dX0_fails_31 : decode cX0_fails 31 = .ok (.ldc2_w 238, 3) := by decide +kernel
theorem dX0_fails_34 : decode cX0_fails 34 = .ok (.lcmp, 1) := by decide +kernel
theorem dX0_fails_35 : decode cX0_fails 35 = .ok (.ifCond .eq 19, 3) := by decide +kernel
theorem dX0_fails_38 : decode cX0_fails 38 = .ok (.aload_n 0, 1) := by decide +kernel
theorem dX0_fails_39 : decode cX0_fails 39 = .ok (.iload_n 2, 1) := by decide +kernel
theorem dX0_fails_40 : decode cX0_fails 40 = .ok (.invokevirtual 253, 3) := by decide +kernel
theorem dX0_fails_43 : decode cX0_fails 43 = .ok (.lconst 0, 1) := by decide +kernel
theorem dX0_fails_44 : decode cX0_fails 44 = .ok (.lcmp, 1) := by decide +kernel
theorem dX0_fails_45 : decode cX0_fails 45 = .ok (.ifCond .eq 9, 3) := by decide +kernel
theorem dX0_fails_48 : decode cX0_fails 48 = .ok (.iconst 1, 1) := by decide +kernel
theorem dX0_fails_49 : decode cX0_fails 49 = .ok (.iload_n 2, 1) := by decide +kernel
theorem dX0_fails_50 : decode cX0_fails 50 = .ok (.ishl, 1) := by decide +kernel
theorem dX0_fails_51 : decode cX0_fails 51 = .ok (.goto 4, 3) := by decide +kernel
theorem dX0_fails_54 : decode cX0_fails 54 = .ok (.iconst 0, 1) := by decide +kernel
theorem dX0_fails_55 : decode cX0_fails 55 = .ok (.ior, 1) := by decide +kernel
theorem dX0_fails_56 : decode cX0_fails 56 = .ok (.istore_n 1, 1) := by decide +kernel
theorem dX0_fails_57 : decode cX0_fails 57 = .ok (.iinc 2 1, 3) := by decide +kernel
theorem dX0_fails_60 : decode cX0_fails 60 = .ok (.goto (-42), 3) := by decide +kernel
theorem dX0_fails_63 : decode cX0_fails 63 = .ok (.iload_n 1, 1) := by decide +kernel
theorem dX0_fails_64 : decode cX0_fails 64 = .ok (.ireturn, 1) := by decide +kernel
def tb_X0_fails (S_X0_toldMany S_X0_refresh S_X0_offOf : ma_Cs) : Nat → ma_In := fun pc =>
 (if pc < 31 then
 (if pc < 16 then
 (if pc < 9 then
 (if pc < 4 then
 (if pc < 1 then
 (if pc = 0 then in_ald 0 1 else in_no) else
 (if pc = 1 then in_v1 YX 0 S_X0_toldMany 4 else in_no)) else
 (if pc < 7 then
 (if pc = 4 then in_if1 (fun x => x = 0) 7 10 else in_no) else
 (if pc = 7 then in_push (.int (-2)) 9 else in_no))) else
 (if pc < 11 then
 (if pc < 10 then
 (if pc = 9 then in_ri else in_no) else
 (if pc = 10 then in_ald 0 11 else in_no)) else
 (if pc < 14 then
 (if pc = 11 then in_v1 YX 0 S_X0_refresh 14 else in_no) else
 (if pc < 15 then
 (if pc = 14 then in_push (.int 0) 15 else in_no) else
 (if pc = 15 then in_ist 1 16 else in_no))))) else
 (if pc < 24 then
 (if pc < 18 then
 (if pc < 17 then
 (if pc = 16 then in_push (.int 0) 17 else in_no) else
 (if pc = 17 then in_ist 2 18 else in_no)) else
 (if pc < 19 then
 (if pc = 18 then in_ild 2 19 else in_no) else
 (if pc < 21 then
 (if pc = 19 then in_push (.int 12) 21 else in_no) else
 (if pc = 21 then in_if2 (fun x y => y ≤ x) 63 24 else in_no)))) else
 (if pc < 26 then
 (if pc < 25 then
 (if pc = 24 then in_ild 1 25 else in_no) else
 (if pc = 25 then in_ald 0 26 else in_no)) else
 (if pc < 29 then
 (if pc = 26 then in_get YX 0 21 29 else in_no) else
 (if pc < 30 then
 (if pc = 29 then in_ild 2 30 else in_no) else
 (if pc = 30 then in_lar YX 31 else in_no)))))) else
 (if pc < 49 then
 (if pc < 40 then
 (if pc < 35 then
 (if pc < 34 then
 (if pc = 31 then in_push (.long 2000000000000) 34 else in_no) else
 (if pc = 34 then in_lli lg_cmp 35 else in_no)) else
 (if pc < 38 then
 (if pc = 35 then in_if1 (fun x => x = 0) 54 38 else in_no) else
 (if pc < 39 then
 (if pc = 38 then in_ald 0 39 else in_no) else
 (if pc = 39 then in_ild 2 40 else in_no)))) else
 (if pc < 44 then
 (if pc < 43 then
 (if pc = 40 then in_v2 YX 0 S_X0_offOf 43 else in_no) else
 (if pc = 43 then in_push (.long 0) 44 else in_no)) else
 (if pc < 45 then
 (if pc = 44 then in_lli lg_cmp 45 else in_no) else
 (if pc < 48 then
 (if pc = 45 then in_if1 (fun x => x = 0) 54 48 else in_no) else
 (if pc = 48 then in_push (.int 1) 49 else in_no))))) else
 (if pc < 56 then
 (if pc < 51 then
 (if pc < 50 then
 (if pc = 49 then in_ild 2 50 else in_no) else
 (if pc = 50 then in_iii (fun x y => x <<< (y &&& 31)) 51 else in_no)) else
 (if pc < 54 then
 (if pc = 51 then in_go 55 else in_no) else
 (if pc < 55 then
 (if pc = 54 then in_push (.int 0) 55 else in_no) else
 (if pc = 55 then in_iii (fun x y => x ||| y) 56 else in_no)))) else
 (if pc < 60 then
 (if pc < 57 then
 (if pc = 56 then in_ist 1 57 else in_no) else
 (if pc = 57 then in_inc 2 1 60 else in_no)) else
 (if pc < 63 then
 (if pc = 60 then in_go 18 else in_no) else
 (if pc < 64 then
 (if pc = 63 then in_ild 1 64 else in_no) else
 (if pc = 64 then in_ri else in_no)))))))
theorem tk_X0_fails {l : Launch} {w : ma_Wd} {NC : Nat} {A : Nat → Prop} {S_X0_toldMany S_X0_refresh S_X0_offOf : ma_Cs} (h_X0_toldMany : ma_Sd l w YX NC A yX0_toldMany cX0_toldMany 7 (some .int) rm_X0_toldMany S_X0_toldMany) (h_X0_refresh : ma_Sd l w YX NC A yX0_refresh cX0_refresh 1 none rm_X0_refresh S_X0_refresh) (h_X0_offOf : ma_Sd l w YX NC A yX0_offOf cX0_offOf 5 (some .long) rm_X0_offOf S_X0_offOf) {p : Program} {e : Env} {s : State} {m : MethodId} {args : Array Value} {below : List Frame} {meth : Method} {c : Code} (X : ma_Cx p s m args meth c w YX NC A yX0_fails.cls cX0_fails 3 (some .int)) : ∀ pc, ma_Ok p l e rm_X0_fails s m args below meth c w YX NC A 3 pc (tb_X0_fails S_X0_toldMany S_X0_refresh S_X0_offOf pc) := fun pc =>
 (mk_lt
 (mk_lt
 (mk_lt
 (mk_lt
 (mk_lt
 (mk_eq (mk_aload_n X dX0_fails_0 rfl rfl))
 (mk_eq (mk_V1 X h_X0_toldMany (ci := 0) rfl (lw_V q609 q611 qs21 q61 q612) ⟨rfl, by decide, by decide, rfl⟩ ⟨(Nat.le_of_ble_eq_true rfl), (Nat.le_of_ble_eq_true rfl)⟩ dX0_fails_1 rfl)))
 (mk_lt
 (mk_eq (mk_ifne X dX0_fails_4 rfl rfl))
 (mk_eq (mk_bipush X dX0_fails_7 rfl rfl))))
 (mk_lt
 (mk_lt
 (mk_eq (mk_ri X dX0_fails_9))
 (mk_eq (mk_aload_n X dX0_fails_10 rfl rfl)))
 (mk_lt
 (mk_eq (mk_V1 X h_X0_refresh (ci := 0) rfl (lw_V q481 q483 qs13 q61 q484) ⟨rfl, by decide, by decide, rfl⟩ ⟨(Nat.le_of_ble_eq_true rfl), (Nat.le_of_ble_eq_true rfl)⟩ dX0_fails_11 rfl))
 (mk_lt
 (mk_eq (mk_iconst X dX0_fails_14 rfl rfl))
 (mk_eq (mk_istore_n X dX0_fails_15 rfl (Nat.le_of_ble_eq_true rfl) rfl))))))
 (mk_lt
 (mk_lt
 (mk_lt
 (mk_eq (mk_iconst X dX0_fails_16 rfl rfl))
 (mk_eq (mk_istore_n X dX0_fails_17 rfl (Nat.le_of_ble_eq_true rfl) rfl)))
 (mk_lt
 (mk_eq (mk_iload_n X dX0_fails_18 rfl rfl))
 (mk_lt
 (mk_eq (mk_bipush X dX0_fails_19 rfl rfl))
 (mk_eq (mk_icge X dX0_fails_21 rfl rfl)))))
 (mk_lt
 (mk_lt
 (mk_eq (mk_iload_n X dX0_fails_24 rfl rfl))
 (mk_eq (mk_aload_n X dX0_fails_25 rfl rfl)))
 (mk_lt
 (mk_eq (mk_get X (ci := 0) (j := 21) rfl in_X0 (Nat.le_of_ble_eq_true rfl) q267 dX0_fails_26 rfl))
 (mk_lt
 (mk_eq (mk_iload_n X dX0_fails_29 rfl rfl))
 (mk_eq (mk_lar X dX0_fails_30 rfl)))))))
 (mk_lt
 (mk_lt
 (mk_lt
 (mk_lt
 (mk_eq (mk_ldc2 X dX0_fails_31 q221 rfl))
 (mk_eq (mk_lcmp X dX0_fails_34 rfl)))
 (mk_lt
 (mk_eq (mk_ifeq X dX0_fails_35 rfl rfl))
 (mk_lt
 (mk_eq (mk_aload_n X dX0_fails_38 rfl rfl))
 (mk_eq (mk_iload_n X dX0_fails_39 rfl rfl)))))
 (mk_lt
 (mk_lt
 (mk_eq (mk_V2 X h_X0_offOf (ci := 0) rfl (lw_V q613 q615 qs22 q61 q616) ⟨rfl, by decide, by decide, rfl⟩ ⟨(Nat.le_of_ble_eq_true rfl), (Nat.le_of_ble_eq_true rfl)⟩ dX0_fails_40 rfl))
 (mk_eq (mk_lconst X dX0_fails_43 rfl rfl)))
 (mk_lt
 (mk_eq (mk_lcmp X dX0_fails_44 rfl))
 (mk_lt
 (mk_eq (mk_ifeq X dX0_fails_45 rfl rfl))
 (mk_eq (mk_iconst X dX0_fails_48 rfl rfl))))))
 (mk_lt
 (mk_lt
 (mk_lt
 (mk_eq (mk_iload_n X dX0_fails_49 rfl rfl))
 (mk_eq (mk_ishl X dX0_fails_50 rfl)))
 (mk_lt
 (mk_eq (mk_goto X dX0_fails_51 rfl))
 (mk_lt
 (mk_eq (mk_iconst X dX0_fails_54 rfl rfl))
 (mk_eq (mk_ior X dX0_fails_55 rfl)))))
 (mk_lt
 (mk_lt
 (mk_eq (mk_istore_n X dX0_fails_56 rfl (Nat.le_of_ble_eq_true rfl) rfl))
 (mk_eq (mk_iinc X dX0_fails_57 rfl (Nat.le_of_ble_eq_true rfl) rfl)))
 (mk_lt
 (mk_eq (mk_goto X dX0_fails_60 rfl))
 (mk_lt
 (mk_eq (mk_iload_n X dX0_fails_63 rfl rfl))
 (mk_eq (mk_ri X dX0_fails_64))))))))
theorem sd_X0_fails {l : Launch} {w : ma_Wd} {NC : Nat} {A : Nat → Prop} {S_X0_toldMany S_X0_refresh S_X0_offOf : ma_Cs} (hw : ma_Wo w YX NC A) (h_X0_toldMany : ma_Sd l w YX NC A yX0_toldMany cX0_toldMany 7 (some .int) rm_X0_toldMany S_X0_toldMany) (h_X0_refresh : ma_Sd l w YX NC A yX0_refresh cX0_refresh 1 none rm_X0_refresh S_X0_refresh) (h_X0_offOf : ma_Sd l w YX NC A yX0_offOf cX0_offOf 5 (some .long) rm_X0_offOf S_X0_offOf) : ma_Sd l w YX NC A yX0_fails cX0_fails 3 (some .int) rm_X0_fails (ma_rn (tb_X0_fails S_X0_toldMany S_X0_refresh S_X0_offOf) 3) := ma_of hw (by decide) ⟨rfl, rfl⟩ (fun X => tk_X0_fails h_X0_toldMany h_X0_refresh h_X0_offOf X)
theorem dX0_toldMany_0 : decode cX0_toldMany 0 = .ok (.iconst 0, 1) := by decide +kernel
theorem dX0_toldMany_1 : decode cX0_toldMany 1 = .ok (.istore_n 1, 1) := by decide +kernel
theorem dX0_toldMany_2 : decode cX0_toldMany 2 = .ok (.aload_n 0, 1) := by decide +kernel
theorem dX0_toldMany_3 : decode cX0_toldMany 3 = .ok (.getfield 77, 3) := by decide +kernel
theorem dX0_toldMany_6 : decode cX0_toldMany 6 = .ok (.astore_n 2, 1) := by decide +kernel
theorem dX0_toldMany_7 : decode cX0_toldMany 7 = .ok (.aload_n 2, 1) := by decide +kernel
theorem dX0_toldMany_8 : decode cX0_toldMany 8 = .ok (.arraylength, 1) := by decide +kernel
theorem dX0_toldMany_9 : decode cX0_toldMany 9 = .ok (.istore_n 3, 1) := by decide +kernel
theorem dX0_toldMany_10 : decode cX0_toldMany 10 = .ok (.iconst 0, 1) := by decide +kernel
theorem dX0_toldMany_11 : decode cX0_toldMany 11 = .ok (.istore 4, 2) := by decide +kernel
theorem dX0_toldMany_13 : decode cX0_toldMany 13 = .ok (.iload 4, 2) := by decide +kernel
theorem dX0_toldMany_15 : decode cX0_toldMany 15 = .ok (.iload_n 3, 1) := by decide +kernel
theorem dX0_toldMany_16 : decode cX0_toldMany 16 = .ok (.if_icmp .ge 32, 3) := by decide +kernel
theorem dX0_toldMany_19 : decode cX0_toldMany 19 = .ok (.aload_n 2, 1) := by decide +kernel
theorem dX0_toldMany_20 : decode cX0_toldMany 20 = .ok (.iload 4, 2) := by decide +kernel
theorem dX0_toldMany_22 : decode cX0_toldMany 22 = .ok (.laload, 1) := by decide +kernel
theorem dX0_toldMany_23 : decode cX0_toldMany 23 = .ok (.lstore 5, 2) := by decide +kernel
theorem dX0_toldMany_25 : decode cX0_toldMany 25 = .ok (.iload_n 1, 1) := by decide +kernel
theorem dX0_toldMany_26 : decode cX0_toldMany 26 = .ok (.lload 5, 2) := by decide +kernel
theorem dX0_toldMany_28 : decode cX0_toldMany 28 = .ok (.ldc2_w 238, 3) := by decide +kernel
theorem dX0_toldMany_31 : decode cX0_toldMany 31 = .ok (.lcmp, 1) := by decide +kernel
theorem dX0_toldMany_32 : decode cX0_toldMany 32 = .ok (.ifCond .ne 7, 3) := by decide +kernel
theorem dX0_toldMany_35 : decode cX0_toldMany 35 = .ok (.iconst 0, 1) := by decide +kernel
theorem dX0_toldMany_36 : decode cX0_toldMany 36 = .ok (.goto 4, 3) := by decide +kernel
theorem dX0_toldMany_39 : decode cX0_toldMany 39 = .ok (.iconst 1, 1) := by decide +kernel
theorem dX0_toldMany_40 : decode cX0_toldMany 40 = .ok (.iadd, 1) := by decide +kernel
theorem dX0_toldMany_41 : decode cX0_toldMany 41 = .ok (.istore_n 1, 1) := by decide +kernel
theorem dX0_toldMany_42 : decode cX0_toldMany 42 = .ok (.iinc 4 1, 3) := by decide +kernel
theorem dX0_toldMany_45 : decode cX0_toldMany 45 = .ok (.goto (-32), 3) := by decide +kernel
theorem dX0_toldMany_48 : decode cX0_toldMany 48 = .ok (.iload_n 1, 1) := by decide +kernel
theorem dX0_toldMany_49 : decode cX0_toldMany 49 = .ok (.ireturn, 1) := by decide +kernel
def tb_X0_toldMany : Nat → ma_In := fun pc =>
 (if pc < 22 then
 (if pc < 9 then
 (if pc < 3 then
 (if pc < 1 then
 (if pc = 0 then in_push (.int 0) 1 else in_no) else
 (if pc < 2 then
 (if pc = 1 then in_ist 1 2 else in_no) else
 (if pc = 2 then in_ald 0 3 else in_no))) else
 (if pc < 7 then
 (if pc < 6 then
 (if pc = 3 then in_get YX 0 21 6 else in_no) else
 (if pc = 6 then in_ast 2 7 else in_no)) else
 (if pc < 8 then
 (if pc = 7 then in_ald 2 8 else in_no) else
 (if pc = 8 then in_len YX 9 else in_no)))) else
 (if pc < 15 then
 (if pc < 11 then
 (if pc < 10 then
 (if pc = 9 then in_ist 3 10 else in_no) else
 (if pc = 10 then in_push (.int 0) 11 else in_no)) else
 (if pc < 13 then
 (if pc = 11 then in_ist 4 13 else in_no) else
 (if pc = 13 then in_ild 4 15 else in_no))) else
 (if pc < 19 then
 (if pc < 16 then
 (if pc = 15 then in_ild 3 16 else in_no) else
 (if pc = 16 then in_if2 (fun x y => y ≤ x) 48 19 else in_no)) else
 (if pc < 20 then
 (if pc = 19 then in_ald 2 20 else in_no) else
 (if pc = 20 then in_ild 4 22 else in_no))))) else
 (if pc < 36 then
 (if pc < 28 then
 (if pc < 25 then
 (if pc < 23 then
 (if pc = 22 then in_lar YX 23 else in_no) else
 (if pc = 23 then in_lst 5 25 else in_no)) else
 (if pc < 26 then
 (if pc = 25 then in_ild 1 26 else in_no) else
 (if pc = 26 then in_lld 5 28 else in_no))) else
 (if pc < 32 then
 (if pc < 31 then
 (if pc = 28 then in_push (.long 2000000000000) 31 else in_no) else
 (if pc = 31 then in_lli lg_cmp 32 else in_no)) else
 (if pc < 35 then
 (if pc = 32 then in_if1 (fun x => x = 0) 35 39 else in_no) else
 (if pc = 35 then in_push (.int 0) 36 else in_no)))) else
 (if pc < 42 then
 (if pc < 40 then
 (if pc < 39 then
 (if pc = 36 then in_go 40 else in_no) else
 (if pc = 39 then in_push (.int 1) 40 else in_no)) else
 (if pc < 41 then
 (if pc = 40 then in_iii (fun x y => x + y) 41 else in_no) else
 (if pc = 41 then in_ist 1 42 else in_no))) else
 (if pc < 48 then
 (if pc < 45 then
 (if pc = 42 then in_inc 4 1 45 else in_no) else
 (if pc = 45 then in_go 13 else in_no)) else
 (if pc < 49 then
 (if pc = 48 then in_ild 1 49 else in_no) else
 (if pc = 49 then in_ri else in_no))))))
theorem tk_X0_toldMany {l : Launch} {w : ma_Wd} {NC : Nat} {A : Nat → Prop} {p : Program} {e : Env} {s : State} {m : MethodId} {args : Array Value} {below : List Frame} {meth : Method} {c : Code} (X : ma_Cx p s m args meth c w YX NC A yX0_toldMany.cls cX0_toldMany 7 (some .int)) : ∀ pc, ma_Ok p l e rm_X0_toldMany s m args below meth c w YX NC A 7 pc (tb_X0_toldMany pc) := fun pc =>
 (mk_lt
 (mk_lt
 (mk_lt
 (mk_lt
 (mk_eq (mk_iconst X dX0_toldMany_0 rfl rfl))
 (mk_lt
 (mk_eq (mk_istore_n X dX0_toldMany_1 rfl (Nat.le_of_ble_eq_true rfl) rfl))
 (mk_eq (mk_aload_n X dX0_toldMany_2 rfl rfl))))
 (mk_lt
 (mk_lt
 (mk_eq (mk_get X (ci := 0) (j := 21) rfl in_X0 (Nat.le_of_ble_eq_true rfl) q267 dX0_toldMany_3 rfl))
 (mk_eq (mk_astore_n X dX0_toldMany_6 rfl (Nat.le_of_ble_eq_true rfl) rfl)))
 (mk_lt
 (mk_eq (mk_aload_n X dX0_toldMany_7 rfl rfl))
 (mk_eq (mk_len X dX0_toldMany_8 rfl)))))
 (mk_lt
 (mk_lt
 (mk_lt
 (mk_eq (mk_istore_n X dX0_toldMany_9 rfl (Nat.le_of_ble_eq_true rfl) rfl))
 (mk_eq (mk_iconst X dX0_toldMany_10 rfl rfl)))
 (mk_lt
 (mk_eq (mk_istore X dX0_toldMany_11 (Nat.le_of_ble_eq_true rfl) rfl))
 (mk_eq (mk_iload X dX0_toldMany_13 rfl))))
 (mk_lt
 (mk_lt
 (mk_eq (mk_iload_n X dX0_toldMany_15 rfl rfl))
 (mk_eq (mk_icge X dX0_toldMany_16 rfl rfl)))
 (mk_lt
 (mk_eq (mk_aload_n X dX0_toldMany_19 rfl rfl))
 (mk_eq (mk_iload X dX0_toldMany_20 rfl))))))
 (mk_lt
 (mk_lt
 (mk_lt
 (mk_lt
 (mk_eq (mk_lar X dX0_toldMany_22 rfl))
 (mk_eq (mk_lstore X dX0_toldMany_23 (Nat.le_of_ble_eq_true rfl) rfl)))
 (mk_lt
 (mk_eq (mk_iload_n X dX0_toldMany_25 rfl rfl))
 (mk_eq (mk_lload X dX0_toldMany_26 rfl))))
 (mk_lt
 (mk_lt
 (mk_eq (mk_ldc2 X dX0_toldMany_28 q221 rfl))
 (mk_eq (mk_lcmp X dX0_toldMany_31 rfl)))
 (mk_lt
 (mk_eq (mk_ifne X dX0_toldMany_32 rfl rfl))
 (mk_eq (mk_iconst X dX0_toldMany_35 rfl rfl)))))
 (mk_lt
 (mk_lt
 (mk_lt
 (mk_eq (mk_goto X dX0_toldMany_36 rfl))
 (mk_eq (mk_iconst X dX0_toldMany_39 rfl rfl)))
 (mk_lt
 (mk_eq (mk_iadd X dX0_toldMany_40 rfl))
 (mk_eq (mk_istore_n X dX0_toldMany_41 rfl (Nat.le_of_ble_eq_true rfl) rfl))))
 (mk_lt
 (mk_lt
 (mk_eq (mk_iinc X dX0_toldMany_42 rfl (Nat.le_of_ble_eq_true rfl) rfl))
 (mk_eq (mk_goto X dX0_toldMany_45 rfl)))
 (mk_lt
 (mk_eq (mk_iload_n X dX0_toldMany_48 rfl rfl))
 (mk_eq (mk_ri X dX0_toldMany_49)))))))
theorem sd_X0_toldMany {l : Launch} {w : ma_Wd} {NC : Nat} {A : Nat → Prop} (hw : ma_Wo w YX NC A) : ma_Sd l w YX NC A yX0_toldMany cX0_toldMany 7 (some .int) rm_X0_toldMany (ma_rn (tb_X0_toldMany) 7) := ma_of hw (by decide) ⟨rfl, rfl⟩ (fun X => tk_X0_toldMany  X)
theorem dX0_offOf_0 : decode cX0_offOf 0 = .ok (.lconst 0, 1) := by decide +kernel
theorem dX0_offOf_1 : decode cX0_offOf 1 = .ok (.lstore_n 2, 1) := by decide +kernel
theorem dX0_offOf_2 : decode cX0_offOf 2 = .ok (.iconst 0, 1) := by decide +kernel
theorem dX0_offOf_3 : decode cX0_offOf 3 = .ok (.istore 4, 2) := by decide +kernel
theorem dX0_offOf_5 : decode cX0_offOf 5 = .ok (.iload 4, 2) := by decide +kernel
theorem dX0_offOf_7 : decode cX0_offOf 7 = .ok (.aload_n 0, 1) := by decide +kernel
theorem dX0_offOf_8 : decode cX0_offOf 8 = .ok (.invokevirtual 121, 3) := by decide +kernel
theorem dX0_offOf_11 : decode cX0_offOf 11 = .ok (.if_icmp .ge 70, 3) := by decide +kernel
theorem dX0_offOf_14 : decode cX0_offOf 14 = .ok (.lload_n 2, 1) := by decide +kernel
theorem dX0_offOf_15 : decode cX0_offOf 15 = .ok (.iload_n 1, 1) := by decide +kernel
theorem dX0_offOf_16 : decode cX0_offOf 16 = .ok (.bipush 6, 2) := by decide +kernel
theorem dX0_offOf_18 : decode cX0_offOf 18 = .ok (.if_icmp .ge 17, 3) := by decide +kernel
theorem dX0_offOf_21 : decode cX0_offOf 21 = .ok (.iload 4, 2) := by decide +kernel
theorem dX0_offOf_23 : decode cX0_offOf 23 = .ok (.aload_n 0, 1) := by decide +kernel
theorem dX0_offOf_24 : decode cX0_offOf 24 = .ok (.getfield 38, 3) := by decide +kernel
theorem dX0_offOf_27 : decode cX0_offOf 27 = .ok (.idiv, 1) := by decide +kernel
theorem dX0_offOf_28 : decode cX0_offOf 28 = .ok (.iload_n 1, 1) := by decide +kernel
theorem dX0_offOf_29 : decode cX0_offOf 29 = .ok (.if_icmp .ne 43, 3) := by decide +kernel
theorem dX0_offOf_32 : decode cX0_offOf 32 = .ok (.goto 17, 3) := by decide +kernel
theorem dX0_offOf_35 : decode cX0_offOf 35 = .ok (.iload 4, 2) := by decide +kernel
theorem dX0_offOf_37 : decode cX0_offOf 37 = .ok (.aload_n 0, 1) := by decide +kernel
theorem dX0_offOf_38 : decode cX0_offOf 38 = .ok (.getfield 38, 3) := by decide +kernel
theorem dX0_offOf_41 : decode cX0_offOf 41 = .ok (.irem, 1) := by decide +kernel
theorem dX0_offOf_42 : decode cX0_offOf 42 = .ok (.iload_n 1, 1) := by decide +kernel
theorem dX0_offOf_43 : decode cX0_offOf 43 = .ok (.bipush 6, 2) := by decide +kernel
theorem dX0_offOf_45 : decode cX0_offOf 45 = .ok (.isub, 1) := by decide +kernel
theorem dX0_offOf_46 : decode cX0_offOf 46 = .ok (.if_icmp .ne 26, 3) := by decide +kernel
theorem dX0_offOf_49 : decode cX0_offOf 49 = .ok (.aload_n 0, 1) := by decide +kernel
theorem dX0_offOf_50 : decode cX0_offOf 50 = .ok (.getfield 71, 3) := by decide +kernel
theorem dX0_offOf_53 : decode cX0_offOf 53 = .ok (.aload_n 0, 1) := by decide +kernel
theorem dX0_offOf_54 : decode cX0_offOf 54 = .ok (.getfield 244, 3) := by decide +kernel
theorem dX0_offOf_57 : decode cX0_offOf 57 = .ok (.iload 4, 2) := by decide +kernel
theorem dX0_offOf_59 : decode cX0_offOf 59 = .ok (.aload_n 0, 1) := by decide +kernel
theorem dX0_offOf_60 : decode cX0_offOf 60 = .ok (.getfield 247, 3) := by decide +kernel
theorem dX0_offOf_63 : decode cX0_offOf 63 = .ok (.invokevirtual 214, 3) := by decide +kernel
theorem dX0_offOf_66 : decode cX0_offOf 66 = .ok (.invokestatic 227, 3) := by decide +kernel
theorem dX0_offOf_69 : decode cX0_offOf 69 = .ok (.goto 4, 3) := by decide +kernel
theorem dX0_offOf_72 : decode cX0_offOf 72 = .ok (.lconst 0, 1) := by decide +kernel
theorem dX0_offOf_73 : decode cX0_offOf 73 = .ok (.ladd, 1) := by decide +kernel
theorem dX0_offOf_74 : decode cX0_offOf 74 = .ok (.lstore_n 2, 1) := by decide +kernel
theorem dX0_offOf_75 : decode cX0_offOf 75 = .ok (.iinc 4 1, 3) := by decide +kernel
theorem dX0_offOf_78 : decode cX0_offOf 78 = .ok (.goto (-73), 3) := by decide +kernel
theorem dX0_offOf_81 : decode cX0_offOf 81 = .ok (.aload_n 0, 1) := by decide +kernel
theorem dX0_offOf_82 : decode cX0_offOf 82 = .ok (.getfield 77, 3) := by decide +kernel
theorem dX0_offOf_85 : decode cX0_offOf 85 = .ok (.iload_n 1, 1) := by decide +kernel
theorem dX0_offOf_86 : decode cX0_offOf 86 = .ok (.laload, 1) := by decide +kernel
theorem dX0_offOf_87 : decode cX0_offOf 87 = .ok (.lload_n 2, 1) := by decide +kernel
theorem dX0_offOf_88 : decode cX0_offOf 88 = .ok (.lsub, 1) := by decide +kernel
theorem dX0_offOf_89 : decode cX0_offOf 89 = .ok (.lreturn, 1) := by decide +kernel
def tb_X0_offOf (S_X0_cells S_X3_at S_X0_countOf : ma_Cs) : Nat → ma_In := fun pc =>
 (if pc < 43 then
 (if pc < 21 then
 (if pc < 8 then
 (if pc < 3 then
 (if pc < 1 then
 (if pc = 0 then in_push (.long 0) 1 else in_no) else
 (if pc < 2 then
 (if pc = 1 then in_lst 2 2 else in_no) else
 (if pc = 2 then in_push (.int 0) 3 else in_no))) else
 (if pc < 5 then
 (if pc = 3 then in_ist 4 5 else in_no) else
 (if pc < 7 then
 (if pc = 5 then in_ild 4 7 else in_no) else
 (if pc = 7 then in_ald 0 8 else in_no)))) else
 (if pc < 15 then
 (if pc < 11 then
 (if pc = 8 then in_v1 YX 0 S_X0_cells 11 else in_no) else
 (if pc < 14 then
 (if pc = 11 then in_if2 (fun x y => y ≤ x) 81 14 else in_no) else
 (if pc = 14 then in_lld 2 15 else in_no))) else
 (if pc < 16 then
 (if pc = 15 then in_ild 1 16 else in_no) else
 (if pc < 18 then
 (if pc = 16 then in_push (.int 6) 18 else in_no) else
 (if pc = 18 then in_if2 (fun x y => y ≤ x) 35 21 else in_no))))) else
 (if pc < 32 then
 (if pc < 27 then
 (if pc < 23 then
 (if pc = 21 then in_ild 4 23 else in_no) else
 (if pc < 24 then
 (if pc = 23 then in_ald 0 24 else in_no) else
 (if pc = 24 then in_get YX 0 5 27 else in_no))) else
 (if pc < 28 then
 (if pc = 27 then in_idv (fun x y => x / y) 28 else in_no) else
 (if pc < 29 then
 (if pc = 28 then in_ild 1 29 else in_no) else
 (if pc = 29 then in_if2 (fun x y => x = y) 32 72 else in_no)))) else
 (if pc < 38 then
 (if pc < 35 then
 (if pc = 32 then in_go 49 else in_no) else
 (if pc < 37 then
 (if pc = 35 then in_ild 4 37 else in_no) else
 (if pc = 37 then in_ald 0 38 else in_no))) else
 (if pc < 41 then
 (if pc = 38 then in_get YX 0 5 41 else in_no) else
 (if pc < 42 then
 (if pc = 41 then in_idv (fun x y => x - x / y * y) 42 else in_no) else
 (if pc = 42 then in_ild 1 43 else in_no)))))) else
 (if pc < 69 then
 (if pc < 54 then
 (if pc < 49 then
 (if pc < 45 then
 (if pc = 43 then in_push (.int 6) 45 else in_no) else
 (if pc < 46 then
 (if pc = 45 then in_iii (fun x y => x - y) 46 else in_no) else
 (if pc = 46 then in_if2 (fun x y => x = y) 49 72 else in_no))) else
 (if pc < 50 then
 (if pc = 49 then in_ald 0 50 else in_no) else
 (if pc < 53 then
 (if pc = 50 then in_get YX 0 17 53 else in_no) else
 (if pc = 53 then in_ald 0 54 else in_no)))) else
 (if pc < 60 then
 (if pc < 57 then
 (if pc = 54 then in_get YX 0 19 57 else in_no) else
 (if pc < 59 then
 (if pc = 57 then in_ild 4 59 else in_no) else
 (if pc = 59 then in_ald 0 60 else in_no))) else
 (if pc < 63 then
 (if pc = 60 then in_get YX 0 20 63 else in_no) else
 (if pc < 66 then
 (if pc = 63 then in_v4 YX 3 S_X3_at 66 else in_no) else
 (if pc = 66 then in_s1 S_X0_countOf 69 else in_no))))) else
 (if pc < 81 then
 (if pc < 74 then
 (if pc < 72 then
 (if pc = 69 then in_go 73 else in_no) else
 (if pc < 73 then
 (if pc = 72 then in_push (.long 0) 73 else in_no) else
 (if pc = 73 then in_lll (fun x y => x + y) 74 else in_no))) else
 (if pc < 75 then
 (if pc = 74 then in_lst 2 75 else in_no) else
 (if pc < 78 then
 (if pc = 75 then in_inc 4 1 78 else in_no) else
 (if pc = 78 then in_go 5 else in_no)))) else
 (if pc < 86 then
 (if pc < 82 then
 (if pc = 81 then in_ald 0 82 else in_no) else
 (if pc < 85 then
 (if pc = 82 then in_get YX 0 21 85 else in_no) else
 (if pc = 85 then in_ild 1 86 else in_no))) else
 (if pc < 88 then
 (if pc < 87 then
 (if pc = 86 then in_lar YX 87 else in_no) else
 (if pc = 87 then in_lld 2 88 else in_no)) else
 (if pc < 89 then
 (if pc = 88 then in_lll (fun x y => x - y) 89 else in_no) else
 (if pc = 89 then in_rl else in_no)))))))
theorem tk_X0_offOf {l : Launch} {w : ma_Wd} {NC : Nat} {A : Nat → Prop} {S_X0_cells S_X3_at S_X0_countOf : ma_Cs} (h_X0_cells : ma_Sd l w YX NC A yX0_cells cX0_cells 1 (some .int) rm_X0_cells S_X0_cells) (h_X3_at : ma_Sd l w YX NC A yX3_at cX3_at 4 (some .int) rm_X3_at S_X3_at) (h_X0_countOf : ma_Sd l w YX NC A yX0_countOf cX0_countOf 1 (some .long) rm_X0_countOf S_X0_countOf) {p : Program} {e : Env} {s : State} {m : MethodId} {args : Array Value} {below : List Frame} {meth : Method} {c : Code} (X : ma_Cx p s m args meth c w YX NC A yX0_offOf.cls cX0_offOf 5 (some .long)) : ∀ pc, ma_Ok p l e rm_X0_offOf s m args below meth c w YX NC A 5 pc (tb_X0_offOf S_X0_cells S_X3_at S_X0_countOf pc) := fun pc =>
 (mk_lt
 (mk_lt
 (mk_lt
 (mk_lt
 (mk_lt
 (mk_eq (mk_lconst X dX0_offOf_0 rfl rfl))
 (mk_lt
 (mk_eq (mk_lstore_n X dX0_offOf_1 rfl (Nat.le_of_ble_eq_true rfl) rfl))
 (mk_eq (mk_iconst X dX0_offOf_2 rfl rfl))))
 (mk_lt
 (mk_eq (mk_istore X dX0_offOf_3 (Nat.le_of_ble_eq_true rfl) rfl))
 (mk_lt
 (mk_eq (mk_iload X dX0_offOf_5 rfl))
 (mk_eq (mk_aload_n X dX0_offOf_7 rfl rfl)))))
 (mk_lt
 (mk_lt
 (mk_eq (mk_V1 X h_X0_cells (ci := 0) rfl (lw_V q358 q360 qs2 q61 q361) ⟨rfl, by decide, by decide, rfl⟩ ⟨(Nat.le_of_ble_eq_true rfl), (Nat.le_of_ble_eq_true rfl)⟩ dX0_offOf_8 rfl))
 (mk_lt
 (mk_eq (mk_icge X dX0_offOf_11 rfl rfl))
 (mk_eq (mk_lload_n X dX0_offOf_14 rfl rfl))))
 (mk_lt
 (mk_eq (mk_iload_n X dX0_offOf_15 rfl rfl))
 (mk_lt
 (mk_eq (mk_bipush X dX0_offOf_16 rfl rfl))
 (mk_eq (mk_icge X dX0_offOf_18 rfl rfl))))))
 (mk_lt
 (mk_lt
 (mk_lt
 (mk_eq (mk_iload X dX0_offOf_21 rfl))
 (mk_lt
 (mk_eq (mk_aload_n X dX0_offOf_23 rfl rfl))
 (mk_eq (mk_get X (ci := 0) (j := 5) rfl in_X0 (Nat.le_of_ble_eq_true rfl) q232 dX0_offOf_24 rfl))))
 (mk_lt
 (mk_eq (mk_idiv X dX0_offOf_27 rfl))
 (mk_lt
 (mk_eq (mk_iload_n X dX0_offOf_28 rfl rfl))
 (mk_eq (mk_icne X dX0_offOf_29 rfl rfl)))))
 (mk_lt
 (mk_lt
 (mk_eq (mk_goto X dX0_offOf_32 rfl))
 (mk_lt
 (mk_eq (mk_iload X dX0_offOf_35 rfl))
 (mk_eq (mk_aload_n X dX0_offOf_37 rfl rfl))))
 (mk_lt
 (mk_eq (mk_get X (ci := 0) (j := 5) rfl in_X0 (Nat.le_of_ble_eq_true rfl) q232 dX0_offOf_38 rfl))
 (mk_lt
 (mk_eq (mk_irem X dX0_offOf_41 rfl))
 (mk_eq (mk_iload_n X dX0_offOf_42 rfl rfl)))))))
 (mk_lt
 (mk_lt
 (mk_lt
 (mk_lt
 (mk_eq (mk_bipush X dX0_offOf_43 rfl rfl))
 (mk_lt
 (mk_eq (mk_isub X dX0_offOf_45 rfl))
 (mk_eq (mk_icne X dX0_offOf_46 rfl rfl))))
 (mk_lt
 (mk_eq (mk_aload_n X dX0_offOf_49 rfl rfl))
 (mk_lt
 (mk_eq (mk_get X (ci := 0) (j := 17) rfl in_X0 (Nat.le_of_ble_eq_true rfl) q263 dX0_offOf_50 rfl))
 (mk_eq (mk_aload_n X dX0_offOf_53 rfl rfl)))))
 (mk_lt
 (mk_lt
 (mk_eq (mk_get X (ci := 0) (j := 19) rfl in_X0 (Nat.le_of_ble_eq_true rfl) q265 dX0_offOf_54 rfl))
 (mk_lt
 (mk_eq (mk_iload X dX0_offOf_57 rfl))
 (mk_eq (mk_aload_n X dX0_offOf_59 rfl rfl))))
 (mk_lt
 (mk_eq (mk_get X (ci := 0) (j := 20) rfl in_X0 (Nat.le_of_ble_eq_true rfl) q266 dX0_offOf_60 rfl))
 (mk_lt
 (mk_eq (mk_V4 X h_X3_at (ci := 3) rfl (lw_V q553 q516 q517 q64 q518) ⟨rfl, by decide, by decide, rfl⟩ ⟨(Nat.le_of_ble_eq_true rfl), (Nat.le_of_ble_eq_true rfl)⟩ dX0_offOf_63 rfl))
 (mk_eq (mk_S1 X h_X0_countOf (lw_S q564 q565 q61 q566) ⟨by decide, by decide, rfl⟩ ⟨(Nat.le_of_ble_eq_true rfl), (Nat.le_of_ble_eq_true rfl)⟩ dX0_offOf_66 rfl))))))
 (mk_lt
 (mk_lt
 (mk_lt
 (mk_eq (mk_goto X dX0_offOf_69 rfl))
 (mk_lt
 (mk_eq (mk_lconst X dX0_offOf_72 rfl rfl))
 (mk_eq (mk_ladd X dX0_offOf_73 rfl))))
 (mk_lt
 (mk_eq (mk_lstore_n X dX0_offOf_74 rfl (Nat.le_of_ble_eq_true rfl) rfl))
 (mk_lt
 (mk_eq (mk_iinc X dX0_offOf_75 rfl (Nat.le_of_ble_eq_true rfl) rfl))
 (mk_eq (mk_goto X dX0_offOf_78 rfl)))))
 (mk_lt
 (mk_lt
 (mk_eq (mk_aload_n X dX0_offOf_81 rfl rfl))
 (mk_lt
 (mk_eq (mk_get X (ci := 0) (j := 21) rfl in_X0 (Nat.le_of_ble_eq_true rfl) q267 dX0_offOf_82 rfl))
 (mk_eq (mk_iload_n X dX0_offOf_85 rfl rfl))))
 (mk_lt
 (mk_lt
 (mk_eq (mk_lar X dX0_offOf_86 rfl))
 (mk_eq (mk_lload_n X dX0_offOf_87 rfl rfl)))
 (mk_lt
 (mk_eq (mk_lsub X dX0_offOf_88 rfl))
 (mk_eq (mk_rl X dX0_offOf_89))))))))
theorem sd_X0_offOf {l : Launch} {w : ma_Wd} {NC : Nat} {A : Nat → Prop} {S_X0_cells S_X3_at S_X0_countOf : ma_Cs} (hw : ma_Wo w YX NC A) (h_X0_cells : ma_Sd l w YX NC A yX0_cells cX0_cells 1 (some .int) rm_X0_cells S_X0_cells) (h_X3_at : ma_Sd l w YX NC A yX3_at cX3_at 4 (some .int) rm_X3_at S_X3_at) (h_X0_countOf : ma_Sd l w YX NC A yX0_countOf cX0_countOf 1 (some .long) rm_X0_countOf S_X0_countOf) : ma_Sd l w YX NC A yX0_offOf cX0_offOf 5 (some .long) rm_X0_offOf (ma_rn (tb_X0_offOf S_X0_cells S_X3_at S_X0_countOf) 5) := ma_of hw (by decide) ⟨rfl, rfl⟩ (fun X => tk_X0_offOf h_X0_cells h_X3_at h_X0_countOf X)
theorem dX0_least_0 : decode cX0_least 0 = .ok (.aload_n 0, 1) := by decide +kernel
theorem dX0_least_1 : decode cX0_least 1 = .ok (.invokevirtual 250, 3) := by decide +kernel
theorem dX0_least_4 : decode cX0_least 4 = .ok (.aload_n 0, 1) := by decide +kernel
theorem dX0_least_5 : decode cX0_least 5 = .ok (.getfield 38, 3) := by decide +kernel
theorem dX0_least_8 : decode cX0_least 8 = .ok (.aload_n 0, 1) := by decide +kernel
theorem dX0_least_9 : decode cX0_least 9 = .ok (.getfield 42, 3) := by decide +kernel
theorem dX0_least_12 : decode cX0_least 12 = .ok (.iadd, 1) := by decide +kernel
theorem dX0_least_13 : decode cX0_least 13 = .ok (.if_icmp .ge 6, 3) := by decide +kernel
theorem dX0_least_16 : decode cX0_least 16 = .ok (.bipush (-2), 2) := by decide +kernel
theorem dX0_least_18 : decode cX0_least 18 = .ok (.ireturn, 1) := by decide +kernel
theorem dX0_least_19 : decode cX0_least 19 = .ok (.aload_n 0, 1) := by decide +kernel
theorem dX0_least_20 : decode cX0_least 20 = .ok (.invokevirtual 211, 3) := by decide +kernel
theorem dX0_least_23 : decode cX0_least 23 = .ok (.lconst 0, 1) := by decide +kernel
theorem dX0_least_24 : decode cX0_least 24 = .ok (.lstore_n 1, 1) := by decide +kernel
theorem dX0_least_25 : decode cX0_least 25 = .ok (.iconst 0, 1) := by decide +kernel
theorem dX0_least_26 : decode cX0_least 26 = .ok (.istore_n 3, 1) := by decide +kernel
theorem dX0_least_27 : decode cX0_least 27 = .ok (.iconst 0, 1) := by decide +kernel
theorem dX0_least_28 : decode cX0_least 28 = .ok (.istore 4, 2) := by decide +kernel
theorem dX0_least_30 : decode cX0_least 30 = .ok (.iload 4, 2) := by decide +kernel
theorem dX0_least_32 : decode cX0_least 32 = .ok (.bipush 12, 2) := by decide +kernel
theorem dX0_least_34 : decode cX0_least 34 = .ok (.if_icmp .ge 91, 3) := by decide +kernel
theorem dX0_least_37 : decode cX0_least 37 = .ok (.aload_n 0, 1) := by decide +kernel
theorem dX0_least_38 : decode cX0_least 38 = .ok (.getfield 81, 3) := by decide +kernel
theorem dX0_least_41 : decode cX0_least 41 = .ok (.iload 4, 2) := by decide +kernel
theorem dX0_least_43 : decode cX0_least 43 = .ok (.aload_n 0, 1) := by decide +kernel
theorem dX0_least_44 : decode cX0_least 44 = .ok (.getfield 77, 3) := by decide +kernel
theorem dX0_least_47 : decode cX0_least 47 = .ok (.iload 4, 2) := by decide +kernel
theorem dX0_least_49 : decode cX0_least 49 = .ok (.laload, 1) := by decide +kernel
theorem dX0_least_50 : decode cX0_least 50 = .ok (.ldc2_w 238, 3) := by decide +kernel
theorem dX0_least_53 : decode cX0_least 53 = .ok (.lcmp, 1) := by decide +kernel
theorem dX0_least_54 : decode cX0_least 54 = .ok (.ifCond .ne 7, 3) := by decide +kernel
theorem dX0_least_57 : decode cX0_least 57 = .ok (.lconst 0, 1) := by decide +kernel
theorem dX0_least_58 : decode cX0_least 58 = .ok (.goto 9, 3) := by decide +kernel
theorem dX0_least_61 : decode cX0_least 61 = .ok (.aload_n 0, 1) := by decide +kernel
theorem dX0_least_62 : decode cX0_least 62 = .ok (.iload 4, 2) := by decide +kernel
theorem dX0_least_64 : decode cX0_least 64 = .ok (.invokevirtual 253, 3) := by decide +kernel
theorem dX0_least_67 : decode cX0_least 67 = .ok (.lastore, 1) := by decide +kernel
theorem dX0_least_68 : decode cX0_least 68 = .ok (.lload_n 1, 1) := by decide +kernel
theorem dX0_least_69 : decode cX0_least 69 = .ok (.iload 4, 2) := by decide +kernel
theorem dX0_least_71 : decode cX0_least 71 = .ok (.bipush 6, 2) := by decide +kernel
theorem dX0_least_73 : decode cX0_least 73 = .ok (.if_icmp .ge 13, 3) := by decide +kernel
theorem dX0_least_76 : decode cX0_least 76 = .ok (.aload_n 0, 1) := by decide +kernel
theorem dX0_least_77 : decode cX0_least 77 = .ok (.getfield 81, 3) := by decide +kernel
theorem dX0_least_80 : decode cX0_least 80 = .ok (.iload 4, 2) := by decide +kernel
theorem dX0_least_82 : decode cX0_least 82 = .ok (.laload, 1) := by decide +kernel
theorem dX0_least_83 : decode cX0_least 83 = .ok (.goto 11, 3) := by decide +kernel
theorem dX0_least_86 : decode cX0_least 86 = .ok (.aload_n 0, 1) := by decide +kernel
theorem dX0_least_87 : decode cX0_least 87 = .ok (.getfield 81, 3) := by decide +kernel
theorem dX0_least_90 : decode cX0_least 90 = .ok (.iload 4, 2) := by decide +kernel
theorem dX0_least_92 : decode cX0_least 92 = .ok (.laload, 1) := by decide +kernel
theorem dX0_least_93 : decode cX0_least 93 = .ok (.lneg, 1) := by decide +kernel
theorem dX0_least_94 : decode cX0_least 94 = .ok (.ladd, 1) := by decide +kernel
theorem dX0_least_95 : decode cX0_least 95 = .ok (.lstore_n 1, 1) := by decide +kernel
theorem dX0_least_96 : decode cX0_least 96 = .ok (.iload_n 3, 1) := by decide +kernel
theorem dX0_least_97 : decode cX0_least 97 = .ok (.aload_n 0, 1) := by decide +kernel
theorem dX0_least_98 : decode cX0_least 98 = .ok (.getfield 81, 3) := by decide +kernel
theorem dX0_least_101 : decode cX0_least 101 = .ok (.iload 4, 2) := by decide +kernel
theorem dX0_least_103 : decode cX0_least 103 = .ok (.laload, 1) := by decide +kernel
theorem dX0_least_104 : decode cX0_least 104 = .ok (.lconst 0, 1) := by decide +kernel
theorem dX0_least_105 : decode cX0_least 105 = .ok (.lcmp, 1) := by decide +kernel
theorem dX0_least_106 : decode cX0_least 106 = .ok (.ifCond .ne 7, 3) := by decide +kernel
theorem dX0_least_109 : decode cX0_least 109 = .ok (.iconst 0, 1) := by decide +kernel
theorem dX0_least_110 : decode cX0_least 110 = .ok (.goto 7, 3) := by decide +kernel
theorem dX0_least_113 : decode cX0_least 113 = .ok (.iconst 1, 1) := by decide +kernel
theorem dX0_least_114 : decode cX0_least 114 = .ok (.iload 4, 2) := by decide +kernel
theorem dX0_least_116 : decode cX0_least 116 = .ok (.ishl, 1) := by decide +kernel
theorem dX0_least_117 : decode cX0_least 117 = .ok (.ior, 1) := by decide +kernel
theorem dX0_least_118 : decode cX0_least 118 = .ok (.istore_n 3, 1) := by decide +kernel
theorem dX0_least_119 : decode cX0_least 119 = .ok (.iinc 4 1, 3) := by decide +kernel
theorem dX0_least_122 : decode cX0_least 122 = .ok (.goto (-92), 3) := by decide +kernel
theorem dX0_least_125 : decode cX0_least 125 = .ok (.lload_n 1, 1) := by decide +kernel
theorem dX0_least_126 : decode cX0_least 126 = .ok (.lconst 0, 1) := by decide +kernel
theorem dX0_least_127 : decode cX0_least 127 = .ok (.lcmp, 1) := by decide +kernel
theorem dX0_least_128 : decode cX0_least 128 = .ok (.ifCond .eq 6, 3) := by decide +kernel
theorem dX0_least_131 : decode cX0_least 131 = .ok (.bipush (-2), 2) := by decide +kernel
theorem dX0_least_133 : decode cX0_least 133 = .ok (.ireturn, 1) := by decide +kernel
theorem dX0_least_134 : decode cX0_least 134 = .ok (.iload_n 3, 1) := by decide +kernel
theorem dX0_least_135 : decode cX0_least 135 = .ok (.istore 4, 2) := by decide +kernel
theorem dX0_least_137 : decode cX0_least 137 = .ok (.aload_n 0, 1) := by decide +kernel
theorem dX0_least_138 : decode cX0_least 138 = .ok (.getfield 84, 3) := by decide +kernel
theorem dX0_least_141 : decode cX0_least 141 = .ok (.iload 4, 2) := by decide +kernel
theorem dX0_least_143 : decode cX0_least 143 = .ok (.iconst 0, 1) := by decide +kernel
theorem dX0_least_144 : decode cX0_least 144 = .ok (.iastore, 1) := by decide +kernel
theorem dX0_least_145 : decode cX0_least 145 = .ok (.iload 4, 2) := by decide +kernel
theorem dX0_least_147 : decode cX0_least 147 = .ok (.ifCond .ne 6, 3) := by decide +kernel
theorem dX0_least_150 : decode cX0_least 150 = .ok (.goto 14, 3) := by decide +kernel
theorem dX0_least_153 : decode cX0_least 153 = .ok (.iload 4, 2) := by decide +kernel
theorem dX0_least_155 : decode cX0_least 155 = .ok (.iconst 1, 1) := by decide +kernel
theorem dX0_least_156 : decode cX0_least 156 = .ok (.isub, 1) := by decide +kernel
theorem dX0_least_157 : decode cX0_least 157 = .ok (.iload_n 3, 1) := by decide +kernel
theorem dX0_least_158 : decode cX0_least 158 = .ok (.iand, 1) := by decide +kernel
theorem dX0_least_159 : decode cX0_least 159 = .ok (.istore 4, 2) := by decide +kernel
theorem dX0_least_161 : decode cX0_least 161 = .ok (.goto (-24), 3) := by decide +kernel
theorem dX0_least_164 : decode cX0_least 164 = .ok (.iconst 1, 1) := by decide +kernel
theorem dX0_least_165 : decode cX0_least 165 = .ok (.istore 4, 2) := by decide +kernel
theorem dX0_least_167 : decode cX0_least 167 = .ok (.iload 4, 2) := by decide +kernel
theorem dX0_least_169 : decode cX0_least 169 = .ok (.iload_n 3, 1) := by decide +kernel
theorem dX0_least_170 : decode cX0_least 170 = .ok (.if_icmp .gt 104, 3) := by decide +kernel
theorem dX0_least_173 : decode cX0_least 173 = .ok (.iload 4, 2) := by decide +kernel
theorem dX0_least_175 : decode cX0_least 175 = .ok (.iload_n 3, 1) := by decide +kernel
theorem dX0_least_176 : decode cX0_least 176 = .ok (.iconst (-1), 1) := by decide +kernel
theorem dX0_least_177 : decode cX0_least 177 = .ok (.ixor, 1) := by decide +kernel
theorem dX0_least_178 : decode cX0_least 178 = .ok (.iand, 1) := by decide +kernel
theorem dX0_least_179 : decode cX0_least 179 = .ok (.ifCond .ne 89, 3) := by decide +kernel
theorem dX0_least_182 : decode cX0_least 182 = .ok (.aload_n 0, 1) := by decide +kernel
theorem dX0_least_183 : decode cX0_least 183 = .ok (.getfield 84, 3) := by decide +kernel
theorem dX0_least_186 : decode cX0_least 186 = .ok (.iload 4, 2) := by decide +kernel
theorem dX0_least_188 : decode cX0_least 188 = .ok (.iload 4, 2) := by decide +kernel
theorem dX0_least_190 : decode cX0_least 190 = .ok (.iconst 1, 1) := by decide +kernel
theorem dX0_least_191 : decode cX0_least 191 = .ok (.isub, 1) := by decide +kernel
theorem dX0_least_192 : decode cX0_least 192 = .ok (.iand, 1) := by decide +kernel
theorem dX0_least_193 : decode cX0_least 193 = .ok (.iaload, 1) := by decide +kernel
theorem dX0_least_194 : decode cX0_least 194 = .ok (.istore 5, 2) := by decide +kernel
theorem dX0_least_196 : decode cX0_least 196 = .ok (.iload 4, 2) := by decide +kernel
theorem dX0_least_198 : decode cX0_least 198 = .ok (.istore 6, 2) := by decide +kernel
theorem dX0_least_200 : decode cX0_least 200 = .ok (.iload 6, 2) := by decide +kernel
theorem dX0_least_202 : decode cX0_least 202 = .ok (.ifCond .le 57, 3) := by decide +kernel
theorem dX0_least_205 : decode cX0_least 205 = .ok (.aload_n 0, 1) := by decide +kernel
theorem dX0_least_206 : decode cX0_least 206 = .ok (.getfield 84, 3) := by decide +kernel
theorem dX0_least_209 : decode cX0_least 209 = .ok (.iload 4, 2) := by decide +kernel
theorem dX0_least_211 : decode cX0_least 211 = .ok (.iload 6, 2) := by decide +kernel
theorem dX0_least_213 : decode cX0_least 213 = .ok (.iconst (-1), 1) := by decide +kernel
theorem dX0_least_214 : decode cX0_least 214 = .ok (.ixor, 1) := by decide +kernel
theorem dX0_least_215 : decode cX0_least 215 = .ok (.iand, 1) := by decide +kernel
theorem dX0_least_216 : decode cX0_least 216 = .ok (.iaload, 1) := by decide +kernel
theorem dX0_least_217 : decode cX0_least 217 = .ok (.iload 5, 2) := by decide +kernel
theorem dX0_least_219 : decode cX0_least 219 = .ok (.if_icmp .lt 28, 3) := by decide +kernel
theorem dX0_least_222 : decode cX0_least 222 = .ok (.aload_n 0, 1) := by decide +kernel
theorem dX0_least_223 : decode cX0_least 223 = .ok (.iload 6, 2) := by decide +kernel
theorem dX0_least_225 : decode cX0_least 225 = .ok (.invokevirtual 256, 3) := by decide +kernel
theorem dX0_least_228 : decode cX0_least 228 = .ok (.ifCond .eq 19, 3) := by decide +kernel
theorem dX0_least_231 : decode cX0_least 231 = .ok (.aload_n 0, 1) := by decide +kernel
theorem dX0_least_232 : decode cX0_least 232 = .ok (.getfield 84, 3) := by decide +kernel
theorem dX0_least_235 : decode cX0_least 235 = .ok (.iload 4, 2) := by decide +kernel
theorem dX0_least_237 : decode cX0_least 237 = .ok (.iload 6, 2) := by decide +kernel
theorem dX0_least_239 : decode cX0_least 239 = .ok (.iconst (-1), 1) := by decide +kernel
theorem dX0_least_240 : decode cX0_least 240 = .ok (.ixor, 1) := by decide +kernel
theorem dX0_least_241 : decode cX0_least 241 = .ok (.iand, 1) := by decide +kernel
theorem dX0_least_242 : decode cX0_least 242 = .ok (.iaload, 1) := by decide +kernel
theorem dX0_least_243 : decode cX0_least 243 = .ok (.iconst 1, 1) := by decide +kernel
theorem dX0_least_244 : decode cX0_least 244 = .ok (.iadd, 1) := by decide +kernel
theorem dX0_least_245 : decode cX0_least 245 = .ok (.istore 5, 2) := by decide +kernel
theorem dX0_least_247 : decode cX0_least 247 = .ok (.iload 6, 2) := by decide +kernel
theorem dX0_least_249 : decode cX0_least 249 = .ok (.iconst 1, 1) := by decide +kernel
theorem dX0_least_250 : decode cX0_least 250 = .ok (.isub, 1) := by decide +kernel
theorem dX0_least_251 : decode cX0_least 251 = .ok (.iload 4, 2) := by decide +kernel
theorem dX0_least_253 : decode cX0_least 253 = .ok (.iand, 1) := by decide +kernel
theorem dX0_least_254 : decode cX0_least 254 = .ok (.istore 6, 2) := by decide +kernel
theorem dX0_least_256 : decode cX0_least 256 = .ok (.goto (-56), 3) := by decide +kernel
theorem dX0_least_259 : decode cX0_least 259 = .ok (.aload_n 0, 1) := by decide +kernel
theorem dX0_least_260 : decode cX0_least 260 = .ok (.getfield 84, 3) := by decide +kernel
theorem dX0_least_263 : decode cX0_least 263 = .ok (.iload 4, 2) := by decide +kernel
theorem dX0_least_265 : decode cX0_least 265 = .ok (.iload 5, 2) := by decide +kernel
theorem dX0_least_267 : decode cX0_least 267 = .ok (.iastore, 1) := by decide +kernel
theorem dX0_least_268 : decode cX0_least 268 = .ok (.iinc 4 1, 3) := by decide +kernel
theorem dX0_least_271 : decode cX0_least 271 = .ok (.goto (-104), 3) := by decide +kernel
theorem dX0_least_274 : decode cX0_least 274 = .ok (.iload_n 3, 1) := by decide +kernel
theorem dX0_least_275 : decode cX0_least 275 = .ok (.invokestatic 259, 3) := by decide +kernel
theorem dX0_least_278 : decode cX0_least 278 = .ok (.aload_n 0, 1) := by decide +kernel
theorem dX0_least_279 : decode cX0_least 279 = .ok (.getfield 84, 3) := by decide +kernel
theorem dX0_least_282 : decode cX0_least 282 = .ok (.iload_n 3, 1) := by decide +kernel
theorem dX0_least_283 : decode cX0_least 283 = .ok (.iaload, 1) := by decide +kernel
theorem dX0_least_284 : decode cX0_least 284 = .ok (.isub, 1) := by decide +kernel
theorem dX0_least_285 : decode cX0_least 285 = .ok (.ireturn, 1) := by decide +kernel
def tb_X0_least (S_X0_toldMany S_X0_refresh S_X0_offOf S_X0_isGroup S_J1_bitCount : ma_Cs) : Nat → ma_In := fun pc =>
 (if pc < 144 then
 (if pc < 76 then
 (if pc < 34 then
 (if pc < 19 then
 (if pc < 9 then
 (if pc < 4 then
 (if pc < 1 then
 (if pc = 0 then in_ald 0 1 else in_no) else
 (if pc = 1 then in_v1 YX 0 S_X0_toldMany 4 else in_no)) else
 (if pc < 5 then
 (if pc = 4 then in_ald 0 5 else in_no) else
 (if pc < 8 then
 (if pc = 5 then in_get YX 0 5 8 else in_no) else
 (if pc = 8 then in_ald 0 9 else in_no)))) else
 (if pc < 13 then
 (if pc < 12 then
 (if pc = 9 then in_get YX 0 6 12 else in_no) else
 (if pc = 12 then in_iii (fun x y => x + y) 13 else in_no)) else
 (if pc < 16 then
 (if pc = 13 then in_if2 (fun x y => y ≤ x) 19 16 else in_no) else
 (if pc < 18 then
 (if pc = 16 then in_push (.int (-2)) 18 else in_no) else
 (if pc = 18 then in_ri else in_no))))) else
 (if pc < 26 then
 (if pc < 23 then
 (if pc < 20 then
 (if pc = 19 then in_ald 0 20 else in_no) else
 (if pc = 20 then in_v1 YX 0 S_X0_refresh 23 else in_no)) else
 (if pc < 24 then
 (if pc = 23 then in_push (.long 0) 24 else in_no) else
 (if pc < 25 then
 (if pc = 24 then in_lst 1 25 else in_no) else
 (if pc = 25 then in_push (.int 0) 26 else in_no)))) else
 (if pc < 28 then
 (if pc < 27 then
 (if pc = 26 then in_ist 3 27 else in_no) else
 (if pc = 27 then in_push (.int 0) 28 else in_no)) else
 (if pc < 30 then
 (if pc = 28 then in_ist 4 30 else in_no) else
 (if pc < 32 then
 (if pc = 30 then in_ild 4 32 else in_no) else
 (if pc = 32 then in_push (.int 12) 34 else in_no)))))) else
 (if pc < 54 then
 (if pc < 44 then
 (if pc < 38 then
 (if pc < 37 then
 (if pc = 34 then in_if2 (fun x y => y ≤ x) 125 37 else in_no) else
 (if pc = 37 then in_ald 0 38 else in_no)) else
 (if pc < 41 then
 (if pc = 38 then in_get YX 0 22 41 else in_no) else
 (if pc < 43 then
 (if pc = 41 then in_ild 4 43 else in_no) else
 (if pc = 43 then in_ald 0 44 else in_no)))) else
 (if pc < 49 then
 (if pc < 47 then
 (if pc = 44 then in_get YX 0 21 47 else in_no) else
 (if pc = 47 then in_ild 4 49 else in_no)) else
 (if pc < 50 then
 (if pc = 49 then in_lar YX 50 else in_no) else
 (if pc < 53 then
 (if pc = 50 then in_push (.long 2000000000000) 53 else in_no) else
 (if pc = 53 then in_lli lg_cmp 54 else in_no))))) else
 (if pc < 64 then
 (if pc < 58 then
 (if pc < 57 then
 (if pc = 54 then in_if1 (fun x => x = 0) 57 61 else in_no) else
 (if pc = 57 then in_push (.long 0) 58 else in_no)) else
 (if pc < 61 then
 (if pc = 58 then in_go 67 else in_no) else
 (if pc < 62 then
 (if pc = 61 then in_ald 0 62 else in_no) else
 (if pc = 62 then in_ild 4 64 else in_no)))) else
 (if pc < 69 then
 (if pc < 67 then
 (if pc = 64 then in_v2 YX 0 S_X0_offOf 67 else in_no) else
 (if pc < 68 then
 (if pc = 67 then in_law YX 68 else in_no) else
 (if pc = 68 then in_lld 1 69 else in_no))) else
 (if pc < 71 then
 (if pc = 69 then in_ild 4 71 else in_no) else
 (if pc < 73 then
 (if pc = 71 then in_push (.int 6) 73 else in_no) else
 (if pc = 73 then in_if2 (fun x y => y ≤ x) 86 76 else in_no))))))) else
 (if pc < 109 then
 (if pc < 94 then
 (if pc < 86 then
 (if pc < 80 then
 (if pc < 77 then
 (if pc = 76 then in_ald 0 77 else in_no) else
 (if pc = 77 then in_get YX 0 22 80 else in_no)) else
 (if pc < 82 then
 (if pc = 80 then in_ild 4 82 else in_no) else
 (if pc < 83 then
 (if pc = 82 then in_lar YX 83 else in_no) else
 (if pc = 83 then in_go 94 else in_no)))) else
 (if pc < 90 then
 (if pc < 87 then
 (if pc = 86 then in_ald 0 87 else in_no) else
 (if pc = 87 then in_get YX 0 22 90 else in_no)) else
 (if pc < 92 then
 (if pc = 90 then in_ild 4 92 else in_no) else
 (if pc < 93 then
 (if pc = 92 then in_lar YX 93 else in_no) else
 (if pc = 93 then in_ll (fun x => -x) 94 else in_no))))) else
 (if pc < 101 then
 (if pc < 96 then
 (if pc < 95 then
 (if pc = 94 then in_lll (fun x y => x + y) 95 else in_no) else
 (if pc = 95 then in_lst 1 96 else in_no)) else
 (if pc < 97 then
 (if pc = 96 then in_ild 3 97 else in_no) else
 (if pc < 98 then
 (if pc = 97 then in_ald 0 98 else in_no) else
 (if pc = 98 then in_get YX 0 22 101 else in_no)))) else
 (if pc < 104 then
 (if pc < 103 then
 (if pc = 101 then in_ild 4 103 else in_no) else
 (if pc = 103 then in_lar YX 104 else in_no)) else
 (if pc < 105 then
 (if pc = 104 then in_push (.long 0) 105 else in_no) else
 (if pc < 106 then
 (if pc = 105 then in_lli lg_cmp 106 else in_no) else
 (if pc = 106 then in_if1 (fun x => x = 0) 109 113 else in_no)))))) else
 (if pc < 126 then
 (if pc < 117 then
 (if pc < 113 then
 (if pc < 110 then
 (if pc = 109 then in_push (.int 0) 110 else in_no) else
 (if pc = 110 then in_go 117 else in_no)) else
 (if pc < 114 then
 (if pc = 113 then in_push (.int 1) 114 else in_no) else
 (if pc < 116 then
 (if pc = 114 then in_ild 4 116 else in_no) else
 (if pc = 116 then in_iii (fun x y => x <<< (y &&& 31)) 117 else in_no)))) else
 (if pc < 119 then
 (if pc < 118 then
 (if pc = 117 then in_iii (fun x y => x ||| y) 118 else in_no) else
 (if pc = 118 then in_ist 3 119 else in_no)) else
 (if pc < 122 then
 (if pc = 119 then in_inc 4 1 122 else in_no) else
 (if pc < 125 then
 (if pc = 122 then in_go 30 else in_no) else
 (if pc = 125 then in_lld 1 126 else in_no))))) else
 (if pc < 134 then
 (if pc < 128 then
 (if pc < 127 then
 (if pc = 126 then in_push (.long 0) 127 else in_no) else
 (if pc = 127 then in_lli lg_cmp 128 else in_no)) else
 (if pc < 131 then
 (if pc = 128 then in_if1 (fun x => x = 0) 134 131 else in_no) else
 (if pc < 133 then
 (if pc = 131 then in_push (.int (-2)) 133 else in_no) else
 (if pc = 133 then in_ri else in_no)))) else
 (if pc < 138 then
 (if pc < 135 then
 (if pc = 134 then in_ild 3 135 else in_no) else
 (if pc < 137 then
 (if pc = 135 then in_ist 4 137 else in_no) else
 (if pc = 137 then in_ald 0 138 else in_no))) else
 (if pc < 141 then
 (if pc = 138 then in_get YX 0 23 141 else in_no) else
 (if pc < 143 then
 (if pc = 141 then in_ild 4 143 else in_no) else
 (if pc = 143 then in_push (.int 0) 144 else in_no)))))))) else
 (if pc < 215 then
 (if pc < 178 then
 (if pc < 161 then
 (if pc < 155 then
 (if pc < 147 then
 (if pc < 145 then
 (if pc = 144 then in_iaw YX 145 else in_no) else
 (if pc = 145 then in_ild 4 147 else in_no)) else
 (if pc < 150 then
 (if pc = 147 then in_if1 (fun x => x = 0) 150 153 else in_no) else
 (if pc < 153 then
 (if pc = 150 then in_go 164 else in_no) else
 (if pc = 153 then in_ild 4 155 else in_no)))) else
 (if pc < 157 then
 (if pc < 156 then
 (if pc = 155 then in_push (.int 1) 156 else in_no) else
 (if pc = 156 then in_iii (fun x y => x - y) 157 else in_no)) else
 (if pc < 158 then
 (if pc = 157 then in_ild 3 158 else in_no) else
 (if pc < 159 then
 (if pc = 158 then in_iii (fun x y => x &&& y) 159 else in_no) else
 (if pc = 159 then in_ist 4 161 else in_no))))) else
 (if pc < 170 then
 (if pc < 165 then
 (if pc < 164 then
 (if pc = 161 then in_go 137 else in_no) else
 (if pc = 164 then in_push (.int 1) 165 else in_no)) else
 (if pc < 167 then
 (if pc = 165 then in_ist 4 167 else in_no) else
 (if pc < 169 then
 (if pc = 167 then in_ild 4 169 else in_no) else
 (if pc = 169 then in_ild 3 170 else in_no)))) else
 (if pc < 175 then
 (if pc < 173 then
 (if pc = 170 then in_if2 (fun x y => y < x) 274 173 else in_no) else
 (if pc = 173 then in_ild 4 175 else in_no)) else
 (if pc < 176 then
 (if pc = 175 then in_ild 3 176 else in_no) else
 (if pc < 177 then
 (if pc = 176 then in_push (.int (-1)) 177 else in_no) else
 (if pc = 177 then in_iii (fun x y => x ^^^ y) 178 else in_no)))))) else
 (if pc < 194 then
 (if pc < 188 then
 (if pc < 182 then
 (if pc < 179 then
 (if pc = 178 then in_iii (fun x y => x &&& y) 179 else in_no) else
 (if pc = 179 then in_if1 (fun x => x = 0) 182 268 else in_no)) else
 (if pc < 183 then
 (if pc = 182 then in_ald 0 183 else in_no) else
 (if pc < 186 then
 (if pc = 183 then in_get YX 0 23 186 else in_no) else
 (if pc = 186 then in_ild 4 188 else in_no)))) else
 (if pc < 191 then
 (if pc < 190 then
 (if pc = 188 then in_ild 4 190 else in_no) else
 (if pc = 190 then in_push (.int 1) 191 else in_no)) else
 (if pc < 192 then
 (if pc = 191 then in_iii (fun x y => x - y) 192 else in_no) else
 (if pc < 193 then
 (if pc = 192 then in_iii (fun x y => x &&& y) 193 else in_no) else
 (if pc = 193 then in_iar YX 194 else in_no))))) else
 (if pc < 205 then
 (if pc < 198 then
 (if pc < 196 then
 (if pc = 194 then in_ist 5 196 else in_no) else
 (if pc = 196 then in_ild 4 198 else in_no)) else
 (if pc < 200 then
 (if pc = 198 then in_ist 6 200 else in_no) else
 (if pc < 202 then
 (if pc = 200 then in_ild 6 202 else in_no) else
 (if pc = 202 then in_if1 (fun x => x ≤ 0) 259 205 else in_no)))) else
 (if pc < 211 then
 (if pc < 206 then
 (if pc = 205 then in_ald 0 206 else in_no) else
 (if pc < 209 then
 (if pc = 206 then in_get YX 0 23 209 else in_no) else
 (if pc = 209 then in_ild 4 211 else in_no))) else
 (if pc < 213 then
 (if pc = 211 then in_ild 6 213 else in_no) else
 (if pc < 214 then
 (if pc = 213 then in_push (.int (-1)) 214 else in_no) else
 (if pc = 214 then in_iii (fun x y => x ^^^ y) 215 else in_no))))))) else
 (if pc < 249 then
 (if pc < 235 then
 (if pc < 223 then
 (if pc < 217 then
 (if pc < 216 then
 (if pc = 215 then in_iii (fun x y => x &&& y) 216 else in_no) else
 (if pc = 216 then in_iar YX 217 else in_no)) else
 (if pc < 219 then
 (if pc = 217 then in_ild 5 219 else in_no) else
 (if pc < 222 then
 (if pc = 219 then in_if2 (fun x y => x < y) 247 222 else in_no) else
 (if pc = 222 then in_ald 0 223 else in_no)))) else
 (if pc < 228 then
 (if pc < 225 then
 (if pc = 223 then in_ild 6 225 else in_no) else
 (if pc = 225 then in_v2 YX 0 S_X0_isGroup 228 else in_no)) else
 (if pc < 231 then
 (if pc = 228 then in_if1 (fun x => x = 0) 247 231 else in_no) else
 (if pc < 232 then
 (if pc = 231 then in_ald 0 232 else in_no) else
 (if pc = 232 then in_get YX 0 23 235 else in_no))))) else
 (if pc < 242 then
 (if pc < 239 then
 (if pc < 237 then
 (if pc = 235 then in_ild 4 237 else in_no) else
 (if pc = 237 then in_ild 6 239 else in_no)) else
 (if pc < 240 then
 (if pc = 239 then in_push (.int (-1)) 240 else in_no) else
 (if pc < 241 then
 (if pc = 240 then in_iii (fun x y => x ^^^ y) 241 else in_no) else
 (if pc = 241 then in_iii (fun x y => x &&& y) 242 else in_no)))) else
 (if pc < 244 then
 (if pc < 243 then
 (if pc = 242 then in_iar YX 243 else in_no) else
 (if pc = 243 then in_push (.int 1) 244 else in_no)) else
 (if pc < 245 then
 (if pc = 244 then in_iii (fun x y => x + y) 245 else in_no) else
 (if pc < 247 then
 (if pc = 245 then in_ist 5 247 else in_no) else
 (if pc = 247 then in_ild 6 249 else in_no)))))) else
 (if pc < 267 then
 (if pc < 256 then
 (if pc < 251 then
 (if pc < 250 then
 (if pc = 249 then in_push (.int 1) 250 else in_no) else
 (if pc = 250 then in_iii (fun x y => x - y) 251 else in_no)) else
 (if pc < 253 then
 (if pc = 251 then in_ild 4 253 else in_no) else
 (if pc < 254 then
 (if pc = 253 then in_iii (fun x y => x &&& y) 254 else in_no) else
 (if pc = 254 then in_ist 6 256 else in_no)))) else
 (if pc < 260 then
 (if pc < 259 then
 (if pc = 256 then in_go 200 else in_no) else
 (if pc = 259 then in_ald 0 260 else in_no)) else
 (if pc < 263 then
 (if pc = 260 then in_get YX 0 23 263 else in_no) else
 (if pc < 265 then
 (if pc = 263 then in_ild 4 265 else in_no) else
 (if pc = 265 then in_ild 5 267 else in_no))))) else
 (if pc < 278 then
 (if pc < 271 then
 (if pc < 268 then
 (if pc = 267 then in_iaw YX 268 else in_no) else
 (if pc = 268 then in_inc 4 1 271 else in_no)) else
 (if pc < 274 then
 (if pc = 271 then in_go 167 else in_no) else
 (if pc < 275 then
 (if pc = 274 then in_ild 3 275 else in_no) else
 (if pc = 275 then in_s1 S_J1_bitCount 278 else in_no)))) else
 (if pc < 283 then
 (if pc < 279 then
 (if pc = 278 then in_ald 0 279 else in_no) else
 (if pc < 282 then
 (if pc = 279 then in_get YX 0 23 282 else in_no) else
 (if pc = 282 then in_ild 3 283 else in_no))) else
 (if pc < 284 then
 (if pc = 283 then in_iar YX 284 else in_no) else
 (if pc < 285 then
 (if pc = 284 then in_iii (fun x y => x - y) 285 else in_no) else
 (if pc = 285 then in_ri else in_no)))))))))
theorem tk_X0_least {l : Launch} {w : ma_Wd} {NC : Nat} {A : Nat → Prop} {S_X0_toldMany S_X0_refresh S_X0_offOf S_X0_isGroup S_J1_bitCount : ma_Cs} (h_X0_toldMany : ma_Sd l w YX NC A yX0_toldMany cX0_toldMany 7 (some .int) rm_X0_toldMany S_X0_toldMany) (h_X0_refresh : ma_Sd l w YX NC A yX0_refresh cX0_refresh 1 none rm_X0_refresh S_X0_refresh) (h_X0_offOf : ma_Sd l w YX NC A yX0_offOf cX0_offOf 5 (some .long) rm_X0_offOf S_X0_offOf) (h_X0_isGroup : ma_Sd l w YX NC A yX0_isGroup cX0_isGroup 5 (some .boolean) rm_X0_isGroup S_X0_isGroup) (h_J1_bitCount : ma_Sd l w YX NC A yJ1_bitCount cJ1_bitCount 1 (some .int) rm_J1_bitCount S_J1_bitCount) {p : Program} {e : Env} {s : State} {m : MethodId} {args : Array Value} {below : List Frame} {meth : Method} {c : Code} (X : ma_Cx p s m args meth c w YX NC A yX0_least.cls cX0_least 7 (some .int)) : ∀ pc, ma_Ok p l e rm_X0_least s m args below meth c w YX NC A 7 pc (tb_X0_least S_X0_toldMany S_X0_refresh S_X0_offOf S_X0_isGroup S_J1_bitCount pc) := fun pc =>
 (mk_lt
 (mk_lt
 (mk_lt
 (mk_lt
 (mk_lt
 (mk_lt
 (mk_lt
 (mk_eq (mk_aload_n X dX0_least_0 rfl rfl))
 (mk_eq (mk_V1 X h_X0_toldMany (ci := 0) rfl (lw_V q609 q611 qs21 q61 q612) ⟨rfl, by decide, by decide, rfl⟩ ⟨(Nat.le_of_ble_eq_true rfl), (Nat.le_of_ble_eq_true rfl)⟩ dX0_least_1 rfl)))
 (mk_lt
 (mk_eq (mk_aload_n X dX0_least_4 rfl rfl))
 (mk_lt
 (mk_eq (mk_get X (ci := 0) (j := 5) rfl in_X0 (Nat.le_of_ble_eq_true rfl) q232 dX0_least_5 rfl))
 (mk_eq (mk_aload_n X dX0_least_8 rfl rfl)))))
 (mk_lt
 (mk_lt
 (mk_eq (mk_get X (ci := 0) (j := 6) rfl in_X0 (Nat.le_of_ble_eq_true rfl) q234 dX0_least_9 rfl))
 (mk_eq (mk_iadd X dX0_least_12 rfl)))
 (mk_lt
 (mk_eq (mk_icge X dX0_least_13 rfl rfl))
 (mk_lt
 (mk_eq (mk_bipush X dX0_least_16 rfl rfl))
 (mk_eq (mk_ri X dX0_least_18))))))
 (mk_lt
 (mk_lt
 (mk_lt
 (mk_eq (mk_aload_n X dX0_least_19 rfl rfl))
 (mk_eq (mk_V1 X h_X0_refresh (ci := 0) rfl (lw_V q481 q483 qs13 q61 q484) ⟨rfl, by decide, by decide, rfl⟩ ⟨(Nat.le_of_ble_eq_true rfl), (Nat.le_of_ble_eq_true rfl)⟩ dX0_least_20 rfl)))
 (mk_lt
 (mk_eq (mk_lconst X dX0_least_23 rfl rfl))
 (mk_lt
 (mk_eq (mk_lstore_n X dX0_least_24 rfl (Nat.le_of_ble_eq_true rfl) rfl))
 (mk_eq (mk_iconst X dX0_least_25 rfl rfl)))))
 (mk_lt
 (mk_lt
 (mk_eq (mk_istore_n X dX0_least_26 rfl (Nat.le_of_ble_eq_true rfl) rfl))
 (mk_eq (mk_iconst X dX0_least_27 rfl rfl)))
 (mk_lt
 (mk_eq (mk_istore X dX0_least_28 (Nat.le_of_ble_eq_true rfl) rfl))
 (mk_lt
 (mk_eq (mk_iload X dX0_least_30 rfl))
 (mk_eq (mk_bipush X dX0_least_32 rfl rfl)))))))
 (mk_lt
 (mk_lt
 (mk_lt
 (mk_lt
 (mk_eq (mk_icge X dX0_least_34 rfl rfl))
 (mk_eq (mk_aload_n X dX0_least_37 rfl rfl)))
 (mk_lt
 (mk_eq (mk_get X (ci := 0) (j := 22) rfl in_X0 (Nat.le_of_ble_eq_true rfl) q268 dX0_least_38 rfl))
 (mk_lt
 (mk_eq (mk_iload X dX0_least_41 rfl))
 (mk_eq (mk_aload_n X dX0_least_43 rfl rfl)))))
 (mk_lt
 (mk_lt
 (mk_eq (mk_get X (ci := 0) (j := 21) rfl in_X0 (Nat.le_of_ble_eq_true rfl) q267 dX0_least_44 rfl))
 (mk_eq (mk_iload X dX0_least_47 rfl)))
 (mk_lt
 (mk_eq (mk_lar X dX0_least_49 rfl))
 (mk_lt
 (mk_eq (mk_ldc2 X dX0_least_50 q221 rfl))
 (mk_eq (mk_lcmp X dX0_least_53 rfl))))))
 (mk_lt
 (mk_lt
 (mk_lt
 (mk_eq (mk_ifne X dX0_least_54 rfl rfl))
 (mk_eq (mk_lconst X dX0_least_57 rfl rfl)))
 (mk_lt
 (mk_eq (mk_goto X dX0_least_58 rfl))
 (mk_lt
 (mk_eq (mk_aload_n X dX0_least_61 rfl rfl))
 (mk_eq (mk_iload X dX0_least_62 rfl)))))
 (mk_lt
 (mk_lt
 (mk_eq (mk_V2 X h_X0_offOf (ci := 0) rfl (lw_V q613 q615 qs22 q61 q616) ⟨rfl, by decide, by decide, rfl⟩ ⟨(Nat.le_of_ble_eq_true rfl), (Nat.le_of_ble_eq_true rfl)⟩ dX0_least_64 rfl))
 (mk_lt
 (mk_eq (mk_law X dX0_least_67 rfl))
 (mk_eq (mk_lload_n X dX0_least_68 rfl rfl))))
 (mk_lt
 (mk_eq (mk_iload X dX0_least_69 rfl))
 (mk_lt
 (mk_eq (mk_bipush X dX0_least_71 rfl rfl))
 (mk_eq (mk_icge X dX0_least_73 rfl rfl))))))))
 (mk_lt
 (mk_lt
 (mk_lt
 (mk_lt
 (mk_lt
 (mk_eq (mk_aload_n X dX0_least_76 rfl rfl))
 (mk_eq (mk_get X (ci := 0) (j := 22) rfl in_X0 (Nat.le_of_ble_eq_true rfl) q268 dX0_least_77 rfl)))
 (mk_lt
 (mk_eq (mk_iload X dX0_least_80 rfl))
 (mk_lt
 (mk_eq (mk_lar X dX0_least_82 rfl))
 (mk_eq (mk_goto X dX0_least_83 rfl)))))
 (mk_lt
 (mk_lt
 (mk_eq (mk_aload_n X dX0_least_86 rfl rfl))
 (mk_eq (mk_get X (ci := 0) (j := 22) rfl in_X0 (Nat.le_of_ble_eq_true rfl) q268 dX0_least_87 rfl)))
 (mk_lt
 (mk_eq (mk_iload X dX0_least_90 rfl))
 (mk_lt
 (mk_eq (mk_lar X dX0_least_92 rfl))
 (mk_eq (mk_lneg X dX0_least_93 rfl))))))
 (mk_lt
 (mk_lt
 (mk_lt
 (mk_eq (mk_ladd X dX0_least_94 rfl))
 (mk_eq (mk_lstore_n X dX0_least_95 rfl (Nat.le_of_ble_eq_true rfl) rfl)))
 (mk_lt
 (mk_eq (mk_iload_n X dX0_least_96 rfl rfl))
 (mk_lt
 (mk_eq (mk_aload_n X dX0_least_97 rfl rfl))
 (mk_eq (mk_get X (ci := 0) (j := 22) rfl in_X0 (Nat.le_of_ble_eq_true rfl) q268 dX0_least_98 rfl)))))
 (mk_lt
 (mk_lt
 (mk_eq (mk_iload X dX0_least_101 rfl))
 (mk_eq (mk_lar X dX0_least_103 rfl)))
 (mk_lt
 (mk_eq (mk_lconst X dX0_least_104 rfl rfl))
 (mk_lt
 (mk_eq (mk_lcmp X dX0_least_105 rfl))
 (mk_eq (mk_ifne X dX0_least_106 rfl rfl)))))))
 (mk_lt
 (mk_lt
 (mk_lt
 (mk_lt
 (mk_eq (mk_iconst X dX0_least_109 rfl rfl))
 (mk_eq (mk_goto X dX0_least_110 rfl)))
 (mk_lt
 (mk_eq (mk_iconst X dX0_least_113 rfl rfl))
 (mk_lt
 (mk_eq (mk_iload X dX0_least_114 rfl))
 (mk_eq (mk_ishl X dX0_least_116 rfl)))))
 (mk_lt
 (mk_lt
 (mk_eq (mk_ior X dX0_least_117 rfl))
 (mk_eq (mk_istore_n X dX0_least_118 rfl (Nat.le_of_ble_eq_true rfl) rfl)))
 (mk_lt
 (mk_eq (mk_iinc X dX0_least_119 rfl (Nat.le_of_ble_eq_true rfl) rfl))
 (mk_lt
 (mk_eq (mk_goto X dX0_least_122 rfl))
 (mk_eq (mk_lload_n X dX0_least_125 rfl rfl))))))
 (mk_lt
 (mk_lt
 (mk_lt
 (mk_eq (mk_lconst X dX0_least_126 rfl rfl))
 (mk_eq (mk_lcmp X dX0_least_127 rfl)))
 (mk_lt
 (mk_eq (mk_ifeq X dX0_least_128 rfl rfl))
 (mk_lt
 (mk_eq (mk_bipush X dX0_least_131 rfl rfl))
 (mk_eq (mk_ri X dX0_least_133)))))
 (mk_lt
 (mk_lt
 (mk_eq (mk_iload_n X dX0_least_134 rfl rfl))
 (mk_lt
 (mk_eq (mk_istore X dX0_least_135 (Nat.le_of_ble_eq_true rfl) rfl))
 (mk_eq (mk_aload_n X dX0_least_137 rfl rfl))))
 (mk_lt
 (mk_eq (mk_get X (ci := 0) (j := 23) rfl in_X0 (Nat.le_of_ble_eq_true rfl) q269 dX0_least_138 rfl))
 (mk_lt
 (mk_eq (mk_iload X dX0_least_141 rfl))
 (mk_eq (mk_iconst X dX0_least_143 rfl rfl)))))))))
 (mk_lt
 (mk_lt
 (mk_lt
 (mk_lt
 (mk_lt
 (mk_lt
 (mk_eq (mk_iaw X dX0_least_144 rfl))
 (mk_eq (mk_iload X dX0_least_145 rfl)))
 (mk_lt
 (mk_eq (mk_ifne X dX0_least_147 rfl rfl))
 (mk_lt
 (mk_eq (mk_goto X dX0_least_150 rfl))
 (mk_eq (mk_iload X dX0_least_153 rfl)))))
 (mk_lt
 (mk_lt
 (mk_eq (mk_iconst X dX0_least_155 rfl rfl))
 (mk_eq (mk_isub X dX0_least_156 rfl)))
 (mk_lt
 (mk_eq (mk_iload_n X dX0_least_157 rfl rfl))
 (mk_lt
 (mk_eq (mk_iand X dX0_least_158 rfl))
 (mk_eq (mk_istore X dX0_least_159 (Nat.le_of_ble_eq_true rfl) rfl))))))
 (mk_lt
 (mk_lt
 (mk_lt
 (mk_eq (mk_goto X dX0_least_161 rfl))
 (mk_eq (mk_iconst X dX0_least_164 rfl rfl)))
 (mk_lt
 (mk_eq (mk_istore X dX0_least_165 (Nat.le_of_ble_eq_true rfl) rfl))
 (mk_lt
 (mk_eq (mk_iload X dX0_least_167 rfl))
 (mk_eq (mk_iload_n X dX0_least_169 rfl rfl)))))
 (mk_lt
 (mk_lt
 (mk_eq (mk_icgt X dX0_least_170 rfl rfl))
 (mk_eq (mk_iload X dX0_least_173 rfl)))
 (mk_lt
 (mk_eq (mk_iload_n X dX0_least_175 rfl rfl))
 (mk_lt
 (mk_eq (mk_iconst X dX0_least_176 rfl rfl))
 (mk_eq (mk_ixor X dX0_least_177 rfl)))))))
 (mk_lt
 (mk_lt
 (mk_lt
 (mk_lt
 (mk_eq (mk_iand X dX0_least_178 rfl))
 (mk_eq (mk_ifne X dX0_least_179 rfl rfl)))
 (mk_lt
 (mk_eq (mk_aload_n X dX0_least_182 rfl rfl))
 (mk_lt
 (mk_eq (mk_get X (ci := 0) (j := 23) rfl in_X0 (Nat.le_of_ble_eq_true rfl) q269 dX0_least_183 rfl))
 (mk_eq (mk_iload X dX0_least_186 rfl)))))
 (mk_lt
 (mk_lt
 (mk_eq (mk_iload X dX0_least_188 rfl))
 (mk_eq (mk_iconst X dX0_least_190 rfl rfl)))
 (mk_lt
 (mk_eq (mk_isub X dX0_least_191 rfl))
 (mk_lt
 (mk_eq (mk_iand X dX0_least_192 rfl))
 (mk_eq (mk_iar X dX0_least_193 rfl))))))
 (mk_lt
 (mk_lt
 (mk_lt
 (mk_eq (mk_istore X dX0_least_194 (Nat.le_of_ble_eq_true rfl) rfl))
 (mk_eq (mk_iload X dX0_least_196 rfl)))
 (mk_lt
 (mk_eq (mk_istore X dX0_least_198 (Nat.le_of_ble_eq_true rfl) rfl))
 (mk_lt
 (mk_eq (mk_iload X dX0_least_200 rfl))
 (mk_eq (mk_ifle X dX0_least_202 rfl rfl)))))
 (mk_lt
 (mk_lt
 (mk_eq (mk_aload_n X dX0_least_205 rfl rfl))
 (mk_lt
 (mk_eq (mk_get X (ci := 0) (j := 23) rfl in_X0 (Nat.le_of_ble_eq_true rfl) q269 dX0_least_206 rfl))
 (mk_eq (mk_iload X dX0_least_209 rfl))))
 (mk_lt
 (mk_eq (mk_iload X dX0_least_211 rfl))
 (mk_lt
 (mk_eq (mk_iconst X dX0_least_213 rfl rfl))
 (mk_eq (mk_ixor X dX0_least_214 rfl))))))))
 (mk_lt
 (mk_lt
 (mk_lt
 (mk_lt
 (mk_lt
 (mk_eq (mk_iand X dX0_least_215 rfl))
 (mk_eq (mk_iar X dX0_least_216 rfl)))
 (mk_lt
 (mk_eq (mk_iload X dX0_least_217 rfl))
 (mk_lt
 (mk_eq (mk_iclt X dX0_least_219 rfl rfl))
 (mk_eq (mk_aload_n X dX0_least_222 rfl rfl)))))
 (mk_lt
 (mk_lt
 (mk_eq (mk_iload X dX0_least_223 rfl))
 (mk_eq (mk_V2 X h_X0_isGroup (ci := 0) rfl (lw_V q621 q623 qs23 q61 q624) ⟨rfl, by decide, by decide, rfl⟩ ⟨(Nat.le_of_ble_eq_true rfl), (Nat.le_of_ble_eq_true rfl)⟩ dX0_least_225 rfl)))
 (mk_lt
 (mk_eq (mk_ifeq X dX0_least_228 rfl rfl))
 (mk_lt
 (mk_eq (mk_aload_n X dX0_least_231 rfl rfl))
 (mk_eq (mk_get X (ci := 0) (j := 23) rfl in_X0 (Nat.le_of_ble_eq_true rfl) q269 dX0_least_232 rfl))))))
 (mk_lt
 (mk_lt
 (mk_lt
 (mk_eq (mk_iload X dX0_least_235 rfl))
 (mk_eq (mk_iload X dX0_least_237 rfl)))
 (mk_lt
 (mk_eq (mk_iconst X dX0_least_239 rfl rfl))
 (mk_lt
 (mk_eq (mk_ixor X dX0_least_240 rfl))
 (mk_eq (mk_iand X dX0_least_241 rfl)))))
 (mk_lt
 (mk_lt
 (mk_eq (mk_iar X dX0_least_242 rfl))
 (mk_eq (mk_iconst X dX0_least_243 rfl rfl)))
 (mk_lt
 (mk_eq (mk_iadd X dX0_least_244 rfl))
 (mk_lt
 (mk_eq (mk_istore X dX0_least_245 (Nat.le_of_ble_eq_true rfl) rfl))
 (mk_eq (mk_iload X dX0_least_247 rfl)))))))
 (mk_lt
 (mk_lt
 (mk_lt
 (mk_lt
 (mk_eq (mk_iconst X dX0_least_249 rfl rfl))
 (mk_eq (mk_isub X dX0_least_250 rfl)))
 (mk_lt
 (mk_eq (mk_iload X dX0_least_251 rfl))
 (mk_lt
 (mk_eq (mk_iand X dX0_least_253 rfl))
 (mk_eq (mk_istore X dX0_least_254 (Nat.le_of_ble_eq_true rfl) rfl)))))
 (mk_lt
 (mk_lt
 (mk_eq (mk_goto X dX0_least_256 rfl))
 (mk_eq (mk_aload_n X dX0_least_259 rfl rfl)))
 (mk_lt
 (mk_eq (mk_get X (ci := 0) (j := 23) rfl in_X0 (Nat.le_of_ble_eq_true rfl) q269 dX0_least_260 rfl))
 (mk_lt
 (mk_eq (mk_iload X dX0_least_263 rfl))
 (mk_eq (mk_iload X dX0_least_265 rfl))))))
 (mk_lt
 (mk_lt
 (mk_lt
 (mk_eq (mk_iaw X dX0_least_267 rfl))
 (mk_eq (mk_iinc X dX0_least_268 rfl (Nat.le_of_ble_eq_true rfl) rfl)))
 (mk_lt
 (mk_eq (mk_goto X dX0_least_271 rfl))
 (mk_lt
 (mk_eq (mk_iload_n X dX0_least_274 rfl rfl))
 (mk_eq (mk_S1 X h_J1_bitCount (lw_S q625 q626 q69 q627) ⟨by decide, by decide, rfl⟩ ⟨(Nat.le_of_ble_eq_true rfl), (Nat.le_of_ble_eq_true rfl)⟩ dX0_least_275 rfl)))))
 (mk_lt
 (mk_lt
 (mk_eq (mk_aload_n X dX0_least_278 rfl rfl))
 (mk_lt
 (mk_eq (mk_get X (ci := 0) (j := 23) rfl in_X0 (Nat.le_of_ble_eq_true rfl) q269 dX0_least_279 rfl))
 (mk_eq (mk_iload_n X dX0_least_282 rfl rfl))))
 (mk_lt
 (mk_eq (mk_iar X dX0_least_283 rfl))
 (mk_lt
 (mk_eq (mk_isub X dX0_least_284 rfl))
 (mk_eq (mk_ri X dX0_least_285))))))))))
theorem sd_X0_least {l : Launch} {w : ma_Wd} {NC : Nat} {A : Nat → Prop} {S_X0_toldMany S_X0_refresh S_X0_offOf S_X0_isGroup S_J1_bitCount : ma_Cs} (hw : ma_Wo w YX NC A) (h_X0_toldMany : ma_Sd l w YX NC A yX0_toldMany cX0_toldMany 7 (some .int) rm_X0_toldMany S_X0_toldMany) (h_X0_refresh : ma_Sd l w YX NC A yX0_refresh cX0_refresh 1 none rm_X0_refresh S_X0_refresh) (h_X0_offOf : ma_Sd l w YX NC A yX0_offOf cX0_offOf 5 (some .long) rm_X0_offOf S_X0_offOf) (h_X0_isGroup : ma_Sd l w YX NC A yX0_isGroup cX0_isGroup 5 (some .boolean) rm_X0_isGroup S_X0_isGroup) (h_J1_bitCount : ma_Sd l w YX NC A yJ1_bitCount cJ1_bitCount 1 (some .int) rm_J1_bitCount S_J1_bitCount) : ma_Sd l w YX NC A yX0_least cX0_least 7 (some .int) rm_X0_least (ma_rn (tb_X0_least S_X0_toldMany S_X0_refresh S_X0_offOf S_X0_isGroup S_J1_bitCount) 7) := ma_of hw (by decide) ⟨rfl, rfl⟩ (fun X => tk_X0_least h_X0_toldMany h_X0_refresh h_X0_offOf h_X0_isGroup h_J1_bitCount X)
theorem dX0_isGroup_0 : decode cX0_isGroup 0 = .ok (.lconst 0, 1) := by decide +kernel
theorem dX0_isGroup_1 : decode cX0_isGroup 1 = .ok (.lstore_n 2, 1) := by decide +kernel
theorem dX0_isGroup_2 : decode cX0_isGroup 2 = .ok (.iconst 0, 1) := by decide +kernel
theorem dX0_isGroup_3 : decode cX0_isGroup 3 = .ok (.istore 4, 2) := by decide +kernel
theorem dX0_isGroup_5 : decode cX0_isGroup 5 = .ok (.iload 4, 2) := by decide +kernel
theorem dX0_isGroup_7 : decode cX0_isGroup 7 = .ok (.bipush 12, 2) := by decide +kernel
theorem dX0_isGroup_9 : decode cX0_isGroup 9 = .ok (.if_icmp .ge 50, 3) := by decide +kernel
theorem dX0_isGroup_12 : decode cX0_isGroup 12 = .ok (.lload_n 2, 1) := by decide +kernel
theorem dX0_isGroup_13 : decode cX0_isGroup 13 = .ok (.iload_n 1, 1) := by decide +kernel
theorem dX0_isGroup_14 : decode cX0_isGroup 14 = .ok (.iload 4, 2) := by decide +kernel
theorem dX0_isGroup_16 : decode cX0_isGroup 16 = .ok (.ishr, 1) := by decide +kernel
theorem dX0_isGroup_17 : decode cX0_isGroup 17 = .ok (.iconst 1, 1) := by decide +kernel
theorem dX0_isGroup_18 : decode cX0_isGroup 18 = .ok (.iand, 1) := by decide +kernel
theorem dX0_isGroup_19 : decode cX0_isGroup 19 = .ok (.ifCond .ne 7, 3) := by decide +kernel
theorem dX0_isGroup_22 : decode cX0_isGroup 22 = .ok (.lconst 0, 1) := by decide +kernel
theorem dX0_isGroup_23 : decode cX0_isGroup 23 = .ok (.goto 28, 3) := by decide +kernel
theorem dX0_isGroup_26 : decode cX0_isGroup 26 = .ok (.iload 4, 2) := by decide +kernel
theorem dX0_isGroup_28 : decode cX0_isGroup 28 = .ok (.bipush 6, 2) := by decide +kernel
theorem dX0_isGroup_30 : decode cX0_isGroup 30 = .ok (.if_icmp .ge 13, 3) := by decide +kernel
theorem dX0_isGroup_33 : decode cX0_isGroup 33 = .ok (.aload_n 0, 1) := by decide +kernel
theorem dX0_isGroup_34 : decode cX0_isGroup 34 = .ok (.getfield 81, 3) := by decide +kernel
theorem dX0_isGroup_37 : decode cX0_isGroup 37 = .ok (.iload 4, 2) := by decide +kernel
theorem dX0_isGroup_39 : decode cX0_isGroup 39 = .ok (.laload, 1) := by decide +kernel
theorem dX0_isGroup_40 : decode cX0_isGroup 40 = .ok (.goto 11, 3) := by decide +kernel
theorem dX0_isGroup_43 : decode cX0_isGroup 43 = .ok (.aload_n 0, 1) := by decide +kernel
theorem dX0_isGroup_44 : decode cX0_isGroup 44 = .ok (.getfield 81, 3) := by decide +kernel
theorem dX0_isGroup_47 : decode cX0_isGroup 47 = .ok (.iload 4, 2) := by decide +kernel
theorem dX0_isGroup_49 : decode cX0_isGroup 49 = .ok (.laload, 1) := by decide +kernel
theorem dX0_isGroup_50 : decode cX0_isGroup 50 = .ok (.lneg, 1) := by decide +kernel
theorem dX0_isGroup_51 : decode cX0_isGroup 51 = .ok (.ladd, 1) := by decide +kernel
theorem dX0_isGroup_52 : decode cX0_isGroup 52 = .ok (.lstore_n 2, 1) := by decide +kernel
theorem dX0_isGroup_53 : decode cX0_isGroup 53 = .ok (.iinc 4 1, 3) := by decide +kernel
theorem dX0_isGroup_56 : decode cX0_isGroup 56 = .ok (.goto (-51), 3) := by decide +kernel
theorem dX0_isGroup_59 : decode cX0_isGroup 59 = .ok (.lload_n 2, 1) := by decide +kernel
theorem dX0_isGroup_60 : decode cX0_isGroup 60 = .ok (.lconst 0, 1) := by decide +kernel
theorem dX0_isGroup_61 : decode cX0_isGroup 61 = .ok (.lcmp, 1) := by decide +kernel
theorem dX0_isGroup_62 : decode cX0_isGroup 62 = .ok (.ifCond .ne 21, 3) := by decide +kernel
theorem dX0_isGroup_65 : decode cX0_isGroup 65 = .ok (.iload_n 1, 1) := by decide +kernel
theorem dX0_isGroup_66 : decode cX0_isGroup 66 = .ok (.bipush 63, 2) := by decide +kernel
theorem dX0_isGroup_68 : decode cX0_isGroup 68 = .ok (.iand, 1) := by decide +kernel
theorem dX0_isGroup_69 : decode cX0_isGroup 69 = .ok (.ifCond .eq 14, 3) := by decide +kernel
theorem dX0_isGroup_72 : decode cX0_isGroup 72 = .ok (.iload_n 1, 1) := by decide +kernel
theorem dX0_isGroup_73 : decode cX0_isGroup 73 = .ok (.bipush 6, 2) := by decide +kernel
theorem dX0_isGroup_75 : decode cX0_isGroup 75 = .ok (.ishr, 1) := by decide +kernel
theorem dX0_isGroup_76 : decode cX0_isGroup 76 = .ok (.ifCond .eq 7, 3) := by decide +kernel
theorem dX0_isGroup_79 : decode cX0_isGroup 79 = .ok (.iconst 1, 1) := by decide +kernel
theorem dX0_isGroup_80 : decode cX0_isGroup 80 = .ok (.goto 4, 3) := by decide +kernel
theorem dX0_isGroup_83 : decode cX0_isGroup 83 = .ok (.iconst 0, 1) := by decide +kernel
theorem dX0_isGroup_84 : decode cX0_isGroup 84 = .ok (.ireturn, 1) := by decide +kernel
def tb_X0_isGroup : Nat → ma_In := fun pc =>
 (if pc < 43 then
 (if pc < 18 then
 (if pc < 9 then
 (if pc < 3 then
 (if pc < 1 then
 (if pc = 0 then in_push (.long 0) 1 else in_no) else
 (if pc < 2 then
 (if pc = 1 then in_lst 2 2 else in_no) else
 (if pc = 2 then in_push (.int 0) 3 else in_no))) else
 (if pc < 5 then
 (if pc = 3 then in_ist 4 5 else in_no) else
 (if pc < 7 then
 (if pc = 5 then in_ild 4 7 else in_no) else
 (if pc = 7 then in_push (.int 12) 9 else in_no)))) else
 (if pc < 14 then
 (if pc < 12 then
 (if pc = 9 then in_if2 (fun x y => y ≤ x) 59 12 else in_no) else
 (if pc < 13 then
 (if pc = 12 then in_lld 2 13 else in_no) else
 (if pc = 13 then in_ild 1 14 else in_no))) else
 (if pc < 16 then
 (if pc = 14 then in_ild 4 16 else in_no) else
 (if pc < 17 then
 (if pc = 16 then in_iii (fun x y => x >>> (y &&& 31)) 17 else in_no) else
 (if pc = 17 then in_push (.int 1) 18 else in_no))))) else
 (if pc < 30 then
 (if pc < 23 then
 (if pc < 19 then
 (if pc = 18 then in_iii (fun x y => x &&& y) 19 else in_no) else
 (if pc < 22 then
 (if pc = 19 then in_if1 (fun x => x = 0) 22 26 else in_no) else
 (if pc = 22 then in_push (.long 0) 23 else in_no))) else
 (if pc < 26 then
 (if pc = 23 then in_go 51 else in_no) else
 (if pc < 28 then
 (if pc = 26 then in_ild 4 28 else in_no) else
 (if pc = 28 then in_push (.int 6) 30 else in_no)))) else
 (if pc < 37 then
 (if pc < 33 then
 (if pc = 30 then in_if2 (fun x y => y ≤ x) 43 33 else in_no) else
 (if pc < 34 then
 (if pc = 33 then in_ald 0 34 else in_no) else
 (if pc = 34 then in_get YX 0 22 37 else in_no))) else
 (if pc < 39 then
 (if pc = 37 then in_ild 4 39 else in_no) else
 (if pc < 40 then
 (if pc = 39 then in_lar YX 40 else in_no) else
 (if pc = 40 then in_go 51 else in_no)))))) else
 (if pc < 62 then
 (if pc < 52 then
 (if pc < 49 then
 (if pc < 44 then
 (if pc = 43 then in_ald 0 44 else in_no) else
 (if pc < 47 then
 (if pc = 44 then in_get YX 0 22 47 else in_no) else
 (if pc = 47 then in_ild 4 49 else in_no))) else
 (if pc < 50 then
 (if pc = 49 then in_lar YX 50 else in_no) else
 (if pc < 51 then
 (if pc = 50 then in_ll (fun x => -x) 51 else in_no) else
 (if pc = 51 then in_lll (fun x y => x + y) 52 else in_no)))) else
 (if pc < 59 then
 (if pc < 53 then
 (if pc = 52 then in_lst 2 53 else in_no) else
 (if pc < 56 then
 (if pc = 53 then in_inc 4 1 56 else in_no) else
 (if pc = 56 then in_go 5 else in_no))) else
 (if pc < 60 then
 (if pc = 59 then in_lld 2 60 else in_no) else
 (if pc < 61 then
 (if pc = 60 then in_push (.long 0) 61 else in_no) else
 (if pc = 61 then in_lli lg_cmp 62 else in_no))))) else
 (if pc < 73 then
 (if pc < 68 then
 (if pc < 65 then
 (if pc = 62 then in_if1 (fun x => x = 0) 65 83 else in_no) else
 (if pc < 66 then
 (if pc = 65 then in_ild 1 66 else in_no) else
 (if pc = 66 then in_push (.int 63) 68 else in_no))) else
 (if pc < 69 then
 (if pc = 68 then in_iii (fun x y => x &&& y) 69 else in_no) else
 (if pc < 72 then
 (if pc = 69 then in_if1 (fun x => x = 0) 83 72 else in_no) else
 (if pc = 72 then in_ild 1 73 else in_no)))) else
 (if pc < 79 then
 (if pc < 75 then
 (if pc = 73 then in_push (.int 6) 75 else in_no) else
 (if pc < 76 then
 (if pc = 75 then in_iii (fun x y => x >>> (y &&& 31)) 76 else in_no) else
 (if pc = 76 then in_if1 (fun x => x = 0) 83 79 else in_no))) else
 (if pc < 83 then
 (if pc < 80 then
 (if pc = 79 then in_push (.int 1) 80 else in_no) else
 (if pc = 80 then in_go 84 else in_no)) else
 (if pc < 84 then
 (if pc = 83 then in_push (.int 0) 84 else in_no) else
 (if pc = 84 then in_rz else in_no)))))))
theorem tk_X0_isGroup {l : Launch} {w : ma_Wd} {NC : Nat} {A : Nat → Prop} {p : Program} {e : Env} {s : State} {m : MethodId} {args : Array Value} {below : List Frame} {meth : Method} {c : Code} (X : ma_Cx p s m args meth c w YX NC A yX0_isGroup.cls cX0_isGroup 5 (some .boolean)) : ∀ pc, ma_Ok p l e rm_X0_isGroup s m args below meth c w YX NC A 5 pc (tb_X0_isGroup pc) := fun pc =>
 (mk_lt
 (mk_lt
 (mk_lt
 (mk_lt
 (mk_lt
 (mk_eq (mk_lconst X dX0_isGroup_0 rfl rfl))
 (mk_lt
 (mk_eq (mk_lstore_n X dX0_isGroup_1 rfl (Nat.le_of_ble_eq_true rfl) rfl))
 (mk_eq (mk_iconst X dX0_isGroup_2 rfl rfl))))
 (mk_lt
 (mk_eq (mk_istore X dX0_isGroup_3 (Nat.le_of_ble_eq_true rfl) rfl))
 (mk_lt
 (mk_eq (mk_iload X dX0_isGroup_5 rfl))
 (mk_eq (mk_bipush X dX0_isGroup_7 rfl rfl)))))
 (mk_lt
 (mk_lt
 (mk_eq (mk_icge X dX0_isGroup_9 rfl rfl))
 (mk_lt
 (mk_eq (mk_lload_n X dX0_isGroup_12 rfl rfl))
 (mk_eq (mk_iload_n X dX0_isGroup_13 rfl rfl))))
 (mk_lt
 (mk_eq (mk_iload X dX0_isGroup_14 rfl))
 (mk_lt
 (mk_eq (mk_ishr X dX0_isGroup_16 rfl))
 (mk_eq (mk_iconst X dX0_isGroup_17 rfl rfl))))))
 (mk_lt
 (mk_lt
 (mk_lt
 (mk_eq (mk_iand X dX0_isGroup_18 rfl))
 (mk_lt
 (mk_eq (mk_ifne X dX0_isGroup_19 rfl rfl))
 (mk_eq (mk_lconst X dX0_isGroup_22 rfl rfl))))
 (mk_lt
 (mk_eq (mk_goto X dX0_isGroup_23 rfl))
 (mk_lt
 (mk_eq (mk_iload X dX0_isGroup_26 rfl))
 (mk_eq (mk_bipush X dX0_isGroup_28 rfl rfl)))))
 (mk_lt
 (mk_lt
 (mk_eq (mk_icge X dX0_isGroup_30 rfl rfl))
 (mk_lt
 (mk_eq (mk_aload_n X dX0_isGroup_33 rfl rfl))
 (mk_eq (mk_get X (ci := 0) (j := 22) rfl in_X0 (Nat.le_of_ble_eq_true rfl) q268 dX0_isGroup_34 rfl))))
 (mk_lt
 (mk_eq (mk_iload X dX0_isGroup_37 rfl))
 (mk_lt
 (mk_eq (mk_lar X dX0_isGroup_39 rfl))
 (mk_eq (mk_goto X dX0_isGroup_40 rfl)))))))
 (mk_lt
 (mk_lt
 (mk_lt
 (mk_lt
 (mk_eq (mk_aload_n X dX0_isGroup_43 rfl rfl))
 (mk_lt
 (mk_eq (mk_get X (ci := 0) (j := 22) rfl in_X0 (Nat.le_of_ble_eq_true rfl) q268 dX0_isGroup_44 rfl))
 (mk_eq (mk_iload X dX0_isGroup_47 rfl))))
 (mk_lt
 (mk_eq (mk_lar X dX0_isGroup_49 rfl))
 (mk_lt
 (mk_eq (mk_lneg X dX0_isGroup_50 rfl))
 (mk_eq (mk_ladd X dX0_isGroup_51 rfl)))))
 (mk_lt
 (mk_lt
 (mk_eq (mk_lstore_n X dX0_isGroup_52 rfl (Nat.le_of_ble_eq_true rfl) rfl))
 (mk_lt
 (mk_eq (mk_iinc X dX0_isGroup_53 rfl (Nat.le_of_ble_eq_true rfl) rfl))
 (mk_eq (mk_goto X dX0_isGroup_56 rfl))))
 (mk_lt
 (mk_eq (mk_lload_n X dX0_isGroup_59 rfl rfl))
 (mk_lt
 (mk_eq (mk_lconst X dX0_isGroup_60 rfl rfl))
 (mk_eq (mk_lcmp X dX0_isGroup_61 rfl))))))
 (mk_lt
 (mk_lt
 (mk_lt
 (mk_eq (mk_ifne X dX0_isGroup_62 rfl rfl))
 (mk_lt
 (mk_eq (mk_iload_n X dX0_isGroup_65 rfl rfl))
 (mk_eq (mk_bipush X dX0_isGroup_66 rfl rfl))))
 (mk_lt
 (mk_eq (mk_iand X dX0_isGroup_68 rfl))
 (mk_lt
 (mk_eq (mk_ifeq X dX0_isGroup_69 rfl rfl))
 (mk_eq (mk_iload_n X dX0_isGroup_72 rfl rfl)))))
 (mk_lt
 (mk_lt
 (mk_eq (mk_bipush X dX0_isGroup_73 rfl rfl))
 (mk_lt
 (mk_eq (mk_ishr X dX0_isGroup_75 rfl))
 (mk_eq (mk_ifeq X dX0_isGroup_76 rfl rfl))))
 (mk_lt
 (mk_lt
 (mk_eq (mk_iconst X dX0_isGroup_79 rfl rfl))
 (mk_eq (mk_goto X dX0_isGroup_80 rfl)))
 (mk_lt
 (mk_eq (mk_iconst X dX0_isGroup_83 rfl rfl))
 (mk_eq (mk_rz X dX0_isGroup_84))))))))
theorem sd_X0_isGroup {l : Launch} {w : ma_Wd} {NC : Nat} {A : Nat → Prop} (hw : ma_Wo w YX NC A) : ma_Sd l w YX NC A yX0_isGroup cX0_isGroup 5 (some .boolean) rm_X0_isGroup (ma_rn (tb_X0_isGroup) 5) := ma_of hw (by decide) ⟨rfl, rfl⟩ (fun X => tk_X0_isGroup  X)
theorem dX0_second_0 : decode cX0_second 0 = .ok (.iload_n 1, 1) := by decide +kernel
theorem dX0_second_1 : decode cX0_second 1 = .ok (.i2l, 1) := by decide +kernel
theorem dX0_second_2 : decode cX0_second 2 = .ok (.lconst 1, 1) := by decide +kernel
theorem dX0_second_3 : decode cX0_second 3 = .ok (.ldc2_w 125, 3) := by decide +kernel
theorem dX0_second_6 : decode cX0_second 6 = .ok (.invokestatic 5, 3) := by decide +kernel
theorem dX0_second_9 : decode cX0_second 9 = .ok (.ifCond .eq 11, 3) := by decide +kernel
theorem dX0_second_12 : decode cX0_second 12 = .ok (.aload_n 0, 1) := by decide +kernel
theorem dX0_second_13 : decode cX0_second 13 = .ok (.iload_n 2, 1) := by decide +kernel
theorem dX0_second_14 : decode cX0_second 14 = .ok (.invokevirtual 200, 3) := by decide +kernel
theorem dX0_second_17 : decode cX0_second 17 = .ok (.ifCond .ne 5, 3) := by decide +kernel
theorem dX0_second_20 : decode cX0_second 20 = .ok (.iconst (-1), 1) := by decide +kernel
theorem dX0_second_21 : decode cX0_second 21 = .ok (.ireturn, 1) := by decide +kernel
theorem dX0_second_22 : decode cX0_second 22 = .ok (.aload_n 0, 1) := by decide +kernel
theorem dX0_second_23 : decode cX0_second 23 = .ok (.invokevirtual 211, 3) := by decide +kernel
theorem dX0_second_26 : decode cX0_second 26 = .ok (.iconst 0, 1) := by decide +kernel
theorem dX0_second_27 : decode cX0_second 27 = .ok (.istore_n 3, 1) := by decide +kernel
theorem dX0_second_28 : decode cX0_second 28 = .ok (.iconst 0, 1) := by decide +kernel
theorem dX0_second_29 : decode cX0_second 29 = .ok (.istore 4, 2) := by decide +kernel
theorem dX0_second_31 : decode cX0_second 31 = .ok (.iload 4, 2) := by decide +kernel
theorem dX0_second_33 : decode cX0_second 33 = .ok (.iconst 4, 1) := by decide +kernel
theorem dX0_second_34 : decode cX0_second 34 = .ok (.if_icmp .ge 42, 3) := by decide +kernel
theorem dX0_second_37 : decode cX0_second 37 = .ok (.iload_n 3, 1) := by decide +kernel
theorem dX0_second_38 : decode cX0_second 38 = .ok (.aload_n 0, 1) := by decide +kernel
theorem dX0_second_39 : decode cX0_second 39 = .ok (.getfield 71, 3) := by decide +kernel
theorem dX0_second_42 : decode cX0_second 42 = .ok (.iload_n 1, 1) := by decide +kernel
theorem dX0_second_43 : decode cX0_second 43 = .ok (.iload_n 2, 1) := by decide +kernel
theorem dX0_second_44 : decode cX0_second 44 = .ok (.iload 4, 2) := by decide +kernel
theorem dX0_second_46 : decode cX0_second 46 = .ok (.invokevirtual 214, 3) := by decide +kernel
theorem dX0_second_49 : decode cX0_second 49 = .ok (.aload_n 0, 1) := by decide +kernel
theorem dX0_second_50 : decode cX0_second 50 = .ok (.iload_n 1, 1) := by decide +kernel
theorem dX0_second_51 : decode cX0_second 51 = .ok (.iload_n 2, 1) := by decide +kernel
theorem dX0_second_52 : decode cX0_second 52 = .ok (.iload 4, 2) := by decide +kernel
theorem dX0_second_54 : decode cX0_second 54 = .ok (.invokevirtual 264, 3) := by decide +kernel
theorem dX0_second_57 : decode cX0_second 57 = .ok (.if_icmp .eq 10, 3) := by decide +kernel
theorem dX0_second_60 : decode cX0_second 60 = .ok (.iconst 1, 1) := by decide +kernel
theorem dX0_second_61 : decode cX0_second 61 = .ok (.iload 4, 2) := by decide +kernel
theorem dX0_second_63 : decode cX0_second 63 = .ok (.ishl, 1) := by decide +kernel
theorem dX0_second_64 : decode cX0_second 64 = .ok (.goto 4, 3) := by decide +kernel
theorem dX0_second_67 : decode cX0_second 67 = .ok (.iconst 0, 1) := by decide +kernel
theorem dX0_second_68 : decode cX0_second 68 = .ok (.ior, 1) := by decide +kernel
theorem dX0_second_69 : decode cX0_second 69 = .ok (.istore_n 3, 1) := by decide +kernel
theorem dX0_second_70 : decode cX0_second 70 = .ok (.iinc 4 1, 3) := by decide +kernel
theorem dX0_second_73 : decode cX0_second 73 = .ok (.goto (-42), 3) := by decide +kernel
theorem dX0_second_76 : decode cX0_second 76 = .ok (.iload_n 3, 1) := by decide +kernel
theorem dX0_second_77 : decode cX0_second 77 = .ok (.ireturn, 1) := by decide +kernel
def tb_X0_second (S_X0_isIn S_X0_isCell S_X0_refresh S_X3_at S_X0_anew : ma_Cs) : Nat → ma_In := fun pc =>
 (if pc < 38 then
 (if pc < 21 then
 (if pc < 9 then
 (if pc < 2 then
 (if pc < 1 then
 (if pc = 0 then in_ild 1 1 else in_no) else
 (if pc = 1 then in_il (fun x => x.toInt64) 2 else in_no)) else
 (if pc < 3 then
 (if pc = 2 then in_push (.long 1) 3 else in_no) else
 (if pc < 6 then
 (if pc = 3 then in_push (.long 12) 6 else in_no) else
 (if pc = 6 then in_s3 S_X0_isIn 9 else in_no)))) else
 (if pc < 14 then
 (if pc < 12 then
 (if pc = 9 then in_if1 (fun x => x = 0) 20 12 else in_no) else
 (if pc < 13 then
 (if pc = 12 then in_ald 0 13 else in_no) else
 (if pc = 13 then in_ild 2 14 else in_no))) else
 (if pc < 17 then
 (if pc = 14 then in_v2 YX 0 S_X0_isCell 17 else in_no) else
 (if pc < 20 then
 (if pc = 17 then in_if1 (fun x => x = 0) 20 22 else in_no) else
 (if pc = 20 then in_push (.int (-1)) 21 else in_no))))) else
 (if pc < 28 then
 (if pc < 23 then
 (if pc < 22 then
 (if pc = 21 then in_ri else in_no) else
 (if pc = 22 then in_ald 0 23 else in_no)) else
 (if pc < 26 then
 (if pc = 23 then in_v1 YX 0 S_X0_refresh 26 else in_no) else
 (if pc < 27 then
 (if pc = 26 then in_push (.int 0) 27 else in_no) else
 (if pc = 27 then in_ist 3 28 else in_no)))) else
 (if pc < 33 then
 (if pc < 29 then
 (if pc = 28 then in_push (.int 0) 29 else in_no) else
 (if pc < 31 then
 (if pc = 29 then in_ist 4 31 else in_no) else
 (if pc = 31 then in_ild 4 33 else in_no))) else
 (if pc < 34 then
 (if pc = 33 then in_push (.int 4) 34 else in_no) else
 (if pc < 37 then
 (if pc = 34 then in_if2 (fun x y => y ≤ x) 76 37 else in_no) else
 (if pc = 37 then in_ild 3 38 else in_no)))))) else
 (if pc < 57 then
 (if pc < 46 then
 (if pc < 42 then
 (if pc < 39 then
 (if pc = 38 then in_ald 0 39 else in_no) else
 (if pc = 39 then in_get YX 0 17 42 else in_no)) else
 (if pc < 43 then
 (if pc = 42 then in_ild 1 43 else in_no) else
 (if pc < 44 then
 (if pc = 43 then in_ild 2 44 else in_no) else
 (if pc = 44 then in_ild 4 46 else in_no)))) else
 (if pc < 51 then
 (if pc < 49 then
 (if pc = 46 then in_v4 YX 3 S_X3_at 49 else in_no) else
 (if pc < 50 then
 (if pc = 49 then in_ald 0 50 else in_no) else
 (if pc = 50 then in_ild 1 51 else in_no))) else
 (if pc < 52 then
 (if pc = 51 then in_ild 2 52 else in_no) else
 (if pc < 54 then
 (if pc = 52 then in_ild 4 54 else in_no) else
 (if pc = 54 then in_v4 YX 0 S_X0_anew 57 else in_no))))) else
 (if pc < 68 then
 (if pc < 63 then
 (if pc < 60 then
 (if pc = 57 then in_if2 (fun x y => x = y) 67 60 else in_no) else
 (if pc < 61 then
 (if pc = 60 then in_push (.int 1) 61 else in_no) else
 (if pc = 61 then in_ild 4 63 else in_no))) else
 (if pc < 64 then
 (if pc = 63 then in_iii (fun x y => x <<< (y &&& 31)) 64 else in_no) else
 (if pc < 67 then
 (if pc = 64 then in_go 68 else in_no) else
 (if pc = 67 then in_push (.int 0) 68 else in_no)))) else
 (if pc < 73 then
 (if pc < 69 then
 (if pc = 68 then in_iii (fun x y => x ||| y) 69 else in_no) else
 (if pc < 70 then
 (if pc = 69 then in_ist 3 70 else in_no) else
 (if pc = 70 then in_inc 4 1 73 else in_no))) else
 (if pc < 76 then
 (if pc = 73 then in_go 31 else in_no) else
 (if pc < 77 then
 (if pc = 76 then in_ild 3 77 else in_no) else
 (if pc = 77 then in_ri else in_no)))))))
theorem tk_X0_second {l : Launch} {w : ma_Wd} {NC : Nat} {A : Nat → Prop} {S_X0_isIn S_X0_isCell S_X0_refresh S_X3_at S_X0_anew : ma_Cs} (h_X0_isIn : ma_Sd l w YX NC A yX0_isIn cX0_isIn 6 (some .boolean) rm_X0_isIn S_X0_isIn) (h_X0_isCell : ma_Sd l w YX NC A yX0_isCell cX0_isCell 2 (some .boolean) rm_X0_isCell S_X0_isCell) (h_X0_refresh : ma_Sd l w YX NC A yX0_refresh cX0_refresh 1 none rm_X0_refresh S_X0_refresh) (h_X3_at : ma_Sd l w YX NC A yX3_at cX3_at 4 (some .int) rm_X3_at S_X3_at) (h_X0_anew : ma_Sd l w YX NC A yX0_anew cX0_anew 5 (some .int) rm_X0_anew S_X0_anew) {p : Program} {e : Env} {s : State} {m : MethodId} {args : Array Value} {below : List Frame} {meth : Method} {c : Code} (X : ma_Cx p s m args meth c w YX NC A yX0_second.cls cX0_second 5 (some .int)) : ∀ pc, ma_Ok p l e rm_X0_second s m args below meth c w YX NC A 5 pc (tb_X0_second S_X0_isIn S_X0_isCell S_X0_refresh S_X3_at S_X0_anew pc) := fun pc =>
 (mk_lt
 (mk_lt
 (mk_lt
 (mk_lt
 (mk_lt
 (mk_eq (mk_iload_n X dX0_second_0 rfl rfl))
 (mk_eq (mk_i2l X dX0_second_1 rfl)))
 (mk_lt
 (mk_eq (mk_lconst X dX0_second_2 rfl rfl))
 (mk_lt
 (mk_eq (mk_ldc2 X dX0_second_3 q479 rfl))
 (mk_eq (mk_S3 X h_X0_isIn (lw_S q355 q356 q61 q357) ⟨by decide, by decide, rfl⟩ ⟨(Nat.le_of_ble_eq_true rfl), (Nat.le_of_ble_eq_true rfl)⟩ dX0_second_6 rfl)))))
 (mk_lt
 (mk_lt
 (mk_eq (mk_ifeq X dX0_second_9 rfl rfl))
 (mk_lt
 (mk_eq (mk_aload_n X dX0_second_12 rfl rfl))
 (mk_eq (mk_iload_n X dX0_second_13 rfl rfl))))
 (mk_lt
 (mk_eq (mk_V2 X h_X0_isCell (ci := 0) rfl (lw_V q464 q466 qs11 q61 q467) ⟨rfl, by decide, by decide, rfl⟩ ⟨(Nat.le_of_ble_eq_true rfl), (Nat.le_of_ble_eq_true rfl)⟩ dX0_second_14 rfl))
 (mk_lt
 (mk_eq (mk_ifne X dX0_second_17 rfl rfl))
 (mk_eq (mk_iconst X dX0_second_20 rfl rfl))))))
 (mk_lt
 (mk_lt
 (mk_lt
 (mk_eq (mk_ri X dX0_second_21))
 (mk_eq (mk_aload_n X dX0_second_22 rfl rfl)))
 (mk_lt
 (mk_eq (mk_V1 X h_X0_refresh (ci := 0) rfl (lw_V q481 q483 qs13 q61 q484) ⟨rfl, by decide, by decide, rfl⟩ ⟨(Nat.le_of_ble_eq_true rfl), (Nat.le_of_ble_eq_true rfl)⟩ dX0_second_23 rfl))
 (mk_lt
 (mk_eq (mk_iconst X dX0_second_26 rfl rfl))
 (mk_eq (mk_istore_n X dX0_second_27 rfl (Nat.le_of_ble_eq_true rfl) rfl)))))
 (mk_lt
 (mk_lt
 (mk_eq (mk_iconst X dX0_second_28 rfl rfl))
 (mk_lt
 (mk_eq (mk_istore X dX0_second_29 (Nat.le_of_ble_eq_true rfl) rfl))
 (mk_eq (mk_iload X dX0_second_31 rfl))))
 (mk_lt
 (mk_eq (mk_iconst X dX0_second_33 rfl rfl))
 (mk_lt
 (mk_eq (mk_icge X dX0_second_34 rfl rfl))
 (mk_eq (mk_iload_n X dX0_second_37 rfl rfl)))))))
 (mk_lt
 (mk_lt
 (mk_lt
 (mk_lt
 (mk_eq (mk_aload_n X dX0_second_38 rfl rfl))
 (mk_eq (mk_get X (ci := 0) (j := 17) rfl in_X0 (Nat.le_of_ble_eq_true rfl) q263 dX0_second_39 rfl)))
 (mk_lt
 (mk_eq (mk_iload_n X dX0_second_42 rfl rfl))
 (mk_lt
 (mk_eq (mk_iload_n X dX0_second_43 rfl rfl))
 (mk_eq (mk_iload X dX0_second_44 rfl)))))
 (mk_lt
 (mk_lt
 (mk_eq (mk_V4 X h_X3_at (ci := 3) rfl (lw_V q553 q516 q517 q64 q518) ⟨rfl, by decide, by decide, rfl⟩ ⟨(Nat.le_of_ble_eq_true rfl), (Nat.le_of_ble_eq_true rfl)⟩ dX0_second_46 rfl))
 (mk_lt
 (mk_eq (mk_aload_n X dX0_second_49 rfl rfl))
 (mk_eq (mk_iload_n X dX0_second_50 rfl rfl))))
 (mk_lt
 (mk_eq (mk_iload_n X dX0_second_51 rfl rfl))
 (mk_lt
 (mk_eq (mk_iload X dX0_second_52 rfl))
 (mk_eq (mk_V4 X h_X0_anew (ci := 0) rfl (lw_V q635 q637 qs24 q61 q638) ⟨rfl, by decide, by decide, rfl⟩ ⟨(Nat.le_of_ble_eq_true rfl), (Nat.le_of_ble_eq_true rfl)⟩ dX0_second_54 rfl))))))
 (mk_lt
 (mk_lt
 (mk_lt
 (mk_eq (mk_iceq X dX0_second_57 rfl rfl))
 (mk_lt
 (mk_eq (mk_iconst X dX0_second_60 rfl rfl))
 (mk_eq (mk_iload X dX0_second_61 rfl))))
 (mk_lt
 (mk_eq (mk_ishl X dX0_second_63 rfl))
 (mk_lt
 (mk_eq (mk_goto X dX0_second_64 rfl))
 (mk_eq (mk_iconst X dX0_second_67 rfl rfl)))))
 (mk_lt
 (mk_lt
 (mk_eq (mk_ior X dX0_second_68 rfl))
 (mk_lt
 (mk_eq (mk_istore_n X dX0_second_69 rfl (Nat.le_of_ble_eq_true rfl) rfl))
 (mk_eq (mk_iinc X dX0_second_70 rfl (Nat.le_of_ble_eq_true rfl) rfl))))
 (mk_lt
 (mk_eq (mk_goto X dX0_second_73 rfl))
 (mk_lt
 (mk_eq (mk_iload_n X dX0_second_76 rfl rfl))
 (mk_eq (mk_ri X dX0_second_77))))))))
theorem sd_X0_second {l : Launch} {w : ma_Wd} {NC : Nat} {A : Nat → Prop} {S_X0_isIn S_X0_isCell S_X0_refresh S_X3_at S_X0_anew : ma_Cs} (hw : ma_Wo w YX NC A) (h_X0_isIn : ma_Sd l w YX NC A yX0_isIn cX0_isIn 6 (some .boolean) rm_X0_isIn S_X0_isIn) (h_X0_isCell : ma_Sd l w YX NC A yX0_isCell cX0_isCell 2 (some .boolean) rm_X0_isCell S_X0_isCell) (h_X0_refresh : ma_Sd l w YX NC A yX0_refresh cX0_refresh 1 none rm_X0_refresh S_X0_refresh) (h_X3_at : ma_Sd l w YX NC A yX3_at cX3_at 4 (some .int) rm_X3_at S_X3_at) (h_X0_anew : ma_Sd l w YX NC A yX0_anew cX0_anew 5 (some .int) rm_X0_anew S_X0_anew) : ma_Sd l w YX NC A yX0_second cX0_second 5 (some .int) rm_X0_second (ma_rn (tb_X0_second S_X0_isIn S_X0_isCell S_X0_refresh S_X3_at S_X0_anew) 5) := ma_of hw (by decide) ⟨rfl, rfl⟩ (fun X => tk_X0_second h_X0_isIn h_X0_isCell h_X0_refresh h_X3_at h_X0_anew X)
theorem dX0_anew_0 : decode cX0_anew 0 = .ok (.aload_n 0, 1) := by decide +kernel
theorem dX0_anew_1 : decode cX0_anew 1 = .ok (.getfield 35, 3) := by decide +kernel
theorem dX0_anew_4 : decode cX0_anew 4 = .ok (.iload_n 3, 1) := by decide +kernel
theorem dX0_anew_5 : decode cX0_anew 5 = .ok (.invokevirtual 176, 3) := by decide +kernel
theorem dX0_anew_8 : decode cX0_anew 8 = .ok (.istore 4, 2) := by decide +kernel
theorem dX0_anew_10 : decode cX0_anew 10 = .ok (.iload 4, 2) := by decide +kernel
theorem dX0_anew_12 : decode cX0_anew 12 = .ok (.bipush (-4), 2) := by decide +kernel
theorem dX0_anew_14 : decode cX0_anew 14 = .ok (.if_icmp .ne 18, 3) := by decide +kernel
theorem dX0_anew_17 : decode cX0_anew 17 = .ok (.aload_n 0, 1) := by decide +kernel
theorem dX0_anew_18 : decode cX0_anew 18 = .ok (.getfield 71, 3) := by decide +kernel
theorem dX0_anew_21 : decode cX0_anew 21 = .ok (.iload_n 1, 1) := by decide +kernel
theorem dX0_anew_22 : decode cX0_anew 22 = .ok (.iconst 1, 1) := by decide +kernel
theorem dX0_anew_23 : decode cX0_anew 23 = .ok (.isub, 1) := by decide +kernel
theorem dX0_anew_24 : decode cX0_anew 24 = .ok (.iload_n 2, 1) := by decide +kernel
theorem dX0_anew_25 : decode cX0_anew 25 = .ok (.iload_n 3, 1) := by decide +kernel
theorem dX0_anew_26 : decode cX0_anew 26 = .ok (.invokevirtual 214, 3) := by decide +kernel
theorem dX0_anew_29 : decode cX0_anew 29 = .ok (.goto 14, 3) := by decide +kernel
theorem dX0_anew_32 : decode cX0_anew 32 = .ok (.aload_n 0, 1) := by decide +kernel
theorem dX0_anew_33 : decode cX0_anew 33 = .ok (.getfield 71, 3) := by decide +kernel
theorem dX0_anew_36 : decode cX0_anew 36 = .ok (.iload 4, 2) := by decide +kernel
theorem dX0_anew_38 : decode cX0_anew 38 = .ok (.iload_n 1, 1) := by decide +kernel
theorem dX0_anew_39 : decode cX0_anew 39 = .ok (.iload_n 2, 1) := by decide +kernel
theorem dX0_anew_40 : decode cX0_anew 40 = .ok (.invokevirtual 267, 3) := by decide +kernel
theorem dX0_anew_43 : decode cX0_anew 43 = .ok (.ireturn, 1) := by decide +kernel
def tb_X0_anew (S_X2_lineOf S_X3_at S_X3_made : ma_Cs) : Nat → ma_In := fun pc =>
 (if pc < 23 then
 (if pc < 12 then
 (if pc < 5 then
 (if pc < 1 then
 (if pc = 0 then in_ald 0 1 else in_no) else
 (if pc < 4 then
 (if pc = 1 then in_get YX 0 4 4 else in_no) else
 (if pc = 4 then in_ild 3 5 else in_no))) else
 (if pc < 8 then
 (if pc = 5 then in_v2 YX 2 S_X2_lineOf 8 else in_no) else
 (if pc < 10 then
 (if pc = 8 then in_ist 4 10 else in_no) else
 (if pc = 10 then in_ild 4 12 else in_no)))) else
 (if pc < 18 then
 (if pc < 14 then
 (if pc = 12 then in_push (.int (-4)) 14 else in_no) else
 (if pc < 17 then
 (if pc = 14 then in_if2 (fun x y => x = y) 17 32 else in_no) else
 (if pc = 17 then in_ald 0 18 else in_no))) else
 (if pc < 21 then
 (if pc = 18 then in_get YX 0 17 21 else in_no) else
 (if pc < 22 then
 (if pc = 21 then in_ild 1 22 else in_no) else
 (if pc = 22 then in_push (.int 1) 23 else in_no))))) else
 (if pc < 33 then
 (if pc < 26 then
 (if pc < 24 then
 (if pc = 23 then in_iii (fun x y => x - y) 24 else in_no) else
 (if pc < 25 then
 (if pc = 24 then in_ild 2 25 else in_no) else
 (if pc = 25 then in_ild 3 26 else in_no))) else
 (if pc < 29 then
 (if pc = 26 then in_v4 YX 3 S_X3_at 29 else in_no) else
 (if pc < 32 then
 (if pc = 29 then in_go 43 else in_no) else
 (if pc = 32 then in_ald 0 33 else in_no)))) else
 (if pc < 39 then
 (if pc < 36 then
 (if pc = 33 then in_get YX 0 17 36 else in_no) else
 (if pc < 38 then
 (if pc = 36 then in_ild 4 38 else in_no) else
 (if pc = 38 then in_ild 1 39 else in_no))) else
 (if pc < 40 then
 (if pc = 39 then in_ild 2 40 else in_no) else
 (if pc < 43 then
 (if pc = 40 then in_v4 YX 3 S_X3_made 43 else in_no) else
 (if pc = 43 then in_ri else in_no))))))
theorem tk_X0_anew {l : Launch} {w : ma_Wd} {NC : Nat} {A : Nat → Prop} {S_X2_lineOf S_X3_at S_X3_made : ma_Cs} (h_X2_lineOf : ma_Sd l w YX NC A yX2_lineOf cX2_lineOf 3 (some .int) rm_X2_lineOf S_X2_lineOf) (h_X3_at : ma_Sd l w YX NC A yX3_at cX3_at 4 (some .int) rm_X3_at S_X3_at) (h_X3_made : ma_Sd l w YX NC A yX3_made cX3_made 11 (some .int) rm_X3_made S_X3_made) {p : Program} {e : Env} {s : State} {m : MethodId} {args : Array Value} {below : List Frame} {meth : Method} {c : Code} (X : ma_Cx p s m args meth c w YX NC A yX0_anew.cls cX0_anew 5 (some .int)) : ∀ pc, ma_Ok p l e rm_X0_anew s m args below meth c w YX NC A 5 pc (tb_X0_anew S_X2_lineOf S_X3_at S_X3_made pc) := fun pc =>
 (mk_lt
 (mk_lt
 (mk_lt
 (mk_lt
 (mk_eq (mk_aload_n X dX0_anew_0 rfl rfl))
 (mk_lt
 (mk_eq (mk_get X (ci := 0) (j := 4) rfl in_X0 (Nat.le_of_ble_eq_true rfl) q230 dX0_anew_1 rfl))
 (mk_eq (mk_iload_n X dX0_anew_4 rfl rfl))))
 (mk_lt
 (mk_eq (mk_V2 X h_X2_lineOf (ci := 2) rfl (lw_V q455 q405 q406 q63 q407) ⟨rfl, by decide, by decide, rfl⟩ ⟨(Nat.le_of_ble_eq_true rfl), (Nat.le_of_ble_eq_true rfl)⟩ dX0_anew_5 rfl))
 (mk_lt
 (mk_eq (mk_istore X dX0_anew_8 (Nat.le_of_ble_eq_true rfl) rfl))
 (mk_eq (mk_iload X dX0_anew_10 rfl)))))
 (mk_lt
 (mk_lt
 (mk_eq (mk_bipush X dX0_anew_12 rfl rfl))
 (mk_lt
 (mk_eq (mk_icne X dX0_anew_14 rfl rfl))
 (mk_eq (mk_aload_n X dX0_anew_17 rfl rfl))))
 (mk_lt
 (mk_eq (mk_get X (ci := 0) (j := 17) rfl in_X0 (Nat.le_of_ble_eq_true rfl) q263 dX0_anew_18 rfl))
 (mk_lt
 (mk_eq (mk_iload_n X dX0_anew_21 rfl rfl))
 (mk_eq (mk_iconst X dX0_anew_22 rfl rfl))))))
 (mk_lt
 (mk_lt
 (mk_lt
 (mk_eq (mk_isub X dX0_anew_23 rfl))
 (mk_lt
 (mk_eq (mk_iload_n X dX0_anew_24 rfl rfl))
 (mk_eq (mk_iload_n X dX0_anew_25 rfl rfl))))
 (mk_lt
 (mk_eq (mk_V4 X h_X3_at (ci := 3) rfl (lw_V q553 q516 q517 q64 q518) ⟨rfl, by decide, by decide, rfl⟩ ⟨(Nat.le_of_ble_eq_true rfl), (Nat.le_of_ble_eq_true rfl)⟩ dX0_anew_26 rfl))
 (mk_lt
 (mk_eq (mk_goto X dX0_anew_29 rfl))
 (mk_eq (mk_aload_n X dX0_anew_32 rfl rfl)))))
 (mk_lt
 (mk_lt
 (mk_eq (mk_get X (ci := 0) (j := 17) rfl in_X0 (Nat.le_of_ble_eq_true rfl) q263 dX0_anew_33 rfl))
 (mk_lt
 (mk_eq (mk_iload X dX0_anew_36 rfl))
 (mk_eq (mk_iload_n X dX0_anew_38 rfl rfl))))
 (mk_lt
 (mk_eq (mk_iload_n X dX0_anew_39 rfl rfl))
 (mk_lt
 (mk_eq (mk_V4 X h_X3_made (ci := 3) rfl (lw_V q639 q541 q542 q64 q543) ⟨rfl, by decide, by decide, rfl⟩ ⟨(Nat.le_of_ble_eq_true rfl), (Nat.le_of_ble_eq_true rfl)⟩ dX0_anew_40 rfl))
 (mk_eq (mk_ri X dX0_anew_43)))))))
theorem sd_X0_anew {l : Launch} {w : ma_Wd} {NC : Nat} {A : Nat → Prop} {S_X2_lineOf S_X3_at S_X3_made : ma_Cs} (hw : ma_Wo w YX NC A) (h_X2_lineOf : ma_Sd l w YX NC A yX2_lineOf cX2_lineOf 3 (some .int) rm_X2_lineOf S_X2_lineOf) (h_X3_at : ma_Sd l w YX NC A yX3_at cX3_at 4 (some .int) rm_X3_at S_X3_at) (h_X3_made : ma_Sd l w YX NC A yX3_made cX3_made 11 (some .int) rm_X3_made S_X3_made) : ma_Sd l w YX NC A yX0_anew cX0_anew 5 (some .int) rm_X0_anew (ma_rn (tb_X0_anew S_X2_lineOf S_X3_at S_X3_made) 5) := ma_of hw (by decide) ⟨rfl, rfl⟩ (fun X => tk_X0_anew h_X2_lineOf h_X3_at h_X3_made X)
theorem dX0_put_0 : decode cX0_put 0 = .ok (.aload_n 0, 1) := by decide +kernel
theorem dX0_put_1 : decode cX0_put 1 = .ok (.iload_n 1, 1) := by decide +kernel
theorem dX0_put_2 : decode cX0_put 2 = .ok (.invokevirtual 200, 3) := by decide +kernel
theorem dX0_put_5 : decode cX0_put 5 = .ok (.ifCond .eq 17, 3) := by decide +kernel
theorem dX0_put_8 : decode cX0_put 8 = .ok (.iload_n 2, 1) := by decide +kernel
theorem dX0_put_9 : decode cX0_put 9 = .ok (.i2l, 1) := by decide +kernel
theorem dX0_put_10 : decode cX0_put 10 = .ok (.ldc2_w 270, 3) := by decide +kernel
theorem dX0_put_13 : decode cX0_put 13 = .ok (.ldc2_w 272, 3) := by decide +kernel
theorem dX0_put_16 : decode cX0_put 16 = .ok (.invokestatic 5, 3) := by decide +kernel
theorem dX0_put_19 : decode cX0_put 19 = .ok (.ifCond .ne 6, 3) := by decide +kernel
theorem dX0_put_22 : decode cX0_put 22 = .ok (.ldc 210, 2) := by decide +kernel
theorem dX0_put_24 : decode cX0_put 24 = .ok (.ireturn, 1) := by decide +kernel
theorem dX0_put_25 : decode cX0_put 25 = .ok (.aload_n 0, 1) := by decide +kernel
theorem dX0_put_26 : decode cX0_put 26 = .ok (.getfield 87, 3) := by decide +kernel
theorem dX0_put_29 : decode cX0_put 29 = .ok (.iload_n 1, 1) := by decide +kernel
theorem dX0_put_30 : decode cX0_put 30 = .ok (.iaload, 1) := by decide +kernel
theorem dX0_put_31 : decode cX0_put 31 = .ok (.istore_n 3, 1) := by decide +kernel
theorem dX0_put_32 : decode cX0_put 32 = .ok (.aload_n 0, 1) := by decide +kernel
theorem dX0_put_33 : decode cX0_put 33 = .ok (.getfield 87, 3) := by decide +kernel
theorem dX0_put_36 : decode cX0_put 36 = .ok (.iload_n 1, 1) := by decide +kernel
theorem dX0_put_37 : decode cX0_put 37 = .ok (.iload_n 2, 1) := by decide +kernel
theorem dX0_put_38 : decode cX0_put 38 = .ok (.iastore, 1) := by decide +kernel
theorem dX0_put_39 : decode cX0_put 39 = .ok (.iload_n 3, 1) := by decide +kernel
theorem dX0_put_40 : decode cX0_put 40 = .ok (.ireturn, 1) := by decide +kernel
def tb_X0_put (S_X0_isCell S_X0_isIn : ma_Cs) : Nat → ma_In := fun pc =>
 (if pc < 25 then
 (if pc < 10 then
 (if pc < 5 then
 (if pc < 1 then
 (if pc = 0 then in_ald 0 1 else in_no) else
 (if pc < 2 then
 (if pc = 1 then in_ild 1 2 else in_no) else
 (if pc = 2 then in_v2 YX 0 S_X0_isCell 5 else in_no))) else
 (if pc < 8 then
 (if pc = 5 then in_if1 (fun x => x = 0) 22 8 else in_no) else
 (if pc < 9 then
 (if pc = 8 then in_ild 2 9 else in_no) else
 (if pc = 9 then in_il (fun x => x.toInt64) 10 else in_no)))) else
 (if pc < 19 then
 (if pc < 13 then
 (if pc = 10 then in_push (.long (-1000000000)) 13 else in_no) else
 (if pc < 16 then
 (if pc = 13 then in_push (.long 1000000000) 16 else in_no) else
 (if pc = 16 then in_s3 S_X0_isIn 19 else in_no))) else
 (if pc < 22 then
 (if pc = 19 then in_if1 (fun x => x = 0) 22 25 else in_no) else
 (if pc < 24 then
 (if pc = 22 then in_push (.int (-2000000000)) 24 else in_no) else
 (if pc = 24 then in_ri else in_no))))) else
 (if pc < 33 then
 (if pc < 30 then
 (if pc < 26 then
 (if pc = 25 then in_ald 0 26 else in_no) else
 (if pc < 29 then
 (if pc = 26 then in_get YX 0 24 29 else in_no) else
 (if pc = 29 then in_ild 1 30 else in_no))) else
 (if pc < 31 then
 (if pc = 30 then in_iar YX 31 else in_no) else
 (if pc < 32 then
 (if pc = 31 then in_ist 3 32 else in_no) else
 (if pc = 32 then in_ald 0 33 else in_no)))) else
 (if pc < 38 then
 (if pc < 36 then
 (if pc = 33 then in_get YX 0 24 36 else in_no) else
 (if pc < 37 then
 (if pc = 36 then in_ild 1 37 else in_no) else
 (if pc = 37 then in_ild 2 38 else in_no))) else
 (if pc < 39 then
 (if pc = 38 then in_iaw YX 39 else in_no) else
 (if pc < 40 then
 (if pc = 39 then in_ild 3 40 else in_no) else
 (if pc = 40 then in_ri else in_no))))))
theorem tk_X0_put {l : Launch} {w : ma_Wd} {NC : Nat} {A : Nat → Prop} {S_X0_isCell S_X0_isIn : ma_Cs} (h_X0_isCell : ma_Sd l w YX NC A yX0_isCell cX0_isCell 2 (some .boolean) rm_X0_isCell S_X0_isCell) (h_X0_isIn : ma_Sd l w YX NC A yX0_isIn cX0_isIn 6 (some .boolean) rm_X0_isIn S_X0_isIn) {p : Program} {e : Env} {s : State} {m : MethodId} {args : Array Value} {below : List Frame} {meth : Method} {c : Code} (X : ma_Cx p s m args meth c w YX NC A yX0_put.cls cX0_put 4 (some .int)) : ∀ pc, ma_Ok p l e rm_X0_put s m args below meth c w YX NC A 4 pc (tb_X0_put S_X0_isCell S_X0_isIn pc) := fun pc =>
 (mk_lt
 (mk_lt
 (mk_lt
 (mk_lt
 (mk_eq (mk_aload_n X dX0_put_0 rfl rfl))
 (mk_lt
 (mk_eq (mk_iload_n X dX0_put_1 rfl rfl))
 (mk_eq (mk_V2 X h_X0_isCell (ci := 0) rfl (lw_V q464 q466 qs11 q61 q467) ⟨rfl, by decide, by decide, rfl⟩ ⟨(Nat.le_of_ble_eq_true rfl), (Nat.le_of_ble_eq_true rfl)⟩ dX0_put_2 rfl))))
 (mk_lt
 (mk_eq (mk_ifeq X dX0_put_5 rfl rfl))
 (mk_lt
 (mk_eq (mk_iload_n X dX0_put_8 rfl rfl))
 (mk_eq (mk_i2l X dX0_put_9 rfl)))))
 (mk_lt
 (mk_lt
 (mk_eq (mk_ldc2 X dX0_put_10 q644 rfl))
 (mk_lt
 (mk_eq (mk_ldc2 X dX0_put_13 q645 rfl))
 (mk_eq (mk_S3 X h_X0_isIn (lw_S q355 q356 q61 q357) ⟨by decide, by decide, rfl⟩ ⟨(Nat.le_of_ble_eq_true rfl), (Nat.le_of_ble_eq_true rfl)⟩ dX0_put_16 rfl))))
 (mk_lt
 (mk_eq (mk_ifne X dX0_put_19 rfl rfl))
 (mk_lt
 (mk_eq (mk_ldc X dX0_put_22 q480 rfl))
 (mk_eq (mk_ri X dX0_put_24))))))
 (mk_lt
 (mk_lt
 (mk_lt
 (mk_eq (mk_aload_n X dX0_put_25 rfl rfl))
 (mk_lt
 (mk_eq (mk_get X (ci := 0) (j := 24) rfl in_X0 (Nat.le_of_ble_eq_true rfl) q270 dX0_put_26 rfl))
 (mk_eq (mk_iload_n X dX0_put_29 rfl rfl))))
 (mk_lt
 (mk_eq (mk_iar X dX0_put_30 rfl))
 (mk_lt
 (mk_eq (mk_istore_n X dX0_put_31 rfl (Nat.le_of_ble_eq_true rfl) rfl))
 (mk_eq (mk_aload_n X dX0_put_32 rfl rfl)))))
 (mk_lt
 (mk_lt
 (mk_eq (mk_get X (ci := 0) (j := 24) rfl in_X0 (Nat.le_of_ble_eq_true rfl) q270 dX0_put_33 rfl))
 (mk_lt
 (mk_eq (mk_iload_n X dX0_put_36 rfl rfl))
 (mk_eq (mk_iload_n X dX0_put_37 rfl rfl))))
 (mk_lt
 (mk_eq (mk_iaw X dX0_put_38 rfl))
 (mk_lt
 (mk_eq (mk_iload_n X dX0_put_39 rfl rfl))
 (mk_eq (mk_ri X dX0_put_40)))))))
theorem sd_X0_put {l : Launch} {w : ma_Wd} {NC : Nat} {A : Nat → Prop} {S_X0_isCell S_X0_isIn : ma_Cs} (hw : ma_Wo w YX NC A) (h_X0_isCell : ma_Sd l w YX NC A yX0_isCell cX0_isCell 2 (some .boolean) rm_X0_isCell S_X0_isCell) (h_X0_isIn : ma_Sd l w YX NC A yX0_isIn cX0_isIn 6 (some .boolean) rm_X0_isIn S_X0_isIn) : ma_Sd l w YX NC A yX0_put cX0_put 4 (some .int) rm_X0_put (ma_rn (tb_X0_put S_X0_isCell S_X0_isIn) 4) := ma_of hw (by decide) ⟨rfl, rfl⟩ (fun X => tk_X0_put h_X0_isCell h_X0_isIn X)
theorem dX0_judge_0 : decode cX0_judge 0 = .ok (.iload_n 1, 1) := by decide +kernel
theorem dX0_judge_1 : decode cX0_judge 1 = .ok (.i2l, 1) := by decide +kernel
theorem dX0_judge_2 : decode cX0_judge 2 = .ok (.lconst 1, 1) := by decide +kernel
theorem dX0_judge_3 : decode cX0_judge 3 = .ok (.ldc2_w 125, 3) := by decide +kernel
theorem dX0_judge_6 : decode cX0_judge 6 = .ok (.invokestatic 5, 3) := by decide +kernel
theorem dX0_judge_9 : decode cX0_judge 9 = .ok (.ifCond .eq 10, 3) := by decide +kernel
theorem dX0_judge_12 : decode cX0_judge 12 = .ok (.iload_n 2, 1) := by decide +kernel
theorem dX0_judge_13 : decode cX0_judge 13 = .ok (.invokestatic 150, 3) := by decide +kernel
theorem dX0_judge_16 : decode cX0_judge 16 = .ok (.ifCond .ne 5, 3) := by decide +kernel
theorem dX0_judge_19 : decode cX0_judge 19 = .ok (.iconst (-1), 1) := by decide +kernel
theorem dX0_judge_20 : decode cX0_judge 20 = .ok (.ireturn, 1) := by decide +kernel
theorem dX0_judge_21 : decode cX0_judge 21 = .ok (.aload_n 0, 1) := by decide +kernel
theorem dX0_judge_22 : decode cX0_judge 22 = .ok (.invokevirtual 211, 3) := by decide +kernel
theorem dX0_judge_25 : decode cX0_judge 25 = .ok (.iconst 0, 1) := by decide +kernel
theorem dX0_judge_26 : decode cX0_judge 26 = .ok (.istore_n 3, 1) := by decide +kernel
theorem dX0_judge_27 : decode cX0_judge 27 = .ok (.iload_n 3, 1) := by decide +kernel
theorem dX0_judge_28 : decode cX0_judge 28 = .ok (.aload_n 0, 1) := by decide +kernel
theorem dX0_judge_29 : decode cX0_judge 29 = .ok (.invokevirtual 121, 3) := by decide +kernel
theorem dX0_judge_32 : decode cX0_judge 32 = .ok (.if_icmp .ge 27, 3) := by decide +kernel
theorem dX0_judge_35 : decode cX0_judge 35 = .ok (.aload_n 0, 1) := by decide +kernel
theorem dX0_judge_36 : decode cX0_judge 36 = .ok (.getfield 87, 3) := by decide +kernel
theorem dX0_judge_39 : decode cX0_judge 39 = .ok (.iload_n 3, 1) := by decide +kernel
theorem dX0_judge_40 : decode cX0_judge 40 = .ok (.iaload, 1) := by decide +kernel
theorem dX0_judge_41 : decode cX0_judge 41 = .ok (.aload_n 0, 1) := by decide +kernel
theorem dX0_judge_42 : decode cX0_judge 42 = .ok (.iload_n 1, 1) := by decide +kernel
theorem dX0_judge_43 : decode cX0_judge 43 = .ok (.iload_n 3, 1) := by decide +kernel
theorem dX0_judge_44 : decode cX0_judge 44 = .ok (.iload_n 2, 1) := by decide +kernel
theorem dX0_judge_45 : decode cX0_judge 45 = .ok (.invokevirtual 264, 3) := by decide +kernel
theorem dX0_judge_48 : decode cX0_judge 48 = .ok (.if_icmp .eq 5, 3) := by decide +kernel
theorem dX0_judge_51 : decode cX0_judge 51 = .ok (.iload_n 3, 1) := by decide +kernel
theorem dX0_judge_52 : decode cX0_judge 52 = .ok (.ireturn, 1) := by decide +kernel
theorem dX0_judge_53 : decode cX0_judge 53 = .ok (.iinc 3 1, 3) := by decide +kernel
theorem dX0_judge_56 : decode cX0_judge 56 = .ok (.goto (-29), 3) := by decide +kernel
theorem dX0_judge_59 : decode cX0_judge 59 = .ok (.bipush (-4), 2) := by decide +kernel
theorem dX0_judge_61 : decode cX0_judge 61 = .ok (.ireturn, 1) := by decide +kernel
def tb_X0_judge (S_X0_isIn S_X0_isLetter S_X0_refresh S_X0_cells S_X0_anew : ma_Cs) : Nat → ma_In := fun pc =>
 (if pc < 29 then
 (if pc < 16 then
 (if pc < 6 then
 (if pc < 2 then
 (if pc < 1 then
 (if pc = 0 then in_ild 1 1 else in_no) else
 (if pc = 1 then in_il (fun x => x.toInt64) 2 else in_no)) else
 (if pc < 3 then
 (if pc = 2 then in_push (.long 1) 3 else in_no) else
 (if pc = 3 then in_push (.long 12) 6 else in_no))) else
 (if pc < 12 then
 (if pc < 9 then
 (if pc = 6 then in_s3 S_X0_isIn 9 else in_no) else
 (if pc = 9 then in_if1 (fun x => x = 0) 19 12 else in_no)) else
 (if pc < 13 then
 (if pc = 12 then in_ild 2 13 else in_no) else
 (if pc = 13 then in_s1 S_X0_isLetter 16 else in_no)))) else
 (if pc < 22 then
 (if pc < 20 then
 (if pc < 19 then
 (if pc = 16 then in_if1 (fun x => x = 0) 19 21 else in_no) else
 (if pc = 19 then in_push (.int (-1)) 20 else in_no)) else
 (if pc < 21 then
 (if pc = 20 then in_ri else in_no) else
 (if pc = 21 then in_ald 0 22 else in_no))) else
 (if pc < 26 then
 (if pc < 25 then
 (if pc = 22 then in_v1 YX 0 S_X0_refresh 25 else in_no) else
 (if pc = 25 then in_push (.int 0) 26 else in_no)) else
 (if pc < 27 then
 (if pc = 26 then in_ist 3 27 else in_no) else
 (if pc < 28 then
 (if pc = 27 then in_ild 3 28 else in_no) else
 (if pc = 28 then in_ald 0 29 else in_no)))))) else
 (if pc < 44 then
 (if pc < 39 then
 (if pc < 35 then
 (if pc < 32 then
 (if pc = 29 then in_v1 YX 0 S_X0_cells 32 else in_no) else
 (if pc = 32 then in_if2 (fun x y => y ≤ x) 59 35 else in_no)) else
 (if pc < 36 then
 (if pc = 35 then in_ald 0 36 else in_no) else
 (if pc = 36 then in_get YX 0 24 39 else in_no))) else
 (if pc < 41 then
 (if pc < 40 then
 (if pc = 39 then in_ild 3 40 else in_no) else
 (if pc = 40 then in_iar YX 41 else in_no)) else
 (if pc < 42 then
 (if pc = 41 then in_ald 0 42 else in_no) else
 (if pc < 43 then
 (if pc = 42 then in_ild 1 43 else in_no) else
 (if pc = 43 then in_ild 3 44 else in_no))))) else
 (if pc < 52 then
 (if pc < 48 then
 (if pc < 45 then
 (if pc = 44 then in_ild 2 45 else in_no) else
 (if pc = 45 then in_v4 YX 0 S_X0_anew 48 else in_no)) else
 (if pc < 51 then
 (if pc = 48 then in_if2 (fun x y => x = y) 53 51 else in_no) else
 (if pc = 51 then in_ild 3 52 else in_no))) else
 (if pc < 56 then
 (if pc < 53 then
 (if pc = 52 then in_ri else in_no) else
 (if pc = 53 then in_inc 3 1 56 else in_no)) else
 (if pc < 59 then
 (if pc = 56 then in_go 27 else in_no) else
 (if pc < 61 then
 (if pc = 59 then in_push (.int (-4)) 61 else in_no) else
 (if pc = 61 then in_ri else in_no)))))))
theorem tk_X0_judge {l : Launch} {w : ma_Wd} {NC : Nat} {A : Nat → Prop} {S_X0_isIn S_X0_isLetter S_X0_refresh S_X0_cells S_X0_anew : ma_Cs} (h_X0_isIn : ma_Sd l w YX NC A yX0_isIn cX0_isIn 6 (some .boolean) rm_X0_isIn S_X0_isIn) (h_X0_isLetter : ma_Sd l w YX NC A yX0_isLetter cX0_isLetter 1 (some .boolean) rm_X0_isLetter S_X0_isLetter) (h_X0_refresh : ma_Sd l w YX NC A yX0_refresh cX0_refresh 1 none rm_X0_refresh S_X0_refresh) (h_X0_cells : ma_Sd l w YX NC A yX0_cells cX0_cells 1 (some .int) rm_X0_cells S_X0_cells) (h_X0_anew : ma_Sd l w YX NC A yX0_anew cX0_anew 5 (some .int) rm_X0_anew S_X0_anew) {p : Program} {e : Env} {s : State} {m : MethodId} {args : Array Value} {below : List Frame} {meth : Method} {c : Code} (X : ma_Cx p s m args meth c w YX NC A yX0_judge.cls cX0_judge 4 (some .int)) : ∀ pc, ma_Ok p l e rm_X0_judge s m args below meth c w YX NC A 4 pc (tb_X0_judge S_X0_isIn S_X0_isLetter S_X0_refresh S_X0_cells S_X0_anew pc) := fun pc =>
 (mk_lt
 (mk_lt
 (mk_lt
 (mk_lt
 (mk_lt
 (mk_eq (mk_iload_n X dX0_judge_0 rfl rfl))
 (mk_eq (mk_i2l X dX0_judge_1 rfl)))
 (mk_lt
 (mk_eq (mk_lconst X dX0_judge_2 rfl rfl))
 (mk_eq (mk_ldc2 X dX0_judge_3 q479 rfl))))
 (mk_lt
 (mk_lt
 (mk_eq (mk_S3 X h_X0_isIn (lw_S q355 q356 q61 q357) ⟨by decide, by decide, rfl⟩ ⟨(Nat.le_of_ble_eq_true rfl), (Nat.le_of_ble_eq_true rfl)⟩ dX0_judge_6 rfl))
 (mk_eq (mk_ifeq X dX0_judge_9 rfl rfl)))
 (mk_lt
 (mk_eq (mk_iload_n X dX0_judge_12 rfl rfl))
 (mk_eq (mk_S1 X h_X0_isLetter (lw_S q371 q372 q61 q373) ⟨by decide, by decide, rfl⟩ ⟨(Nat.le_of_ble_eq_true rfl), (Nat.le_of_ble_eq_true rfl)⟩ dX0_judge_13 rfl)))))
 (mk_lt
 (mk_lt
 (mk_lt
 (mk_eq (mk_ifne X dX0_judge_16 rfl rfl))
 (mk_eq (mk_iconst X dX0_judge_19 rfl rfl)))
 (mk_lt
 (mk_eq (mk_ri X dX0_judge_20))
 (mk_eq (mk_aload_n X dX0_judge_21 rfl rfl))))
 (mk_lt
 (mk_lt
 (mk_eq (mk_V1 X h_X0_refresh (ci := 0) rfl (lw_V q481 q483 qs13 q61 q484) ⟨rfl, by decide, by decide, rfl⟩ ⟨(Nat.le_of_ble_eq_true rfl), (Nat.le_of_ble_eq_true rfl)⟩ dX0_judge_22 rfl))
 (mk_eq (mk_iconst X dX0_judge_25 rfl rfl)))
 (mk_lt
 (mk_eq (mk_istore_n X dX0_judge_26 rfl (Nat.le_of_ble_eq_true rfl) rfl))
 (mk_lt
 (mk_eq (mk_iload_n X dX0_judge_27 rfl rfl))
 (mk_eq (mk_aload_n X dX0_judge_28 rfl rfl)))))))
 (mk_lt
 (mk_lt
 (mk_lt
 (mk_lt
 (mk_eq (mk_V1 X h_X0_cells (ci := 0) rfl (lw_V q358 q360 qs2 q61 q361) ⟨rfl, by decide, by decide, rfl⟩ ⟨(Nat.le_of_ble_eq_true rfl), (Nat.le_of_ble_eq_true rfl)⟩ dX0_judge_29 rfl))
 (mk_eq (mk_icge X dX0_judge_32 rfl rfl)))
 (mk_lt
 (mk_eq (mk_aload_n X dX0_judge_35 rfl rfl))
 (mk_eq (mk_get X (ci := 0) (j := 24) rfl in_X0 (Nat.le_of_ble_eq_true rfl) q270 dX0_judge_36 rfl))))
 (mk_lt
 (mk_lt
 (mk_eq (mk_iload_n X dX0_judge_39 rfl rfl))
 (mk_eq (mk_iar X dX0_judge_40 rfl)))
 (mk_lt
 (mk_eq (mk_aload_n X dX0_judge_41 rfl rfl))
 (mk_lt
 (mk_eq (mk_iload_n X dX0_judge_42 rfl rfl))
 (mk_eq (mk_iload_n X dX0_judge_43 rfl rfl))))))
 (mk_lt
 (mk_lt
 (mk_lt
 (mk_eq (mk_iload_n X dX0_judge_44 rfl rfl))
 (mk_eq (mk_V4 X h_X0_anew (ci := 0) rfl (lw_V q635 q637 qs24 q61 q638) ⟨rfl, by decide, by decide, rfl⟩ ⟨(Nat.le_of_ble_eq_true rfl), (Nat.le_of_ble_eq_true rfl)⟩ dX0_judge_45 rfl)))
 (mk_lt
 (mk_eq (mk_iceq X dX0_judge_48 rfl rfl))
 (mk_eq (mk_iload_n X dX0_judge_51 rfl rfl))))
 (mk_lt
 (mk_lt
 (mk_eq (mk_ri X dX0_judge_52))
 (mk_eq (mk_iinc X dX0_judge_53 rfl (Nat.le_of_ble_eq_true rfl) rfl)))
 (mk_lt
 (mk_eq (mk_goto X dX0_judge_56 rfl))
 (mk_lt
 (mk_eq (mk_bipush X dX0_judge_59 rfl rfl))
 (mk_eq (mk_ri X dX0_judge_61))))))))
theorem sd_X0_judge {l : Launch} {w : ma_Wd} {NC : Nat} {A : Nat → Prop} {S_X0_isIn S_X0_isLetter S_X0_refresh S_X0_cells S_X0_anew : ma_Cs} (hw : ma_Wo w YX NC A) (h_X0_isIn : ma_Sd l w YX NC A yX0_isIn cX0_isIn 6 (some .boolean) rm_X0_isIn S_X0_isIn) (h_X0_isLetter : ma_Sd l w YX NC A yX0_isLetter cX0_isLetter 1 (some .boolean) rm_X0_isLetter S_X0_isLetter) (h_X0_refresh : ma_Sd l w YX NC A yX0_refresh cX0_refresh 1 none rm_X0_refresh S_X0_refresh) (h_X0_cells : ma_Sd l w YX NC A yX0_cells cX0_cells 1 (some .int) rm_X0_cells S_X0_cells) (h_X0_anew : ma_Sd l w YX NC A yX0_anew cX0_anew 5 (some .int) rm_X0_anew S_X0_anew) : ma_Sd l w YX NC A yX0_judge cX0_judge 4 (some .int) rm_X0_judge (ma_rn (tb_X0_judge S_X0_isIn S_X0_isLetter S_X0_refresh S_X0_cells S_X0_anew) 4) := ma_of hw (by decide) ⟨rfl, rfl⟩ (fun X => tk_X0_judge h_X0_isIn h_X0_isLetter h_X0_refresh h_X0_cells h_X0_anew X)
theorem dX0_pace_0 : decode cX0_pace 0 = .ok (.iload_n 1, 1) := by decide +kernel
theorem dX0_pace_1 : decode cX0_pace 1 = .ok (.invokestatic 276, 3) := by decide +kernel
theorem dX0_pace_4 : decode cX0_pace 4 = .ok (.ifCond .eq 15, 3) := by decide +kernel
theorem dX0_pace_7 : decode cX0_pace 7 = .ok (.iload_n 2, 1) := by decide +kernel
theorem dX0_pace_8 : decode cX0_pace 8 = .ok (.i2l, 1) := by decide +kernel
theorem dX0_pace_9 : decode cX0_pace 9 = .ok (.lconst 1, 1) := by decide +kernel
theorem dX0_pace_10 : decode cX0_pace 10 = .ok (.ldc2_w 279, 3) := by decide +kernel
theorem dX0_pace_13 : decode cX0_pace 13 = .ok (.invokestatic 5, 3) := by decide +kernel
theorem dX0_pace_16 : decode cX0_pace 16 = .ok (.ifCond .ne 5, 3) := by decide +kernel
theorem dX0_pace_19 : decode cX0_pace 19 = .ok (.iconst (-1), 1) := by decide +kernel
theorem dX0_pace_20 : decode cX0_pace 20 = .ok (.ireturn, 1) := by decide +kernel
theorem dX0_pace_21 : decode cX0_pace 21 = .ok (.aload_n 0, 1) := by decide +kernel
theorem dX0_pace_22 : decode cX0_pace 22 = .ok (.getfield 93, 3) := by decide +kernel
theorem dX0_pace_25 : decode cX0_pace 25 = .ok (.iload_n 1, 1) := by decide +kernel
theorem dX0_pace_26 : decode cX0_pace 26 = .ok (.iaload, 1) := by decide +kernel
theorem dX0_pace_27 : decode cX0_pace 27 = .ok (.istore_n 3, 1) := by decide +kernel
theorem dX0_pace_28 : decode cX0_pace 28 = .ok (.aload_n 0, 1) := by decide +kernel
theorem dX0_pace_29 : decode cX0_pace 29 = .ok (.getfield 93, 3) := by decide +kernel
theorem dX0_pace_32 : decode cX0_pace 32 = .ok (.iload_n 1, 1) := by decide +kernel
theorem dX0_pace_33 : decode cX0_pace 33 = .ok (.iload_n 2, 1) := by decide +kernel
theorem dX0_pace_34 : decode cX0_pace 34 = .ok (.iastore, 1) := by decide +kernel
theorem dX0_pace_35 : decode cX0_pace 35 = .ok (.iload_n 3, 1) := by decide +kernel
theorem dX0_pace_36 : decode cX0_pace 36 = .ok (.ireturn, 1) := by decide +kernel
def tb_X0_pace (S_X0_isPerson S_X0_isIn : ma_Cs) : Nat → ma_In := fun pc =>
 (if pc < 21 then
 (if pc < 9 then
 (if pc < 4 then
 (if pc < 1 then
 (if pc = 0 then in_ild 1 1 else in_no) else
 (if pc = 1 then in_s1 S_X0_isPerson 4 else in_no)) else
 (if pc < 7 then
 (if pc = 4 then in_if1 (fun x => x = 0) 19 7 else in_no) else
 (if pc < 8 then
 (if pc = 7 then in_ild 2 8 else in_no) else
 (if pc = 8 then in_il (fun x => x.toInt64) 9 else in_no)))) else
 (if pc < 16 then
 (if pc < 10 then
 (if pc = 9 then in_push (.long 1) 10 else in_no) else
 (if pc < 13 then
 (if pc = 10 then in_push (.long 20) 13 else in_no) else
 (if pc = 13 then in_s3 S_X0_isIn 16 else in_no))) else
 (if pc < 19 then
 (if pc = 16 then in_if1 (fun x => x = 0) 19 21 else in_no) else
 (if pc < 20 then
 (if pc = 19 then in_push (.int (-1)) 20 else in_no) else
 (if pc = 20 then in_ri else in_no))))) else
 (if pc < 29 then
 (if pc < 26 then
 (if pc < 22 then
 (if pc = 21 then in_ald 0 22 else in_no) else
 (if pc < 25 then
 (if pc = 22 then in_get YX 0 26 25 else in_no) else
 (if pc = 25 then in_ild 1 26 else in_no))) else
 (if pc < 27 then
 (if pc = 26 then in_iar YX 27 else in_no) else
 (if pc < 28 then
 (if pc = 27 then in_ist 3 28 else in_no) else
 (if pc = 28 then in_ald 0 29 else in_no)))) else
 (if pc < 34 then
 (if pc < 32 then
 (if pc = 29 then in_get YX 0 26 32 else in_no) else
 (if pc < 33 then
 (if pc = 32 then in_ild 1 33 else in_no) else
 (if pc = 33 then in_ild 2 34 else in_no))) else
 (if pc < 35 then
 (if pc = 34 then in_iaw YX 35 else in_no) else
 (if pc < 36 then
 (if pc = 35 then in_ild 3 36 else in_no) else
 (if pc = 36 then in_ri else in_no))))))
theorem tk_X0_pace {l : Launch} {w : ma_Wd} {NC : Nat} {A : Nat → Prop} {S_X0_isPerson S_X0_isIn : ma_Cs} (h_X0_isPerson : ma_Sd l w YX NC A yX0_isPerson cX0_isPerson 1 (some .boolean) rm_X0_isPerson S_X0_isPerson) (h_X0_isIn : ma_Sd l w YX NC A yX0_isIn cX0_isIn 6 (some .boolean) rm_X0_isIn S_X0_isIn) {p : Program} {e : Env} {s : State} {m : MethodId} {args : Array Value} {below : List Frame} {meth : Method} {c : Code} (X : ma_Cx p s m args meth c w YX NC A yX0_pace.cls cX0_pace 4 (some .int)) : ∀ pc, ma_Ok p l e rm_X0_pace s m args below meth c w YX NC A 4 pc (tb_X0_pace S_X0_isPerson S_X0_isIn pc) := fun pc =>
 (mk_lt
 (mk_lt
 (mk_lt
 (mk_lt
 (mk_eq (mk_iload_n X dX0_pace_0 rfl rfl))
 (mk_eq (mk_S1 X h_X0_isPerson (lw_S q654 q655 q61 q656) ⟨by decide, by decide, rfl⟩ ⟨(Nat.le_of_ble_eq_true rfl), (Nat.le_of_ble_eq_true rfl)⟩ dX0_pace_1 rfl)))
 (mk_lt
 (mk_eq (mk_ifeq X dX0_pace_4 rfl rfl))
 (mk_lt
 (mk_eq (mk_iload_n X dX0_pace_7 rfl rfl))
 (mk_eq (mk_i2l X dX0_pace_8 rfl)))))
 (mk_lt
 (mk_lt
 (mk_eq (mk_lconst X dX0_pace_9 rfl rfl))
 (mk_lt
 (mk_eq (mk_ldc2 X dX0_pace_10 q658 rfl))
 (mk_eq (mk_S3 X h_X0_isIn (lw_S q355 q356 q61 q357) ⟨by decide, by decide, rfl⟩ ⟨(Nat.le_of_ble_eq_true rfl), (Nat.le_of_ble_eq_true rfl)⟩ dX0_pace_13 rfl))))
 (mk_lt
 (mk_eq (mk_ifne X dX0_pace_16 rfl rfl))
 (mk_lt
 (mk_eq (mk_iconst X dX0_pace_19 rfl rfl))
 (mk_eq (mk_ri X dX0_pace_20))))))
 (mk_lt
 (mk_lt
 (mk_lt
 (mk_eq (mk_aload_n X dX0_pace_21 rfl rfl))
 (mk_lt
 (mk_eq (mk_get X (ci := 0) (j := 26) rfl in_X0 (Nat.le_of_ble_eq_true rfl) q272 dX0_pace_22 rfl))
 (mk_eq (mk_iload_n X dX0_pace_25 rfl rfl))))
 (mk_lt
 (mk_eq (mk_iar X dX0_pace_26 rfl))
 (mk_lt
 (mk_eq (mk_istore_n X dX0_pace_27 rfl (Nat.le_of_ble_eq_true rfl) rfl))
 (mk_eq (mk_aload_n X dX0_pace_28 rfl rfl)))))
 (mk_lt
 (mk_lt
 (mk_eq (mk_get X (ci := 0) (j := 26) rfl in_X0 (Nat.le_of_ble_eq_true rfl) q272 dX0_pace_29 rfl))
 (mk_lt
 (mk_eq (mk_iload_n X dX0_pace_32 rfl rfl))
 (mk_eq (mk_iload_n X dX0_pace_33 rfl rfl))))
 (mk_lt
 (mk_eq (mk_iaw X dX0_pace_34 rfl))
 (mk_lt
 (mk_eq (mk_iload_n X dX0_pace_35 rfl rfl))
 (mk_eq (mk_ri X dX0_pace_36)))))))
theorem sd_X0_pace {l : Launch} {w : ma_Wd} {NC : Nat} {A : Nat → Prop} {S_X0_isPerson S_X0_isIn : ma_Cs} (hw : ma_Wo w YX NC A) (h_X0_isPerson : ma_Sd l w YX NC A yX0_isPerson cX0_isPerson 1 (some .boolean) rm_X0_isPerson S_X0_isPerson) (h_X0_isIn : ma_Sd l w YX NC A yX0_isIn cX0_isIn 6 (some .boolean) rm_X0_isIn S_X0_isIn) : ma_Sd l w YX NC A yX0_pace cX0_pace 4 (some .int) rm_X0_pace (ma_rn (tb_X0_pace S_X0_isPerson S_X0_isIn) 4) := ma_of hw (by decide) ⟨rfl, rfl⟩ (fun X => tk_X0_pace h_X0_isPerson h_X0_isIn X)
theorem dX0_isPerson_0 : decode cX0_isPerson 0 = .ok (.iload_n 0, 1) := by decide +kernel
theorem dX0_isPerson_1 : decode cX0_isPerson 1 = .ok (.i2l, 1) := by decide +kernel
theorem dX0_isPerson_2 : decode cX0_isPerson 2 = .ok (.lconst 0, 1) := by decide +kernel
theorem dX0_isPerson_3 : decode cX0_isPerson 3 = .ok (.ldc2_w 274, 3) := by decide +kernel
theorem dX0_isPerson_6 : decode cX0_isPerson 6 = .ok (.invokestatic 5, 3) := by decide +kernel
theorem dX0_isPerson_9 : decode cX0_isPerson 9 = .ok (.ireturn, 1) := by decide +kernel
def tb_X0_isPerson (S_X0_isIn : ma_Cs) : Nat → ma_In := fun pc =>
 (if pc < 3 then
 (if pc < 1 then
 (if pc = 0 then in_ild 0 1 else in_no) else
 (if pc < 2 then
 (if pc = 1 then in_il (fun x => x.toInt64) 2 else in_no) else
 (if pc = 2 then in_push (.long 0) 3 else in_no))) else
 (if pc < 6 then
 (if pc = 3 then in_push (.long 5) 6 else in_no) else
 (if pc < 9 then
 (if pc = 6 then in_s3 S_X0_isIn 9 else in_no) else
 (if pc = 9 then in_rz else in_no))))
theorem tk_X0_isPerson {l : Launch} {w : ma_Wd} {NC : Nat} {A : Nat → Prop} {S_X0_isIn : ma_Cs} (h_X0_isIn : ma_Sd l w YX NC A yX0_isIn cX0_isIn 6 (some .boolean) rm_X0_isIn S_X0_isIn) {p : Program} {e : Env} {s : State} {m : MethodId} {args : Array Value} {below : List Frame} {meth : Method} {c : Code} (X : ma_Cx p s m args meth c w YX NC A yX0_isPerson.cls cX0_isPerson 1 (some .boolean)) : ∀ pc, ma_Ok p l e rm_X0_isPerson s m args below meth c w YX NC A 1 pc (tb_X0_isPerson S_X0_isIn pc) := fun pc =>
 (mk_lt
 (mk_lt
 (mk_eq (mk_iload_n X dX0_isPerson_0 rfl rfl))
 (mk_lt
 (mk_eq (mk_i2l X dX0_isPerson_1 rfl))
 (mk_eq (mk_lconst X dX0_isPerson_2 rfl rfl))))
 (mk_lt
 (mk_eq (mk_ldc2 X dX0_isPerson_3 q657 rfl))
 (mk_lt
 (mk_eq (mk_S3 X h_X0_isIn (lw_S q355 q356 q61 q357) ⟨by decide, by decide, rfl⟩ ⟨(Nat.le_of_ble_eq_true rfl), (Nat.le_of_ble_eq_true rfl)⟩ dX0_isPerson_6 rfl))
 (mk_eq (mk_rz X dX0_isPerson_9)))))
theorem sd_X0_isPerson {l : Launch} {w : ma_Wd} {NC : Nat} {A : Nat → Prop} {S_X0_isIn : ma_Cs} (hw : ma_Wo w YX NC A) (h_X0_isIn : ma_Sd l w YX NC A yX0_isIn cX0_isIn 6 (some .boolean) rm_X0_isIn S_X0_isIn) : ma_Sd l w YX NC A yX0_isPerson cX0_isPerson 1 (some .boolean) rm_X0_isPerson (ma_rn (tb_X0_isPerson S_X0_isIn) 1) := ma_of hw (by decide) ⟨rfl, rfl⟩ (fun X => tk_X0_isPerson h_X0_isIn X)
theorem dX0_give_0 : decode cX0_give 0 = .ok (.aload_n 0, 1) := by decide +kernel
theorem dX0_give_1 : decode cX0_give 1 = .ok (.iload_n 1, 1) := by decide +kernel
theorem dX0_give_2 : decode cX0_give 2 = .ok (.invokevirtual 200, 3) := by decide +kernel
theorem dX0_give_5 : decode cX0_give 5 = .ok (.ifCond .eq 10, 3) := by decide +kernel
theorem dX0_give_8 : decode cX0_give 8 = .ok (.iload_n 2, 1) := by decide +kernel
theorem dX0_give_9 : decode cX0_give 9 = .ok (.invokestatic 276, 3) := by decide +kernel
theorem dX0_give_12 : decode cX0_give 12 = .ok (.ifCond .ne 5, 3) := by decide +kernel
theorem dX0_give_15 : decode cX0_give 15 = .ok (.iconst (-1), 1) := by decide +kernel
theorem dX0_give_16 : decode cX0_give 16 = .ok (.ireturn, 1) := by decide +kernel
theorem dX0_give_17 : decode cX0_give 17 = .ok (.aload_n 0, 1) := by decide +kernel
theorem dX0_give_18 : decode cX0_give 18 = .ok (.getfield 96, 3) := by decide +kernel
theorem dX0_give_21 : decode cX0_give 21 = .ok (.iload_n 1, 1) := by decide +kernel
theorem dX0_give_22 : decode cX0_give 22 = .ok (.iaload, 1) := by decide +kernel
theorem dX0_give_23 : decode cX0_give 23 = .ok (.istore_n 3, 1) := by decide +kernel
theorem dX0_give_24 : decode cX0_give 24 = .ok (.aload_n 0, 1) := by decide +kernel
theorem dX0_give_25 : decode cX0_give 25 = .ok (.getfield 96, 3) := by decide +kernel
theorem dX0_give_28 : decode cX0_give 28 = .ok (.iload_n 1, 1) := by decide +kernel
theorem dX0_give_29 : decode cX0_give 29 = .ok (.iload_n 2, 1) := by decide +kernel
theorem dX0_give_30 : decode cX0_give 30 = .ok (.iastore, 1) := by decide +kernel
theorem dX0_give_31 : decode cX0_give 31 = .ok (.iload_n 3, 1) := by decide +kernel
theorem dX0_give_32 : decode cX0_give 32 = .ok (.ireturn, 1) := by decide +kernel
def tb_X0_give (S_X0_isCell S_X0_isPerson : ma_Cs) : Nat → ma_In := fun pc =>
 (if pc < 18 then
 (if pc < 9 then
 (if pc < 2 then
 (if pc < 1 then
 (if pc = 0 then in_ald 0 1 else in_no) else
 (if pc = 1 then in_ild 1 2 else in_no)) else
 (if pc < 5 then
 (if pc = 2 then in_v2 YX 0 S_X0_isCell 5 else in_no) else
 (if pc < 8 then
 (if pc = 5 then in_if1 (fun x => x = 0) 15 8 else in_no) else
 (if pc = 8 then in_ild 2 9 else in_no)))) else
 (if pc < 15 then
 (if pc < 12 then
 (if pc = 9 then in_s1 S_X0_isPerson 12 else in_no) else
 (if pc = 12 then in_if1 (fun x => x = 0) 15 17 else in_no)) else
 (if pc < 16 then
 (if pc = 15 then in_push (.int (-1)) 16 else in_no) else
 (if pc < 17 then
 (if pc = 16 then in_ri else in_no) else
 (if pc = 17 then in_ald 0 18 else in_no))))) else
 (if pc < 25 then
 (if pc < 22 then
 (if pc < 21 then
 (if pc = 18 then in_get YX 0 27 21 else in_no) else
 (if pc = 21 then in_ild 1 22 else in_no)) else
 (if pc < 23 then
 (if pc = 22 then in_iar YX 23 else in_no) else
 (if pc < 24 then
 (if pc = 23 then in_ist 3 24 else in_no) else
 (if pc = 24 then in_ald 0 25 else in_no)))) else
 (if pc < 30 then
 (if pc < 28 then
 (if pc = 25 then in_get YX 0 27 28 else in_no) else
 (if pc < 29 then
 (if pc = 28 then in_ild 1 29 else in_no) else
 (if pc = 29 then in_ild 2 30 else in_no))) else
 (if pc < 31 then
 (if pc = 30 then in_iaw YX 31 else in_no) else
 (if pc < 32 then
 (if pc = 31 then in_ild 3 32 else in_no) else
 (if pc = 32 then in_ri else in_no))))))
theorem tk_X0_give {l : Launch} {w : ma_Wd} {NC : Nat} {A : Nat → Prop} {S_X0_isCell S_X0_isPerson : ma_Cs} (h_X0_isCell : ma_Sd l w YX NC A yX0_isCell cX0_isCell 2 (some .boolean) rm_X0_isCell S_X0_isCell) (h_X0_isPerson : ma_Sd l w YX NC A yX0_isPerson cX0_isPerson 1 (some .boolean) rm_X0_isPerson S_X0_isPerson) {p : Program} {e : Env} {s : State} {m : MethodId} {args : Array Value} {below : List Frame} {meth : Method} {c : Code} (X : ma_Cx p s m args meth c w YX NC A yX0_give.cls cX0_give 4 (some .int)) : ∀ pc, ma_Ok p l e rm_X0_give s m args below meth c w YX NC A 4 pc (tb_X0_give S_X0_isCell S_X0_isPerson pc) := fun pc =>
 (mk_lt
 (mk_lt
 (mk_lt
 (mk_lt
 (mk_eq (mk_aload_n X dX0_give_0 rfl rfl))
 (mk_eq (mk_iload_n X dX0_give_1 rfl rfl)))
 (mk_lt
 (mk_eq (mk_V2 X h_X0_isCell (ci := 0) rfl (lw_V q464 q466 qs11 q61 q467) ⟨rfl, by decide, by decide, rfl⟩ ⟨(Nat.le_of_ble_eq_true rfl), (Nat.le_of_ble_eq_true rfl)⟩ dX0_give_2 rfl))
 (mk_lt
 (mk_eq (mk_ifeq X dX0_give_5 rfl rfl))
 (mk_eq (mk_iload_n X dX0_give_8 rfl rfl)))))
 (mk_lt
 (mk_lt
 (mk_eq (mk_S1 X h_X0_isPerson (lw_S q654 q655 q61 q656) ⟨by decide, by decide, rfl⟩ ⟨(Nat.le_of_ble_eq_true rfl), (Nat.le_of_ble_eq_true rfl)⟩ dX0_give_9 rfl))
 (mk_eq (mk_ifne X dX0_give_12 rfl rfl)))
 (mk_lt
 (mk_eq (mk_iconst X dX0_give_15 rfl rfl))
 (mk_lt
 (mk_eq (mk_ri X dX0_give_16))
 (mk_eq (mk_aload_n X dX0_give_17 rfl rfl))))))
 (mk_lt
 (mk_lt
 (mk_lt
 (mk_eq (mk_get X (ci := 0) (j := 27) rfl in_X0 (Nat.le_of_ble_eq_true rfl) q273 dX0_give_18 rfl))
 (mk_eq (mk_iload_n X dX0_give_21 rfl rfl)))
 (mk_lt
 (mk_eq (mk_iar X dX0_give_22 rfl))
 (mk_lt
 (mk_eq (mk_istore_n X dX0_give_23 rfl (Nat.le_of_ble_eq_true rfl) rfl))
 (mk_eq (mk_aload_n X dX0_give_24 rfl rfl)))))
 (mk_lt
 (mk_lt
 (mk_eq (mk_get X (ci := 0) (j := 27) rfl in_X0 (Nat.le_of_ble_eq_true rfl) q273 dX0_give_25 rfl))
 (mk_lt
 (mk_eq (mk_iload_n X dX0_give_28 rfl rfl))
 (mk_eq (mk_iload_n X dX0_give_29 rfl rfl))))
 (mk_lt
 (mk_eq (mk_iaw X dX0_give_30 rfl))
 (mk_lt
 (mk_eq (mk_iload_n X dX0_give_31 rfl rfl))
 (mk_eq (mk_ri X dX0_give_32)))))))
theorem sd_X0_give {l : Launch} {w : ma_Wd} {NC : Nat} {A : Nat → Prop} {S_X0_isCell S_X0_isPerson : ma_Cs} (hw : ma_Wo w YX NC A) (h_X0_isCell : ma_Sd l w YX NC A yX0_isCell cX0_isCell 2 (some .boolean) rm_X0_isCell S_X0_isCell) (h_X0_isPerson : ma_Sd l w YX NC A yX0_isPerson cX0_isPerson 1 (some .boolean) rm_X0_isPerson S_X0_isPerson) : ma_Sd l w YX NC A yX0_give cX0_give 4 (some .int) rm_X0_give (ma_rn (tb_X0_give S_X0_isCell S_X0_isPerson) 4) := ma_of hw (by decide) ⟨rfl, rfl⟩ (fun X => tk_X0_give h_X0_isCell h_X0_isPerson X)
theorem dX0_when_0 : decode cX0_when 0 = .ok (.iload_n 1, 1) := by decide +kernel
theorem dX0_when_1 : decode cX0_when 1 = .ok (.invokestatic 203, 3) := by decide +kernel
theorem dX0_when_4 : decode cX0_when 4 = .ok (.ifCond .eq 16, 3) := by decide +kernel
theorem dX0_when_7 : decode cX0_when 7 = .ok (.iload_n 2, 1) := by decide +kernel
theorem dX0_when_8 : decode cX0_when 8 = .ok (.iconst (-1), 1) := by decide +kernel
theorem dX0_when_9 : decode cX0_when 9 = .ok (.if_icmp .eq 13, 3) := by decide +kernel
theorem dX0_when_12 : decode cX0_when 12 = .ok (.aload_n 0, 1) := by decide +kernel
theorem dX0_when_13 : decode cX0_when 13 = .ok (.iload_n 2, 1) := by decide +kernel
theorem dX0_when_14 : decode cX0_when 14 = .ok (.invokevirtual 200, 3) := by decide +kernel
theorem dX0_when_17 : decode cX0_when 17 = .ok (.ifCond .ne 5, 3) := by decide +kernel
theorem dX0_when_20 : decode cX0_when 20 = .ok (.iconst (-1), 1) := by decide +kernel
theorem dX0_when_21 : decode cX0_when 21 = .ok (.ireturn, 1) := by decide +kernel
theorem dX0_when_22 : decode cX0_when 22 = .ok (.aload_n 0, 1) := by decide +kernel
theorem dX0_when_23 : decode cX0_when 23 = .ok (.aload_n 0, 1) := by decide +kernel
theorem dX0_when_24 : decode cX0_when 24 = .ok (.getfield 96, 3) := by decide +kernel
theorem dX0_when_27 : decode cX0_when 27 = .ok (.iload_n 1, 1) := by decide +kernel
theorem dX0_when_28 : decode cX0_when 28 = .ok (.invokevirtual 296, 3) := by decide +kernel
theorem dX0_when_31 : decode cX0_when 31 = .ok (.aload_n 0, 1) := by decide +kernel
theorem dX0_when_32 : decode cX0_when 32 = .ok (.getfield 102, 3) := by decide +kernel
theorem dX0_when_35 : decode cX0_when 35 = .ok (.iload_n 1, 1) := by decide +kernel
theorem dX0_when_36 : decode cX0_when 36 = .ok (.bipush 36, 2) := by decide +kernel
theorem dX0_when_38 : decode cX0_when 38 = .ok (.imul, 1) := by decide +kernel
theorem dX0_when_39 : decode cX0_when 39 = .ok (.iload_n 2, 1) := by decide +kernel
theorem dX0_when_40 : decode cX0_when 40 = .ok (.ifCond .ge 11, 3) := by decide +kernel
theorem dX0_when_43 : decode cX0_when 43 = .ok (.aload_n 0, 1) := by decide +kernel
theorem dX0_when_44 : decode cX0_when 44 = .ok (.iload_n 1, 1) := by decide +kernel
theorem dX0_when_45 : decode cX0_when 45 = .ok (.invokevirtual 300, 3) := by decide +kernel
theorem dX0_when_48 : decode cX0_when 48 = .ok (.goto 4, 3) := by decide +kernel
theorem dX0_when_51 : decode cX0_when 51 = .ok (.iload_n 2, 1) := by decide +kernel
theorem dX0_when_52 : decode cX0_when 52 = .ok (.iadd, 1) := by decide +kernel
theorem dX0_when_53 : decode cX0_when 53 = .ok (.iaload, 1) := by decide +kernel
theorem dX0_when_54 : decode cX0_when 54 = .ok (.ireturn, 1) := by decide +kernel
def tb_X0_when (S_X0_isStep S_X0_isCell S_X0_layEnds S_X0_lastOf : ma_Cs) : Nat → ma_In := fun pc =>
 (if pc < 28 then
 (if pc < 14 then
 (if pc < 8 then
 (if pc < 4 then
 (if pc < 1 then
 (if pc = 0 then in_ild 1 1 else in_no) else
 (if pc = 1 then in_s1 S_X0_isStep 4 else in_no)) else
 (if pc < 7 then
 (if pc = 4 then in_if1 (fun x => x = 0) 20 7 else in_no) else
 (if pc = 7 then in_ild 2 8 else in_no))) else
 (if pc < 12 then
 (if pc < 9 then
 (if pc = 8 then in_push (.int (-1)) 9 else in_no) else
 (if pc = 9 then in_if2 (fun x y => x = y) 22 12 else in_no)) else
 (if pc < 13 then
 (if pc = 12 then in_ald 0 13 else in_no) else
 (if pc = 13 then in_ild 2 14 else in_no)))) else
 (if pc < 22 then
 (if pc < 20 then
 (if pc < 17 then
 (if pc = 14 then in_v2 YX 0 S_X0_isCell 17 else in_no) else
 (if pc = 17 then in_if1 (fun x => x = 0) 20 22 else in_no)) else
 (if pc < 21 then
 (if pc = 20 then in_push (.int (-1)) 21 else in_no) else
 (if pc = 21 then in_ri else in_no))) else
 (if pc < 24 then
 (if pc < 23 then
 (if pc = 22 then in_ald 0 23 else in_no) else
 (if pc = 23 then in_ald 0 24 else in_no)) else
 (if pc < 27 then
 (if pc = 24 then in_get YX 0 27 27 else in_no) else
 (if pc = 27 then in_ild 1 28 else in_no))))) else
 (if pc < 43 then
 (if pc < 36 then
 (if pc < 32 then
 (if pc < 31 then
 (if pc = 28 then in_v3 YX 0 S_X0_layEnds 31 else in_no) else
 (if pc = 31 then in_ald 0 32 else in_no)) else
 (if pc < 35 then
 (if pc = 32 then in_get YX 0 29 35 else in_no) else
 (if pc = 35 then in_ild 1 36 else in_no))) else
 (if pc < 39 then
 (if pc < 38 then
 (if pc = 36 then in_push (.int 36) 38 else in_no) else
 (if pc = 38 then in_iii (fun x y => x * y) 39 else in_no)) else
 (if pc < 40 then
 (if pc = 39 then in_ild 2 40 else in_no) else
 (if pc = 40 then in_if1 (fun x => 0 ≤ x) 51 43 else in_no)))) else
 (if pc < 51 then
 (if pc < 45 then
 (if pc < 44 then
 (if pc = 43 then in_ald 0 44 else in_no) else
 (if pc = 44 then in_ild 1 45 else in_no)) else
 (if pc < 48 then
 (if pc = 45 then in_v2 YX 0 S_X0_lastOf 48 else in_no) else
 (if pc = 48 then in_go 52 else in_no))) else
 (if pc < 53 then
 (if pc < 52 then
 (if pc = 51 then in_ild 2 52 else in_no) else
 (if pc = 52 then in_iii (fun x y => x + y) 53 else in_no)) else
 (if pc < 54 then
 (if pc = 53 then in_iar YX 54 else in_no) else
 (if pc = 54 then in_ri else in_no))))))
theorem tk_X0_when {l : Launch} {w : ma_Wd} {NC : Nat} {A : Nat → Prop} {S_X0_isStep S_X0_isCell S_X0_layEnds S_X0_lastOf : ma_Cs} (h_X0_isStep : ma_Sd l w YX NC A yX0_isStep cX0_isStep 1 (some .boolean) rm_X0_isStep S_X0_isStep) (h_X0_isCell : ma_Sd l w YX NC A yX0_isCell cX0_isCell 2 (some .boolean) rm_X0_isCell S_X0_isCell) (h_X0_layEnds : ma_Sd l w YX NC A yX0_layEnds cX0_layEnds 8 none rm_X0_layEnds S_X0_layEnds) (h_X0_lastOf : ma_Sd l w YX NC A yX0_lastOf cX0_lastOf 4 (some .int) rm_X0_lastOf S_X0_lastOf) {p : Program} {e : Env} {s : State} {m : MethodId} {args : Array Value} {below : List Frame} {meth : Method} {c : Code} (X : ma_Cx p s m args meth c w YX NC A yX0_when.cls cX0_when 3 (some .int)) : ∀ pc, ma_Ok p l e rm_X0_when s m args below meth c w YX NC A 3 pc (tb_X0_when S_X0_isStep S_X0_isCell S_X0_layEnds S_X0_lastOf pc) := fun pc =>
 (mk_lt
 (mk_lt
 (mk_lt
 (mk_lt
 (mk_lt
 (mk_eq (mk_iload_n X dX0_when_0 rfl rfl))
 (mk_eq (mk_S1 X h_X0_isStep (lw_S q476 q477 q61 q478) ⟨by decide, by decide, rfl⟩ ⟨(Nat.le_of_ble_eq_true rfl), (Nat.le_of_ble_eq_true rfl)⟩ dX0_when_1 rfl)))
 (mk_lt
 (mk_eq (mk_ifeq X dX0_when_4 rfl rfl))
 (mk_eq (mk_iload_n X dX0_when_7 rfl rfl))))
 (mk_lt
 (mk_lt
 (mk_eq (mk_iconst X dX0_when_8 rfl rfl))
 (mk_eq (mk_iceq X dX0_when_9 rfl rfl)))
 (mk_lt
 (mk_eq (mk_aload_n X dX0_when_12 rfl rfl))
 (mk_eq (mk_iload_n X dX0_when_13 rfl rfl)))))
 (mk_lt
 (mk_lt
 (mk_lt
 (mk_eq (mk_V2 X h_X0_isCell (ci := 0) rfl (lw_V q464 q466 qs11 q61 q467) ⟨rfl, by decide, by decide, rfl⟩ ⟨(Nat.le_of_ble_eq_true rfl), (Nat.le_of_ble_eq_true rfl)⟩ dX0_when_14 rfl))
 (mk_eq (mk_ifne X dX0_when_17 rfl rfl)))
 (mk_lt
 (mk_eq (mk_iconst X dX0_when_20 rfl rfl))
 (mk_eq (mk_ri X dX0_when_21))))
 (mk_lt
 (mk_lt
 (mk_eq (mk_aload_n X dX0_when_22 rfl rfl))
 (mk_eq (mk_aload_n X dX0_when_23 rfl rfl)))
 (mk_lt
 (mk_eq (mk_get X (ci := 0) (j := 27) rfl in_X0 (Nat.le_of_ble_eq_true rfl) q273 dX0_when_24 rfl))
 (mk_eq (mk_iload_n X dX0_when_27 rfl rfl))))))
 (mk_lt
 (mk_lt
 (mk_lt
 (mk_lt
 (mk_eq (mk_V3 X h_X0_layEnds (ci := 0) rfl (lw_V q667 q669 qs25 q61 q670) ⟨rfl, by decide, by decide, rfl⟩ ⟨(Nat.le_of_ble_eq_true rfl), (Nat.le_of_ble_eq_true rfl)⟩ dX0_when_28 rfl))
 (mk_eq (mk_aload_n X dX0_when_31 rfl rfl)))
 (mk_lt
 (mk_eq (mk_get X (ci := 0) (j := 29) rfl in_X0 (Nat.le_of_ble_eq_true rfl) q275 dX0_when_32 rfl))
 (mk_eq (mk_iload_n X dX0_when_35 rfl rfl))))
 (mk_lt
 (mk_lt
 (mk_eq (mk_bipush X dX0_when_36 rfl rfl))
 (mk_eq (mk_imul X dX0_when_38 rfl)))
 (mk_lt
 (mk_eq (mk_iload_n X dX0_when_39 rfl rfl))
 (mk_eq (mk_ifge X dX0_when_40 rfl rfl)))))
 (mk_lt
 (mk_lt
 (mk_lt
 (mk_eq (mk_aload_n X dX0_when_43 rfl rfl))
 (mk_eq (mk_iload_n X dX0_when_44 rfl rfl)))
 (mk_lt
 (mk_eq (mk_V2 X h_X0_lastOf (ci := 0) rfl (lw_V q675 q677 qs26 q61 q678) ⟨rfl, by decide, by decide, rfl⟩ ⟨(Nat.le_of_ble_eq_true rfl), (Nat.le_of_ble_eq_true rfl)⟩ dX0_when_45 rfl))
 (mk_eq (mk_goto X dX0_when_48 rfl))))
 (mk_lt
 (mk_lt
 (mk_eq (mk_iload_n X dX0_when_51 rfl rfl))
 (mk_eq (mk_iadd X dX0_when_52 rfl)))
 (mk_lt
 (mk_eq (mk_iar X dX0_when_53 rfl))
 (mk_eq (mk_ri X dX0_when_54)))))))
theorem sd_X0_when {l : Launch} {w : ma_Wd} {NC : Nat} {A : Nat → Prop} {S_X0_isStep S_X0_isCell S_X0_layEnds S_X0_lastOf : ma_Cs} (hw : ma_Wo w YX NC A) (h_X0_isStep : ma_Sd l w YX NC A yX0_isStep cX0_isStep 1 (some .boolean) rm_X0_isStep S_X0_isStep) (h_X0_isCell : ma_Sd l w YX NC A yX0_isCell cX0_isCell 2 (some .boolean) rm_X0_isCell S_X0_isCell) (h_X0_layEnds : ma_Sd l w YX NC A yX0_layEnds cX0_layEnds 8 none rm_X0_layEnds S_X0_layEnds) (h_X0_lastOf : ma_Sd l w YX NC A yX0_lastOf cX0_lastOf 4 (some .int) rm_X0_lastOf S_X0_lastOf) : ma_Sd l w YX NC A yX0_when cX0_when 3 (some .int) rm_X0_when (ma_rn (tb_X0_when S_X0_isStep S_X0_isCell S_X0_layEnds S_X0_lastOf) 3) := ma_of hw (by decide) ⟨rfl, rfl⟩ (fun X => tk_X0_when h_X0_isStep h_X0_isCell h_X0_layEnds h_X0_lastOf X)
