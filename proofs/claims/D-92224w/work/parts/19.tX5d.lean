/-! tables: X5_spread X5_kept X5_grows X5_tell X5_fails_2 X5_tells X5_least X5_isEven -/
set_option maxRecDepth 100000
set_option maxHeartbeats 4000000
theorem dX5_spread_0 : decode cX5_spread 0 = .ok (.iload_n 1, 1) := by decide +kernel
theorem dX5_spread_1 : decode cX5_spread 1 = .ok (.ifCond .lt 27, 3) := by decide +kernel
theorem dX5_spread_4 : decode cX5_spread 4 = .ok (.iload_n 2, 1) := by decide +kernel
theorem dX5_spread_5 : decode cX5_spread 5 = .ok (.i2l, 1) := by decide +kernel
theorem dX5_spread_6 : decode cX5_spread 6 = .ok (.lconst 1, 1) := by decide +kernel
theorem dX5_spread_7 : decode cX5_spread 7 = .ok (.ldc2_w 272, 3) := by decide +kernel
theorem dX5_spread_10 : decode cX5_spread 10 = .ok (.invokestatic 128, 3) := by decide +kernel
theorem dX5_spread_13 : decode cX5_spread 13 = .ok (.ifCond .eq 15, 3) := by decide +kernel
theorem dX5_spread_16 : decode cX5_spread 16 = .ok (.iload_n 3, 1) := by decide +kernel
theorem dX5_spread_17 : decode cX5_spread 17 = .ok (.i2l, 1) := by decide +kernel
theorem dX5_spread_18 : decode cX5_spread 18 = .ok (.lconst 0, 1) := by decide +kernel
theorem dX5_spread_19 : decode cX5_spread 19 = .ok (.ldc2_w 134, 3) := by decide +kernel
theorem dX5_spread_22 : decode cX5_spread 22 = .ok (.invokestatic 128, 3) := by decide +kernel
theorem dX5_spread_25 : decode cX5_spread 25 = .ok (.ifCond .ne 5, 3) := by decide +kernel
theorem dX5_spread_28 : decode cX5_spread 28 = .ok (.iconst (-1), 1) := by decide +kernel
theorem dX5_spread_29 : decode cX5_spread 29 = .ok (.ireturn, 1) := by decide +kernel
theorem dX5_spread_30 : decode cX5_spread 30 = .ok (.iload_n 1, 1) := by decide +kernel
theorem dX5_spread_31 : decode cX5_spread 31 = .ok (.aload_n 0, 1) := by decide +kernel
theorem dX5_spread_32 : decode cX5_spread 32 = .ok (.getfield 116, 3) := by decide +kernel
theorem dX5_spread_35 : decode cX5_spread 35 = .ok (.if_icmp .lt 6, 3) := by decide +kernel
theorem dX5_spread_38 : decode cX5_spread 38 = .ok (.bipush (-2), 2) := by decide +kernel
theorem dX5_spread_40 : decode cX5_spread 40 = .ok (.ireturn, 1) := by decide +kernel
theorem dX5_spread_41 : decode cX5_spread 41 = .ok (.aload_n 0, 1) := by decide +kernel
theorem dX5_spread_42 : decode cX5_spread 42 = .ok (.aload_n 0, 1) := by decide +kernel
theorem dX5_spread_43 : decode cX5_spread 43 = .ok (.getfield 87, 3) := by decide +kernel
theorem dX5_spread_46 : decode cX5_spread 46 = .ok (.aload_n 0, 1) := by decide +kernel
theorem dX5_spread_47 : decode cX5_spread 47 = .ok (.invokevirtual 278, 3) := by decide +kernel
theorem dX5_spread_50 : decode cX5_spread 50 = .ok (.iconst 1, 1) := by decide +kernel
theorem dX5_spread_51 : decode cX5_spread 51 = .ok (.iload_n 1, 1) := by decide +kernel
theorem dX5_spread_52 : decode cX5_spread 52 = .ok (.ishl, 1) := by decide +kernel
theorem dX5_spread_53 : decode cX5_spread 53 = .ok (.iconst (-1), 1) := by decide +kernel
theorem dX5_spread_54 : decode cX5_spread 54 = .ok (.ixor, 1) := by decide +kernel
theorem dX5_spread_55 : decode cX5_spread 55 = .ok (.iand, 1) := by decide +kernel
theorem dX5_spread_56 : decode cX5_spread 56 = .ok (.invokevirtual 281, 3) := by decide +kernel
theorem dX5_spread_59 : decode cX5_spread 59 = .ok (.aload_n 0, 1) := by decide +kernel
theorem dX5_spread_60 : decode cX5_spread 60 = .ok (.aload_n 0, 1) := by decide +kernel
theorem dX5_spread_61 : decode cX5_spread 61 = .ok (.getfield 84, 3) := by decide +kernel
theorem dX5_spread_64 : decode cX5_spread 64 = .ok (.aload_n 0, 1) := by decide +kernel
theorem dX5_spread_65 : decode cX5_spread 65 = .ok (.invokevirtual 278, 3) := by decide +kernel
theorem dX5_spread_68 : decode cX5_spread 68 = .ok (.invokevirtual 281, 3) := by decide +kernel
theorem dX5_spread_71 : decode cX5_spread 71 = .ok (.iconst 0, 1) := by decide +kernel
theorem dX5_spread_72 : decode cX5_spread 72 = .ok (.istore 4, 2) := by decide +kernel
theorem dX5_spread_74 : decode cX5_spread 74 = .ok (.bipush (-4), 2) := by decide +kernel
theorem dX5_spread_76 : decode cX5_spread 76 = .ok (.istore 5, 2) := by decide +kernel
theorem dX5_spread_78 : decode cX5_spread 78 = .ok (.iconst 0, 1) := by decide +kernel
theorem dX5_spread_79 : decode cX5_spread 79 = .ok (.istore 6, 2) := by decide +kernel
theorem dX5_spread_81 : decode cX5_spread 81 = .ok (.iload 6, 2) := by decide +kernel
theorem dX5_spread_83 : decode cX5_spread 83 = .ok (.iload_n 2, 1) := by decide +kernel
theorem dX5_spread_84 : decode cX5_spread 84 = .ok (.if_icmp .gt 67, 3) := by decide +kernel
theorem dX5_spread_87 : decode cX5_spread 87 = .ok (.iconst 0, 1) := by decide +kernel
theorem dX5_spread_88 : decode cX5_spread 88 = .ok (.istore 7, 2) := by decide +kernel
theorem dX5_spread_90 : decode cX5_spread 90 = .ok (.iload 7, 2) := by decide +kernel
theorem dX5_spread_92 : decode cX5_spread 92 = .ok (.iconst 4, 1) := by decide +kernel
theorem dX5_spread_93 : decode cX5_spread 93 = .ok (.aload_n 0, 1) := by decide +kernel
theorem dX5_spread_94 : decode cX5_spread 94 = .ok (.invokevirtual 124, 3) := by decide +kernel
theorem dX5_spread_97 : decode cX5_spread 97 = .ok (.imul, 1) := by decide +kernel
theorem dX5_spread_98 : decode cX5_spread 98 = .ok (.if_icmp .ge 47, 3) := by decide +kernel
theorem dX5_spread_101 : decode cX5_spread 101 = .ok (.aload_n 0, 1) := by decide +kernel
theorem dX5_spread_102 : decode cX5_spread 102 = .ok (.getfield 84, 3) := by decide +kernel
theorem dX5_spread_105 : decode cX5_spread 105 = .ok (.sipush 144, 3) := by decide +kernel
theorem dX5_spread_108 : decode cX5_spread 108 = .ok (.iload 6, 2) := by decide +kernel
theorem dX5_spread_110 : decode cX5_spread 110 = .ok (.imul, 1) := by decide +kernel
theorem dX5_spread_111 : decode cX5_spread 111 = .ok (.iload 7, 2) := by decide +kernel
theorem dX5_spread_113 : decode cX5_spread 113 = .ok (.iadd, 1) := by decide +kernel
theorem dX5_spread_114 : decode cX5_spread 114 = .ok (.iaload, 1) := by decide +kernel
theorem dX5_spread_115 : decode cX5_spread 115 = .ok (.aload_n 0, 1) := by decide +kernel
theorem dX5_spread_116 : decode cX5_spread 116 = .ok (.getfield 87, 3) := by decide +kernel
theorem dX5_spread_119 : decode cX5_spread 119 = .ok (.sipush 144, 3) := by decide +kernel
theorem dX5_spread_122 : decode cX5_spread 122 = .ok (.iload 6, 2) := by decide +kernel
theorem dX5_spread_124 : decode cX5_spread 124 = .ok (.imul, 1) := by decide +kernel
theorem dX5_spread_125 : decode cX5_spread 125 = .ok (.iload 7, 2) := by decide +kernel
theorem dX5_spread_127 : decode cX5_spread 127 = .ok (.iadd, 1) := by decide +kernel
theorem dX5_spread_128 : decode cX5_spread 128 = .ok (.iaload, 1) := by decide +kernel
theorem dX5_spread_129 : decode cX5_spread 129 = .ok (.if_icmp .eq 10, 3) := by decide +kernel
theorem dX5_spread_132 : decode cX5_spread 132 = .ok (.iinc 4 1, 3) := by decide +kernel
theorem dX5_spread_135 : decode cX5_spread 135 = .ok (.iload 6, 2) := by decide +kernel
theorem dX5_spread_137 : decode cX5_spread 137 = .ok (.istore 5, 2) := by decide +kernel
theorem dX5_spread_139 : decode cX5_spread 139 = .ok (.iinc 7 1, 3) := by decide +kernel
theorem dX5_spread_142 : decode cX5_spread 142 = .ok (.goto (-52), 3) := by decide +kernel
theorem dX5_spread_145 : decode cX5_spread 145 = .ok (.iinc 6 1, 3) := by decide +kernel
theorem dX5_spread_148 : decode cX5_spread 148 = .ok (.goto (-67), 3) := by decide +kernel
theorem dX5_spread_151 : decode cX5_spread 151 = .ok (.iload_n 3, 1) := by decide +kernel
theorem dX5_spread_152 : decode cX5_spread 152 = .ok (.ifCond .ne 8, 3) := by decide +kernel
theorem dX5_spread_155 : decode cX5_spread 155 = .ok (.iload 4, 2) := by decide +kernel
theorem dX5_spread_157 : decode cX5_spread 157 = .ok (.goto 24, 3) := by decide +kernel
theorem dX5_spread_160 : decode cX5_spread 160 = .ok (.iload_n 3, 1) := by decide +kernel
theorem dX5_spread_161 : decode cX5_spread 161 = .ok (.iconst 1, 1) := by decide +kernel
theorem dX5_spread_162 : decode cX5_spread 162 = .ok (.if_icmp .ne 8, 3) := by decide +kernel
theorem dX5_spread_165 : decode cX5_spread 165 = .ok (.iload 5, 2) := by decide +kernel
theorem dX5_spread_167 : decode cX5_spread 167 = .ok (.goto 14, 3) := by decide +kernel
theorem dX5_spread_170 : decode cX5_spread 170 = .ok (.iload 5, 2) := by decide +kernel
theorem dX5_spread_172 : decode cX5_spread 172 = .ok (.iload_n 2, 1) := by decide +kernel
theorem dX5_spread_173 : decode cX5_spread 173 = .ok (.if_icmp .ne 7, 3) := by decide +kernel
theorem dX5_spread_176 : decode cX5_spread 176 = .ok (.iconst 0, 1) := by decide +kernel
theorem dX5_spread_177 : decode cX5_spread 177 = .ok (.goto 4, 3) := by decide +kernel
theorem dX5_spread_180 : decode cX5_spread 180 = .ok (.iconst 1, 1) := by decide +kernel
theorem dX5_spread_181 : decode cX5_spread 181 = .ok (.ireturn, 1) := by decide +kernel
def tb_X5_spread (S_X5_in S_X5_all S_X5_hall S_X5_cells : ma_Cs) : Nat → ma_In := fun pc =>
 (if pc < 84 then
 (if pc < 43 then
 (if pc < 22 then
 (if pc < 10 then
 (if pc < 5 then
 (if pc < 1 then
 (if pc = 0 then in_ild 1 1 else in_no) else
 (if pc < 4 then
 (if pc = 1 then in_if1 (fun x => x < 0) 28 4 else in_no) else
 (if pc = 4 then in_ild 2 5 else in_no))) else
 (if pc < 6 then
 (if pc = 5 then in_il (fun x => x.toInt64) 6 else in_no) else
 (if pc < 7 then
 (if pc = 6 then in_push (.long 1) 7 else in_no) else
 (if pc = 7 then in_push (.long 12) 10 else in_no)))) else
 (if pc < 17 then
 (if pc < 13 then
 (if pc = 10 then in_s3 S_X5_in 13 else in_no) else
 (if pc < 16 then
 (if pc = 13 then in_if1 (fun x => x = 0) 28 16 else in_no) else
 (if pc = 16 then in_ild 3 17 else in_no))) else
 (if pc < 18 then
 (if pc = 17 then in_il (fun x => x.toInt64) 18 else in_no) else
 (if pc < 19 then
 (if pc = 18 then in_push (.long 0) 19 else in_no) else
 (if pc = 19 then in_push (.long 2) 22 else in_no))))) else
 (if pc < 32 then
 (if pc < 29 then
 (if pc < 25 then
 (if pc = 22 then in_s3 S_X5_in 25 else in_no) else
 (if pc < 28 then
 (if pc = 25 then in_if1 (fun x => x = 0) 28 30 else in_no) else
 (if pc = 28 then in_push (.int (-1)) 29 else in_no))) else
 (if pc < 30 then
 (if pc = 29 then in_ri else in_no) else
 (if pc < 31 then
 (if pc = 30 then in_ild 1 31 else in_no) else
 (if pc = 31 then in_ald 0 32 else in_no)))) else
 (if pc < 40 then
 (if pc < 35 then
 (if pc = 32 then in_get YM 5 19 35 else in_no) else
 (if pc < 38 then
 (if pc = 35 then in_if2 (fun x y => x < y) 41 38 else in_no) else
 (if pc = 38 then in_push (.int (-2)) 40 else in_no))) else
 (if pc < 41 then
 (if pc = 40 then in_ri else in_no) else
 (if pc < 42 then
 (if pc = 41 then in_ald 0 42 else in_no) else
 (if pc = 42 then in_ald 0 43 else in_no)))))) else
 (if pc < 61 then
 (if pc < 53 then
 (if pc < 50 then
 (if pc < 46 then
 (if pc = 43 then in_get YM 5 38 46 else in_no) else
 (if pc < 47 then
 (if pc = 46 then in_ald 0 47 else in_no) else
 (if pc = 47 then in_v1 YM 5 S_X5_all 50 else in_no))) else
 (if pc < 51 then
 (if pc = 50 then in_push (.int 1) 51 else in_no) else
 (if pc < 52 then
 (if pc = 51 then in_ild 1 52 else in_no) else
 (if pc = 52 then in_iii (fun x y => x <<< (y &&& 31)) 53 else in_no)))) else
 (if pc < 56 then
 (if pc < 54 then
 (if pc = 53 then in_push (.int (-1)) 54 else in_no) else
 (if pc < 55 then
 (if pc = 54 then in_iii (fun x y => x ^^^ y) 55 else in_no) else
 (if pc = 55 then in_iii (fun x y => x &&& y) 56 else in_no))) else
 (if pc < 59 then
 (if pc = 56 then in_v3 YM 5 S_X5_hall 59 else in_no) else
 (if pc < 60 then
 (if pc = 59 then in_ald 0 60 else in_no) else
 (if pc = 60 then in_ald 0 61 else in_no))))) else
 (if pc < 74 then
 (if pc < 68 then
 (if pc < 64 then
 (if pc = 61 then in_get YM 5 37 64 else in_no) else
 (if pc < 65 then
 (if pc = 64 then in_ald 0 65 else in_no) else
 (if pc = 65 then in_v1 YM 5 S_X5_all 68 else in_no))) else
 (if pc < 71 then
 (if pc = 68 then in_v3 YM 5 S_X5_hall 71 else in_no) else
 (if pc < 72 then
 (if pc = 71 then in_push (.int 0) 72 else in_no) else
 (if pc = 72 then in_ist 4 74 else in_no)))) else
 (if pc < 79 then
 (if pc < 76 then
 (if pc = 74 then in_push (.int (-4)) 76 else in_no) else
 (if pc < 78 then
 (if pc = 76 then in_ist 5 78 else in_no) else
 (if pc = 78 then in_push (.int 0) 79 else in_no))) else
 (if pc < 81 then
 (if pc = 79 then in_ist 6 81 else in_no) else
 (if pc < 83 then
 (if pc = 81 then in_ild 6 83 else in_no) else
 (if pc = 83 then in_ild 2 84 else in_no))))))) else
 (if pc < 128 then
 (if pc < 108 then
 (if pc < 94 then
 (if pc < 90 then
 (if pc < 87 then
 (if pc = 84 then in_if2 (fun x y => y < x) 151 87 else in_no) else
 (if pc < 88 then
 (if pc = 87 then in_push (.int 0) 88 else in_no) else
 (if pc = 88 then in_ist 7 90 else in_no))) else
 (if pc < 92 then
 (if pc = 90 then in_ild 7 92 else in_no) else
 (if pc < 93 then
 (if pc = 92 then in_push (.int 4) 93 else in_no) else
 (if pc = 93 then in_ald 0 94 else in_no)))) else
 (if pc < 101 then
 (if pc < 97 then
 (if pc = 94 then in_v1 YM 5 S_X5_cells 97 else in_no) else
 (if pc < 98 then
 (if pc = 97 then in_iii (fun x y => x * y) 98 else in_no) else
 (if pc = 98 then in_if2 (fun x y => y ≤ x) 145 101 else in_no))) else
 (if pc < 102 then
 (if pc = 101 then in_ald 0 102 else in_no) else
 (if pc < 105 then
 (if pc = 102 then in_get YM 5 37 105 else in_no) else
 (if pc = 105 then in_push (.int 144) 108 else in_no))))) else
 (if pc < 116 then
 (if pc < 113 then
 (if pc < 110 then
 (if pc = 108 then in_ild 6 110 else in_no) else
 (if pc < 111 then
 (if pc = 110 then in_iii (fun x y => x * y) 111 else in_no) else
 (if pc = 111 then in_ild 7 113 else in_no))) else
 (if pc < 114 then
 (if pc = 113 then in_iii (fun x y => x + y) 114 else in_no) else
 (if pc < 115 then
 (if pc = 114 then in_iar YM 115 else in_no) else
 (if pc = 115 then in_ald 0 116 else in_no)))) else
 (if pc < 124 then
 (if pc < 119 then
 (if pc = 116 then in_get YM 5 38 119 else in_no) else
 (if pc < 122 then
 (if pc = 119 then in_push (.int 144) 122 else in_no) else
 (if pc = 122 then in_ild 6 124 else in_no))) else
 (if pc < 125 then
 (if pc = 124 then in_iii (fun x y => x * y) 125 else in_no) else
 (if pc < 127 then
 (if pc = 125 then in_ild 7 127 else in_no) else
 (if pc = 127 then in_iii (fun x y => x + y) 128 else in_no)))))) else
 (if pc < 157 then
 (if pc < 142 then
 (if pc < 135 then
 (if pc < 129 then
 (if pc = 128 then in_iar YM 129 else in_no) else
 (if pc < 132 then
 (if pc = 129 then in_if2 (fun x y => x = y) 139 132 else in_no) else
 (if pc = 132 then in_inc 4 1 135 else in_no))) else
 (if pc < 137 then
 (if pc = 135 then in_ild 6 137 else in_no) else
 (if pc < 139 then
 (if pc = 137 then in_ist 5 139 else in_no) else
 (if pc = 139 then in_inc 7 1 142 else in_no)))) else
 (if pc < 151 then
 (if pc < 145 then
 (if pc = 142 then in_go 90 else in_no) else
 (if pc < 148 then
 (if pc = 145 then in_inc 6 1 148 else in_no) else
 (if pc = 148 then in_go 81 else in_no))) else
 (if pc < 152 then
 (if pc = 151 then in_ild 3 152 else in_no) else
 (if pc < 155 then
 (if pc = 152 then in_if1 (fun x => x = 0) 155 160 else in_no) else
 (if pc = 155 then in_ild 4 157 else in_no))))) else
 (if pc < 170 then
 (if pc < 162 then
 (if pc < 160 then
 (if pc = 157 then in_go 181 else in_no) else
 (if pc < 161 then
 (if pc = 160 then in_ild 3 161 else in_no) else
 (if pc = 161 then in_push (.int 1) 162 else in_no))) else
 (if pc < 165 then
 (if pc = 162 then in_if2 (fun x y => x = y) 165 170 else in_no) else
 (if pc < 167 then
 (if pc = 165 then in_ild 5 167 else in_no) else
 (if pc = 167 then in_go 181 else in_no)))) else
 (if pc < 176 then
 (if pc < 172 then
 (if pc = 170 then in_ild 5 172 else in_no) else
 (if pc < 173 then
 (if pc = 172 then in_ild 2 173 else in_no) else
 (if pc = 173 then in_if2 (fun x y => x = y) 176 180 else in_no))) else
 (if pc < 180 then
 (if pc < 177 then
 (if pc = 176 then in_push (.int 0) 177 else in_no) else
 (if pc = 177 then in_go 181 else in_no)) else
 (if pc < 181 then
 (if pc = 180 then in_push (.int 1) 181 else in_no) else
 (if pc = 181 then in_ri else in_no))))))))
theorem tk_X5_spread {l : Launch} {w : ma_Wd} {NC : Nat} {A : Nat → Prop} {S_X5_in S_X5_all S_X5_hall S_X5_cells : ma_Cs} (h_X5_in : ma_Sd l w YM NC A yX5_in cX5_in 6 (some .boolean) rm_X5_in S_X5_in) (h_X5_all : ma_Sd l w YM NC A yX5_all cX5_all 1 (some .int) rm_X5_all S_X5_all) (h_X5_hall : ma_Sd l w YM NC A yX5_hall cX5_hall 5 none rm_X5_hall S_X5_hall) (h_X5_cells : ma_Sd l w YM NC A yX5_cells cX5_cells 1 (some .int) rm_X5_cells S_X5_cells) {p : Program} {e : Env} {s : State} {m : MethodId} {args : Array Value} {below : List Frame} {meth : Method} {c : Code} (X : ma_Cx p s m args meth c w YM NC A yX5_spread.cls cX5_spread 8 (some .int)) : ∀ pc, ma_Ok p l e rm_X5_spread s m args below meth c w YM NC A 8 pc (tb_X5_spread S_X5_in S_X5_all S_X5_hall S_X5_cells pc) := fun pc =>
 (mk_lt
 (mk_lt
 (mk_lt
 (mk_lt
 (mk_lt
 (mk_lt
 (mk_eq (mk_iload_n X dX5_spread_0 rfl rfl))
 (mk_lt
 (mk_eq (mk_iflt X dX5_spread_1 rfl rfl))
 (mk_eq (mk_iload_n X dX5_spread_4 rfl rfl))))
 (mk_lt
 (mk_eq (mk_i2l X dX5_spread_5 rfl))
 (mk_lt
 (mk_eq (mk_lconst X dX5_spread_6 rfl rfl))
 (mk_eq (mk_ldc2 X dX5_spread_7 q989 rfl)))))
 (mk_lt
 (mk_lt
 (mk_eq (mk_S3 X h_X5_in (lw_S q892 q893 q66 q894) ⟨by decide, by decide, rfl⟩ ⟨(Nat.le_of_ble_eq_true rfl), (Nat.le_of_ble_eq_true rfl)⟩ dX5_spread_10 rfl))
 (mk_lt
 (mk_eq (mk_ifeq X dX5_spread_13 rfl rfl))
 (mk_eq (mk_iload_n X dX5_spread_16 rfl rfl))))
 (mk_lt
 (mk_eq (mk_i2l X dX5_spread_17 rfl))
 (mk_lt
 (mk_eq (mk_lconst X dX5_spread_18 rfl rfl))
 (mk_eq (mk_ldc2 X dX5_spread_19 q890 rfl))))))
 (mk_lt
 (mk_lt
 (mk_lt
 (mk_eq (mk_S3 X h_X5_in (lw_S q892 q893 q66 q894) ⟨by decide, by decide, rfl⟩ ⟨(Nat.le_of_ble_eq_true rfl), (Nat.le_of_ble_eq_true rfl)⟩ dX5_spread_22 rfl))
 (mk_lt
 (mk_eq (mk_ifne X dX5_spread_25 rfl rfl))
 (mk_eq (mk_iconst X dX5_spread_28 rfl rfl))))
 (mk_lt
 (mk_eq (mk_ri X dX5_spread_29))
 (mk_lt
 (mk_eq (mk_iload_n X dX5_spread_30 rfl rfl))
 (mk_eq (mk_aload_n X dX5_spread_31 rfl rfl)))))
 (mk_lt
 (mk_lt
 (mk_eq (mk_get X (ci := 5) (j := 19) rfl in_X5 (Nat.le_of_ble_eq_true rfl) q766 dX5_spread_32 rfl))
 (mk_lt
 (mk_eq (mk_iclt X dX5_spread_35 rfl rfl))
 (mk_eq (mk_bipush X dX5_spread_38 rfl rfl))))
 (mk_lt
 (mk_eq (mk_ri X dX5_spread_40))
 (mk_lt
 (mk_eq (mk_aload_n X dX5_spread_41 rfl rfl))
 (mk_eq (mk_aload_n X dX5_spread_42 rfl rfl)))))))
 (mk_lt
 (mk_lt
 (mk_lt
 (mk_lt
 (mk_eq (mk_get X (ci := 5) (j := 38) rfl in_X5 (Nat.le_of_ble_eq_true rfl) q785 dX5_spread_43 rfl))
 (mk_lt
 (mk_eq (mk_aload_n X dX5_spread_46 rfl rfl))
 (mk_eq (mk_V1 X h_X5_all (ci := 5) rfl (lw_V q991 q993 qs41 q66 q994) ⟨rfl, by decide, by decide, rfl⟩ ⟨(Nat.le_of_ble_eq_true rfl), (Nat.le_of_ble_eq_true rfl)⟩ dX5_spread_47 rfl))))
 (mk_lt
 (mk_eq (mk_iconst X dX5_spread_50 rfl rfl))
 (mk_lt
 (mk_eq (mk_iload_n X dX5_spread_51 rfl rfl))
 (mk_eq (mk_ishl X dX5_spread_52 rfl)))))
 (mk_lt
 (mk_lt
 (mk_eq (mk_iconst X dX5_spread_53 rfl rfl))
 (mk_lt
 (mk_eq (mk_ixor X dX5_spread_54 rfl))
 (mk_eq (mk_iand X dX5_spread_55 rfl))))
 (mk_lt
 (mk_eq (mk_V3 X h_X5_hall (ci := 5) rfl (lw_V q995 q997 qs42 q66 q998) ⟨rfl, by decide, by decide, rfl⟩ ⟨(Nat.le_of_ble_eq_true rfl), (Nat.le_of_ble_eq_true rfl)⟩ dX5_spread_56 rfl))
 (mk_lt
 (mk_eq (mk_aload_n X dX5_spread_59 rfl rfl))
 (mk_eq (mk_aload_n X dX5_spread_60 rfl rfl))))))
 (mk_lt
 (mk_lt
 (mk_lt
 (mk_eq (mk_get X (ci := 5) (j := 37) rfl in_X5 (Nat.le_of_ble_eq_true rfl) q784 dX5_spread_61 rfl))
 (mk_lt
 (mk_eq (mk_aload_n X dX5_spread_64 rfl rfl))
 (mk_eq (mk_V1 X h_X5_all (ci := 5) rfl (lw_V q991 q993 qs41 q66 q994) ⟨rfl, by decide, by decide, rfl⟩ ⟨(Nat.le_of_ble_eq_true rfl), (Nat.le_of_ble_eq_true rfl)⟩ dX5_spread_65 rfl))))
 (mk_lt
 (mk_eq (mk_V3 X h_X5_hall (ci := 5) rfl (lw_V q995 q997 qs42 q66 q998) ⟨rfl, by decide, by decide, rfl⟩ ⟨(Nat.le_of_ble_eq_true rfl), (Nat.le_of_ble_eq_true rfl)⟩ dX5_spread_68 rfl))
 (mk_lt
 (mk_eq (mk_iconst X dX5_spread_71 rfl rfl))
 (mk_eq (mk_istore X dX5_spread_72 (Nat.le_of_ble_eq_true rfl) rfl)))))
 (mk_lt
 (mk_lt
 (mk_eq (mk_bipush X dX5_spread_74 rfl rfl))
 (mk_lt
 (mk_eq (mk_istore X dX5_spread_76 (Nat.le_of_ble_eq_true rfl) rfl))
 (mk_eq (mk_iconst X dX5_spread_78 rfl rfl))))
 (mk_lt
 (mk_eq (mk_istore X dX5_spread_79 (Nat.le_of_ble_eq_true rfl) rfl))
 (mk_lt
 (mk_eq (mk_iload X dX5_spread_81 rfl))
 (mk_eq (mk_iload_n X dX5_spread_83 rfl rfl))))))))
 (mk_lt
 (mk_lt
 (mk_lt
 (mk_lt
 (mk_lt
 (mk_eq (mk_icgt X dX5_spread_84 rfl rfl))
 (mk_lt
 (mk_eq (mk_iconst X dX5_spread_87 rfl rfl))
 (mk_eq (mk_istore X dX5_spread_88 (Nat.le_of_ble_eq_true rfl) rfl))))
 (mk_lt
 (mk_eq (mk_iload X dX5_spread_90 rfl))
 (mk_lt
 (mk_eq (mk_iconst X dX5_spread_92 rfl rfl))
 (mk_eq (mk_aload_n X dX5_spread_93 rfl rfl)))))
 (mk_lt
 (mk_lt
 (mk_eq (mk_V1 X h_X5_cells (ci := 5) rfl (lw_V q895 q897 qs30 q66 q898) ⟨rfl, by decide, by decide, rfl⟩ ⟨(Nat.le_of_ble_eq_true rfl), (Nat.le_of_ble_eq_true rfl)⟩ dX5_spread_94 rfl))
 (mk_lt
 (mk_eq (mk_imul X dX5_spread_97 rfl))
 (mk_eq (mk_icge X dX5_spread_98 rfl rfl))))
 (mk_lt
 (mk_eq (mk_aload_n X dX5_spread_101 rfl rfl))
 (mk_lt
 (mk_eq (mk_get X (ci := 5) (j := 37) rfl in_X5 (Nat.le_of_ble_eq_true rfl) q784 dX5_spread_102 rfl))
 (mk_eq (mk_sipush X dX5_spread_105 rfl rfl))))))
 (mk_lt
 (mk_lt
 (mk_lt
 (mk_eq (mk_iload X dX5_spread_108 rfl))
 (mk_lt
 (mk_eq (mk_imul X dX5_spread_110 rfl))
 (mk_eq (mk_iload X dX5_spread_111 rfl))))
 (mk_lt
 (mk_eq (mk_iadd X dX5_spread_113 rfl))
 (mk_lt
 (mk_eq (mk_iar X dX5_spread_114 rfl))
 (mk_eq (mk_aload_n X dX5_spread_115 rfl rfl)))))
 (mk_lt
 (mk_lt
 (mk_eq (mk_get X (ci := 5) (j := 38) rfl in_X5 (Nat.le_of_ble_eq_true rfl) q785 dX5_spread_116 rfl))
 (mk_lt
 (mk_eq (mk_sipush X dX5_spread_119 rfl rfl))
 (mk_eq (mk_iload X dX5_spread_122 rfl))))
 (mk_lt
 (mk_eq (mk_imul X dX5_spread_124 rfl))
 (mk_lt
 (mk_eq (mk_iload X dX5_spread_125 rfl))
 (mk_eq (mk_iadd X dX5_spread_127 rfl)))))))
 (mk_lt
 (mk_lt
 (mk_lt
 (mk_lt
 (mk_eq (mk_iar X dX5_spread_128 rfl))
 (mk_lt
 (mk_eq (mk_iceq X dX5_spread_129 rfl rfl))
 (mk_eq (mk_iinc X dX5_spread_132 rfl (Nat.le_of_ble_eq_true rfl) rfl))))
 (mk_lt
 (mk_eq (mk_iload X dX5_spread_135 rfl))
 (mk_lt
 (mk_eq (mk_istore X dX5_spread_137 (Nat.le_of_ble_eq_true rfl) rfl))
 (mk_eq (mk_iinc X dX5_spread_139 rfl (Nat.le_of_ble_eq_true rfl) rfl)))))
 (mk_lt
 (mk_lt
 (mk_eq (mk_goto X dX5_spread_142 rfl))
 (mk_lt
 (mk_eq (mk_iinc X dX5_spread_145 rfl (Nat.le_of_ble_eq_true rfl) rfl))
 (mk_eq (mk_goto X dX5_spread_148 rfl))))
 (mk_lt
 (mk_eq (mk_iload_n X dX5_spread_151 rfl rfl))
 (mk_lt
 (mk_eq (mk_ifne X dX5_spread_152 rfl rfl))
 (mk_eq (mk_iload X dX5_spread_155 rfl))))))
 (mk_lt
 (mk_lt
 (mk_lt
 (mk_eq (mk_goto X dX5_spread_157 rfl))
 (mk_lt
 (mk_eq (mk_iload_n X dX5_spread_160 rfl rfl))
 (mk_eq (mk_iconst X dX5_spread_161 rfl rfl))))
 (mk_lt
 (mk_eq (mk_icne X dX5_spread_162 rfl rfl))
 (mk_lt
 (mk_eq (mk_iload X dX5_spread_165 rfl))
 (mk_eq (mk_goto X dX5_spread_167 rfl)))))
 (mk_lt
 (mk_lt
 (mk_eq (mk_iload X dX5_spread_170 rfl))
 (mk_lt
 (mk_eq (mk_iload_n X dX5_spread_172 rfl rfl))
 (mk_eq (mk_icne X dX5_spread_173 rfl rfl))))
 (mk_lt
 (mk_lt
 (mk_eq (mk_iconst X dX5_spread_176 rfl rfl))
 (mk_eq (mk_goto X dX5_spread_177 rfl)))
 (mk_lt
 (mk_eq (mk_iconst X dX5_spread_180 rfl rfl))
 (mk_eq (mk_ri X dX5_spread_181)))))))))
theorem sd_X5_spread {l : Launch} {w : ma_Wd} {NC : Nat} {A : Nat → Prop} {S_X5_in S_X5_all S_X5_hall S_X5_cells : ma_Cs} (hw : ma_Wo w YM NC A) (h_X5_in : ma_Sd l w YM NC A yX5_in cX5_in 6 (some .boolean) rm_X5_in S_X5_in) (h_X5_all : ma_Sd l w YM NC A yX5_all cX5_all 1 (some .int) rm_X5_all S_X5_all) (h_X5_hall : ma_Sd l w YM NC A yX5_hall cX5_hall 5 none rm_X5_hall S_X5_hall) (h_X5_cells : ma_Sd l w YM NC A yX5_cells cX5_cells 1 (some .int) rm_X5_cells S_X5_cells) : ma_Sd l w YM NC A yX5_spread cX5_spread 8 (some .int) rm_X5_spread (ma_rn (tb_X5_spread S_X5_in S_X5_all S_X5_hall S_X5_cells) 8) := ma_of hw (by decide) ⟨rfl, rfl⟩ (fun X => tk_X5_spread h_X5_in h_X5_all h_X5_hall h_X5_cells X)
theorem dX5_kept_0 : decode cX5_kept 0 = .ok (.iload_n 1, 1) := by decide +kernel
theorem dX5_kept_1 : decode cX5_kept 1 = .ok (.invokestatic 146, 3) := by decide +kernel
theorem dX5_kept_4 : decode cX5_kept 4 = .ok (.ifCond .ne 5, 3) := by decide +kernel
theorem dX5_kept_7 : decode cX5_kept 7 = .ok (.iconst (-1), 1) := by decide +kernel
theorem dX5_kept_8 : decode cX5_kept 8 = .ok (.ireturn, 1) := by decide +kernel
theorem dX5_kept_9 : decode cX5_kept 9 = .ok (.aload_n 0, 1) := by decide +kernel
theorem dX5_kept_10 : decode cX5_kept 10 = .ok (.getfield 29, 3) := by decide +kernel
theorem dX5_kept_13 : decode cX5_kept 13 = .ok (.iload_n 1, 1) := by decide +kernel
theorem dX5_kept_14 : decode cX5_kept 14 = .ok (.iaload, 1) := by decide +kernel
theorem dX5_kept_15 : decode cX5_kept 15 = .ok (.ifCond .ge 5, 3) := by decide +kernel
theorem dX5_kept_18 : decode cX5_kept 18 = .ok (.iconst 1, 1) := by decide +kernel
theorem dX5_kept_19 : decode cX5_kept 19 = .ok (.ireturn, 1) := by decide +kernel
theorem dX5_kept_20 : decode cX5_kept 20 = .ok (.iconst 0, 1) := by decide +kernel
theorem dX5_kept_21 : decode cX5_kept 21 = .ok (.istore_n 2, 1) := by decide +kernel
theorem dX5_kept_22 : decode cX5_kept 22 = .ok (.aload_n 0, 1) := by decide +kernel
theorem dX5_kept_23 : decode cX5_kept 23 = .ok (.getfield 143, 3) := by decide +kernel
theorem dX5_kept_26 : decode cX5_kept 26 = .ok (.ifCond .ne 15, 3) := by decide +kernel
theorem dX5_kept_29 : decode cX5_kept 29 = .ok (.aload_n 0, 1) := by decide +kernel
theorem dX5_kept_30 : decode cX5_kept 30 = .ok (.iload_n 1, 1) := by decide +kernel
theorem dX5_kept_31 : decode cX5_kept 31 = .ok (.invokevirtual 208, 3) := by decide +kernel
theorem dX5_kept_34 : decode cX5_kept 34 = .ok (.ifCond .ne 7, 3) := by decide +kernel
theorem dX5_kept_37 : decode cX5_kept 37 = .ok (.iconst 1, 1) := by decide +kernel
theorem dX5_kept_38 : decode cX5_kept 38 = .ok (.goto 4, 3) := by decide +kernel
theorem dX5_kept_41 : decode cX5_kept 41 = .ok (.iconst 0, 1) := by decide +kernel
theorem dX5_kept_42 : decode cX5_kept 42 = .ok (.istore_n 3, 1) := by decide +kernel
theorem dX5_kept_43 : decode cX5_kept 43 = .ok (.aload_n 0, 1) := by decide +kernel
theorem dX5_kept_44 : decode cX5_kept 44 = .ok (.getfield 32, 3) := by decide +kernel
theorem dX5_kept_47 : decode cX5_kept 47 = .ok (.iload_n 1, 1) := by decide +kernel
theorem dX5_kept_48 : decode cX5_kept 48 = .ok (.iaload, 1) := by decide +kernel
theorem dX5_kept_49 : decode cX5_kept 49 = .ok (.istore 4, 2) := by decide +kernel
theorem dX5_kept_51 : decode cX5_kept 51 = .ok (.iload 4, 2) := by decide +kernel
theorem dX5_kept_53 : decode cX5_kept 53 = .ok (.aload_n 0, 1) := by decide +kernel
theorem dX5_kept_54 : decode cX5_kept 54 = .ok (.getfield 32, 3) := by decide +kernel
theorem dX5_kept_57 : decode cX5_kept 57 = .ok (.iload_n 1, 1) := by decide +kernel
theorem dX5_kept_58 : decode cX5_kept 58 = .ok (.iaload, 1) := by decide +kernel
theorem dX5_kept_59 : decode cX5_kept 59 = .ok (.aload_n 0, 1) := by decide +kernel
theorem dX5_kept_60 : decode cX5_kept 60 = .ok (.getfield 35, 3) := by decide +kernel
theorem dX5_kept_63 : decode cX5_kept 63 = .ok (.iload_n 1, 1) := by decide +kernel
theorem dX5_kept_64 : decode cX5_kept 64 = .ok (.iaload, 1) := by decide +kernel
theorem dX5_kept_65 : decode cX5_kept 65 = .ok (.iadd, 1) := by decide +kernel
theorem dX5_kept_66 : decode cX5_kept 66 = .ok (.if_icmp .ge 55, 3) := by decide +kernel
theorem dX5_kept_69 : decode cX5_kept 69 = .ok (.iload_n 3, 1) := by decide +kernel
theorem dX5_kept_70 : decode cX5_kept 70 = .ok (.ifCond .eq 33, 3) := by decide +kernel
theorem dX5_kept_73 : decode cX5_kept 73 = .ok (.aload_n 0, 1) := by decide +kernel
theorem dX5_kept_74 : decode cX5_kept 74 = .ok (.getfield 47, 3) := by decide +kernel
theorem dX5_kept_77 : decode cX5_kept 77 = .ok (.iload 4, 2) := by decide +kernel
theorem dX5_kept_79 : decode cX5_kept 79 = .ok (.iaload, 1) := by decide +kernel
theorem dX5_kept_80 : decode cX5_kept 80 = .ok (.iconst 4, 1) := by decide +kernel
theorem dX5_kept_81 : decode cX5_kept 81 = .ok (.irem, 1) := by decide +kernel
theorem dX5_kept_82 : decode cX5_kept 82 = .ok (.iload_n 1, 1) := by decide +kernel
theorem dX5_kept_83 : decode cX5_kept 83 = .ok (.if_icmp .ne 20, 3) := by decide +kernel
theorem dX5_kept_86 : decode cX5_kept 86 = .ok (.aload_n 0, 1) := by decide +kernel
theorem dX5_kept_87 : decode cX5_kept 87 = .ok (.getfield 47, 3) := by decide +kernel
theorem dX5_kept_90 : decode cX5_kept 90 = .ok (.iload 4, 2) := by decide +kernel
theorem dX5_kept_92 : decode cX5_kept 92 = .ok (.iaload, 1) := by decide +kernel
theorem dX5_kept_93 : decode cX5_kept 93 = .ok (.iconst 4, 1) := by decide +kernel
theorem dX5_kept_94 : decode cX5_kept 94 = .ok (.idiv, 1) := by decide +kernel
theorem dX5_kept_95 : decode cX5_kept 95 = .ok (.iconst 5, 1) := by decide +kernel
theorem dX5_kept_96 : decode cX5_kept 96 = .ok (.if_icmp .ge 7, 3) := by decide +kernel
theorem dX5_kept_99 : decode cX5_kept 99 = .ok (.iconst 1, 1) := by decide +kernel
theorem dX5_kept_100 : decode cX5_kept 100 = .ok (.goto 4, 3) := by decide +kernel
theorem dX5_kept_103 : decode cX5_kept 103 = .ok (.iconst 0, 1) := by decide +kernel
theorem dX5_kept_104 : decode cX5_kept 104 = .ok (.istore_n 3, 1) := by decide +kernel
theorem dX5_kept_105 : decode cX5_kept 105 = .ok (.iload_n 2, 1) := by decide +kernel
theorem dX5_kept_106 : decode cX5_kept 106 = .ok (.aload_n 0, 1) := by decide +kernel
theorem dX5_kept_107 : decode cX5_kept 107 = .ok (.getfield 44, 3) := by decide +kernel
theorem dX5_kept_110 : decode cX5_kept 110 = .ok (.iload 4, 2) := by decide +kernel
theorem dX5_kept_112 : decode cX5_kept 112 = .ok (.iaload, 1) := by decide +kernel
theorem dX5_kept_113 : decode cX5_kept 113 = .ok (.iadd, 1) := by decide +kernel
theorem dX5_kept_114 : decode cX5_kept 114 = .ok (.istore_n 2, 1) := by decide +kernel
theorem dX5_kept_115 : decode cX5_kept 115 = .ok (.iinc 4 1, 3) := by decide +kernel
theorem dX5_kept_118 : decode cX5_kept 118 = .ok (.goto (-67), 3) := by decide +kernel
theorem dX5_kept_121 : decode cX5_kept 121 = .ok (.iload_n 3, 1) := by decide +kernel
theorem dX5_kept_122 : decode cX5_kept 122 = .ok (.ifCond .eq 17, 3) := by decide +kernel
theorem dX5_kept_125 : decode cX5_kept 125 = .ok (.iload_n 2, 1) := by decide +kernel
theorem dX5_kept_126 : decode cX5_kept 126 = .ok (.aload_n 0, 1) := by decide +kernel
theorem dX5_kept_127 : decode cX5_kept 127 = .ok (.getfield 38, 3) := by decide +kernel
theorem dX5_kept_130 : decode cX5_kept 130 = .ok (.iload_n 1, 1) := by decide +kernel
theorem dX5_kept_131 : decode cX5_kept 131 = .ok (.iaload, 1) := by decide +kernel
theorem dX5_kept_132 : decode cX5_kept 132 = .ok (.if_icmp .ne 7, 3) := by decide +kernel
theorem dX5_kept_135 : decode cX5_kept 135 = .ok (.iconst 1, 1) := by decide +kernel
theorem dX5_kept_136 : decode cX5_kept 136 = .ok (.goto 4, 3) := by decide +kernel
theorem dX5_kept_139 : decode cX5_kept 139 = .ok (.iconst 0, 1) := by decide +kernel
theorem dX5_kept_140 : decode cX5_kept 140 = .ok (.ireturn, 1) := by decide +kernel
def tb_X5_kept (S_X5_isLetter S_X5_hasProduct : ma_Cs) : Nat → ma_In := fun pc =>
 (if pc < 70 then
 (if pc < 37 then
 (if pc < 18 then
 (if pc < 9 then
 (if pc < 4 then
 (if pc < 1 then
 (if pc = 0 then in_ild 1 1 else in_no) else
 (if pc = 1 then in_s1 S_X5_isLetter 4 else in_no)) else
 (if pc < 7 then
 (if pc = 4 then in_if1 (fun x => x = 0) 7 9 else in_no) else
 (if pc < 8 then
 (if pc = 7 then in_push (.int (-1)) 8 else in_no) else
 (if pc = 8 then in_ri else in_no)))) else
 (if pc < 13 then
 (if pc < 10 then
 (if pc = 9 then in_ald 0 10 else in_no) else
 (if pc = 10 then in_get YM 5 10 13 else in_no)) else
 (if pc < 14 then
 (if pc = 13 then in_ild 1 14 else in_no) else
 (if pc < 15 then
 (if pc = 14 then in_iar YM 15 else in_no) else
 (if pc = 15 then in_if1 (fun x => 0 ≤ x) 20 18 else in_no))))) else
 (if pc < 23 then
 (if pc < 20 then
 (if pc < 19 then
 (if pc = 18 then in_push (.int 1) 19 else in_no) else
 (if pc = 19 then in_ri else in_no)) else
 (if pc < 21 then
 (if pc = 20 then in_push (.int 0) 21 else in_no) else
 (if pc < 22 then
 (if pc = 21 then in_ist 2 22 else in_no) else
 (if pc = 22 then in_ald 0 23 else in_no)))) else
 (if pc < 30 then
 (if pc < 26 then
 (if pc = 23 then in_get YM 5 2 26 else in_no) else
 (if pc < 29 then
 (if pc = 26 then in_if1 (fun x => x = 0) 29 41 else in_no) else
 (if pc = 29 then in_ald 0 30 else in_no))) else
 (if pc < 31 then
 (if pc = 30 then in_ild 1 31 else in_no) else
 (if pc < 34 then
 (if pc = 31 then in_v2 YM 5 S_X5_hasProduct 34 else in_no) else
 (if pc = 34 then in_if1 (fun x => x = 0) 37 41 else in_no)))))) else
 (if pc < 53 then
 (if pc < 44 then
 (if pc < 41 then
 (if pc < 38 then
 (if pc = 37 then in_push (.int 1) 38 else in_no) else
 (if pc = 38 then in_go 42 else in_no)) else
 (if pc < 42 then
 (if pc = 41 then in_push (.int 0) 42 else in_no) else
 (if pc < 43 then
 (if pc = 42 then in_ist 3 43 else in_no) else
 (if pc = 43 then in_ald 0 44 else in_no)))) else
 (if pc < 48 then
 (if pc < 47 then
 (if pc = 44 then in_get YM 5 11 47 else in_no) else
 (if pc = 47 then in_ild 1 48 else in_no)) else
 (if pc < 49 then
 (if pc = 48 then in_iar YM 49 else in_no) else
 (if pc < 51 then
 (if pc = 49 then in_ist 4 51 else in_no) else
 (if pc = 51 then in_ild 4 53 else in_no))))) else
 (if pc < 60 then
 (if pc < 57 then
 (if pc < 54 then
 (if pc = 53 then in_ald 0 54 else in_no) else
 (if pc = 54 then in_get YM 5 11 57 else in_no)) else
 (if pc < 58 then
 (if pc = 57 then in_ild 1 58 else in_no) else
 (if pc < 59 then
 (if pc = 58 then in_iar YM 59 else in_no) else
 (if pc = 59 then in_ald 0 60 else in_no)))) else
 (if pc < 65 then
 (if pc < 63 then
 (if pc = 60 then in_get YM 5 12 63 else in_no) else
 (if pc < 64 then
 (if pc = 63 then in_ild 1 64 else in_no) else
 (if pc = 64 then in_iar YM 65 else in_no))) else
 (if pc < 66 then
 (if pc = 65 then in_iii (fun x y => x + y) 66 else in_no) else
 (if pc < 69 then
 (if pc = 66 then in_if2 (fun x y => y ≤ x) 121 69 else in_no) else
 (if pc = 69 then in_ild 3 70 else in_no))))))) else
 (if pc < 105 then
 (if pc < 87 then
 (if pc < 80 then
 (if pc < 74 then
 (if pc < 73 then
 (if pc = 70 then in_if1 (fun x => x = 0) 103 73 else in_no) else
 (if pc = 73 then in_ald 0 74 else in_no)) else
 (if pc < 77 then
 (if pc = 74 then in_get YM 5 16 77 else in_no) else
 (if pc < 79 then
 (if pc = 77 then in_ild 4 79 else in_no) else
 (if pc = 79 then in_iar YM 80 else in_no)))) else
 (if pc < 82 then
 (if pc < 81 then
 (if pc = 80 then in_push (.int 4) 81 else in_no) else
 (if pc = 81 then in_idv (fun x y => x - x / y * y) 82 else in_no)) else
 (if pc < 83 then
 (if pc = 82 then in_ild 1 83 else in_no) else
 (if pc < 86 then
 (if pc = 83 then in_if2 (fun x y => x = y) 86 103 else in_no) else
 (if pc = 86 then in_ald 0 87 else in_no))))) else
 (if pc < 95 then
 (if pc < 92 then
 (if pc < 90 then
 (if pc = 87 then in_get YM 5 16 90 else in_no) else
 (if pc = 90 then in_ild 4 92 else in_no)) else
 (if pc < 93 then
 (if pc = 92 then in_iar YM 93 else in_no) else
 (if pc < 94 then
 (if pc = 93 then in_push (.int 4) 94 else in_no) else
 (if pc = 94 then in_idv (fun x y => x / y) 95 else in_no)))) else
 (if pc < 100 then
 (if pc < 96 then
 (if pc = 95 then in_push (.int 5) 96 else in_no) else
 (if pc < 99 then
 (if pc = 96 then in_if2 (fun x y => y ≤ x) 103 99 else in_no) else
 (if pc = 99 then in_push (.int 1) 100 else in_no))) else
 (if pc < 103 then
 (if pc = 100 then in_go 104 else in_no) else
 (if pc < 104 then
 (if pc = 103 then in_push (.int 0) 104 else in_no) else
 (if pc = 104 then in_ist 3 105 else in_no)))))) else
 (if pc < 122 then
 (if pc < 113 then
 (if pc < 107 then
 (if pc < 106 then
 (if pc = 105 then in_ild 2 106 else in_no) else
 (if pc = 106 then in_ald 0 107 else in_no)) else
 (if pc < 110 then
 (if pc = 107 then in_get YM 5 15 110 else in_no) else
 (if pc < 112 then
 (if pc = 110 then in_ild 4 112 else in_no) else
 (if pc = 112 then in_iar YM 113 else in_no)))) else
 (if pc < 115 then
 (if pc < 114 then
 (if pc = 113 then in_iii (fun x y => x + y) 114 else in_no) else
 (if pc = 114 then in_ist 2 115 else in_no)) else
 (if pc < 118 then
 (if pc = 115 then in_inc 4 1 118 else in_no) else
 (if pc < 121 then
 (if pc = 118 then in_go 51 else in_no) else
 (if pc = 121 then in_ild 3 122 else in_no))))) else
 (if pc < 131 then
 (if pc < 126 then
 (if pc < 125 then
 (if pc = 122 then in_if1 (fun x => x = 0) 139 125 else in_no) else
 (if pc = 125 then in_ild 2 126 else in_no)) else
 (if pc < 127 then
 (if pc = 126 then in_ald 0 127 else in_no) else
 (if pc < 130 then
 (if pc = 127 then in_get YM 5 13 130 else in_no) else
 (if pc = 130 then in_ild 1 131 else in_no)))) else
 (if pc < 136 then
 (if pc < 132 then
 (if pc = 131 then in_iar YM 132 else in_no) else
 (if pc < 135 then
 (if pc = 132 then in_if2 (fun x y => x = y) 135 139 else in_no) else
 (if pc = 135 then in_push (.int 1) 136 else in_no))) else
 (if pc < 139 then
 (if pc = 136 then in_go 140 else in_no) else
 (if pc < 140 then
 (if pc = 139 then in_push (.int 0) 140 else in_no) else
 (if pc = 140 then in_ri else in_no))))))))
theorem tk_X5_kept {l : Launch} {w : ma_Wd} {NC : Nat} {A : Nat → Prop} {S_X5_isLetter S_X5_hasProduct : ma_Cs} (h_X5_isLetter : ma_Sd l w YM NC A yX5_isLetter cX5_isLetter 1 (some .boolean) rm_X5_isLetter S_X5_isLetter) (h_X5_hasProduct : ma_Sd l w YM NC A yX5_hasProduct cX5_hasProduct 4 (some .boolean) rm_X5_hasProduct S_X5_hasProduct) {p : Program} {e : Env} {s : State} {m : MethodId} {args : Array Value} {below : List Frame} {meth : Method} {c : Code} (X : ma_Cx p s m args meth c w YM NC A yX5_kept.cls cX5_kept 5 (some .int)) : ∀ pc, ma_Ok p l e rm_X5_kept s m args below meth c w YM NC A 5 pc (tb_X5_kept S_X5_isLetter S_X5_hasProduct pc) := fun pc =>
 (mk_lt
 (mk_lt
 (mk_lt
 (mk_lt
 (mk_lt
 (mk_lt
 (mk_eq (mk_iload_n X dX5_kept_0 rfl rfl))
 (mk_eq (mk_S1 X h_X5_isLetter (lw_S q908 q909 q66 q910) ⟨by decide, by decide, rfl⟩ ⟨(Nat.le_of_ble_eq_true rfl), (Nat.le_of_ble_eq_true rfl)⟩ dX5_kept_1 rfl)))
 (mk_lt
 (mk_eq (mk_ifne X dX5_kept_4 rfl rfl))
 (mk_lt
 (mk_eq (mk_iconst X dX5_kept_7 rfl rfl))
 (mk_eq (mk_ri X dX5_kept_8)))))
 (mk_lt
 (mk_lt
 (mk_eq (mk_aload_n X dX5_kept_9 rfl rfl))
 (mk_eq (mk_get X (ci := 5) (j := 10) rfl in_X5 (Nat.le_of_ble_eq_true rfl) q757 dX5_kept_10 rfl)))
 (mk_lt
 (mk_eq (mk_iload_n X dX5_kept_13 rfl rfl))
 (mk_lt
 (mk_eq (mk_iar X dX5_kept_14 rfl))
 (mk_eq (mk_ifge X dX5_kept_15 rfl rfl))))))
 (mk_lt
 (mk_lt
 (mk_lt
 (mk_eq (mk_iconst X dX5_kept_18 rfl rfl))
 (mk_eq (mk_ri X dX5_kept_19)))
 (mk_lt
 (mk_eq (mk_iconst X dX5_kept_20 rfl rfl))
 (mk_lt
 (mk_eq (mk_istore_n X dX5_kept_21 rfl (Nat.le_of_ble_eq_true rfl) rfl))
 (mk_eq (mk_aload_n X dX5_kept_22 rfl rfl)))))
 (mk_lt
 (mk_lt
 (mk_eq (mk_get X (ci := 5) (j := 2) rfl in_X5 (Nat.le_of_ble_eq_true rfl) q749 dX5_kept_23 rfl))
 (mk_lt
 (mk_eq (mk_ifne X dX5_kept_26 rfl rfl))
 (mk_eq (mk_aload_n X dX5_kept_29 rfl rfl))))
 (mk_lt
 (mk_eq (mk_iload_n X dX5_kept_30 rfl rfl))
 (mk_lt
 (mk_eq (mk_V2 X h_X5_hasProduct (ci := 5) rfl (lw_V q969 q971 qs38 q66 q972) ⟨rfl, by decide, by decide, rfl⟩ ⟨(Nat.le_of_ble_eq_true rfl), (Nat.le_of_ble_eq_true rfl)⟩ dX5_kept_31 rfl))
 (mk_eq (mk_ifne X dX5_kept_34 rfl rfl)))))))
 (mk_lt
 (mk_lt
 (mk_lt
 (mk_lt
 (mk_eq (mk_iconst X dX5_kept_37 rfl rfl))
 (mk_eq (mk_goto X dX5_kept_38 rfl)))
 (mk_lt
 (mk_eq (mk_iconst X dX5_kept_41 rfl rfl))
 (mk_lt
 (mk_eq (mk_istore_n X dX5_kept_42 rfl (Nat.le_of_ble_eq_true rfl) rfl))
 (mk_eq (mk_aload_n X dX5_kept_43 rfl rfl)))))
 (mk_lt
 (mk_lt
 (mk_eq (mk_get X (ci := 5) (j := 11) rfl in_X5 (Nat.le_of_ble_eq_true rfl) q758 dX5_kept_44 rfl))
 (mk_eq (mk_iload_n X dX5_kept_47 rfl rfl)))
 (mk_lt
 (mk_eq (mk_iar X dX5_kept_48 rfl))
 (mk_lt
 (mk_eq (mk_istore X dX5_kept_49 (Nat.le_of_ble_eq_true rfl) rfl))
 (mk_eq (mk_iload X dX5_kept_51 rfl))))))
 (mk_lt
 (mk_lt
 (mk_lt
 (mk_eq (mk_aload_n X dX5_kept_53 rfl rfl))
 (mk_eq (mk_get X (ci := 5) (j := 11) rfl in_X5 (Nat.le_of_ble_eq_true rfl) q758 dX5_kept_54 rfl)))
 (mk_lt
 (mk_eq (mk_iload_n X dX5_kept_57 rfl rfl))
 (mk_lt
 (mk_eq (mk_iar X dX5_kept_58 rfl))
 (mk_eq (mk_aload_n X dX5_kept_59 rfl rfl)))))
 (mk_lt
 (mk_lt
 (mk_eq (mk_get X (ci := 5) (j := 12) rfl in_X5 (Nat.le_of_ble_eq_true rfl) q759 dX5_kept_60 rfl))
 (mk_lt
 (mk_eq (mk_iload_n X dX5_kept_63 rfl rfl))
 (mk_eq (mk_iar X dX5_kept_64 rfl))))
 (mk_lt
 (mk_eq (mk_iadd X dX5_kept_65 rfl))
 (mk_lt
 (mk_eq (mk_icge X dX5_kept_66 rfl rfl))
 (mk_eq (mk_iload_n X dX5_kept_69 rfl rfl))))))))
 (mk_lt
 (mk_lt
 (mk_lt
 (mk_lt
 (mk_lt
 (mk_eq (mk_ifeq X dX5_kept_70 rfl rfl))
 (mk_eq (mk_aload_n X dX5_kept_73 rfl rfl)))
 (mk_lt
 (mk_eq (mk_get X (ci := 5) (j := 16) rfl in_X5 (Nat.le_of_ble_eq_true rfl) q763 dX5_kept_74 rfl))
 (mk_lt
 (mk_eq (mk_iload X dX5_kept_77 rfl))
 (mk_eq (mk_iar X dX5_kept_79 rfl)))))
 (mk_lt
 (mk_lt
 (mk_eq (mk_iconst X dX5_kept_80 rfl rfl))
 (mk_eq (mk_irem X dX5_kept_81 rfl)))
 (mk_lt
 (mk_eq (mk_iload_n X dX5_kept_82 rfl rfl))
 (mk_lt
 (mk_eq (mk_icne X dX5_kept_83 rfl rfl))
 (mk_eq (mk_aload_n X dX5_kept_86 rfl rfl))))))
 (mk_lt
 (mk_lt
 (mk_lt
 (mk_eq (mk_get X (ci := 5) (j := 16) rfl in_X5 (Nat.le_of_ble_eq_true rfl) q763 dX5_kept_87 rfl))
 (mk_eq (mk_iload X dX5_kept_90 rfl)))
 (mk_lt
 (mk_eq (mk_iar X dX5_kept_92 rfl))
 (mk_lt
 (mk_eq (mk_iconst X dX5_kept_93 rfl rfl))
 (mk_eq (mk_idiv X dX5_kept_94 rfl)))))
 (mk_lt
 (mk_lt
 (mk_eq (mk_iconst X dX5_kept_95 rfl rfl))
 (mk_lt
 (mk_eq (mk_icge X dX5_kept_96 rfl rfl))
 (mk_eq (mk_iconst X dX5_kept_99 rfl rfl))))
 (mk_lt
 (mk_eq (mk_goto X dX5_kept_100 rfl))
 (mk_lt
 (mk_eq (mk_iconst X dX5_kept_103 rfl rfl))
 (mk_eq (mk_istore_n X dX5_kept_104 rfl (Nat.le_of_ble_eq_true rfl) rfl)))))))
 (mk_lt
 (mk_lt
 (mk_lt
 (mk_lt
 (mk_eq (mk_iload_n X dX5_kept_105 rfl rfl))
 (mk_eq (mk_aload_n X dX5_kept_106 rfl rfl)))
 (mk_lt
 (mk_eq (mk_get X (ci := 5) (j := 15) rfl in_X5 (Nat.le_of_ble_eq_true rfl) q762 dX5_kept_107 rfl))
 (mk_lt
 (mk_eq (mk_iload X dX5_kept_110 rfl))
 (mk_eq (mk_iar X dX5_kept_112 rfl)))))
 (mk_lt
 (mk_lt
 (mk_eq (mk_iadd X dX5_kept_113 rfl))
 (mk_eq (mk_istore_n X dX5_kept_114 rfl (Nat.le_of_ble_eq_true rfl) rfl)))
 (mk_lt
 (mk_eq (mk_iinc X dX5_kept_115 rfl (Nat.le_of_ble_eq_true rfl) rfl))
 (mk_lt
 (mk_eq (mk_goto X dX5_kept_118 rfl))
 (mk_eq (mk_iload_n X dX5_kept_121 rfl rfl))))))
 (mk_lt
 (mk_lt
 (mk_lt
 (mk_eq (mk_ifeq X dX5_kept_122 rfl rfl))
 (mk_eq (mk_iload_n X dX5_kept_125 rfl rfl)))
 (mk_lt
 (mk_eq (mk_aload_n X dX5_kept_126 rfl rfl))
 (mk_lt
 (mk_eq (mk_get X (ci := 5) (j := 13) rfl in_X5 (Nat.le_of_ble_eq_true rfl) q760 dX5_kept_127 rfl))
 (mk_eq (mk_iload_n X dX5_kept_130 rfl rfl)))))
 (mk_lt
 (mk_lt
 (mk_eq (mk_iar X dX5_kept_131 rfl))
 (mk_lt
 (mk_eq (mk_icne X dX5_kept_132 rfl rfl))
 (mk_eq (mk_iconst X dX5_kept_135 rfl rfl))))
 (mk_lt
 (mk_eq (mk_goto X dX5_kept_136 rfl))
 (mk_lt
 (mk_eq (mk_iconst X dX5_kept_139 rfl rfl))
 (mk_eq (mk_ri X dX5_kept_140)))))))))
theorem sd_X5_kept {l : Launch} {w : ma_Wd} {NC : Nat} {A : Nat → Prop} {S_X5_isLetter S_X5_hasProduct : ma_Cs} (hw : ma_Wo w YM NC A) (h_X5_isLetter : ma_Sd l w YM NC A yX5_isLetter cX5_isLetter 1 (some .boolean) rm_X5_isLetter S_X5_isLetter) (h_X5_hasProduct : ma_Sd l w YM NC A yX5_hasProduct cX5_hasProduct 4 (some .boolean) rm_X5_hasProduct S_X5_hasProduct) : ma_Sd l w YM NC A yX5_kept cX5_kept 5 (some .int) rm_X5_kept (ma_rn (tb_X5_kept S_X5_isLetter S_X5_hasProduct) 5) := ma_of hw (by decide) ⟨rfl, rfl⟩ (fun X => tk_X5_kept h_X5_isLetter h_X5_hasProduct X)
theorem dX5_grows_0 : decode cX5_grows 0 = .ok (.iconst 1, 1) := by decide +kernel
theorem dX5_grows_1 : decode cX5_grows 1 = .ok (.istore_n 1, 1) := by decide +kernel
theorem dX5_grows_2 : decode cX5_grows 2 = .ok (.iconst 0, 1) := by decide +kernel
theorem dX5_grows_3 : decode cX5_grows 3 = .ok (.istore_n 2, 1) := by decide +kernel
theorem dX5_grows_4 : decode cX5_grows 4 = .ok (.iload_n 2, 1) := by decide +kernel
theorem dX5_grows_5 : decode cX5_grows 5 = .ok (.iconst 4, 1) := by decide +kernel
theorem dX5_grows_6 : decode cX5_grows 6 = .ok (.if_icmp .ge 120, 3) := by decide +kernel
theorem dX5_grows_9 : decode cX5_grows 9 = .ok (.iconst 0, 1) := by decide +kernel
theorem dX5_grows_10 : decode cX5_grows 10 = .ok (.istore_n 3, 1) := by decide +kernel
theorem dX5_grows_11 : decode cX5_grows 11 = .ok (.aload_n 0, 1) := by decide +kernel
theorem dX5_grows_12 : decode cX5_grows 12 = .ok (.getfield 32, 3) := by decide +kernel
theorem dX5_grows_15 : decode cX5_grows 15 = .ok (.iload_n 2, 1) := by decide +kernel
theorem dX5_grows_16 : decode cX5_grows 16 = .ok (.iaload, 1) := by decide +kernel
theorem dX5_grows_17 : decode cX5_grows 17 = .ok (.istore 4, 2) := by decide +kernel
theorem dX5_grows_19 : decode cX5_grows 19 = .ok (.aload_n 0, 1) := by decide +kernel
theorem dX5_grows_20 : decode cX5_grows 20 = .ok (.getfield 29, 3) := by decide +kernel
theorem dX5_grows_23 : decode cX5_grows 23 = .ok (.iload_n 2, 1) := by decide +kernel
theorem dX5_grows_24 : decode cX5_grows 24 = .ok (.iaload, 1) := by decide +kernel
theorem dX5_grows_25 : decode cX5_grows 25 = .ok (.ifCond .lt 58, 3) := by decide +kernel
theorem dX5_grows_28 : decode cX5_grows 28 = .ok (.iload 4, 2) := by decide +kernel
theorem dX5_grows_30 : decode cX5_grows 30 = .ok (.aload_n 0, 1) := by decide +kernel
theorem dX5_grows_31 : decode cX5_grows 31 = .ok (.getfield 32, 3) := by decide +kernel
theorem dX5_grows_34 : decode cX5_grows 34 = .ok (.iload_n 2, 1) := by decide +kernel
theorem dX5_grows_35 : decode cX5_grows 35 = .ok (.iaload, 1) := by decide +kernel
theorem dX5_grows_36 : decode cX5_grows 36 = .ok (.aload_n 0, 1) := by decide +kernel
theorem dX5_grows_37 : decode cX5_grows 37 = .ok (.getfield 35, 3) := by decide +kernel
theorem dX5_grows_40 : decode cX5_grows 40 = .ok (.iload_n 2, 1) := by decide +kernel
theorem dX5_grows_41 : decode cX5_grows 41 = .ok (.iaload, 1) := by decide +kernel
theorem dX5_grows_42 : decode cX5_grows 42 = .ok (.iadd, 1) := by decide +kernel
theorem dX5_grows_43 : decode cX5_grows 43 = .ok (.if_icmp .ge 40, 3) := by decide +kernel
theorem dX5_grows_46 : decode cX5_grows 46 = .ok (.iload_n 3, 1) := by decide +kernel
theorem dX5_grows_47 : decode cX5_grows 47 = .ok (.aload_n 0, 1) := by decide +kernel
theorem dX5_grows_48 : decode cX5_grows 48 = .ok (.getfield 44, 3) := by decide +kernel
theorem dX5_grows_51 : decode cX5_grows 51 = .ok (.iload 4, 2) := by decide +kernel
theorem dX5_grows_53 : decode cX5_grows 53 = .ok (.iaload, 1) := by decide +kernel
theorem dX5_grows_54 : decode cX5_grows 54 = .ok (.ifCond .ge 14, 3) := by decide +kernel
theorem dX5_grows_57 : decode cX5_grows 57 = .ok (.aload_n 0, 1) := by decide +kernel
theorem dX5_grows_58 : decode cX5_grows 58 = .ok (.getfield 44, 3) := by decide +kernel
theorem dX5_grows_61 : decode cX5_grows 61 = .ok (.iload 4, 2) := by decide +kernel
theorem dX5_grows_63 : decode cX5_grows 63 = .ok (.iaload, 1) := by decide +kernel
theorem dX5_grows_64 : decode cX5_grows 64 = .ok (.ineg, 1) := by decide +kernel
theorem dX5_grows_65 : decode cX5_grows 65 = .ok (.goto 10, 3) := by decide +kernel
theorem dX5_grows_68 : decode cX5_grows 68 = .ok (.aload_n 0, 1) := by decide +kernel
theorem dX5_grows_69 : decode cX5_grows 69 = .ok (.getfield 44, 3) := by decide +kernel
theorem dX5_grows_72 : decode cX5_grows 72 = .ok (.iload 4, 2) := by decide +kernel
theorem dX5_grows_74 : decode cX5_grows 74 = .ok (.iaload, 1) := by decide +kernel
theorem dX5_grows_75 : decode cX5_grows 75 = .ok (.iadd, 1) := by decide +kernel
theorem dX5_grows_76 : decode cX5_grows 76 = .ok (.istore_n 3, 1) := by decide +kernel
theorem dX5_grows_77 : decode cX5_grows 77 = .ok (.iinc 4 1, 3) := by decide +kernel
theorem dX5_grows_80 : decode cX5_grows 80 = .ok (.goto (-61), 3) := by decide +kernel
theorem dX5_grows_83 : decode cX5_grows 83 = .ok (.iload_n 1, 1) := by decide +kernel
theorem dX5_grows_84 : decode cX5_grows 84 = .ok (.ifCond .eq 34, 3) := by decide +kernel
theorem dX5_grows_87 : decode cX5_grows 87 = .ok (.aload_n 0, 1) := by decide +kernel
theorem dX5_grows_88 : decode cX5_grows 88 = .ok (.getfield 29, 3) := by decide +kernel
theorem dX5_grows_91 : decode cX5_grows 91 = .ok (.iload_n 2, 1) := by decide +kernel
theorem dX5_grows_92 : decode cX5_grows 92 = .ok (.iaload, 1) := by decide +kernel
theorem dX5_grows_93 : decode cX5_grows 93 = .ok (.ifCond .lt 21, 3) := by decide +kernel
theorem dX5_grows_96 : decode cX5_grows 96 = .ok (.aload_n 0, 1) := by decide +kernel
theorem dX5_grows_97 : decode cX5_grows 97 = .ok (.iload_n 2, 1) := by decide +kernel
theorem dX5_grows_98 : decode cX5_grows 98 = .ok (.invokevirtual 208, 3) := by decide +kernel
theorem dX5_grows_101 : decode cX5_grows 101 = .ok (.ifCond .ne 17, 3) := by decide +kernel
theorem dX5_grows_104 : decode cX5_grows 104 = .ok (.iload_n 3, 1) := by decide +kernel
theorem dX5_grows_105 : decode cX5_grows 105 = .ok (.aload_n 0, 1) := by decide +kernel
theorem dX5_grows_106 : decode cX5_grows 106 = .ok (.getfield 38, 3) := by decide +kernel
theorem dX5_grows_109 : decode cX5_grows 109 = .ok (.iload_n 2, 1) := by decide +kernel
theorem dX5_grows_110 : decode cX5_grows 110 = .ok (.iaload, 1) := by decide +kernel
theorem dX5_grows_111 : decode cX5_grows 111 = .ok (.if_icmp .gt 7, 3) := by decide +kernel
theorem dX5_grows_114 : decode cX5_grows 114 = .ok (.iconst 1, 1) := by decide +kernel
theorem dX5_grows_115 : decode cX5_grows 115 = .ok (.goto 4, 3) := by decide +kernel
theorem dX5_grows_118 : decode cX5_grows 118 = .ok (.iconst 0, 1) := by decide +kernel
theorem dX5_grows_119 : decode cX5_grows 119 = .ok (.istore_n 1, 1) := by decide +kernel
theorem dX5_grows_120 : decode cX5_grows 120 = .ok (.iinc 2 1, 3) := by decide +kernel
theorem dX5_grows_123 : decode cX5_grows 123 = .ok (.goto (-119), 3) := by decide +kernel
theorem dX5_grows_126 : decode cX5_grows 126 = .ok (.iload_n 1, 1) := by decide +kernel
theorem dX5_grows_127 : decode cX5_grows 127 = .ok (.ifCond .eq 7, 3) := by decide +kernel
theorem dX5_grows_130 : decode cX5_grows 130 = .ok (.iconst 1, 1) := by decide +kernel
theorem dX5_grows_131 : decode cX5_grows 131 = .ok (.goto 4, 3) := by decide +kernel
theorem dX5_grows_134 : decode cX5_grows 134 = .ok (.iconst 0, 1) := by decide +kernel
theorem dX5_grows_135 : decode cX5_grows 135 = .ok (.ireturn, 1) := by decide +kernel
def tb_X5_grows (S_X5_hasProduct : ma_Cs) : Nat → ma_In := fun pc =>
 (if pc < 63 then
 (if pc < 28 then
 (if pc < 11 then
 (if pc < 4 then
 (if pc < 2 then
 (if pc < 1 then
 (if pc = 0 then in_push (.int 1) 1 else in_no) else
 (if pc = 1 then in_ist 1 2 else in_no)) else
 (if pc < 3 then
 (if pc = 2 then in_push (.int 0) 3 else in_no) else
 (if pc = 3 then in_ist 2 4 else in_no))) else
 (if pc < 6 then
 (if pc < 5 then
 (if pc = 4 then in_ild 2 5 else in_no) else
 (if pc = 5 then in_push (.int 4) 6 else in_no)) else
 (if pc < 9 then
 (if pc = 6 then in_if2 (fun x y => y ≤ x) 126 9 else in_no) else
 (if pc < 10 then
 (if pc = 9 then in_push (.int 0) 10 else in_no) else
 (if pc = 10 then in_ist 3 11 else in_no))))) else
 (if pc < 19 then
 (if pc < 15 then
 (if pc < 12 then
 (if pc = 11 then in_ald 0 12 else in_no) else
 (if pc = 12 then in_get YM 5 11 15 else in_no)) else
 (if pc < 16 then
 (if pc = 15 then in_ild 2 16 else in_no) else
 (if pc < 17 then
 (if pc = 16 then in_iar YM 17 else in_no) else
 (if pc = 17 then in_ist 4 19 else in_no)))) else
 (if pc < 23 then
 (if pc < 20 then
 (if pc = 19 then in_ald 0 20 else in_no) else
 (if pc = 20 then in_get YM 5 10 23 else in_no)) else
 (if pc < 24 then
 (if pc = 23 then in_ild 2 24 else in_no) else
 (if pc < 25 then
 (if pc = 24 then in_iar YM 25 else in_no) else
 (if pc = 25 then in_if1 (fun x => x < 0) 83 28 else in_no)))))) else
 (if pc < 43 then
 (if pc < 36 then
 (if pc < 31 then
 (if pc < 30 then
 (if pc = 28 then in_ild 4 30 else in_no) else
 (if pc = 30 then in_ald 0 31 else in_no)) else
 (if pc < 34 then
 (if pc = 31 then in_get YM 5 11 34 else in_no) else
 (if pc < 35 then
 (if pc = 34 then in_ild 2 35 else in_no) else
 (if pc = 35 then in_iar YM 36 else in_no)))) else
 (if pc < 40 then
 (if pc < 37 then
 (if pc = 36 then in_ald 0 37 else in_no) else
 (if pc = 37 then in_get YM 5 12 40 else in_no)) else
 (if pc < 41 then
 (if pc = 40 then in_ild 2 41 else in_no) else
 (if pc < 42 then
 (if pc = 41 then in_iar YM 42 else in_no) else
 (if pc = 42 then in_iii (fun x y => x + y) 43 else in_no))))) else
 (if pc < 53 then
 (if pc < 47 then
 (if pc < 46 then
 (if pc = 43 then in_if2 (fun x y => y ≤ x) 83 46 else in_no) else
 (if pc = 46 then in_ild 3 47 else in_no)) else
 (if pc < 48 then
 (if pc = 47 then in_ald 0 48 else in_no) else
 (if pc < 51 then
 (if pc = 48 then in_get YM 5 15 51 else in_no) else
 (if pc = 51 then in_ild 4 53 else in_no)))) else
 (if pc < 57 then
 (if pc < 54 then
 (if pc = 53 then in_iar YM 54 else in_no) else
 (if pc = 54 then in_if1 (fun x => 0 ≤ x) 68 57 else in_no)) else
 (if pc < 58 then
 (if pc = 57 then in_ald 0 58 else in_no) else
 (if pc < 61 then
 (if pc = 58 then in_get YM 5 15 61 else in_no) else
 (if pc = 61 then in_ild 4 63 else in_no))))))) else
 (if pc < 98 then
 (if pc < 80 then
 (if pc < 72 then
 (if pc < 65 then
 (if pc < 64 then
 (if pc = 63 then in_iar YM 64 else in_no) else
 (if pc = 64 then in_ii (fun x => -x) 65 else in_no)) else
 (if pc < 68 then
 (if pc = 65 then in_go 75 else in_no) else
 (if pc < 69 then
 (if pc = 68 then in_ald 0 69 else in_no) else
 (if pc = 69 then in_get YM 5 15 72 else in_no)))) else
 (if pc < 75 then
 (if pc < 74 then
 (if pc = 72 then in_ild 4 74 else in_no) else
 (if pc = 74 then in_iar YM 75 else in_no)) else
 (if pc < 76 then
 (if pc = 75 then in_iii (fun x y => x + y) 76 else in_no) else
 (if pc < 77 then
 (if pc = 76 then in_ist 3 77 else in_no) else
 (if pc = 77 then in_inc 4 1 80 else in_no))))) else
 (if pc < 91 then
 (if pc < 84 then
 (if pc < 83 then
 (if pc = 80 then in_go 19 else in_no) else
 (if pc = 83 then in_ild 1 84 else in_no)) else
 (if pc < 87 then
 (if pc = 84 then in_if1 (fun x => x = 0) 118 87 else in_no) else
 (if pc < 88 then
 (if pc = 87 then in_ald 0 88 else in_no) else
 (if pc = 88 then in_get YM 5 10 91 else in_no)))) else
 (if pc < 93 then
 (if pc < 92 then
 (if pc = 91 then in_ild 2 92 else in_no) else
 (if pc = 92 then in_iar YM 93 else in_no)) else
 (if pc < 96 then
 (if pc = 93 then in_if1 (fun x => x < 0) 114 96 else in_no) else
 (if pc < 97 then
 (if pc = 96 then in_ald 0 97 else in_no) else
 (if pc = 97 then in_ild 2 98 else in_no)))))) else
 (if pc < 118 then
 (if pc < 109 then
 (if pc < 104 then
 (if pc < 101 then
 (if pc = 98 then in_v2 YM 5 S_X5_hasProduct 101 else in_no) else
 (if pc = 101 then in_if1 (fun x => x = 0) 104 118 else in_no)) else
 (if pc < 105 then
 (if pc = 104 then in_ild 3 105 else in_no) else
 (if pc < 106 then
 (if pc = 105 then in_ald 0 106 else in_no) else
 (if pc = 106 then in_get YM 5 13 109 else in_no)))) else
 (if pc < 111 then
 (if pc < 110 then
 (if pc = 109 then in_ild 2 110 else in_no) else
 (if pc = 110 then in_iar YM 111 else in_no)) else
 (if pc < 114 then
 (if pc = 111 then in_if2 (fun x y => y < x) 118 114 else in_no) else
 (if pc < 115 then
 (if pc = 114 then in_push (.int 1) 115 else in_no) else
 (if pc = 115 then in_go 119 else in_no))))) else
 (if pc < 127 then
 (if pc < 120 then
 (if pc < 119 then
 (if pc = 118 then in_push (.int 0) 119 else in_no) else
 (if pc = 119 then in_ist 1 120 else in_no)) else
 (if pc < 123 then
 (if pc = 120 then in_inc 2 1 123 else in_no) else
 (if pc < 126 then
 (if pc = 123 then in_go 4 else in_no) else
 (if pc = 126 then in_ild 1 127 else in_no)))) else
 (if pc < 131 then
 (if pc < 130 then
 (if pc = 127 then in_if1 (fun x => x = 0) 134 130 else in_no) else
 (if pc = 130 then in_push (.int 1) 131 else in_no)) else
 (if pc < 134 then
 (if pc = 131 then in_go 135 else in_no) else
 (if pc < 135 then
 (if pc = 134 then in_push (.int 0) 135 else in_no) else
 (if pc = 135 then in_ri else in_no))))))))
theorem tk_X5_grows {l : Launch} {w : ma_Wd} {NC : Nat} {A : Nat → Prop} {S_X5_hasProduct : ma_Cs} (h_X5_hasProduct : ma_Sd l w YM NC A yX5_hasProduct cX5_hasProduct 4 (some .boolean) rm_X5_hasProduct S_X5_hasProduct) {p : Program} {e : Env} {s : State} {m : MethodId} {args : Array Value} {below : List Frame} {meth : Method} {c : Code} (X : ma_Cx p s m args meth c w YM NC A yX5_grows.cls cX5_grows 5 (some .int)) : ∀ pc, ma_Ok p l e rm_X5_grows s m args below meth c w YM NC A 5 pc (tb_X5_grows S_X5_hasProduct pc) := fun pc =>
 (mk_lt
 (mk_lt
 (mk_lt
 (mk_lt
 (mk_lt
 (mk_lt
 (mk_eq (mk_iconst X dX5_grows_0 rfl rfl))
 (mk_eq (mk_istore_n X dX5_grows_1 rfl (Nat.le_of_ble_eq_true rfl) rfl)))
 (mk_lt
 (mk_eq (mk_iconst X dX5_grows_2 rfl rfl))
 (mk_eq (mk_istore_n X dX5_grows_3 rfl (Nat.le_of_ble_eq_true rfl) rfl))))
 (mk_lt
 (mk_lt
 (mk_eq (mk_iload_n X dX5_grows_4 rfl rfl))
 (mk_eq (mk_iconst X dX5_grows_5 rfl rfl)))
 (mk_lt
 (mk_eq (mk_icge X dX5_grows_6 rfl rfl))
 (mk_lt
 (mk_eq (mk_iconst X dX5_grows_9 rfl rfl))
 (mk_eq (mk_istore_n X dX5_grows_10 rfl (Nat.le_of_ble_eq_true rfl) rfl))))))
 (mk_lt
 (mk_lt
 (mk_lt
 (mk_eq (mk_aload_n X dX5_grows_11 rfl rfl))
 (mk_eq (mk_get X (ci := 5) (j := 11) rfl in_X5 (Nat.le_of_ble_eq_true rfl) q758 dX5_grows_12 rfl)))
 (mk_lt
 (mk_eq (mk_iload_n X dX5_grows_15 rfl rfl))
 (mk_lt
 (mk_eq (mk_iar X dX5_grows_16 rfl))
 (mk_eq (mk_istore X dX5_grows_17 (Nat.le_of_ble_eq_true rfl) rfl)))))
 (mk_lt
 (mk_lt
 (mk_eq (mk_aload_n X dX5_grows_19 rfl rfl))
 (mk_eq (mk_get X (ci := 5) (j := 10) rfl in_X5 (Nat.le_of_ble_eq_true rfl) q757 dX5_grows_20 rfl)))
 (mk_lt
 (mk_eq (mk_iload_n X dX5_grows_23 rfl rfl))
 (mk_lt
 (mk_eq (mk_iar X dX5_grows_24 rfl))
 (mk_eq (mk_iflt X dX5_grows_25 rfl rfl)))))))
 (mk_lt
 (mk_lt
 (mk_lt
 (mk_lt
 (mk_eq (mk_iload X dX5_grows_28 rfl))
 (mk_eq (mk_aload_n X dX5_grows_30 rfl rfl)))
 (mk_lt
 (mk_eq (mk_get X (ci := 5) (j := 11) rfl in_X5 (Nat.le_of_ble_eq_true rfl) q758 dX5_grows_31 rfl))
 (mk_lt
 (mk_eq (mk_iload_n X dX5_grows_34 rfl rfl))
 (mk_eq (mk_iar X dX5_grows_35 rfl)))))
 (mk_lt
 (mk_lt
 (mk_eq (mk_aload_n X dX5_grows_36 rfl rfl))
 (mk_eq (mk_get X (ci := 5) (j := 12) rfl in_X5 (Nat.le_of_ble_eq_true rfl) q759 dX5_grows_37 rfl)))
 (mk_lt
 (mk_eq (mk_iload_n X dX5_grows_40 rfl rfl))
 (mk_lt
 (mk_eq (mk_iar X dX5_grows_41 rfl))
 (mk_eq (mk_iadd X dX5_grows_42 rfl))))))
 (mk_lt
 (mk_lt
 (mk_lt
 (mk_eq (mk_icge X dX5_grows_43 rfl rfl))
 (mk_eq (mk_iload_n X dX5_grows_46 rfl rfl)))
 (mk_lt
 (mk_eq (mk_aload_n X dX5_grows_47 rfl rfl))
 (mk_lt
 (mk_eq (mk_get X (ci := 5) (j := 15) rfl in_X5 (Nat.le_of_ble_eq_true rfl) q762 dX5_grows_48 rfl))
 (mk_eq (mk_iload X dX5_grows_51 rfl)))))
 (mk_lt
 (mk_lt
 (mk_eq (mk_iar X dX5_grows_53 rfl))
 (mk_eq (mk_ifge X dX5_grows_54 rfl rfl)))
 (mk_lt
 (mk_eq (mk_aload_n X dX5_grows_57 rfl rfl))
 (mk_lt
 (mk_eq (mk_get X (ci := 5) (j := 15) rfl in_X5 (Nat.le_of_ble_eq_true rfl) q762 dX5_grows_58 rfl))
 (mk_eq (mk_iload X dX5_grows_61 rfl))))))))
 (mk_lt
 (mk_lt
 (mk_lt
 (mk_lt
 (mk_lt
 (mk_eq (mk_iar X dX5_grows_63 rfl))
 (mk_eq (mk_ineg X dX5_grows_64 rfl)))
 (mk_lt
 (mk_eq (mk_goto X dX5_grows_65 rfl))
 (mk_lt
 (mk_eq (mk_aload_n X dX5_grows_68 rfl rfl))
 (mk_eq (mk_get X (ci := 5) (j := 15) rfl in_X5 (Nat.le_of_ble_eq_true rfl) q762 dX5_grows_69 rfl)))))
 (mk_lt
 (mk_lt
 (mk_eq (mk_iload X dX5_grows_72 rfl))
 (mk_eq (mk_iar X dX5_grows_74 rfl)))
 (mk_lt
 (mk_eq (mk_iadd X dX5_grows_75 rfl))
 (mk_lt
 (mk_eq (mk_istore_n X dX5_grows_76 rfl (Nat.le_of_ble_eq_true rfl) rfl))
 (mk_eq (mk_iinc X dX5_grows_77 rfl (Nat.le_of_ble_eq_true rfl) rfl))))))
 (mk_lt
 (mk_lt
 (mk_lt
 (mk_eq (mk_goto X dX5_grows_80 rfl))
 (mk_eq (mk_iload_n X dX5_grows_83 rfl rfl)))
 (mk_lt
 (mk_eq (mk_ifeq X dX5_grows_84 rfl rfl))
 (mk_lt
 (mk_eq (mk_aload_n X dX5_grows_87 rfl rfl))
 (mk_eq (mk_get X (ci := 5) (j := 10) rfl in_X5 (Nat.le_of_ble_eq_true rfl) q757 dX5_grows_88 rfl)))))
 (mk_lt
 (mk_lt
 (mk_eq (mk_iload_n X dX5_grows_91 rfl rfl))
 (mk_eq (mk_iar X dX5_grows_92 rfl)))
 (mk_lt
 (mk_eq (mk_iflt X dX5_grows_93 rfl rfl))
 (mk_lt
 (mk_eq (mk_aload_n X dX5_grows_96 rfl rfl))
 (mk_eq (mk_iload_n X dX5_grows_97 rfl rfl)))))))
 (mk_lt
 (mk_lt
 (mk_lt
 (mk_lt
 (mk_eq (mk_V2 X h_X5_hasProduct (ci := 5) rfl (lw_V q969 q971 qs38 q66 q972) ⟨rfl, by decide, by decide, rfl⟩ ⟨(Nat.le_of_ble_eq_true rfl), (Nat.le_of_ble_eq_true rfl)⟩ dX5_grows_98 rfl))
 (mk_eq (mk_ifne X dX5_grows_101 rfl rfl)))
 (mk_lt
 (mk_eq (mk_iload_n X dX5_grows_104 rfl rfl))
 (mk_lt
 (mk_eq (mk_aload_n X dX5_grows_105 rfl rfl))
 (mk_eq (mk_get X (ci := 5) (j := 13) rfl in_X5 (Nat.le_of_ble_eq_true rfl) q760 dX5_grows_106 rfl)))))
 (mk_lt
 (mk_lt
 (mk_eq (mk_iload_n X dX5_grows_109 rfl rfl))
 (mk_eq (mk_iar X dX5_grows_110 rfl)))
 (mk_lt
 (mk_eq (mk_icgt X dX5_grows_111 rfl rfl))
 (mk_lt
 (mk_eq (mk_iconst X dX5_grows_114 rfl rfl))
 (mk_eq (mk_goto X dX5_grows_115 rfl))))))
 (mk_lt
 (mk_lt
 (mk_lt
 (mk_eq (mk_iconst X dX5_grows_118 rfl rfl))
 (mk_eq (mk_istore_n X dX5_grows_119 rfl (Nat.le_of_ble_eq_true rfl) rfl)))
 (mk_lt
 (mk_eq (mk_iinc X dX5_grows_120 rfl (Nat.le_of_ble_eq_true rfl) rfl))
 (mk_lt
 (mk_eq (mk_goto X dX5_grows_123 rfl))
 (mk_eq (mk_iload_n X dX5_grows_126 rfl rfl)))))
 (mk_lt
 (mk_lt
 (mk_eq (mk_ifeq X dX5_grows_127 rfl rfl))
 (mk_eq (mk_iconst X dX5_grows_130 rfl rfl)))
 (mk_lt
 (mk_eq (mk_goto X dX5_grows_131 rfl))
 (mk_lt
 (mk_eq (mk_iconst X dX5_grows_134 rfl rfl))
 (mk_eq (mk_ri X dX5_grows_135)))))))))
theorem sd_X5_grows {l : Launch} {w : ma_Wd} {NC : Nat} {A : Nat → Prop} {S_X5_hasProduct : ma_Cs} (hw : ma_Wo w YM NC A) (h_X5_hasProduct : ma_Sd l w YM NC A yX5_hasProduct cX5_hasProduct 4 (some .boolean) rm_X5_hasProduct S_X5_hasProduct) : ma_Sd l w YM NC A yX5_grows cX5_grows 5 (some .int) rm_X5_grows (ma_rn (tb_X5_grows S_X5_hasProduct) 5) := ma_of hw (by decide) ⟨rfl, rfl⟩ (fun X => tk_X5_grows h_X5_hasProduct X)
theorem dX5_tell_0 : decode cX5_tell 0 = .ok (.lload 5, 2) := by decide +kernel
theorem dX5_tell_2 : decode cX5_tell 2 = .ok (.ldc2_w 286, 3) := by decide +kernel
theorem dX5_tell_5 : decode cX5_tell 5 = .ok (.ldc2_w 288, 3) := by decide +kernel
theorem dX5_tell_8 : decode cX5_tell 8 = .ok (.invokestatic 128, 3) := by decide +kernel
theorem dX5_tell_11 : decode cX5_tell 11 = .ok (.ifCond .ne 12, 3) := by decide +kernel
theorem dX5_tell_14 : decode cX5_tell 14 = .ok (.lload 5, 2) := by decide +kernel
theorem dX5_tell_16 : decode cX5_tell 16 = .ok (.ldc2_w 122, 3) := by decide +kernel
theorem dX5_tell_19 : decode cX5_tell 19 = .ok (.lcmp, 1) := by decide +kernel
theorem dX5_tell_20 : decode cX5_tell 20 = .ok (.ifCond .ne 7, 3) := by decide +kernel
theorem dX5_tell_23 : decode cX5_tell 23 = .ok (.iconst 1, 1) := by decide +kernel
theorem dX5_tell_24 : decode cX5_tell 24 = .ok (.goto 4, 3) := by decide +kernel
theorem dX5_tell_27 : decode cX5_tell 27 = .ok (.iconst 0, 1) := by decide +kernel
theorem dX5_tell_28 : decode cX5_tell 28 = .ok (.istore 7, 2) := by decide +kernel
theorem dX5_tell_30 : decode cX5_tell 30 = .ok (.iload_n 1, 1) := by decide +kernel
theorem dX5_tell_31 : decode cX5_tell 31 = .ok (.i2l, 1) := by decide +kernel
theorem dX5_tell_32 : decode cX5_tell 32 = .ok (.lconst 0, 1) := by decide +kernel
theorem dX5_tell_33 : decode cX5_tell 33 = .ok (.ldc2_w 272, 3) := by decide +kernel
theorem dX5_tell_36 : decode cX5_tell 36 = .ok (.invokestatic 128, 3) := by decide +kernel
theorem dX5_tell_39 : decode cX5_tell 39 = .ok (.ifCond .eq 43, 3) := by decide +kernel
theorem dX5_tell_42 : decode cX5_tell 42 = .ok (.iload_n 2, 1) := by decide +kernel
theorem dX5_tell_43 : decode cX5_tell 43 = .ok (.invokestatic 146, 3) := by decide +kernel
theorem dX5_tell_46 : decode cX5_tell 46 = .ok (.ifCond .eq 36, 3) := by decide +kernel
theorem dX5_tell_49 : decode cX5_tell 49 = .ok (.iload 4, 2) := by decide +kernel
theorem dX5_tell_51 : decode cX5_tell 51 = .ok (.i2l, 1) := by decide +kernel
theorem dX5_tell_52 : decode cX5_tell 52 = .ok (.lconst 0, 1) := by decide +kernel
theorem dX5_tell_53 : decode cX5_tell 53 = .ok (.iload_n 3, 1) := by decide +kernel
theorem dX5_tell_54 : decode cX5_tell 54 = .ok (.ifCond .eq 10, 3) := by decide +kernel
theorem dX5_tell_57 : decode cX5_tell 57 = .ok (.aload_n 0, 1) := by decide +kernel
theorem dX5_tell_58 : decode cX5_tell 58 = .ok (.getfield 7, 3) := by decide +kernel
theorem dX5_tell_61 : decode cX5_tell 61 = .ok (.goto 7, 3) := by decide +kernel
theorem dX5_tell_64 : decode cX5_tell 64 = .ok (.aload_n 0, 1) := by decide +kernel
theorem dX5_tell_65 : decode cX5_tell 65 = .ok (.getfield 13, 3) := by decide +kernel
theorem dX5_tell_68 : decode cX5_tell 68 = .ok (.iconst 1, 1) := by decide +kernel
theorem dX5_tell_69 : decode cX5_tell 69 = .ok (.isub, 1) := by decide +kernel
theorem dX5_tell_70 : decode cX5_tell 70 = .ok (.i2l, 1) := by decide +kernel
theorem dX5_tell_71 : decode cX5_tell 71 = .ok (.invokestatic 128, 3) := by decide +kernel
theorem dX5_tell_74 : decode cX5_tell 74 = .ok (.ifCond .eq 8, 3) := by decide +kernel
theorem dX5_tell_77 : decode cX5_tell 77 = .ok (.iload 7, 2) := by decide +kernel
theorem dX5_tell_79 : decode cX5_tell 79 = .ok (.ifCond .ne 5, 3) := by decide +kernel
theorem dX5_tell_82 : decode cX5_tell 82 = .ok (.iconst (-1), 1) := by decide +kernel
theorem dX5_tell_83 : decode cX5_tell 83 = .ok (.ireturn, 1) := by decide +kernel
theorem dX5_tell_84 : decode cX5_tell 84 = .ok (.iload_n 1, 1) := by decide +kernel
theorem dX5_tell_85 : decode cX5_tell 85 = .ok (.aload_n 0, 1) := by decide +kernel
theorem dX5_tell_86 : decode cX5_tell 86 = .ok (.getfield 290, 3) := by decide +kernel
theorem dX5_tell_89 : decode cX5_tell 89 = .ok (.if_icmp .ne 11, 3) := by decide +kernel
theorem dX5_tell_92 : decode cX5_tell 92 = .ok (.iload_n 2, 1) := by decide +kernel
theorem dX5_tell_93 : decode cX5_tell 93 = .ok (.aload_n 0, 1) := by decide +kernel
theorem dX5_tell_94 : decode cX5_tell 94 = .ok (.getfield 293, 3) := by decide +kernel
theorem dX5_tell_97 : decode cX5_tell 97 = .ok (.if_icmp .eq 7, 3) := by decide +kernel
theorem dX5_tell_100 : decode cX5_tell 100 = .ok (.aload_n 0, 1) := by decide +kernel
theorem dX5_tell_101 : decode cX5_tell 101 = .ok (.invokevirtual 119, 3) := by decide +kernel
theorem dX5_tell_104 : decode cX5_tell 104 = .ok (.aload_n 0, 1) := by decide +kernel
theorem dX5_tell_105 : decode cX5_tell 105 = .ok (.iload_n 1, 1) := by decide +kernel
theorem dX5_tell_106 : decode cX5_tell 106 = .ok (.putfield 290, 3) := by decide +kernel
theorem dX5_tell_109 : decode cX5_tell 109 = .ok (.aload_n 0, 1) := by decide +kernel
theorem dX5_tell_110 : decode cX5_tell 110 = .ok (.iload_n 2, 1) := by decide +kernel
theorem dX5_tell_111 : decode cX5_tell 111 = .ok (.putfield 293, 3) := by decide +kernel
theorem dX5_tell_114 : decode cX5_tell 114 = .ok (.aload_n 0, 1) := by decide +kernel
theorem dX5_tell_115 : decode cX5_tell 115 = .ok (.getfield 68, 3) := by decide +kernel
theorem dX5_tell_118 : decode cX5_tell 118 = .ok (.iload_n 3, 1) := by decide +kernel
theorem dX5_tell_119 : decode cX5_tell 119 = .ok (.ifCond .eq 8, 3) := by decide +kernel
theorem dX5_tell_122 : decode cX5_tell 122 = .ok (.bipush 6, 2) := by decide +kernel
theorem dX5_tell_124 : decode cX5_tell 124 = .ok (.goto 4, 3) := by decide +kernel
theorem dX5_tell_127 : decode cX5_tell 127 = .ok (.iconst 0, 1) := by decide +kernel
theorem dX5_tell_128 : decode cX5_tell 128 = .ok (.iload 4, 2) := by decide +kernel
theorem dX5_tell_130 : decode cX5_tell 130 = .ok (.iadd, 1) := by decide +kernel
theorem dX5_tell_131 : decode cX5_tell 131 = .ok (.lload 5, 2) := by decide +kernel
theorem dX5_tell_133 : decode cX5_tell 133 = .ok (.lastore, 1) := by decide +kernel
theorem dX5_tell_134 : decode cX5_tell 134 = .ok (.iconst 0, 1) := by decide +kernel
theorem dX5_tell_135 : decode cX5_tell 135 = .ok (.ireturn, 1) := by decide +kernel
def tb_X5_tell (S_X5_in S_X5_isLetter S_X5_clears : ma_Cs) : Nat → ma_In := fun pc =>
 (if pc < 71 then
 (if pc < 36 then
 (if pc < 20 then
 (if pc < 11 then
 (if pc < 5 then
 (if pc < 2 then
 (if pc = 0 then in_lld 5 2 else in_no) else
 (if pc = 2 then in_push (.long (-1000000000000)) 5 else in_no)) else
 (if pc < 8 then
 (if pc = 5 then in_push (.long 1000000000000) 8 else in_no) else
 (if pc = 8 then in_s3 S_X5_in 11 else in_no))) else
 (if pc < 16 then
 (if pc < 14 then
 (if pc = 11 then in_if1 (fun x => x = 0) 14 23 else in_no) else
 (if pc = 14 then in_lld 5 16 else in_no)) else
 (if pc < 19 then
 (if pc = 16 then in_push (.long 2000000000000) 19 else in_no) else
 (if pc = 19 then in_lli lg_cmp 20 else in_no)))) else
 (if pc < 28 then
 (if pc < 24 then
 (if pc < 23 then
 (if pc = 20 then in_if1 (fun x => x = 0) 23 27 else in_no) else
 (if pc = 23 then in_push (.int 1) 24 else in_no)) else
 (if pc < 27 then
 (if pc = 24 then in_go 28 else in_no) else
 (if pc = 27 then in_push (.int 0) 28 else in_no))) else
 (if pc < 31 then
 (if pc < 30 then
 (if pc = 28 then in_ist 7 30 else in_no) else
 (if pc = 30 then in_ild 1 31 else in_no)) else
 (if pc < 32 then
 (if pc = 31 then in_il (fun x => x.toInt64) 32 else in_no) else
 (if pc < 33 then
 (if pc = 32 then in_push (.long 0) 33 else in_no) else
 (if pc = 33 then in_push (.long 12) 36 else in_no)))))) else
 (if pc < 54 then
 (if pc < 46 then
 (if pc < 42 then
 (if pc < 39 then
 (if pc = 36 then in_s3 S_X5_in 39 else in_no) else
 (if pc = 39 then in_if1 (fun x => x = 0) 82 42 else in_no)) else
 (if pc < 43 then
 (if pc = 42 then in_ild 2 43 else in_no) else
 (if pc = 43 then in_s1 S_X5_isLetter 46 else in_no))) else
 (if pc < 51 then
 (if pc < 49 then
 (if pc = 46 then in_if1 (fun x => x = 0) 82 49 else in_no) else
 (if pc = 49 then in_ild 4 51 else in_no)) else
 (if pc < 52 then
 (if pc = 51 then in_il (fun x => x.toInt64) 52 else in_no) else
 (if pc < 53 then
 (if pc = 52 then in_push (.long 0) 53 else in_no) else
 (if pc = 53 then in_ild 3 54 else in_no))))) else
 (if pc < 64 then
 (if pc < 58 then
 (if pc < 57 then
 (if pc = 54 then in_if1 (fun x => x = 0) 64 57 else in_no) else
 (if pc = 57 then in_ald 0 58 else in_no)) else
 (if pc < 61 then
 (if pc = 58 then in_get YM 5 0 61 else in_no) else
 (if pc = 61 then in_go 68 else in_no))) else
 (if pc < 68 then
 (if pc < 65 then
 (if pc = 64 then in_ald 0 65 else in_no) else
 (if pc = 65 then in_get YM 5 1 68 else in_no)) else
 (if pc < 69 then
 (if pc = 68 then in_push (.int 1) 69 else in_no) else
 (if pc < 70 then
 (if pc = 69 then in_iii (fun x y => x - y) 70 else in_no) else
 (if pc = 70 then in_il (fun x => x.toInt64) 71 else in_no))))))) else
 (if pc < 105 then
 (if pc < 86 then
 (if pc < 82 then
 (if pc < 77 then
 (if pc < 74 then
 (if pc = 71 then in_s3 S_X5_in 74 else in_no) else
 (if pc = 74 then in_if1 (fun x => x = 0) 82 77 else in_no)) else
 (if pc < 79 then
 (if pc = 77 then in_ild 7 79 else in_no) else
 (if pc = 79 then in_if1 (fun x => x = 0) 82 84 else in_no))) else
 (if pc < 84 then
 (if pc < 83 then
 (if pc = 82 then in_push (.int (-1)) 83 else in_no) else
 (if pc = 83 then in_ri else in_no)) else
 (if pc < 85 then
 (if pc = 84 then in_ild 1 85 else in_no) else
 (if pc = 85 then in_ald 0 86 else in_no)))) else
 (if pc < 94 then
 (if pc < 92 then
 (if pc < 89 then
 (if pc = 86 then in_get YM 5 24 89 else in_no) else
 (if pc = 89 then in_if2 (fun x y => x = y) 92 100 else in_no)) else
 (if pc < 93 then
 (if pc = 92 then in_ild 2 93 else in_no) else
 (if pc = 93 then in_ald 0 94 else in_no))) else
 (if pc < 100 then
 (if pc < 97 then
 (if pc = 94 then in_get YM 5 25 97 else in_no) else
 (if pc = 97 then in_if2 (fun x y => x = y) 104 100 else in_no)) else
 (if pc < 101 then
 (if pc = 100 then in_ald 0 101 else in_no) else
 (if pc < 104 then
 (if pc = 101 then in_v1 YM 5 S_X5_clears 104 else in_no) else
 (if pc = 104 then in_ald 0 105 else in_no)))))) else
 (if pc < 122 then
 (if pc < 111 then
 (if pc < 109 then
 (if pc < 106 then
 (if pc = 105 then in_ild 1 106 else in_no) else
 (if pc = 106 then in_put YM 5 24 109 else in_no)) else
 (if pc < 110 then
 (if pc = 109 then in_ald 0 110 else in_no) else
 (if pc = 110 then in_ild 2 111 else in_no))) else
 (if pc < 115 then
 (if pc < 114 then
 (if pc = 111 then in_put YM 5 25 114 else in_no) else
 (if pc = 114 then in_ald 0 115 else in_no)) else
 (if pc < 118 then
 (if pc = 115 then in_get YM 5 26 118 else in_no) else
 (if pc < 119 then
 (if pc = 118 then in_ild 3 119 else in_no) else
 (if pc = 119 then in_if1 (fun x => x = 0) 127 122 else in_no))))) else
 (if pc < 130 then
 (if pc < 127 then
 (if pc < 124 then
 (if pc = 122 then in_push (.int 6) 124 else in_no) else
 (if pc = 124 then in_go 128 else in_no)) else
 (if pc < 128 then
 (if pc = 127 then in_push (.int 0) 128 else in_no) else
 (if pc = 128 then in_ild 4 130 else in_no))) else
 (if pc < 133 then
 (if pc < 131 then
 (if pc = 130 then in_iii (fun x y => x + y) 131 else in_no) else
 (if pc = 131 then in_lld 5 133 else in_no)) else
 (if pc < 134 then
 (if pc = 133 then in_law YM 134 else in_no) else
 (if pc < 135 then
 (if pc = 134 then in_push (.int 0) 135 else in_no) else
 (if pc = 135 then in_ri else in_no))))))))
theorem tk_X5_tell {l : Launch} {w : ma_Wd} {NC : Nat} {A : Nat → Prop} {S_X5_in S_X5_isLetter S_X5_clears : ma_Cs} (h_X5_in : ma_Sd l w YM NC A yX5_in cX5_in 6 (some .boolean) rm_X5_in S_X5_in) (h_X5_isLetter : ma_Sd l w YM NC A yX5_isLetter cX5_isLetter 1 (some .boolean) rm_X5_isLetter S_X5_isLetter) (h_X5_clears : ma_Sd l w YM NC A yX5_clears cX5_clears 2 none rm_X5_clears S_X5_clears) {p : Program} {e : Env} {s : State} {m : MethodId} {args : Array Value} {below : List Frame} {meth : Method} {c : Code} (X : ma_Cx p s m args meth c w YM NC A yX5_tell.cls cX5_tell 8 (some .int)) : ∀ pc, ma_Ok p l e rm_X5_tell s m args below meth c w YM NC A 8 pc (tb_X5_tell S_X5_in S_X5_isLetter S_X5_clears pc) := fun pc =>
 (mk_lt
 (mk_lt
 (mk_lt
 (mk_lt
 (mk_lt
 (mk_lt
 (mk_eq (mk_lload X dX5_tell_0 rfl))
 (mk_eq (mk_ldc2 X dX5_tell_2 q1080 rfl)))
 (mk_lt
 (mk_eq (mk_ldc2 X dX5_tell_5 q1081 rfl))
 (mk_eq (mk_S3 X h_X5_in (lw_S q892 q893 q66 q894) ⟨by decide, by decide, rfl⟩ ⟨(Nat.le_of_ble_eq_true rfl), (Nat.le_of_ble_eq_true rfl)⟩ dX5_tell_8 rfl))))
 (mk_lt
 (mk_lt
 (mk_eq (mk_ifne X dX5_tell_11 rfl rfl))
 (mk_eq (mk_lload X dX5_tell_14 rfl)))
 (mk_lt
 (mk_eq (mk_ldc2 X dX5_tell_16 q746 rfl))
 (mk_eq (mk_lcmp X dX5_tell_19 rfl)))))
 (mk_lt
 (mk_lt
 (mk_lt
 (mk_eq (mk_ifne X dX5_tell_20 rfl rfl))
 (mk_eq (mk_iconst X dX5_tell_23 rfl rfl)))
 (mk_lt
 (mk_eq (mk_goto X dX5_tell_24 rfl))
 (mk_eq (mk_iconst X dX5_tell_27 rfl rfl))))
 (mk_lt
 (mk_lt
 (mk_eq (mk_istore X dX5_tell_28 (Nat.le_of_ble_eq_true rfl) rfl))
 (mk_eq (mk_iload_n X dX5_tell_30 rfl rfl)))
 (mk_lt
 (mk_eq (mk_i2l X dX5_tell_31 rfl))
 (mk_lt
 (mk_eq (mk_lconst X dX5_tell_32 rfl rfl))
 (mk_eq (mk_ldc2 X dX5_tell_33 q989 rfl)))))))
 (mk_lt
 (mk_lt
 (mk_lt
 (mk_lt
 (mk_eq (mk_S3 X h_X5_in (lw_S q892 q893 q66 q894) ⟨by decide, by decide, rfl⟩ ⟨(Nat.le_of_ble_eq_true rfl), (Nat.le_of_ble_eq_true rfl)⟩ dX5_tell_36 rfl))
 (mk_eq (mk_ifeq X dX5_tell_39 rfl rfl)))
 (mk_lt
 (mk_eq (mk_iload_n X dX5_tell_42 rfl rfl))
 (mk_eq (mk_S1 X h_X5_isLetter (lw_S q908 q909 q66 q910) ⟨by decide, by decide, rfl⟩ ⟨(Nat.le_of_ble_eq_true rfl), (Nat.le_of_ble_eq_true rfl)⟩ dX5_tell_43 rfl))))
 (mk_lt
 (mk_lt
 (mk_eq (mk_ifeq X dX5_tell_46 rfl rfl))
 (mk_eq (mk_iload X dX5_tell_49 rfl)))
 (mk_lt
 (mk_eq (mk_i2l X dX5_tell_51 rfl))
 (mk_lt
 (mk_eq (mk_lconst X dX5_tell_52 rfl rfl))
 (mk_eq (mk_iload_n X dX5_tell_53 rfl rfl))))))
 (mk_lt
 (mk_lt
 (mk_lt
 (mk_eq (mk_ifeq X dX5_tell_54 rfl rfl))
 (mk_eq (mk_aload_n X dX5_tell_57 rfl rfl)))
 (mk_lt
 (mk_eq (mk_get X (ci := 5) (j := 0) rfl in_X5 (Nat.le_of_ble_eq_true rfl) q747 dX5_tell_58 rfl))
 (mk_eq (mk_goto X dX5_tell_61 rfl))))
 (mk_lt
 (mk_lt
 (mk_eq (mk_aload_n X dX5_tell_64 rfl rfl))
 (mk_eq (mk_get X (ci := 5) (j := 1) rfl in_X5 (Nat.le_of_ble_eq_true rfl) q748 dX5_tell_65 rfl)))
 (mk_lt
 (mk_eq (mk_iconst X dX5_tell_68 rfl rfl))
 (mk_lt
 (mk_eq (mk_isub X dX5_tell_69 rfl))
 (mk_eq (mk_i2l X dX5_tell_70 rfl))))))))
 (mk_lt
 (mk_lt
 (mk_lt
 (mk_lt
 (mk_lt
 (mk_eq (mk_S3 X h_X5_in (lw_S q892 q893 q66 q894) ⟨by decide, by decide, rfl⟩ ⟨(Nat.le_of_ble_eq_true rfl), (Nat.le_of_ble_eq_true rfl)⟩ dX5_tell_71 rfl))
 (mk_eq (mk_ifeq X dX5_tell_74 rfl rfl)))
 (mk_lt
 (mk_eq (mk_iload X dX5_tell_77 rfl))
 (mk_eq (mk_ifne X dX5_tell_79 rfl rfl))))
 (mk_lt
 (mk_lt
 (mk_eq (mk_iconst X dX5_tell_82 rfl rfl))
 (mk_eq (mk_ri X dX5_tell_83)))
 (mk_lt
 (mk_eq (mk_iload_n X dX5_tell_84 rfl rfl))
 (mk_eq (mk_aload_n X dX5_tell_85 rfl rfl)))))
 (mk_lt
 (mk_lt
 (mk_lt
 (mk_eq (mk_get X (ci := 5) (j := 24) rfl in_X5 (Nat.le_of_ble_eq_true rfl) q771 dX5_tell_86 rfl))
 (mk_eq (mk_icne X dX5_tell_89 rfl rfl)))
 (mk_lt
 (mk_eq (mk_iload_n X dX5_tell_92 rfl rfl))
 (mk_eq (mk_aload_n X dX5_tell_93 rfl rfl))))
 (mk_lt
 (mk_lt
 (mk_eq (mk_get X (ci := 5) (j := 25) rfl in_X5 (Nat.le_of_ble_eq_true rfl) q772 dX5_tell_94 rfl))
 (mk_eq (mk_iceq X dX5_tell_97 rfl rfl)))
 (mk_lt
 (mk_eq (mk_aload_n X dX5_tell_100 rfl rfl))
 (mk_lt
 (mk_eq (mk_V1 X h_X5_clears (ci := 5) rfl (lw_V q742 q744 qs29 q66 q745) ⟨rfl, by decide, by decide, rfl⟩ ⟨(Nat.le_of_ble_eq_true rfl), (Nat.le_of_ble_eq_true rfl)⟩ dX5_tell_101 rfl))
 (mk_eq (mk_aload_n X dX5_tell_104 rfl rfl)))))))
 (mk_lt
 (mk_lt
 (mk_lt
 (mk_lt
 (mk_eq (mk_iload_n X dX5_tell_105 rfl rfl))
 (mk_eq (mk_put X (ci := 5) (j := 24) rfl in_X5 tyX5_ok nmX5 (Nat.le_of_ble_eq_true rfl) rfl rfl q771 dX5_tell_106 rfl)))
 (mk_lt
 (mk_eq (mk_aload_n X dX5_tell_109 rfl rfl))
 (mk_eq (mk_iload_n X dX5_tell_110 rfl rfl))))
 (mk_lt
 (mk_lt
 (mk_eq (mk_put X (ci := 5) (j := 25) rfl in_X5 tyX5_ok nmX5 (Nat.le_of_ble_eq_true rfl) rfl rfl q772 dX5_tell_111 rfl))
 (mk_eq (mk_aload_n X dX5_tell_114 rfl rfl)))
 (mk_lt
 (mk_eq (mk_get X (ci := 5) (j := 26) rfl in_X5 (Nat.le_of_ble_eq_true rfl) q773 dX5_tell_115 rfl))
 (mk_lt
 (mk_eq (mk_iload_n X dX5_tell_118 rfl rfl))
 (mk_eq (mk_ifeq X dX5_tell_119 rfl rfl))))))
 (mk_lt
 (mk_lt
 (mk_lt
 (mk_eq (mk_bipush X dX5_tell_122 rfl rfl))
 (mk_eq (mk_goto X dX5_tell_124 rfl)))
 (mk_lt
 (mk_eq (mk_iconst X dX5_tell_127 rfl rfl))
 (mk_eq (mk_iload X dX5_tell_128 rfl))))
 (mk_lt
 (mk_lt
 (mk_eq (mk_iadd X dX5_tell_130 rfl))
 (mk_eq (mk_lload X dX5_tell_131 rfl)))
 (mk_lt
 (mk_eq (mk_law X dX5_tell_133 rfl))
 (mk_lt
 (mk_eq (mk_iconst X dX5_tell_134 rfl rfl))
 (mk_eq (mk_ri X dX5_tell_135)))))))))
theorem sd_X5_tell {l : Launch} {w : ma_Wd} {NC : Nat} {A : Nat → Prop} {S_X5_in S_X5_isLetter S_X5_clears : ma_Cs} (hw : ma_Wo w YM NC A) (h_X5_in : ma_Sd l w YM NC A yX5_in cX5_in 6 (some .boolean) rm_X5_in S_X5_in) (h_X5_isLetter : ma_Sd l w YM NC A yX5_isLetter cX5_isLetter 1 (some .boolean) rm_X5_isLetter S_X5_isLetter) (h_X5_clears : ma_Sd l w YM NC A yX5_clears cX5_clears 2 none rm_X5_clears S_X5_clears) : ma_Sd l w YM NC A yX5_tell cX5_tell 8 (some .int) rm_X5_tell (ma_rn (tb_X5_tell S_X5_in S_X5_isLetter S_X5_clears) 8) := ma_of hw (by decide) ⟨rfl, rfl⟩ (fun X => tk_X5_tell h_X5_in h_X5_isLetter h_X5_clears X)
theorem dX5_fails_2_0 : decode cX5_fails_2 0 = .ok (.aload_n 0, 1) := by decide +kernel
theorem dX5_fails_2_1 : decode cX5_fails_2 1 = .ok (.invokevirtual 296, 3) := by decide +kernel
theorem dX5_fails_2_4 : decode cX5_fails_2 4 = .ok (.ifCond .ne 6, 3) := by decide +kernel
theorem dX5_fails_2_7 : decode cX5_fails_2 7 = .ok (.bipush (-2), 2) := by decide +kernel
theorem dX5_fails_2_9 : decode cX5_fails_2 9 = .ok (.ireturn, 1) := by decide +kernel
theorem dX5_fails_2_10 : decode cX5_fails_2 10 = .ok (.iconst 0, 1) := by decide +kernel
theorem dX5_fails_2_11 : decode cX5_fails_2 11 = .ok (.istore_n 1, 1) := by decide +kernel
theorem dX5_fails_2_12 : decode cX5_fails_2 12 = .ok (.iconst 0, 1) := by decide +kernel
theorem dX5_fails_2_13 : decode cX5_fails_2 13 = .ok (.istore_n 2, 1) := by decide +kernel
theorem dX5_fails_2_14 : decode cX5_fails_2 14 = .ok (.iload_n 2, 1) := by decide +kernel
theorem dX5_fails_2_15 : decode cX5_fails_2 15 = .ok (.bipush 12, 2) := by decide +kernel
theorem dX5_fails_2_17 : decode cX5_fails_2 17 = .ok (.if_icmp .ge 48, 3) := by decide +kernel
theorem dX5_fails_2_20 : decode cX5_fails_2 20 = .ok (.iload_n 1, 1) := by decide +kernel
theorem dX5_fails_2_21 : decode cX5_fails_2 21 = .ok (.aload_n 0, 1) := by decide +kernel
theorem dX5_fails_2_22 : decode cX5_fails_2 22 = .ok (.getfield 68, 3) := by decide +kernel
theorem dX5_fails_2_25 : decode cX5_fails_2 25 = .ok (.iload_n 2, 1) := by decide +kernel
theorem dX5_fails_2_26 : decode cX5_fails_2 26 = .ok (.laload, 1) := by decide +kernel
theorem dX5_fails_2_27 : decode cX5_fails_2 27 = .ok (.ldc2_w 122, 3) := by decide +kernel
theorem dX5_fails_2_30 : decode cX5_fails_2 30 = .ok (.lcmp, 1) := by decide +kernel
theorem dX5_fails_2_31 : decode cX5_fails_2 31 = .ok (.ifCond .eq 25, 3) := by decide +kernel
theorem dX5_fails_2_34 : decode cX5_fails_2 34 = .ok (.aload_n 0, 1) := by decide +kernel
theorem dX5_fails_2_35 : decode cX5_fails_2 35 = .ok (.getfield 68, 3) := by decide +kernel
theorem dX5_fails_2_38 : decode cX5_fails_2 38 = .ok (.iload_n 2, 1) := by decide +kernel
theorem dX5_fails_2_39 : decode cX5_fails_2 39 = .ok (.laload, 1) := by decide +kernel
theorem dX5_fails_2_40 : decode cX5_fails_2 40 = .ok (.aload_n 0, 1) := by decide +kernel
theorem dX5_fails_2_41 : decode cX5_fails_2 41 = .ok (.getfield 94, 3) := by decide +kernel
theorem dX5_fails_2_44 : decode cX5_fails_2 44 = .ok (.iload_n 2, 1) := by decide +kernel
theorem dX5_fails_2_45 : decode cX5_fails_2 45 = .ok (.laload, 1) := by decide +kernel
theorem dX5_fails_2_46 : decode cX5_fails_2 46 = .ok (.lcmp, 1) := by decide +kernel
theorem dX5_fails_2_47 : decode cX5_fails_2 47 = .ok (.ifCond .eq 9, 3) := by decide +kernel
theorem dX5_fails_2_50 : decode cX5_fails_2 50 = .ok (.iconst 1, 1) := by decide +kernel
theorem dX5_fails_2_51 : decode cX5_fails_2 51 = .ok (.iload_n 2, 1) := by decide +kernel
theorem dX5_fails_2_52 : decode cX5_fails_2 52 = .ok (.ishl, 1) := by decide +kernel
theorem dX5_fails_2_53 : decode cX5_fails_2 53 = .ok (.goto 4, 3) := by decide +kernel
theorem dX5_fails_2_56 : decode cX5_fails_2 56 = .ok (.iconst 0, 1) := by decide +kernel
theorem dX5_fails_2_57 : decode cX5_fails_2 57 = .ok (.ior, 1) := by decide +kernel
theorem dX5_fails_2_58 : decode cX5_fails_2 58 = .ok (.istore_n 1, 1) := by decide +kernel
theorem dX5_fails_2_59 : decode cX5_fails_2 59 = .ok (.iinc 2 1, 3) := by decide +kernel
theorem dX5_fails_2_62 : decode cX5_fails_2 62 = .ok (.goto (-48), 3) := by decide +kernel
theorem dX5_fails_2_65 : decode cX5_fails_2 65 = .ok (.iload_n 1, 1) := by decide +kernel
theorem dX5_fails_2_66 : decode cX5_fails_2 66 = .ok (.ireturn, 1) := by decide +kernel
def tb_X5_fails_2 (S_X5_tells : ma_Cs) : Nat → ma_In := fun pc =>
 (if pc < 34 then
 (if pc < 15 then
 (if pc < 10 then
 (if pc < 4 then
 (if pc < 1 then
 (if pc = 0 then in_ald 0 1 else in_no) else
 (if pc = 1 then in_v1 YM 5 S_X5_tells 4 else in_no)) else
 (if pc < 7 then
 (if pc = 4 then in_if1 (fun x => x = 0) 7 10 else in_no) else
 (if pc < 9 then
 (if pc = 7 then in_push (.int (-2)) 9 else in_no) else
 (if pc = 9 then in_ri else in_no)))) else
 (if pc < 12 then
 (if pc < 11 then
 (if pc = 10 then in_push (.int 0) 11 else in_no) else
 (if pc = 11 then in_ist 1 12 else in_no)) else
 (if pc < 13 then
 (if pc = 12 then in_push (.int 0) 13 else in_no) else
 (if pc < 14 then
 (if pc = 13 then in_ist 2 14 else in_no) else
 (if pc = 14 then in_ild 2 15 else in_no))))) else
 (if pc < 25 then
 (if pc < 20 then
 (if pc < 17 then
 (if pc = 15 then in_push (.int 12) 17 else in_no) else
 (if pc = 17 then in_if2 (fun x y => y ≤ x) 65 20 else in_no)) else
 (if pc < 21 then
 (if pc = 20 then in_ild 1 21 else in_no) else
 (if pc < 22 then
 (if pc = 21 then in_ald 0 22 else in_no) else
 (if pc = 22 then in_get YM 5 26 25 else in_no)))) else
 (if pc < 27 then
 (if pc < 26 then
 (if pc = 25 then in_ild 2 26 else in_no) else
 (if pc = 26 then in_lar YM 27 else in_no)) else
 (if pc < 30 then
 (if pc = 27 then in_push (.long 2000000000000) 30 else in_no) else
 (if pc < 31 then
 (if pc = 30 then in_lli lg_cmp 31 else in_no) else
 (if pc = 31 then in_if1 (fun x => x = 0) 56 34 else in_no)))))) else
 (if pc < 50 then
 (if pc < 41 then
 (if pc < 38 then
 (if pc < 35 then
 (if pc = 34 then in_ald 0 35 else in_no) else
 (if pc = 35 then in_get YM 5 26 38 else in_no)) else
 (if pc < 39 then
 (if pc = 38 then in_ild 2 39 else in_no) else
 (if pc < 40 then
 (if pc = 39 then in_lar YM 40 else in_no) else
 (if pc = 40 then in_ald 0 41 else in_no)))) else
 (if pc < 45 then
 (if pc < 44 then
 (if pc = 41 then in_get YM 5 40 44 else in_no) else
 (if pc = 44 then in_ild 2 45 else in_no)) else
 (if pc < 46 then
 (if pc = 45 then in_lar YM 46 else in_no) else
 (if pc < 47 then
 (if pc = 46 then in_lli lg_cmp 47 else in_no) else
 (if pc = 47 then in_if1 (fun x => x = 0) 56 50 else in_no))))) else
 (if pc < 57 then
 (if pc < 52 then
 (if pc < 51 then
 (if pc = 50 then in_push (.int 1) 51 else in_no) else
 (if pc = 51 then in_ild 2 52 else in_no)) else
 (if pc < 53 then
 (if pc = 52 then in_iii (fun x y => x <<< (y &&& 31)) 53 else in_no) else
 (if pc < 56 then
 (if pc = 53 then in_go 57 else in_no) else
 (if pc = 56 then in_push (.int 0) 57 else in_no)))) else
 (if pc < 62 then
 (if pc < 58 then
 (if pc = 57 then in_iii (fun x y => x ||| y) 58 else in_no) else
 (if pc < 59 then
 (if pc = 58 then in_ist 1 59 else in_no) else
 (if pc = 59 then in_inc 2 1 62 else in_no))) else
 (if pc < 65 then
 (if pc = 62 then in_go 14 else in_no) else
 (if pc < 66 then
 (if pc = 65 then in_ild 1 66 else in_no) else
 (if pc = 66 then in_ri else in_no)))))))
theorem tk_X5_fails_2 {l : Launch} {w : ma_Wd} {NC : Nat} {A : Nat → Prop} {S_X5_tells : ma_Cs} (h_X5_tells : ma_Sd l w YM NC A yX5_tells cX5_tells 4 (some .int) rm_X5_tells S_X5_tells) {p : Program} {e : Env} {s : State} {m : MethodId} {args : Array Value} {below : List Frame} {meth : Method} {c : Code} (X : ma_Cx p s m args meth c w YM NC A yX5_fails_2.cls cX5_fails_2 3 (some .int)) : ∀ pc, ma_Ok p l e rm_X5_fails_2 s m args below meth c w YM NC A 3 pc (tb_X5_fails_2 S_X5_tells pc) := fun pc =>
 (mk_lt
 (mk_lt
 (mk_lt
 (mk_lt
 (mk_lt
 (mk_eq (mk_aload_n X dX5_fails_2_0 rfl rfl))
 (mk_eq (mk_V1 X h_X5_tells (ci := 5) rfl (lw_V q1086 q1088 qs51 q66 q1089) ⟨rfl, by decide, by decide, rfl⟩ ⟨(Nat.le_of_ble_eq_true rfl), (Nat.le_of_ble_eq_true rfl)⟩ dX5_fails_2_1 rfl)))
 (mk_lt
 (mk_eq (mk_ifne X dX5_fails_2_4 rfl rfl))
 (mk_lt
 (mk_eq (mk_bipush X dX5_fails_2_7 rfl rfl))
 (mk_eq (mk_ri X dX5_fails_2_9)))))
 (mk_lt
 (mk_lt
 (mk_eq (mk_iconst X dX5_fails_2_10 rfl rfl))
 (mk_eq (mk_istore_n X dX5_fails_2_11 rfl (Nat.le_of_ble_eq_true rfl) rfl)))
 (mk_lt
 (mk_eq (mk_iconst X dX5_fails_2_12 rfl rfl))
 (mk_lt
 (mk_eq (mk_istore_n X dX5_fails_2_13 rfl (Nat.le_of_ble_eq_true rfl) rfl))
 (mk_eq (mk_iload_n X dX5_fails_2_14 rfl rfl))))))
 (mk_lt
 (mk_lt
 (mk_lt
 (mk_eq (mk_bipush X dX5_fails_2_15 rfl rfl))
 (mk_eq (mk_icge X dX5_fails_2_17 rfl rfl)))
 (mk_lt
 (mk_eq (mk_iload_n X dX5_fails_2_20 rfl rfl))
 (mk_lt
 (mk_eq (mk_aload_n X dX5_fails_2_21 rfl rfl))
 (mk_eq (mk_get X (ci := 5) (j := 26) rfl in_X5 (Nat.le_of_ble_eq_true rfl) q773 dX5_fails_2_22 rfl)))))
 (mk_lt
 (mk_lt
 (mk_eq (mk_iload_n X dX5_fails_2_25 rfl rfl))
 (mk_eq (mk_lar X dX5_fails_2_26 rfl)))
 (mk_lt
 (mk_eq (mk_ldc2 X dX5_fails_2_27 q746 rfl))
 (mk_lt
 (mk_eq (mk_lcmp X dX5_fails_2_30 rfl))
 (mk_eq (mk_ifeq X dX5_fails_2_31 rfl rfl)))))))
 (mk_lt
 (mk_lt
 (mk_lt
 (mk_lt
 (mk_eq (mk_aload_n X dX5_fails_2_34 rfl rfl))
 (mk_eq (mk_get X (ci := 5) (j := 26) rfl in_X5 (Nat.le_of_ble_eq_true rfl) q773 dX5_fails_2_35 rfl)))
 (mk_lt
 (mk_eq (mk_iload_n X dX5_fails_2_38 rfl rfl))
 (mk_lt
 (mk_eq (mk_lar X dX5_fails_2_39 rfl))
 (mk_eq (mk_aload_n X dX5_fails_2_40 rfl rfl)))))
 (mk_lt
 (mk_lt
 (mk_eq (mk_get X (ci := 5) (j := 40) rfl in_X5 (Nat.le_of_ble_eq_true rfl) q787 dX5_fails_2_41 rfl))
 (mk_eq (mk_iload_n X dX5_fails_2_44 rfl rfl)))
 (mk_lt
 (mk_eq (mk_lar X dX5_fails_2_45 rfl))
 (mk_lt
 (mk_eq (mk_lcmp X dX5_fails_2_46 rfl))
 (mk_eq (mk_ifeq X dX5_fails_2_47 rfl rfl))))))
 (mk_lt
 (mk_lt
 (mk_lt
 (mk_eq (mk_iconst X dX5_fails_2_50 rfl rfl))
 (mk_eq (mk_iload_n X dX5_fails_2_51 rfl rfl)))
 (mk_lt
 (mk_eq (mk_ishl X dX5_fails_2_52 rfl))
 (mk_lt
 (mk_eq (mk_goto X dX5_fails_2_53 rfl))
 (mk_eq (mk_iconst X dX5_fails_2_56 rfl rfl)))))
 (mk_lt
 (mk_lt
 (mk_eq (mk_ior X dX5_fails_2_57 rfl))
 (mk_lt
 (mk_eq (mk_istore_n X dX5_fails_2_58 rfl (Nat.le_of_ble_eq_true rfl) rfl))
 (mk_eq (mk_iinc X dX5_fails_2_59 rfl (Nat.le_of_ble_eq_true rfl) rfl))))
 (mk_lt
 (mk_eq (mk_goto X dX5_fails_2_62 rfl))
 (mk_lt
 (mk_eq (mk_iload_n X dX5_fails_2_65 rfl rfl))
 (mk_eq (mk_ri X dX5_fails_2_66))))))))
theorem sd_X5_fails_2 {l : Launch} {w : ma_Wd} {NC : Nat} {A : Nat → Prop} {S_X5_tells : ma_Cs} (hw : ma_Wo w YM NC A) (h_X5_tells : ma_Sd l w YM NC A yX5_tells cX5_tells 4 (some .int) rm_X5_tells S_X5_tells) : ma_Sd l w YM NC A yX5_fails_2 cX5_fails_2 3 (some .int) rm_X5_fails_2 (ma_rn (tb_X5_fails_2 S_X5_tells) 3) := ma_of hw (by decide) ⟨rfl, rfl⟩ (fun X => tk_X5_fails_2 h_X5_tells X)
theorem dX5_tells_0 : decode cX5_tells 0 = .ok (.iconst 0, 1) := by decide +kernel
theorem dX5_tells_1 : decode cX5_tells 1 = .ok (.istore_n 1, 1) := by decide +kernel
theorem dX5_tells_2 : decode cX5_tells 2 = .ok (.iconst 0, 1) := by decide +kernel
theorem dX5_tells_3 : decode cX5_tells 3 = .ok (.istore_n 2, 1) := by decide +kernel
theorem dX5_tells_4 : decode cX5_tells 4 = .ok (.iload_n 2, 1) := by decide +kernel
theorem dX5_tells_5 : decode cX5_tells 5 = .ok (.bipush 12, 2) := by decide +kernel
theorem dX5_tells_7 : decode cX5_tells 7 = .ok (.if_icmp .ge 37, 3) := by decide +kernel
theorem dX5_tells_10 : decode cX5_tells 10 = .ok (.iload_n 1, 1) := by decide +kernel
theorem dX5_tells_11 : decode cX5_tells 11 = .ok (.aload_n 0, 1) := by decide +kernel
theorem dX5_tells_12 : decode cX5_tells 12 = .ok (.getfield 68, 3) := by decide +kernel
theorem dX5_tells_15 : decode cX5_tells 15 = .ok (.iload_n 2, 1) := by decide +kernel
theorem dX5_tells_16 : decode cX5_tells 16 = .ok (.laload, 1) := by decide +kernel
theorem dX5_tells_17 : decode cX5_tells 17 = .ok (.ldc2_w 122, 3) := by decide +kernel
theorem dX5_tells_20 : decode cX5_tells 20 = .ok (.lcmp, 1) := by decide +kernel
theorem dX5_tells_21 : decode cX5_tells 21 = .ok (.ifCond .ne 7, 3) := by decide +kernel
theorem dX5_tells_24 : decode cX5_tells 24 = .ok (.iconst 0, 1) := by decide +kernel
theorem dX5_tells_25 : decode cX5_tells 25 = .ok (.goto 4, 3) := by decide +kernel
theorem dX5_tells_28 : decode cX5_tells 28 = .ok (.iconst 1, 1) := by decide +kernel
theorem dX5_tells_29 : decode cX5_tells 29 = .ok (.iadd, 1) := by decide +kernel
theorem dX5_tells_30 : decode cX5_tells 30 = .ok (.istore_n 1, 1) := by decide +kernel
theorem dX5_tells_31 : decode cX5_tells 31 = .ok (.aload_n 0, 1) := by decide +kernel
theorem dX5_tells_32 : decode cX5_tells 32 = .ok (.getfield 94, 3) := by decide +kernel
theorem dX5_tells_35 : decode cX5_tells 35 = .ok (.iload_n 2, 1) := by decide +kernel
theorem dX5_tells_36 : decode cX5_tells 36 = .ok (.lconst 0, 1) := by decide +kernel
theorem dX5_tells_37 : decode cX5_tells 37 = .ok (.lastore, 1) := by decide +kernel
theorem dX5_tells_38 : decode cX5_tells 38 = .ok (.iinc 2 1, 3) := by decide +kernel
theorem dX5_tells_41 : decode cX5_tells 41 = .ok (.goto (-37), 3) := by decide +kernel
theorem dX5_tells_44 : decode cX5_tells 44 = .ok (.aload_n 0, 1) := by decide +kernel
theorem dX5_tells_45 : decode cX5_tells 45 = .ok (.aload_n 0, 1) := by decide +kernel
theorem dX5_tells_46 : decode cX5_tells 46 = .ok (.getfield 84, 3) := by decide +kernel
theorem dX5_tells_49 : decode cX5_tells 49 = .ok (.aload_n 0, 1) := by decide +kernel
theorem dX5_tells_50 : decode cX5_tells 50 = .ok (.invokevirtual 278, 3) := by decide +kernel
theorem dX5_tells_53 : decode cX5_tells 53 = .ok (.invokevirtual 281, 3) := by decide +kernel
theorem dX5_tells_56 : decode cX5_tells 56 = .ok (.iconst 0, 1) := by decide +kernel
theorem dX5_tells_57 : decode cX5_tells 57 = .ok (.istore_n 2, 1) := by decide +kernel
theorem dX5_tells_58 : decode cX5_tells 58 = .ok (.iload_n 2, 1) := by decide +kernel
theorem dX5_tells_59 : decode cX5_tells 59 = .ok (.aload_n 0, 1) := by decide +kernel
theorem dX5_tells_60 : decode cX5_tells 60 = .ok (.invokevirtual 124, 3) := by decide +kernel
theorem dX5_tells_63 : decode cX5_tells 63 = .ok (.if_icmp .ge 82, 3) := by decide +kernel
theorem dX5_tells_66 : decode cX5_tells 66 = .ok (.aload_n 0, 1) := by decide +kernel
theorem dX5_tells_67 : decode cX5_tells 67 = .ok (.getfield 84, 3) := by decide +kernel
theorem dX5_tells_70 : decode cX5_tells 70 = .ok (.aload_n 0, 1) := by decide +kernel
theorem dX5_tells_71 : decode cX5_tells 71 = .ok (.getfield 290, 3) := by decide +kernel
theorem dX5_tells_74 : decode cX5_tells 74 = .ok (.iload_n 2, 1) := by decide +kernel
theorem dX5_tells_75 : decode cX5_tells 75 = .ok (.aload_n 0, 1) := by decide +kernel
theorem dX5_tells_76 : decode cX5_tells 76 = .ok (.getfield 293, 3) := by decide +kernel
theorem dX5_tells_79 : decode cX5_tells 79 = .ok (.invokestatic 217, 3) := by decide +kernel
theorem dX5_tells_82 : decode cX5_tells 82 = .ok (.iaload, 1) := by decide +kernel
theorem dX5_tells_83 : decode cX5_tells 83 = .ok (.istore_n 3, 1) := by decide +kernel
theorem dX5_tells_84 : decode cX5_tells 84 = .ok (.aload_n 0, 1) := by decide +kernel
theorem dX5_tells_85 : decode cX5_tells 85 = .ok (.getfield 94, 3) := by decide +kernel
theorem dX5_tells_88 : decode cX5_tells 88 = .ok (.iload_n 2, 1) := by decide +kernel
theorem dX5_tells_89 : decode cX5_tells 89 = .ok (.aload_n 0, 1) := by decide +kernel
theorem dX5_tells_90 : decode cX5_tells 90 = .ok (.getfield 7, 3) := by decide +kernel
theorem dX5_tells_93 : decode cX5_tells 93 = .ok (.idiv, 1) := by decide +kernel
theorem dX5_tells_94 : decode cX5_tells 94 = .ok (.dup2, 1) := by decide +kernel
theorem dX5_tells_95 : decode cX5_tells 95 = .ok (.laload, 1) := by decide +kernel
theorem dX5_tells_96 : decode cX5_tells 96 = .ok (.iload_n 3, 1) := by decide +kernel
theorem dX5_tells_97 : decode cX5_tells 97 = .ok (.ldc 237, 2) := by decide +kernel
theorem dX5_tells_99 : decode cX5_tells 99 = .ok (.if_icmp .ne 7, 3) := by decide +kernel
theorem dX5_tells_102 : decode cX5_tells 102 = .ok (.lconst 0, 1) := by decide +kernel
theorem dX5_tells_103 : decode cX5_tells 103 = .ok (.goto 5, 3) := by decide +kernel
theorem dX5_tells_106 : decode cX5_tells 106 = .ok (.iload_n 3, 1) := by decide +kernel
theorem dX5_tells_107 : decode cX5_tells 107 = .ok (.i2l, 1) := by decide +kernel
theorem dX5_tells_108 : decode cX5_tells 108 = .ok (.ladd, 1) := by decide +kernel
theorem dX5_tells_109 : decode cX5_tells 109 = .ok (.lastore, 1) := by decide +kernel
theorem dX5_tells_110 : decode cX5_tells 110 = .ok (.aload_n 0, 1) := by decide +kernel
theorem dX5_tells_111 : decode cX5_tells 111 = .ok (.getfield 94, 3) := by decide +kernel
theorem dX5_tells_114 : decode cX5_tells 114 = .ok (.bipush 6, 2) := by decide +kernel
theorem dX5_tells_116 : decode cX5_tells 116 = .ok (.iload_n 2, 1) := by decide +kernel
theorem dX5_tells_117 : decode cX5_tells 117 = .ok (.aload_n 0, 1) := by decide +kernel
theorem dX5_tells_118 : decode cX5_tells 118 = .ok (.getfield 7, 3) := by decide +kernel
theorem dX5_tells_121 : decode cX5_tells 121 = .ok (.irem, 1) := by decide +kernel
theorem dX5_tells_122 : decode cX5_tells 122 = .ok (.iadd, 1) := by decide +kernel
theorem dX5_tells_123 : decode cX5_tells 123 = .ok (.dup2, 1) := by decide +kernel
theorem dX5_tells_124 : decode cX5_tells 124 = .ok (.laload, 1) := by decide +kernel
theorem dX5_tells_125 : decode cX5_tells 125 = .ok (.iload_n 3, 1) := by decide +kernel
theorem dX5_tells_126 : decode cX5_tells 126 = .ok (.ldc 237, 2) := by decide +kernel
theorem dX5_tells_128 : decode cX5_tells 128 = .ok (.if_icmp .ne 7, 3) := by decide +kernel
theorem dX5_tells_131 : decode cX5_tells 131 = .ok (.lconst 0, 1) := by decide +kernel
theorem dX5_tells_132 : decode cX5_tells 132 = .ok (.goto 5, 3) := by decide +kernel
theorem dX5_tells_135 : decode cX5_tells 135 = .ok (.iload_n 3, 1) := by decide +kernel
theorem dX5_tells_136 : decode cX5_tells 136 = .ok (.i2l, 1) := by decide +kernel
theorem dX5_tells_137 : decode cX5_tells 137 = .ok (.ladd, 1) := by decide +kernel
theorem dX5_tells_138 : decode cX5_tells 138 = .ok (.lastore, 1) := by decide +kernel
theorem dX5_tells_139 : decode cX5_tells 139 = .ok (.iinc 2 1, 3) := by decide +kernel
theorem dX5_tells_142 : decode cX5_tells 142 = .ok (.goto (-84), 3) := by decide +kernel
theorem dX5_tells_145 : decode cX5_tells 145 = .ok (.iload_n 1, 1) := by decide +kernel
theorem dX5_tells_146 : decode cX5_tells 146 = .ok (.ireturn, 1) := by decide +kernel
def tb_X5_tells (S_X5_all S_X5_hall S_X5_cells S_X5_place : ma_Cs) : Nat → ma_In := fun pc =>
 (if pc < 75 then
 (if pc < 35 then
 (if pc < 16 then
 (if pc < 5 then
 (if pc < 2 then
 (if pc < 1 then
 (if pc = 0 then in_push (.int 0) 1 else in_no) else
 (if pc = 1 then in_ist 1 2 else in_no)) else
 (if pc < 3 then
 (if pc = 2 then in_push (.int 0) 3 else in_no) else
 (if pc < 4 then
 (if pc = 3 then in_ist 2 4 else in_no) else
 (if pc = 4 then in_ild 2 5 else in_no)))) else
 (if pc < 11 then
 (if pc < 7 then
 (if pc = 5 then in_push (.int 12) 7 else in_no) else
 (if pc < 10 then
 (if pc = 7 then in_if2 (fun x y => y ≤ x) 44 10 else in_no) else
 (if pc = 10 then in_ild 1 11 else in_no))) else
 (if pc < 12 then
 (if pc = 11 then in_ald 0 12 else in_no) else
 (if pc < 15 then
 (if pc = 12 then in_get YM 5 26 15 else in_no) else
 (if pc = 15 then in_ild 2 16 else in_no))))) else
 (if pc < 25 then
 (if pc < 20 then
 (if pc < 17 then
 (if pc = 16 then in_lar YM 17 else in_no) else
 (if pc = 17 then in_push (.long 2000000000000) 20 else in_no)) else
 (if pc < 21 then
 (if pc = 20 then in_lli lg_cmp 21 else in_no) else
 (if pc < 24 then
 (if pc = 21 then in_if1 (fun x => x = 0) 24 28 else in_no) else
 (if pc = 24 then in_push (.int 0) 25 else in_no)))) else
 (if pc < 30 then
 (if pc < 28 then
 (if pc = 25 then in_go 29 else in_no) else
 (if pc < 29 then
 (if pc = 28 then in_push (.int 1) 29 else in_no) else
 (if pc = 29 then in_iii (fun x y => x + y) 30 else in_no))) else
 (if pc < 31 then
 (if pc = 30 then in_ist 1 31 else in_no) else
 (if pc < 32 then
 (if pc = 31 then in_ald 0 32 else in_no) else
 (if pc = 32 then in_get YM 5 40 35 else in_no)))))) else
 (if pc < 56 then
 (if pc < 44 then
 (if pc < 37 then
 (if pc < 36 then
 (if pc = 35 then in_ild 2 36 else in_no) else
 (if pc = 36 then in_push (.long 0) 37 else in_no)) else
 (if pc < 38 then
 (if pc = 37 then in_law YM 38 else in_no) else
 (if pc < 41 then
 (if pc = 38 then in_inc 2 1 41 else in_no) else
 (if pc = 41 then in_go 4 else in_no)))) else
 (if pc < 49 then
 (if pc < 45 then
 (if pc = 44 then in_ald 0 45 else in_no) else
 (if pc < 46 then
 (if pc = 45 then in_ald 0 46 else in_no) else
 (if pc = 46 then in_get YM 5 37 49 else in_no))) else
 (if pc < 50 then
 (if pc = 49 then in_ald 0 50 else in_no) else
 (if pc < 53 then
 (if pc = 50 then in_v1 YM 5 S_X5_all 53 else in_no) else
 (if pc = 53 then in_v3 YM 5 S_X5_hall 56 else in_no))))) else
 (if pc < 63 then
 (if pc < 58 then
 (if pc < 57 then
 (if pc = 56 then in_push (.int 0) 57 else in_no) else
 (if pc = 57 then in_ist 2 58 else in_no)) else
 (if pc < 59 then
 (if pc = 58 then in_ild 2 59 else in_no) else
 (if pc < 60 then
 (if pc = 59 then in_ald 0 60 else in_no) else
 (if pc = 60 then in_v1 YM 5 S_X5_cells 63 else in_no)))) else
 (if pc < 70 then
 (if pc < 66 then
 (if pc = 63 then in_if2 (fun x y => y ≤ x) 145 66 else in_no) else
 (if pc < 67 then
 (if pc = 66 then in_ald 0 67 else in_no) else
 (if pc = 67 then in_get YM 5 37 70 else in_no))) else
 (if pc < 71 then
 (if pc = 70 then in_ald 0 71 else in_no) else
 (if pc < 74 then
 (if pc = 71 then in_get YM 5 24 74 else in_no) else
 (if pc = 74 then in_ild 2 75 else in_no))))))) else
 (if pc < 110 then
 (if pc < 94 then
 (if pc < 84 then
 (if pc < 79 then
 (if pc < 76 then
 (if pc = 75 then in_ald 0 76 else in_no) else
 (if pc = 76 then in_get YM 5 25 79 else in_no)) else
 (if pc < 82 then
 (if pc = 79 then in_s3 S_X5_place 82 else in_no) else
 (if pc < 83 then
 (if pc = 82 then in_iar YM 83 else in_no) else
 (if pc = 83 then in_ist 3 84 else in_no)))) else
 (if pc < 89 then
 (if pc < 85 then
 (if pc = 84 then in_ald 0 85 else in_no) else
 (if pc < 88 then
 (if pc = 85 then in_get YM 5 40 88 else in_no) else
 (if pc = 88 then in_ild 2 89 else in_no))) else
 (if pc < 90 then
 (if pc = 89 then in_ald 0 90 else in_no) else
 (if pc < 93 then
 (if pc = 90 then in_get YM 5 0 93 else in_no) else
 (if pc = 93 then in_idv (fun x y => x / y) 94 else in_no))))) else
 (if pc < 102 then
 (if pc < 96 then
 (if pc < 95 then
 (if pc = 94 then in_dp2 95 else in_no) else
 (if pc = 95 then in_lar YM 96 else in_no)) else
 (if pc < 97 then
 (if pc = 96 then in_ild 3 97 else in_no) else
 (if pc < 99 then
 (if pc = 97 then in_push (.int 2000000000) 99 else in_no) else
 (if pc = 99 then in_if2 (fun x y => x = y) 102 106 else in_no)))) else
 (if pc < 107 then
 (if pc < 103 then
 (if pc = 102 then in_push (.long 0) 103 else in_no) else
 (if pc < 106 then
 (if pc = 103 then in_go 108 else in_no) else
 (if pc = 106 then in_ild 3 107 else in_no))) else
 (if pc < 108 then
 (if pc = 107 then in_il (fun x => x.toInt64) 108 else in_no) else
 (if pc < 109 then
 (if pc = 108 then in_lll (fun x y => x + y) 109 else in_no) else
 (if pc = 109 then in_law YM 110 else in_no)))))) else
 (if pc < 126 then
 (if pc < 118 then
 (if pc < 114 then
 (if pc < 111 then
 (if pc = 110 then in_ald 0 111 else in_no) else
 (if pc = 111 then in_get YM 5 40 114 else in_no)) else
 (if pc < 116 then
 (if pc = 114 then in_push (.int 6) 116 else in_no) else
 (if pc < 117 then
 (if pc = 116 then in_ild 2 117 else in_no) else
 (if pc = 117 then in_ald 0 118 else in_no)))) else
 (if pc < 123 then
 (if pc < 121 then
 (if pc = 118 then in_get YM 5 0 121 else in_no) else
 (if pc < 122 then
 (if pc = 121 then in_idv (fun x y => x - x / y * y) 122 else in_no) else
 (if pc = 122 then in_iii (fun x y => x + y) 123 else in_no))) else
 (if pc < 124 then
 (if pc = 123 then in_dp2 124 else in_no) else
 (if pc < 125 then
 (if pc = 124 then in_lar YM 125 else in_no) else
 (if pc = 125 then in_ild 3 126 else in_no))))) else
 (if pc < 137 then
 (if pc < 132 then
 (if pc < 128 then
 (if pc = 126 then in_push (.int 2000000000) 128 else in_no) else
 (if pc < 131 then
 (if pc = 128 then in_if2 (fun x y => x = y) 131 135 else in_no) else
 (if pc = 131 then in_push (.long 0) 132 else in_no))) else
 (if pc < 135 then
 (if pc = 132 then in_go 137 else in_no) else
 (if pc < 136 then
 (if pc = 135 then in_ild 3 136 else in_no) else
 (if pc = 136 then in_il (fun x => x.toInt64) 137 else in_no)))) else
 (if pc < 142 then
 (if pc < 138 then
 (if pc = 137 then in_lll (fun x y => x + y) 138 else in_no) else
 (if pc < 139 then
 (if pc = 138 then in_law YM 139 else in_no) else
 (if pc = 139 then in_inc 2 1 142 else in_no))) else
 (if pc < 145 then
 (if pc = 142 then in_go 58 else in_no) else
 (if pc < 146 then
 (if pc = 145 then in_ild 1 146 else in_no) else
 (if pc = 146 then in_ri else in_no))))))))
theorem tk_X5_tells {l : Launch} {w : ma_Wd} {NC : Nat} {A : Nat → Prop} {S_X5_all S_X5_hall S_X5_cells S_X5_place : ma_Cs} (h_X5_all : ma_Sd l w YM NC A yX5_all cX5_all 1 (some .int) rm_X5_all S_X5_all) (h_X5_hall : ma_Sd l w YM NC A yX5_hall cX5_hall 5 none rm_X5_hall S_X5_hall) (h_X5_cells : ma_Sd l w YM NC A yX5_cells cX5_cells 1 (some .int) rm_X5_cells S_X5_cells) (h_X5_place : ma_Sd l w YM NC A yX5_place cX5_place 3 (some .int) rm_X5_place S_X5_place) {p : Program} {e : Env} {s : State} {m : MethodId} {args : Array Value} {below : List Frame} {meth : Method} {c : Code} (X : ma_Cx p s m args meth c w YM NC A yX5_tells.cls cX5_tells 4 (some .int)) : ∀ pc, ma_Ok p l e rm_X5_tells s m args below meth c w YM NC A 4 pc (tb_X5_tells S_X5_all S_X5_hall S_X5_cells S_X5_place pc) := fun pc =>
 (mk_lt
 (mk_lt
 (mk_lt
 (mk_lt
 (mk_lt
 (mk_lt
 (mk_eq (mk_iconst X dX5_tells_0 rfl rfl))
 (mk_eq (mk_istore_n X dX5_tells_1 rfl (Nat.le_of_ble_eq_true rfl) rfl)))
 (mk_lt
 (mk_eq (mk_iconst X dX5_tells_2 rfl rfl))
 (mk_lt
 (mk_eq (mk_istore_n X dX5_tells_3 rfl (Nat.le_of_ble_eq_true rfl) rfl))
 (mk_eq (mk_iload_n X dX5_tells_4 rfl rfl)))))
 (mk_lt
 (mk_lt
 (mk_eq (mk_bipush X dX5_tells_5 rfl rfl))
 (mk_lt
 (mk_eq (mk_icge X dX5_tells_7 rfl rfl))
 (mk_eq (mk_iload_n X dX5_tells_10 rfl rfl))))
 (mk_lt
 (mk_eq (mk_aload_n X dX5_tells_11 rfl rfl))
 (mk_lt
 (mk_eq (mk_get X (ci := 5) (j := 26) rfl in_X5 (Nat.le_of_ble_eq_true rfl) q773 dX5_tells_12 rfl))
 (mk_eq (mk_iload_n X dX5_tells_15 rfl rfl))))))
 (mk_lt
 (mk_lt
 (mk_lt
 (mk_eq (mk_lar X dX5_tells_16 rfl))
 (mk_eq (mk_ldc2 X dX5_tells_17 q746 rfl)))
 (mk_lt
 (mk_eq (mk_lcmp X dX5_tells_20 rfl))
 (mk_lt
 (mk_eq (mk_ifne X dX5_tells_21 rfl rfl))
 (mk_eq (mk_iconst X dX5_tells_24 rfl rfl)))))
 (mk_lt
 (mk_lt
 (mk_eq (mk_goto X dX5_tells_25 rfl))
 (mk_lt
 (mk_eq (mk_iconst X dX5_tells_28 rfl rfl))
 (mk_eq (mk_iadd X dX5_tells_29 rfl))))
 (mk_lt
 (mk_eq (mk_istore_n X dX5_tells_30 rfl (Nat.le_of_ble_eq_true rfl) rfl))
 (mk_lt
 (mk_eq (mk_aload_n X dX5_tells_31 rfl rfl))
 (mk_eq (mk_get X (ci := 5) (j := 40) rfl in_X5 (Nat.le_of_ble_eq_true rfl) q787 dX5_tells_32 rfl)))))))
 (mk_lt
 (mk_lt
 (mk_lt
 (mk_lt
 (mk_eq (mk_iload_n X dX5_tells_35 rfl rfl))
 (mk_eq (mk_lconst X dX5_tells_36 rfl rfl)))
 (mk_lt
 (mk_eq (mk_law X dX5_tells_37 rfl))
 (mk_lt
 (mk_eq (mk_iinc X dX5_tells_38 rfl (Nat.le_of_ble_eq_true rfl) rfl))
 (mk_eq (mk_goto X dX5_tells_41 rfl)))))
 (mk_lt
 (mk_lt
 (mk_eq (mk_aload_n X dX5_tells_44 rfl rfl))
 (mk_lt
 (mk_eq (mk_aload_n X dX5_tells_45 rfl rfl))
 (mk_eq (mk_get X (ci := 5) (j := 37) rfl in_X5 (Nat.le_of_ble_eq_true rfl) q784 dX5_tells_46 rfl))))
 (mk_lt
 (mk_eq (mk_aload_n X dX5_tells_49 rfl rfl))
 (mk_lt
 (mk_eq (mk_V1 X h_X5_all (ci := 5) rfl (lw_V q991 q993 qs41 q66 q994) ⟨rfl, by decide, by decide, rfl⟩ ⟨(Nat.le_of_ble_eq_true rfl), (Nat.le_of_ble_eq_true rfl)⟩ dX5_tells_50 rfl))
 (mk_eq (mk_V3 X h_X5_hall (ci := 5) rfl (lw_V q995 q997 qs42 q66 q998) ⟨rfl, by decide, by decide, rfl⟩ ⟨(Nat.le_of_ble_eq_true rfl), (Nat.le_of_ble_eq_true rfl)⟩ dX5_tells_53 rfl))))))
 (mk_lt
 (mk_lt
 (mk_lt
 (mk_eq (mk_iconst X dX5_tells_56 rfl rfl))
 (mk_eq (mk_istore_n X dX5_tells_57 rfl (Nat.le_of_ble_eq_true rfl) rfl)))
 (mk_lt
 (mk_eq (mk_iload_n X dX5_tells_58 rfl rfl))
 (mk_lt
 (mk_eq (mk_aload_n X dX5_tells_59 rfl rfl))
 (mk_eq (mk_V1 X h_X5_cells (ci := 5) rfl (lw_V q895 q897 qs30 q66 q898) ⟨rfl, by decide, by decide, rfl⟩ ⟨(Nat.le_of_ble_eq_true rfl), (Nat.le_of_ble_eq_true rfl)⟩ dX5_tells_60 rfl)))))
 (mk_lt
 (mk_lt
 (mk_eq (mk_icge X dX5_tells_63 rfl rfl))
 (mk_lt
 (mk_eq (mk_aload_n X dX5_tells_66 rfl rfl))
 (mk_eq (mk_get X (ci := 5) (j := 37) rfl in_X5 (Nat.le_of_ble_eq_true rfl) q784 dX5_tells_67 rfl))))
 (mk_lt
 (mk_eq (mk_aload_n X dX5_tells_70 rfl rfl))
 (mk_lt
 (mk_eq (mk_get X (ci := 5) (j := 24) rfl in_X5 (Nat.le_of_ble_eq_true rfl) q771 dX5_tells_71 rfl))
 (mk_eq (mk_iload_n X dX5_tells_74 rfl rfl))))))))
 (mk_lt
 (mk_lt
 (mk_lt
 (mk_lt
 (mk_lt
 (mk_eq (mk_aload_n X dX5_tells_75 rfl rfl))
 (mk_eq (mk_get X (ci := 5) (j := 25) rfl in_X5 (Nat.le_of_ble_eq_true rfl) q772 dX5_tells_76 rfl)))
 (mk_lt
 (mk_eq (mk_S3 X h_X5_place (lw_S q999 q1000 q66 q1001) ⟨by decide, by decide, rfl⟩ ⟨(Nat.le_of_ble_eq_true rfl), (Nat.le_of_ble_eq_true rfl)⟩ dX5_tells_79 rfl))
 (mk_lt
 (mk_eq (mk_iar X dX5_tells_82 rfl))
 (mk_eq (mk_istore_n X dX5_tells_83 rfl (Nat.le_of_ble_eq_true rfl) rfl)))))
 (mk_lt
 (mk_lt
 (mk_eq (mk_aload_n X dX5_tells_84 rfl rfl))
 (mk_lt
 (mk_eq (mk_get X (ci := 5) (j := 40) rfl in_X5 (Nat.le_of_ble_eq_true rfl) q787 dX5_tells_85 rfl))
 (mk_eq (mk_iload_n X dX5_tells_88 rfl rfl))))
 (mk_lt
 (mk_eq (mk_aload_n X dX5_tells_89 rfl rfl))
 (mk_lt
 (mk_eq (mk_get X (ci := 5) (j := 0) rfl in_X5 (Nat.le_of_ble_eq_true rfl) q747 dX5_tells_90 rfl))
 (mk_eq (mk_idiv X dX5_tells_93 rfl))))))
 (mk_lt
 (mk_lt
 (mk_lt
 (mk_eq (mk_dup2 X dX5_tells_94 rfl))
 (mk_eq (mk_lar X dX5_tells_95 rfl)))
 (mk_lt
 (mk_eq (mk_iload_n X dX5_tells_96 rfl rfl))
 (mk_lt
 (mk_eq (mk_ldc X dX5_tells_97 q1030 rfl))
 (mk_eq (mk_icne X dX5_tells_99 rfl rfl)))))
 (mk_lt
 (mk_lt
 (mk_eq (mk_lconst X dX5_tells_102 rfl rfl))
 (mk_lt
 (mk_eq (mk_goto X dX5_tells_103 rfl))
 (mk_eq (mk_iload_n X dX5_tells_106 rfl rfl))))
 (mk_lt
 (mk_eq (mk_i2l X dX5_tells_107 rfl))
 (mk_lt
 (mk_eq (mk_ladd X dX5_tells_108 rfl))
 (mk_eq (mk_law X dX5_tells_109 rfl)))))))
 (mk_lt
 (mk_lt
 (mk_lt
 (mk_lt
 (mk_eq (mk_aload_n X dX5_tells_110 rfl rfl))
 (mk_eq (mk_get X (ci := 5) (j := 40) rfl in_X5 (Nat.le_of_ble_eq_true rfl) q787 dX5_tells_111 rfl)))
 (mk_lt
 (mk_eq (mk_bipush X dX5_tells_114 rfl rfl))
 (mk_lt
 (mk_eq (mk_iload_n X dX5_tells_116 rfl rfl))
 (mk_eq (mk_aload_n X dX5_tells_117 rfl rfl)))))
 (mk_lt
 (mk_lt
 (mk_eq (mk_get X (ci := 5) (j := 0) rfl in_X5 (Nat.le_of_ble_eq_true rfl) q747 dX5_tells_118 rfl))
 (mk_lt
 (mk_eq (mk_irem X dX5_tells_121 rfl))
 (mk_eq (mk_iadd X dX5_tells_122 rfl))))
 (mk_lt
 (mk_eq (mk_dup2 X dX5_tells_123 rfl))
 (mk_lt
 (mk_eq (mk_lar X dX5_tells_124 rfl))
 (mk_eq (mk_iload_n X dX5_tells_125 rfl rfl))))))
 (mk_lt
 (mk_lt
 (mk_lt
 (mk_eq (mk_ldc X dX5_tells_126 q1030 rfl))
 (mk_lt
 (mk_eq (mk_icne X dX5_tells_128 rfl rfl))
 (mk_eq (mk_lconst X dX5_tells_131 rfl rfl))))
 (mk_lt
 (mk_eq (mk_goto X dX5_tells_132 rfl))
 (mk_lt
 (mk_eq (mk_iload_n X dX5_tells_135 rfl rfl))
 (mk_eq (mk_i2l X dX5_tells_136 rfl)))))
 (mk_lt
 (mk_lt
 (mk_eq (mk_ladd X dX5_tells_137 rfl))
 (mk_lt
 (mk_eq (mk_law X dX5_tells_138 rfl))
 (mk_eq (mk_iinc X dX5_tells_139 rfl (Nat.le_of_ble_eq_true rfl) rfl))))
 (mk_lt
 (mk_eq (mk_goto X dX5_tells_142 rfl))
 (mk_lt
 (mk_eq (mk_iload_n X dX5_tells_145 rfl rfl))
 (mk_eq (mk_ri X dX5_tells_146)))))))))
theorem sd_X5_tells {l : Launch} {w : ma_Wd} {NC : Nat} {A : Nat → Prop} {S_X5_all S_X5_hall S_X5_cells S_X5_place : ma_Cs} (hw : ma_Wo w YM NC A) (h_X5_all : ma_Sd l w YM NC A yX5_all cX5_all 1 (some .int) rm_X5_all S_X5_all) (h_X5_hall : ma_Sd l w YM NC A yX5_hall cX5_hall 5 none rm_X5_hall S_X5_hall) (h_X5_cells : ma_Sd l w YM NC A yX5_cells cX5_cells 1 (some .int) rm_X5_cells S_X5_cells) (h_X5_place : ma_Sd l w YM NC A yX5_place cX5_place 3 (some .int) rm_X5_place S_X5_place) : ma_Sd l w YM NC A yX5_tells cX5_tells 4 (some .int) rm_X5_tells (ma_rn (tb_X5_tells S_X5_all S_X5_hall S_X5_cells S_X5_place) 4) := ma_of hw (by decide) ⟨rfl, rfl⟩ (fun X => tk_X5_tells h_X5_all h_X5_hall h_X5_cells h_X5_place X)
theorem dX5_least_0 : decode cX5_least 0 = .ok (.aload_n 0, 1) := by decide +kernel
theorem dX5_least_1 : decode cX5_least 1 = .ok (.invokevirtual 296, 3) := by decide +kernel
theorem dX5_least_4 : decode cX5_least 4 = .ok (.aload_n 0, 1) := by decide +kernel
theorem dX5_least_5 : decode cX5_least 5 = .ok (.getfield 7, 3) := by decide +kernel
theorem dX5_least_8 : decode cX5_least 8 = .ok (.aload_n 0, 1) := by decide +kernel
theorem dX5_least_9 : decode cX5_least 9 = .ok (.getfield 13, 3) := by decide +kernel
theorem dX5_least_12 : decode cX5_least 12 = .ok (.iadd, 1) := by decide +kernel
theorem dX5_least_13 : decode cX5_least 13 = .ok (.if_icmp .ge 6, 3) := by decide +kernel
theorem dX5_least_16 : decode cX5_least 16 = .ok (.bipush (-2), 2) := by decide +kernel
theorem dX5_least_18 : decode cX5_least 18 = .ok (.ireturn, 1) := by decide +kernel
theorem dX5_least_19 : decode cX5_least 19 = .ok (.lconst 0, 1) := by decide +kernel
theorem dX5_least_20 : decode cX5_least 20 = .ok (.lstore_n 1, 1) := by decide +kernel
theorem dX5_least_21 : decode cX5_least 21 = .ok (.iconst 0, 1) := by decide +kernel
theorem dX5_least_22 : decode cX5_least 22 = .ok (.istore_n 3, 1) := by decide +kernel
theorem dX5_least_23 : decode cX5_least 23 = .ok (.iconst 0, 1) := by decide +kernel
theorem dX5_least_24 : decode cX5_least 24 = .ok (.istore 4, 2) := by decide +kernel
theorem dX5_least_26 : decode cX5_least 26 = .ok (.iconst 0, 1) := by decide +kernel
theorem dX5_least_27 : decode cX5_least 27 = .ok (.istore 5, 2) := by decide +kernel
theorem dX5_least_29 : decode cX5_least 29 = .ok (.iload 5, 2) := by decide +kernel
theorem dX5_least_31 : decode cX5_least 31 = .ok (.bipush 12, 2) := by decide +kernel
theorem dX5_least_33 : decode cX5_least 33 = .ok (.if_icmp .ge 122, 3) := by decide +kernel
theorem dX5_least_36 : decode cX5_least 36 = .ok (.aload_n 0, 1) := by decide +kernel
theorem dX5_least_37 : decode cX5_least 37 = .ok (.getfield 68, 3) := by decide +kernel
theorem dX5_least_40 : decode cX5_least 40 = .ok (.iload 5, 2) := by decide +kernel
theorem dX5_least_42 : decode cX5_least 42 = .ok (.laload, 1) := by decide +kernel
theorem dX5_least_43 : decode cX5_least 43 = .ok (.ldc2_w 122, 3) := by decide +kernel
theorem dX5_least_46 : decode cX5_least 46 = .ok (.lcmp, 1) := by decide +kernel
theorem dX5_least_47 : decode cX5_least 47 = .ok (.ifCond .eq 7, 3) := by decide +kernel
theorem dX5_least_50 : decode cX5_least 50 = .ok (.iconst 1, 1) := by decide +kernel
theorem dX5_least_51 : decode cX5_least 51 = .ok (.goto 4, 3) := by decide +kernel
theorem dX5_least_54 : decode cX5_least 54 = .ok (.iconst 0, 1) := by decide +kernel
theorem dX5_least_55 : decode cX5_least 55 = .ok (.istore 6, 2) := by decide +kernel
theorem dX5_least_57 : decode cX5_least 57 = .ok (.iload 6, 2) := by decide +kernel
theorem dX5_least_59 : decode cX5_least 59 = .ok (.ifCond .eq 21, 3) := by decide +kernel
theorem dX5_least_62 : decode cX5_least 62 = .ok (.aload_n 0, 1) := by decide +kernel
theorem dX5_least_63 : decode cX5_least 63 = .ok (.getfield 68, 3) := by decide +kernel
theorem dX5_least_66 : decode cX5_least 66 = .ok (.iload 5, 2) := by decide +kernel
theorem dX5_least_68 : decode cX5_least 68 = .ok (.laload, 1) := by decide +kernel
theorem dX5_least_69 : decode cX5_least 69 = .ok (.aload_n 0, 1) := by decide +kernel
theorem dX5_least_70 : decode cX5_least 70 = .ok (.getfield 94, 3) := by decide +kernel
theorem dX5_least_73 : decode cX5_least 73 = .ok (.iload 5, 2) := by decide +kernel
theorem dX5_least_75 : decode cX5_least 75 = .ok (.laload, 1) := by decide +kernel
theorem dX5_least_76 : decode cX5_least 76 = .ok (.lsub, 1) := by decide +kernel
theorem dX5_least_77 : decode cX5_least 77 = .ok (.goto 4, 3) := by decide +kernel
theorem dX5_least_80 : decode cX5_least 80 = .ok (.lconst 0, 1) := by decide +kernel
theorem dX5_least_81 : decode cX5_least 81 = .ok (.lstore 7, 2) := by decide +kernel
theorem dX5_least_83 : decode cX5_least 83 = .ok (.lload_n 1, 1) := by decide +kernel
theorem dX5_least_84 : decode cX5_least 84 = .ok (.iload 5, 2) := by decide +kernel
theorem dX5_least_86 : decode cX5_least 86 = .ok (.bipush 6, 2) := by decide +kernel
theorem dX5_least_88 : decode cX5_least 88 = .ok (.if_icmp .ge 8, 3) := by decide +kernel
theorem dX5_least_91 : decode cX5_least 91 = .ok (.lload 7, 2) := by decide +kernel
theorem dX5_least_93 : decode cX5_least 93 = .ok (.goto 6, 3) := by decide +kernel
theorem dX5_least_96 : decode cX5_least 96 = .ok (.lload 7, 2) := by decide +kernel
theorem dX5_least_98 : decode cX5_least 98 = .ok (.lneg, 1) := by decide +kernel
theorem dX5_least_99 : decode cX5_least 99 = .ok (.ladd, 1) := by decide +kernel
theorem dX5_least_100 : decode cX5_least 100 = .ok (.lstore_n 1, 1) := by decide +kernel
theorem dX5_least_101 : decode cX5_least 101 = .ok (.lload 7, 2) := by decide +kernel
theorem dX5_least_103 : decode cX5_least 103 = .ok (.lconst 0, 1) := by decide +kernel
theorem dX5_least_104 : decode cX5_least 104 = .ok (.lcmp, 1) := by decide +kernel
theorem dX5_least_105 : decode cX5_least 105 = .ok (.ifCond .eq 44, 3) := by decide +kernel
theorem dX5_least_108 : decode cX5_least 108 = .ok (.aload_n 0, 1) := by decide +kernel
theorem dX5_least_109 : decode cX5_least 109 = .ok (.getfield 97, 3) := by decide +kernel
theorem dX5_least_112 : decode cX5_least 112 = .ok (.iload_n 3, 1) := by decide +kernel
theorem dX5_least_113 : decode cX5_least 113 = .ok (.iload 5, 2) := by decide +kernel
theorem dX5_least_115 : decode cX5_least 115 = .ok (.bipush 6, 2) := by decide +kernel
theorem dX5_least_117 : decode cX5_least 117 = .ok (.if_icmp .ge 8, 3) := by decide +kernel
theorem dX5_least_120 : decode cX5_least 120 = .ok (.lload 7, 2) := by decide +kernel
theorem dX5_least_122 : decode cX5_least 122 = .ok (.goto 6, 3) := by decide +kernel
theorem dX5_least_125 : decode cX5_least 125 = .ok (.lload 7, 2) := by decide +kernel
theorem dX5_least_127 : decode cX5_least 127 = .ok (.lneg, 1) := by decide +kernel
theorem dX5_least_128 : decode cX5_least 128 = .ok (.lastore, 1) := by decide +kernel
theorem dX5_least_129 : decode cX5_least 129 = .ok (.iinc 3 1, 3) := by decide +kernel
theorem dX5_least_132 : decode cX5_least 132 = .ok (.iload 4, 2) := by decide +kernel
theorem dX5_least_134 : decode cX5_least 134 = .ok (.iload 5, 2) := by decide +kernel
theorem dX5_least_136 : decode cX5_least 136 = .ok (.bipush 6, 2) := by decide +kernel
theorem dX5_least_138 : decode cX5_least 138 = .ok (.if_icmp .ge 7, 3) := by decide +kernel
theorem dX5_least_141 : decode cX5_least 141 = .ok (.iconst 1, 1) := by decide +kernel
theorem dX5_least_142 : decode cX5_least 142 = .ok (.goto 4, 3) := by decide +kernel
theorem dX5_least_145 : decode cX5_least 145 = .ok (.iconst 0, 1) := by decide +kernel
theorem dX5_least_146 : decode cX5_least 146 = .ok (.iadd, 1) := by decide +kernel
theorem dX5_least_147 : decode cX5_least 147 = .ok (.istore 4, 2) := by decide +kernel
theorem dX5_least_149 : decode cX5_least 149 = .ok (.iinc 5 1, 3) := by decide +kernel
theorem dX5_least_152 : decode cX5_least 152 = .ok (.goto (-123), 3) := by decide +kernel
theorem dX5_least_155 : decode cX5_least 155 = .ok (.lload_n 1, 1) := by decide +kernel
theorem dX5_least_156 : decode cX5_least 156 = .ok (.lconst 0, 1) := by decide +kernel
theorem dX5_least_157 : decode cX5_least 157 = .ok (.lcmp, 1) := by decide +kernel
theorem dX5_least_158 : decode cX5_least 158 = .ok (.ifCond .eq 6, 3) := by decide +kernel
theorem dX5_least_161 : decode cX5_least 161 = .ok (.bipush (-2), 2) := by decide +kernel
theorem dX5_least_163 : decode cX5_least 163 = .ok (.ireturn, 1) := by decide +kernel
theorem dX5_least_164 : decode cX5_least 164 = .ok (.iload_n 3, 1) := by decide +kernel
theorem dX5_least_165 : decode cX5_least 165 = .ok (.istore 5, 2) := by decide +kernel
theorem dX5_least_167 : decode cX5_least 167 = .ok (.iload 5, 2) := by decide +kernel
theorem dX5_least_169 : decode cX5_least 169 = .ok (.bipush 12, 2) := by decide +kernel
theorem dX5_least_171 : decode cX5_least 171 = .ok (.if_icmp .ge 17, 3) := by decide +kernel
theorem dX5_least_174 : decode cX5_least 174 = .ok (.aload_n 0, 1) := by decide +kernel
theorem dX5_least_175 : decode cX5_least 175 = .ok (.getfield 97, 3) := by decide +kernel
theorem dX5_least_178 : decode cX5_least 178 = .ok (.iload 5, 2) := by decide +kernel
theorem dX5_least_180 : decode cX5_least 180 = .ok (.lconst 0, 1) := by decide +kernel
theorem dX5_least_181 : decode cX5_least 181 = .ok (.lastore, 1) := by decide +kernel
theorem dX5_least_182 : decode cX5_least 182 = .ok (.iinc 5 1, 3) := by decide +kernel
theorem dX5_least_185 : decode cX5_least 185 = .ok (.goto (-18), 3) := by decide +kernel
theorem dX5_least_188 : decode cX5_least 188 = .ok (.iconst 0, 1) := by decide +kernel
theorem dX5_least_189 : decode cX5_least 189 = .ok (.istore 5, 2) := by decide +kernel
theorem dX5_least_191 : decode cX5_least 191 = .ok (.iload 5, 2) := by decide +kernel
theorem dX5_least_193 : decode cX5_least 193 = .ok (.iconst 1, 1) := by decide +kernel
theorem dX5_least_194 : decode cX5_least 194 = .ok (.iload_n 3, 1) := by decide +kernel
theorem dX5_least_195 : decode cX5_least 195 = .ok (.ishl, 1) := by decide +kernel
theorem dX5_least_196 : decode cX5_least 196 = .ok (.if_icmp .ge 124, 3) := by decide +kernel
theorem dX5_least_199 : decode cX5_least 199 = .ok (.iload 5, 2) := by decide +kernel
theorem dX5_least_201 : decode cX5_least 201 = .ok (.iload 5, 2) := by decide +kernel
theorem dX5_least_203 : decode cX5_least 203 = .ok (.ineg, 1) := by decide +kernel
theorem dX5_least_204 : decode cX5_least 204 = .ok (.iand, 1) := by decide +kernel
theorem dX5_least_205 : decode cX5_least 205 = .ok (.istore 6, 2) := by decide +kernel
theorem dX5_least_207 : decode cX5_least 207 = .ok (.iload 5, 2) := by decide +kernel
theorem dX5_least_209 : decode cX5_least 209 = .ok (.ifCond .ne 7, 3) := by decide +kernel
theorem dX5_least_212 : decode cX5_least 212 = .ok (.iconst 0, 1) := by decide +kernel
theorem dX5_least_213 : decode cX5_least 213 = .ok (.goto 15, 3) := by decide +kernel
theorem dX5_least_216 : decode cX5_least 216 = .ok (.aload_n 0, 1) := by decide +kernel
theorem dX5_least_217 : decode cX5_least 217 = .ok (.getfield 100, 3) := by decide +kernel
theorem dX5_least_220 : decode cX5_least 220 = .ok (.iload 5, 2) := by decide +kernel
theorem dX5_least_222 : decode cX5_least 222 = .ok (.iload 6, 2) := by decide +kernel
theorem dX5_least_224 : decode cX5_least 224 = .ok (.iconst (-1), 1) := by decide +kernel
theorem dX5_least_225 : decode cX5_least 225 = .ok (.ixor, 1) := by decide +kernel
theorem dX5_least_226 : decode cX5_least 226 = .ok (.iand, 1) := by decide +kernel
theorem dX5_least_227 : decode cX5_least 227 = .ok (.iaload, 1) := by decide +kernel
theorem dX5_least_228 : decode cX5_least 228 = .ok (.istore 7, 2) := by decide +kernel
theorem dX5_least_230 : decode cX5_least 230 = .ok (.iload 5, 2) := by decide +kernel
theorem dX5_least_232 : decode cX5_least 232 = .ok (.istore 8, 2) := by decide +kernel
theorem dX5_least_234 : decode cX5_least 234 = .ok (.iload 8, 2) := by decide +kernel
theorem dX5_least_236 : decode cX5_least 236 = .ok (.ifCond .le 69, 3) := by decide +kernel
theorem dX5_least_239 : decode cX5_least 239 = .ok (.iload 8, 2) := by decide +kernel
theorem dX5_least_241 : decode cX5_least 241 = .ok (.iload 6, 2) := by decide +kernel
theorem dX5_least_243 : decode cX5_least 243 = .ok (.iand, 1) := by decide +kernel
theorem dX5_least_244 : decode cX5_least 244 = .ok (.ifCond .eq 49, 3) := by decide +kernel
theorem dX5_least_247 : decode cX5_least 247 = .ok (.aload_n 0, 1) := by decide +kernel
theorem dX5_least_248 : decode cX5_least 248 = .ok (.getfield 100, 3) := by decide +kernel
theorem dX5_least_251 : decode cX5_least 251 = .ok (.iload 5, 2) := by decide +kernel
theorem dX5_least_253 : decode cX5_least 253 = .ok (.iload 8, 2) := by decide +kernel
theorem dX5_least_255 : decode cX5_least 255 = .ok (.iconst (-1), 1) := by decide +kernel
theorem dX5_least_256 : decode cX5_least 256 = .ok (.ixor, 1) := by decide +kernel
theorem dX5_least_257 : decode cX5_least 257 = .ok (.iand, 1) := by decide +kernel
theorem dX5_least_258 : decode cX5_least 258 = .ok (.iaload, 1) := by decide +kernel
theorem dX5_least_259 : decode cX5_least 259 = .ok (.iconst 1, 1) := by decide +kernel
theorem dX5_least_260 : decode cX5_least 260 = .ok (.iadd, 1) := by decide +kernel
theorem dX5_least_261 : decode cX5_least 261 = .ok (.iload 7, 2) := by decide +kernel
theorem dX5_least_263 : decode cX5_least 263 = .ok (.if_icmp .le 30, 3) := by decide +kernel
theorem dX5_least_266 : decode cX5_least 266 = .ok (.aload_n 0, 1) := by decide +kernel
theorem dX5_least_267 : decode cX5_least 267 = .ok (.iload 8, 2) := by decide +kernel
theorem dX5_least_269 : decode cX5_least 269 = .ok (.iload 4, 2) := by decide +kernel
theorem dX5_least_271 : decode cX5_least 271 = .ok (.invokevirtual 299, 3) := by decide +kernel
theorem dX5_least_274 : decode cX5_least 274 = .ok (.ifCond .eq 19, 3) := by decide +kernel
theorem dX5_least_277 : decode cX5_least 277 = .ok (.aload_n 0, 1) := by decide +kernel
theorem dX5_least_278 : decode cX5_least 278 = .ok (.getfield 100, 3) := by decide +kernel
theorem dX5_least_281 : decode cX5_least 281 = .ok (.iload 5, 2) := by decide +kernel
theorem dX5_least_283 : decode cX5_least 283 = .ok (.iload 8, 2) := by decide +kernel
theorem dX5_least_285 : decode cX5_least 285 = .ok (.iconst (-1), 1) := by decide +kernel
theorem dX5_least_286 : decode cX5_least 286 = .ok (.ixor, 1) := by decide +kernel
theorem dX5_least_287 : decode cX5_least 287 = .ok (.iand, 1) := by decide +kernel
theorem dX5_least_288 : decode cX5_least 288 = .ok (.iaload, 1) := by decide +kernel
theorem dX5_least_289 : decode cX5_least 289 = .ok (.iconst 1, 1) := by decide +kernel
theorem dX5_least_290 : decode cX5_least 290 = .ok (.iadd, 1) := by decide +kernel
theorem dX5_least_291 : decode cX5_least 291 = .ok (.istore 7, 2) := by decide +kernel
theorem dX5_least_293 : decode cX5_least 293 = .ok (.iload 8, 2) := by decide +kernel
theorem dX5_least_295 : decode cX5_least 295 = .ok (.iconst 1, 1) := by decide +kernel
theorem dX5_least_296 : decode cX5_least 296 = .ok (.isub, 1) := by decide +kernel
theorem dX5_least_297 : decode cX5_least 297 = .ok (.iload 5, 2) := by decide +kernel
theorem dX5_least_299 : decode cX5_least 299 = .ok (.iand, 1) := by decide +kernel
theorem dX5_least_300 : decode cX5_least 300 = .ok (.istore 8, 2) := by decide +kernel
theorem dX5_least_302 : decode cX5_least 302 = .ok (.goto (-68), 3) := by decide +kernel
theorem dX5_least_305 : decode cX5_least 305 = .ok (.aload_n 0, 1) := by decide +kernel
theorem dX5_least_306 : decode cX5_least 306 = .ok (.getfield 100, 3) := by decide +kernel
theorem dX5_least_309 : decode cX5_least 309 = .ok (.iload 5, 2) := by decide +kernel
theorem dX5_least_311 : decode cX5_least 311 = .ok (.iload 7, 2) := by decide +kernel
theorem dX5_least_313 : decode cX5_least 313 = .ok (.iastore, 1) := by decide +kernel
theorem dX5_least_314 : decode cX5_least 314 = .ok (.iinc 5 1, 3) := by decide +kernel
theorem dX5_least_317 : decode cX5_least 317 = .ok (.goto (-126), 3) := by decide +kernel
theorem dX5_least_320 : decode cX5_least 320 = .ok (.iload_n 3, 1) := by decide +kernel
theorem dX5_least_321 : decode cX5_least 321 = .ok (.aload_n 0, 1) := by decide +kernel
theorem dX5_least_322 : decode cX5_least 322 = .ok (.getfield 100, 3) := by decide +kernel
theorem dX5_least_325 : decode cX5_least 325 = .ok (.iconst 1, 1) := by decide +kernel
theorem dX5_least_326 : decode cX5_least 326 = .ok (.iload_n 3, 1) := by decide +kernel
theorem dX5_least_327 : decode cX5_least 327 = .ok (.ishl, 1) := by decide +kernel
theorem dX5_least_328 : decode cX5_least 328 = .ok (.iconst 1, 1) := by decide +kernel
theorem dX5_least_329 : decode cX5_least 329 = .ok (.isub, 1) := by decide +kernel
theorem dX5_least_330 : decode cX5_least 330 = .ok (.iaload, 1) := by decide +kernel
theorem dX5_least_331 : decode cX5_least 331 = .ok (.isub, 1) := by decide +kernel
theorem dX5_least_332 : decode cX5_least 332 = .ok (.ireturn, 1) := by decide +kernel
def tb_X5_least (S_X5_tells S_X5_isEven : ma_Cs) : Nat → ma_In := fun pc =>
 (if pc < 171 then
 (if pc < 83 then
 (if pc < 40 then
 (if pc < 20 then
 (if pc < 9 then
 (if pc < 4 then
 (if pc < 1 then
 (if pc = 0 then in_ald 0 1 else in_no) else
 (if pc = 1 then in_v1 YM 5 S_X5_tells 4 else in_no)) else
 (if pc < 5 then
 (if pc = 4 then in_ald 0 5 else in_no) else
 (if pc < 8 then
 (if pc = 5 then in_get YM 5 0 8 else in_no) else
 (if pc = 8 then in_ald 0 9 else in_no)))) else
 (if pc < 16 then
 (if pc < 12 then
 (if pc = 9 then in_get YM 5 1 12 else in_no) else
 (if pc < 13 then
 (if pc = 12 then in_iii (fun x y => x + y) 13 else in_no) else
 (if pc = 13 then in_if2 (fun x y => y ≤ x) 19 16 else in_no))) else
 (if pc < 18 then
 (if pc = 16 then in_push (.int (-2)) 18 else in_no) else
 (if pc < 19 then
 (if pc = 18 then in_ri else in_no) else
 (if pc = 19 then in_push (.long 0) 20 else in_no))))) else
 (if pc < 27 then
 (if pc < 23 then
 (if pc < 21 then
 (if pc = 20 then in_lst 1 21 else in_no) else
 (if pc < 22 then
 (if pc = 21 then in_push (.int 0) 22 else in_no) else
 (if pc = 22 then in_ist 3 23 else in_no))) else
 (if pc < 24 then
 (if pc = 23 then in_push (.int 0) 24 else in_no) else
 (if pc < 26 then
 (if pc = 24 then in_ist 4 26 else in_no) else
 (if pc = 26 then in_push (.int 0) 27 else in_no)))) else
 (if pc < 33 then
 (if pc < 29 then
 (if pc = 27 then in_ist 5 29 else in_no) else
 (if pc < 31 then
 (if pc = 29 then in_ild 5 31 else in_no) else
 (if pc = 31 then in_push (.int 12) 33 else in_no))) else
 (if pc < 36 then
 (if pc = 33 then in_if2 (fun x y => y ≤ x) 155 36 else in_no) else
 (if pc < 37 then
 (if pc = 36 then in_ald 0 37 else in_no) else
 (if pc = 37 then in_get YM 5 26 40 else in_no)))))) else
 (if pc < 62 then
 (if pc < 50 then
 (if pc < 43 then
 (if pc < 42 then
 (if pc = 40 then in_ild 5 42 else in_no) else
 (if pc = 42 then in_lar YM 43 else in_no)) else
 (if pc < 46 then
 (if pc = 43 then in_push (.long 2000000000000) 46 else in_no) else
 (if pc < 47 then
 (if pc = 46 then in_lli lg_cmp 47 else in_no) else
 (if pc = 47 then in_if1 (fun x => x = 0) 54 50 else in_no)))) else
 (if pc < 55 then
 (if pc < 51 then
 (if pc = 50 then in_push (.int 1) 51 else in_no) else
 (if pc < 54 then
 (if pc = 51 then in_go 55 else in_no) else
 (if pc = 54 then in_push (.int 0) 55 else in_no))) else
 (if pc < 57 then
 (if pc = 55 then in_ist 6 57 else in_no) else
 (if pc < 59 then
 (if pc = 57 then in_ild 6 59 else in_no) else
 (if pc = 59 then in_if1 (fun x => x = 0) 80 62 else in_no))))) else
 (if pc < 73 then
 (if pc < 68 then
 (if pc < 63 then
 (if pc = 62 then in_ald 0 63 else in_no) else
 (if pc < 66 then
 (if pc = 63 then in_get YM 5 26 66 else in_no) else
 (if pc = 66 then in_ild 5 68 else in_no))) else
 (if pc < 69 then
 (if pc = 68 then in_lar YM 69 else in_no) else
 (if pc < 70 then
 (if pc = 69 then in_ald 0 70 else in_no) else
 (if pc = 70 then in_get YM 5 40 73 else in_no)))) else
 (if pc < 77 then
 (if pc < 75 then
 (if pc = 73 then in_ild 5 75 else in_no) else
 (if pc < 76 then
 (if pc = 75 then in_lar YM 76 else in_no) else
 (if pc = 76 then in_lll (fun x y => x - y) 77 else in_no))) else
 (if pc < 80 then
 (if pc = 77 then in_go 81 else in_no) else
 (if pc < 81 then
 (if pc = 80 then in_push (.long 0) 81 else in_no) else
 (if pc = 81 then in_lst 7 83 else in_no))))))) else
 (if pc < 127 then
 (if pc < 103 then
 (if pc < 93 then
 (if pc < 86 then
 (if pc < 84 then
 (if pc = 83 then in_lld 1 84 else in_no) else
 (if pc = 84 then in_ild 5 86 else in_no)) else
 (if pc < 88 then
 (if pc = 86 then in_push (.int 6) 88 else in_no) else
 (if pc < 91 then
 (if pc = 88 then in_if2 (fun x y => y ≤ x) 96 91 else in_no) else
 (if pc = 91 then in_lld 7 93 else in_no)))) else
 (if pc < 99 then
 (if pc < 96 then
 (if pc = 93 then in_go 99 else in_no) else
 (if pc < 98 then
 (if pc = 96 then in_lld 7 98 else in_no) else
 (if pc = 98 then in_ll (fun x => -x) 99 else in_no))) else
 (if pc < 100 then
 (if pc = 99 then in_lll (fun x y => x + y) 100 else in_no) else
 (if pc < 101 then
 (if pc = 100 then in_lst 1 101 else in_no) else
 (if pc = 101 then in_lld 7 103 else in_no))))) else
 (if pc < 113 then
 (if pc < 108 then
 (if pc < 104 then
 (if pc = 103 then in_push (.long 0) 104 else in_no) else
 (if pc < 105 then
 (if pc = 104 then in_lli lg_cmp 105 else in_no) else
 (if pc = 105 then in_if1 (fun x => x = 0) 149 108 else in_no))) else
 (if pc < 109 then
 (if pc = 108 then in_ald 0 109 else in_no) else
 (if pc < 112 then
 (if pc = 109 then in_get YM 5 41 112 else in_no) else
 (if pc = 112 then in_ild 3 113 else in_no)))) else
 (if pc < 120 then
 (if pc < 115 then
 (if pc = 113 then in_ild 5 115 else in_no) else
 (if pc < 117 then
 (if pc = 115 then in_push (.int 6) 117 else in_no) else
 (if pc = 117 then in_if2 (fun x y => y ≤ x) 125 120 else in_no))) else
 (if pc < 122 then
 (if pc = 120 then in_lld 7 122 else in_no) else
 (if pc < 125 then
 (if pc = 122 then in_go 128 else in_no) else
 (if pc = 125 then in_lld 7 127 else in_no)))))) else
 (if pc < 149 then
 (if pc < 138 then
 (if pc < 132 then
 (if pc < 128 then
 (if pc = 127 then in_ll (fun x => -x) 128 else in_no) else
 (if pc < 129 then
 (if pc = 128 then in_law YM 129 else in_no) else
 (if pc = 129 then in_inc 3 1 132 else in_no))) else
 (if pc < 134 then
 (if pc = 132 then in_ild 4 134 else in_no) else
 (if pc < 136 then
 (if pc = 134 then in_ild 5 136 else in_no) else
 (if pc = 136 then in_push (.int 6) 138 else in_no)))) else
 (if pc < 145 then
 (if pc < 141 then
 (if pc = 138 then in_if2 (fun x y => y ≤ x) 145 141 else in_no) else
 (if pc < 142 then
 (if pc = 141 then in_push (.int 1) 142 else in_no) else
 (if pc = 142 then in_go 146 else in_no))) else
 (if pc < 146 then
 (if pc = 145 then in_push (.int 0) 146 else in_no) else
 (if pc < 147 then
 (if pc = 146 then in_iii (fun x y => x + y) 147 else in_no) else
 (if pc = 147 then in_ist 4 149 else in_no))))) else
 (if pc < 161 then
 (if pc < 156 then
 (if pc < 152 then
 (if pc = 149 then in_inc 5 1 152 else in_no) else
 (if pc < 155 then
 (if pc = 152 then in_go 29 else in_no) else
 (if pc = 155 then in_lld 1 156 else in_no))) else
 (if pc < 157 then
 (if pc = 156 then in_push (.long 0) 157 else in_no) else
 (if pc < 158 then
 (if pc = 157 then in_lli lg_cmp 158 else in_no) else
 (if pc = 158 then in_if1 (fun x => x = 0) 164 161 else in_no)))) else
 (if pc < 165 then
 (if pc < 163 then
 (if pc = 161 then in_push (.int (-2)) 163 else in_no) else
 (if pc < 164 then
 (if pc = 163 then in_ri else in_no) else
 (if pc = 164 then in_ild 3 165 else in_no))) else
 (if pc < 167 then
 (if pc = 165 then in_ist 5 167 else in_no) else
 (if pc < 169 then
 (if pc = 167 then in_ild 5 169 else in_no) else
 (if pc = 169 then in_push (.int 12) 171 else in_no)))))))) else
 (if pc < 257 then
 (if pc < 213 then
 (if pc < 193 then
 (if pc < 181 then
 (if pc < 175 then
 (if pc < 174 then
 (if pc = 171 then in_if2 (fun x y => y ≤ x) 188 174 else in_no) else
 (if pc = 174 then in_ald 0 175 else in_no)) else
 (if pc < 178 then
 (if pc = 175 then in_get YM 5 41 178 else in_no) else
 (if pc < 180 then
 (if pc = 178 then in_ild 5 180 else in_no) else
 (if pc = 180 then in_push (.long 0) 181 else in_no)))) else
 (if pc < 188 then
 (if pc < 182 then
 (if pc = 181 then in_law YM 182 else in_no) else
 (if pc < 185 then
 (if pc = 182 then in_inc 5 1 185 else in_no) else
 (if pc = 185 then in_go 167 else in_no))) else
 (if pc < 189 then
 (if pc = 188 then in_push (.int 0) 189 else in_no) else
 (if pc < 191 then
 (if pc = 189 then in_ist 5 191 else in_no) else
 (if pc = 191 then in_ild 5 193 else in_no))))) else
 (if pc < 203 then
 (if pc < 196 then
 (if pc < 194 then
 (if pc = 193 then in_push (.int 1) 194 else in_no) else
 (if pc < 195 then
 (if pc = 194 then in_ild 3 195 else in_no) else
 (if pc = 195 then in_iii (fun x y => x <<< (y &&& 31)) 196 else in_no))) else
 (if pc < 199 then
 (if pc = 196 then in_if2 (fun x y => y ≤ x) 320 199 else in_no) else
 (if pc < 201 then
 (if pc = 199 then in_ild 5 201 else in_no) else
 (if pc = 201 then in_ild 5 203 else in_no)))) else
 (if pc < 207 then
 (if pc < 204 then
 (if pc = 203 then in_ii (fun x => -x) 204 else in_no) else
 (if pc < 205 then
 (if pc = 204 then in_iii (fun x y => x &&& y) 205 else in_no) else
 (if pc = 205 then in_ist 6 207 else in_no))) else
 (if pc < 209 then
 (if pc = 207 then in_ild 5 209 else in_no) else
 (if pc < 212 then
 (if pc = 209 then in_if1 (fun x => x = 0) 212 216 else in_no) else
 (if pc = 212 then in_push (.int 0) 213 else in_no)))))) else
 (if pc < 234 then
 (if pc < 225 then
 (if pc < 220 then
 (if pc < 216 then
 (if pc = 213 then in_go 228 else in_no) else
 (if pc < 217 then
 (if pc = 216 then in_ald 0 217 else in_no) else
 (if pc = 217 then in_get YM 5 42 220 else in_no))) else
 (if pc < 222 then
 (if pc = 220 then in_ild 5 222 else in_no) else
 (if pc < 224 then
 (if pc = 222 then in_ild 6 224 else in_no) else
 (if pc = 224 then in_push (.int (-1)) 225 else in_no)))) else
 (if pc < 228 then
 (if pc < 226 then
 (if pc = 225 then in_iii (fun x y => x ^^^ y) 226 else in_no) else
 (if pc < 227 then
 (if pc = 226 then in_iii (fun x y => x &&& y) 227 else in_no) else
 (if pc = 227 then in_iar YM 228 else in_no))) else
 (if pc < 230 then
 (if pc = 228 then in_ist 7 230 else in_no) else
 (if pc < 232 then
 (if pc = 230 then in_ild 5 232 else in_no) else
 (if pc = 232 then in_ist 8 234 else in_no))))) else
 (if pc < 247 then
 (if pc < 241 then
 (if pc < 236 then
 (if pc = 234 then in_ild 8 236 else in_no) else
 (if pc < 239 then
 (if pc = 236 then in_if1 (fun x => x ≤ 0) 305 239 else in_no) else
 (if pc = 239 then in_ild 8 241 else in_no))) else
 (if pc < 243 then
 (if pc = 241 then in_ild 6 243 else in_no) else
 (if pc < 244 then
 (if pc = 243 then in_iii (fun x y => x &&& y) 244 else in_no) else
 (if pc = 244 then in_if1 (fun x => x = 0) 293 247 else in_no)))) else
 (if pc < 253 then
 (if pc < 248 then
 (if pc = 247 then in_ald 0 248 else in_no) else
 (if pc < 251 then
 (if pc = 248 then in_get YM 5 42 251 else in_no) else
 (if pc = 251 then in_ild 5 253 else in_no))) else
 (if pc < 255 then
 (if pc = 253 then in_ild 8 255 else in_no) else
 (if pc < 256 then
 (if pc = 255 then in_push (.int (-1)) 256 else in_no) else
 (if pc = 256 then in_iii (fun x y => x ^^^ y) 257 else in_no))))))) else
 (if pc < 295 then
 (if pc < 277 then
 (if pc < 263 then
 (if pc < 259 then
 (if pc < 258 then
 (if pc = 257 then in_iii (fun x y => x &&& y) 258 else in_no) else
 (if pc = 258 then in_iar YM 259 else in_no)) else
 (if pc < 260 then
 (if pc = 259 then in_push (.int 1) 260 else in_no) else
 (if pc < 261 then
 (if pc = 260 then in_iii (fun x y => x + y) 261 else in_no) else
 (if pc = 261 then in_ild 7 263 else in_no)))) else
 (if pc < 269 then
 (if pc < 266 then
 (if pc = 263 then in_if2 (fun x y => x ≤ y) 293 266 else in_no) else
 (if pc < 267 then
 (if pc = 266 then in_ald 0 267 else in_no) else
 (if pc = 267 then in_ild 8 269 else in_no))) else
 (if pc < 271 then
 (if pc = 269 then in_ild 4 271 else in_no) else
 (if pc < 274 then
 (if pc = 271 then in_v3 YM 5 S_X5_isEven 274 else in_no) else
 (if pc = 274 then in_if1 (fun x => x = 0) 293 277 else in_no))))) else
 (if pc < 287 then
 (if pc < 283 then
 (if pc < 278 then
 (if pc = 277 then in_ald 0 278 else in_no) else
 (if pc < 281 then
 (if pc = 278 then in_get YM 5 42 281 else in_no) else
 (if pc = 281 then in_ild 5 283 else in_no))) else
 (if pc < 285 then
 (if pc = 283 then in_ild 8 285 else in_no) else
 (if pc < 286 then
 (if pc = 285 then in_push (.int (-1)) 286 else in_no) else
 (if pc = 286 then in_iii (fun x y => x ^^^ y) 287 else in_no)))) else
 (if pc < 290 then
 (if pc < 288 then
 (if pc = 287 then in_iii (fun x y => x &&& y) 288 else in_no) else
 (if pc < 289 then
 (if pc = 288 then in_iar YM 289 else in_no) else
 (if pc = 289 then in_push (.int 1) 290 else in_no))) else
 (if pc < 291 then
 (if pc = 290 then in_iii (fun x y => x + y) 291 else in_no) else
 (if pc < 293 then
 (if pc = 291 then in_ist 7 293 else in_no) else
 (if pc = 293 then in_ild 8 295 else in_no)))))) else
 (if pc < 317 then
 (if pc < 305 then
 (if pc < 299 then
 (if pc < 296 then
 (if pc = 295 then in_push (.int 1) 296 else in_no) else
 (if pc < 297 then
 (if pc = 296 then in_iii (fun x y => x - y) 297 else in_no) else
 (if pc = 297 then in_ild 5 299 else in_no))) else
 (if pc < 300 then
 (if pc = 299 then in_iii (fun x y => x &&& y) 300 else in_no) else
 (if pc < 302 then
 (if pc = 300 then in_ist 8 302 else in_no) else
 (if pc = 302 then in_go 234 else in_no)))) else
 (if pc < 311 then
 (if pc < 306 then
 (if pc = 305 then in_ald 0 306 else in_no) else
 (if pc < 309 then
 (if pc = 306 then in_get YM 5 42 309 else in_no) else
 (if pc = 309 then in_ild 5 311 else in_no))) else
 (if pc < 313 then
 (if pc = 311 then in_ild 7 313 else in_no) else
 (if pc < 314 then
 (if pc = 313 then in_iaw YM 314 else in_no) else
 (if pc = 314 then in_inc 5 1 317 else in_no))))) else
 (if pc < 327 then
 (if pc < 322 then
 (if pc < 320 then
 (if pc = 317 then in_go 191 else in_no) else
 (if pc < 321 then
 (if pc = 320 then in_ild 3 321 else in_no) else
 (if pc = 321 then in_ald 0 322 else in_no))) else
 (if pc < 325 then
 (if pc = 322 then in_get YM 5 42 325 else in_no) else
 (if pc < 326 then
 (if pc = 325 then in_push (.int 1) 326 else in_no) else
 (if pc = 326 then in_ild 3 327 else in_no)))) else
 (if pc < 330 then
 (if pc < 328 then
 (if pc = 327 then in_iii (fun x y => x <<< (y &&& 31)) 328 else in_no) else
 (if pc < 329 then
 (if pc = 328 then in_push (.int 1) 329 else in_no) else
 (if pc = 329 then in_iii (fun x y => x - y) 330 else in_no))) else
 (if pc < 331 then
 (if pc = 330 then in_iar YM 331 else in_no) else
 (if pc < 332 then
 (if pc = 331 then in_iii (fun x y => x - y) 332 else in_no) else
 (if pc = 332 then in_ri else in_no)))))))))
theorem tk_X5_least {l : Launch} {w : ma_Wd} {NC : Nat} {A : Nat → Prop} {S_X5_tells S_X5_isEven : ma_Cs} (h_X5_tells : ma_Sd l w YM NC A yX5_tells cX5_tells 4 (some .int) rm_X5_tells S_X5_tells) (h_X5_isEven : ma_Sd l w YM NC A yX5_isEven cX5_isEven 7 (some .boolean) rm_X5_isEven S_X5_isEven) {p : Program} {e : Env} {s : State} {m : MethodId} {args : Array Value} {below : List Frame} {meth : Method} {c : Code} (X : ma_Cx p s m args meth c w YM NC A yX5_least.cls cX5_least 9 (some .int)) : ∀ pc, ma_Ok p l e rm_X5_least s m args below meth c w YM NC A 9 pc (tb_X5_least S_X5_tells S_X5_isEven pc) := fun pc =>
 (mk_lt
 (mk_lt
 (mk_lt
 (mk_lt
 (mk_lt
 (mk_lt
 (mk_lt
 (mk_eq (mk_aload_n X dX5_least_0 rfl rfl))
 (mk_eq (mk_V1 X h_X5_tells (ci := 5) rfl (lw_V q1086 q1088 qs51 q66 q1089) ⟨rfl, by decide, by decide, rfl⟩ ⟨(Nat.le_of_ble_eq_true rfl), (Nat.le_of_ble_eq_true rfl)⟩ dX5_least_1 rfl)))
 (mk_lt
 (mk_eq (mk_aload_n X dX5_least_4 rfl rfl))
 (mk_lt
 (mk_eq (mk_get X (ci := 5) (j := 0) rfl in_X5 (Nat.le_of_ble_eq_true rfl) q747 dX5_least_5 rfl))
 (mk_eq (mk_aload_n X dX5_least_8 rfl rfl)))))
 (mk_lt
 (mk_lt
 (mk_eq (mk_get X (ci := 5) (j := 1) rfl in_X5 (Nat.le_of_ble_eq_true rfl) q748 dX5_least_9 rfl))
 (mk_lt
 (mk_eq (mk_iadd X dX5_least_12 rfl))
 (mk_eq (mk_icge X dX5_least_13 rfl rfl))))
 (mk_lt
 (mk_eq (mk_bipush X dX5_least_16 rfl rfl))
 (mk_lt
 (mk_eq (mk_ri X dX5_least_18))
 (mk_eq (mk_lconst X dX5_least_19 rfl rfl))))))
 (mk_lt
 (mk_lt
 (mk_lt
 (mk_eq (mk_lstore_n X dX5_least_20 rfl (Nat.le_of_ble_eq_true rfl) rfl))
 (mk_lt
 (mk_eq (mk_iconst X dX5_least_21 rfl rfl))
 (mk_eq (mk_istore_n X dX5_least_22 rfl (Nat.le_of_ble_eq_true rfl) rfl))))
 (mk_lt
 (mk_eq (mk_iconst X dX5_least_23 rfl rfl))
 (mk_lt
 (mk_eq (mk_istore X dX5_least_24 (Nat.le_of_ble_eq_true rfl) rfl))
 (mk_eq (mk_iconst X dX5_least_26 rfl rfl)))))
 (mk_lt
 (mk_lt
 (mk_eq (mk_istore X dX5_least_27 (Nat.le_of_ble_eq_true rfl) rfl))
 (mk_lt
 (mk_eq (mk_iload X dX5_least_29 rfl))
 (mk_eq (mk_bipush X dX5_least_31 rfl rfl))))
 (mk_lt
 (mk_eq (mk_icge X dX5_least_33 rfl rfl))
 (mk_lt
 (mk_eq (mk_aload_n X dX5_least_36 rfl rfl))
 (mk_eq (mk_get X (ci := 5) (j := 26) rfl in_X5 (Nat.le_of_ble_eq_true rfl) q773 dX5_least_37 rfl)))))))
 (mk_lt
 (mk_lt
 (mk_lt
 (mk_lt
 (mk_eq (mk_iload X dX5_least_40 rfl))
 (mk_eq (mk_lar X dX5_least_42 rfl)))
 (mk_lt
 (mk_eq (mk_ldc2 X dX5_least_43 q746 rfl))
 (mk_lt
 (mk_eq (mk_lcmp X dX5_least_46 rfl))
 (mk_eq (mk_ifeq X dX5_least_47 rfl rfl)))))
 (mk_lt
 (mk_lt
 (mk_eq (mk_iconst X dX5_least_50 rfl rfl))
 (mk_lt
 (mk_eq (mk_goto X dX5_least_51 rfl))
 (mk_eq (mk_iconst X dX5_least_54 rfl rfl))))
 (mk_lt
 (mk_eq (mk_istore X dX5_least_55 (Nat.le_of_ble_eq_true rfl) rfl))
 (mk_lt
 (mk_eq (mk_iload X dX5_least_57 rfl))
 (mk_eq (mk_ifeq X dX5_least_59 rfl rfl))))))
 (mk_lt
 (mk_lt
 (mk_lt
 (mk_eq (mk_aload_n X dX5_least_62 rfl rfl))
 (mk_lt
 (mk_eq (mk_get X (ci := 5) (j := 26) rfl in_X5 (Nat.le_of_ble_eq_true rfl) q773 dX5_least_63 rfl))
 (mk_eq (mk_iload X dX5_least_66 rfl))))
 (mk_lt
 (mk_eq (mk_lar X dX5_least_68 rfl))
 (mk_lt
 (mk_eq (mk_aload_n X dX5_least_69 rfl rfl))
 (mk_eq (mk_get X (ci := 5) (j := 40) rfl in_X5 (Nat.le_of_ble_eq_true rfl) q787 dX5_least_70 rfl)))))
 (mk_lt
 (mk_lt
 (mk_eq (mk_iload X dX5_least_73 rfl))
 (mk_lt
 (mk_eq (mk_lar X dX5_least_75 rfl))
 (mk_eq (mk_lsub X dX5_least_76 rfl))))
 (mk_lt
 (mk_eq (mk_goto X dX5_least_77 rfl))
 (mk_lt
 (mk_eq (mk_lconst X dX5_least_80 rfl rfl))
 (mk_eq (mk_lstore X dX5_least_81 (Nat.le_of_ble_eq_true rfl) rfl))))))))
 (mk_lt
 (mk_lt
 (mk_lt
 (mk_lt
 (mk_lt
 (mk_eq (mk_lload_n X dX5_least_83 rfl rfl))
 (mk_eq (mk_iload X dX5_least_84 rfl)))
 (mk_lt
 (mk_eq (mk_bipush X dX5_least_86 rfl rfl))
 (mk_lt
 (mk_eq (mk_icge X dX5_least_88 rfl rfl))
 (mk_eq (mk_lload X dX5_least_91 rfl)))))
 (mk_lt
 (mk_lt
 (mk_eq (mk_goto X dX5_least_93 rfl))
 (mk_lt
 (mk_eq (mk_lload X dX5_least_96 rfl))
 (mk_eq (mk_lneg X dX5_least_98 rfl))))
 (mk_lt
 (mk_eq (mk_ladd X dX5_least_99 rfl))
 (mk_lt
 (mk_eq (mk_lstore_n X dX5_least_100 rfl (Nat.le_of_ble_eq_true rfl) rfl))
 (mk_eq (mk_lload X dX5_least_101 rfl))))))
 (mk_lt
 (mk_lt
 (mk_lt
 (mk_eq (mk_lconst X dX5_least_103 rfl rfl))
 (mk_lt
 (mk_eq (mk_lcmp X dX5_least_104 rfl))
 (mk_eq (mk_ifeq X dX5_least_105 rfl rfl))))
 (mk_lt
 (mk_eq (mk_aload_n X dX5_least_108 rfl rfl))
 (mk_lt
 (mk_eq (mk_get X (ci := 5) (j := 41) rfl in_X5 (Nat.le_of_ble_eq_true rfl) q788 dX5_least_109 rfl))
 (mk_eq (mk_iload_n X dX5_least_112 rfl rfl)))))
 (mk_lt
 (mk_lt
 (mk_eq (mk_iload X dX5_least_113 rfl))
 (mk_lt
 (mk_eq (mk_bipush X dX5_least_115 rfl rfl))
 (mk_eq (mk_icge X dX5_least_117 rfl rfl))))
 (mk_lt
 (mk_eq (mk_lload X dX5_least_120 rfl))
 (mk_lt
 (mk_eq (mk_goto X dX5_least_122 rfl))
 (mk_eq (mk_lload X dX5_least_125 rfl)))))))
 (mk_lt
 (mk_lt
 (mk_lt
 (mk_lt
 (mk_eq (mk_lneg X dX5_least_127 rfl))
 (mk_lt
 (mk_eq (mk_law X dX5_least_128 rfl))
 (mk_eq (mk_iinc X dX5_least_129 rfl (Nat.le_of_ble_eq_true rfl) rfl))))
 (mk_lt
 (mk_eq (mk_iload X dX5_least_132 rfl))
 (mk_lt
 (mk_eq (mk_iload X dX5_least_134 rfl))
 (mk_eq (mk_bipush X dX5_least_136 rfl rfl)))))
 (mk_lt
 (mk_lt
 (mk_eq (mk_icge X dX5_least_138 rfl rfl))
 (mk_lt
 (mk_eq (mk_iconst X dX5_least_141 rfl rfl))
 (mk_eq (mk_goto X dX5_least_142 rfl))))
 (mk_lt
 (mk_eq (mk_iconst X dX5_least_145 rfl rfl))
 (mk_lt
 (mk_eq (mk_iadd X dX5_least_146 rfl))
 (mk_eq (mk_istore X dX5_least_147 (Nat.le_of_ble_eq_true rfl) rfl))))))
 (mk_lt
 (mk_lt
 (mk_lt
 (mk_eq (mk_iinc X dX5_least_149 rfl (Nat.le_of_ble_eq_true rfl) rfl))
 (mk_lt
 (mk_eq (mk_goto X dX5_least_152 rfl))
 (mk_eq (mk_lload_n X dX5_least_155 rfl rfl))))
 (mk_lt
 (mk_eq (mk_lconst X dX5_least_156 rfl rfl))
 (mk_lt
 (mk_eq (mk_lcmp X dX5_least_157 rfl))
 (mk_eq (mk_ifeq X dX5_least_158 rfl rfl)))))
 (mk_lt
 (mk_lt
 (mk_eq (mk_bipush X dX5_least_161 rfl rfl))
 (mk_lt
 (mk_eq (mk_ri X dX5_least_163))
 (mk_eq (mk_iload_n X dX5_least_164 rfl rfl))))
 (mk_lt
 (mk_eq (mk_istore X dX5_least_165 (Nat.le_of_ble_eq_true rfl) rfl))
 (mk_lt
 (mk_eq (mk_iload X dX5_least_167 rfl))
 (mk_eq (mk_bipush X dX5_least_169 rfl rfl)))))))))
 (mk_lt
 (mk_lt
 (mk_lt
 (mk_lt
 (mk_lt
 (mk_lt
 (mk_eq (mk_icge X dX5_least_171 rfl rfl))
 (mk_eq (mk_aload_n X dX5_least_174 rfl rfl)))
 (mk_lt
 (mk_eq (mk_get X (ci := 5) (j := 41) rfl in_X5 (Nat.le_of_ble_eq_true rfl) q788 dX5_least_175 rfl))
 (mk_lt
 (mk_eq (mk_iload X dX5_least_178 rfl))
 (mk_eq (mk_lconst X dX5_least_180 rfl rfl)))))
 (mk_lt
 (mk_lt
 (mk_eq (mk_law X dX5_least_181 rfl))
 (mk_lt
 (mk_eq (mk_iinc X dX5_least_182 rfl (Nat.le_of_ble_eq_true rfl) rfl))
 (mk_eq (mk_goto X dX5_least_185 rfl))))
 (mk_lt
 (mk_eq (mk_iconst X dX5_least_188 rfl rfl))
 (mk_lt
 (mk_eq (mk_istore X dX5_least_189 (Nat.le_of_ble_eq_true rfl) rfl))
 (mk_eq (mk_iload X dX5_least_191 rfl))))))
 (mk_lt
 (mk_lt
 (mk_lt
 (mk_eq (mk_iconst X dX5_least_193 rfl rfl))
 (mk_lt
 (mk_eq (mk_iload_n X dX5_least_194 rfl rfl))
 (mk_eq (mk_ishl X dX5_least_195 rfl))))
 (mk_lt
 (mk_eq (mk_icge X dX5_least_196 rfl rfl))
 (mk_lt
 (mk_eq (mk_iload X dX5_least_199 rfl))
 (mk_eq (mk_iload X dX5_least_201 rfl)))))
 (mk_lt
 (mk_lt
 (mk_eq (mk_ineg X dX5_least_203 rfl))
 (mk_lt
 (mk_eq (mk_iand X dX5_least_204 rfl))
 (mk_eq (mk_istore X dX5_least_205 (Nat.le_of_ble_eq_true rfl) rfl))))
 (mk_lt
 (mk_eq (mk_iload X dX5_least_207 rfl))
 (mk_lt
 (mk_eq (mk_ifne X dX5_least_209 rfl rfl))
 (mk_eq (mk_iconst X dX5_least_212 rfl rfl)))))))
 (mk_lt
 (mk_lt
 (mk_lt
 (mk_lt
 (mk_eq (mk_goto X dX5_least_213 rfl))
 (mk_lt
 (mk_eq (mk_aload_n X dX5_least_216 rfl rfl))
 (mk_eq (mk_get X (ci := 5) (j := 42) rfl in_X5 (Nat.le_of_ble_eq_true rfl) q789 dX5_least_217 rfl))))
 (mk_lt
 (mk_eq (mk_iload X dX5_least_220 rfl))
 (mk_lt
 (mk_eq (mk_iload X dX5_least_222 rfl))
 (mk_eq (mk_iconst X dX5_least_224 rfl rfl)))))
 (mk_lt
 (mk_lt
 (mk_eq (mk_ixor X dX5_least_225 rfl))
 (mk_lt
 (mk_eq (mk_iand X dX5_least_226 rfl))
 (mk_eq (mk_iar X dX5_least_227 rfl))))
 (mk_lt
 (mk_eq (mk_istore X dX5_least_228 (Nat.le_of_ble_eq_true rfl) rfl))
 (mk_lt
 (mk_eq (mk_iload X dX5_least_230 rfl))
 (mk_eq (mk_istore X dX5_least_232 (Nat.le_of_ble_eq_true rfl) rfl))))))
 (mk_lt
 (mk_lt
 (mk_lt
 (mk_eq (mk_iload X dX5_least_234 rfl))
 (mk_lt
 (mk_eq (mk_ifle X dX5_least_236 rfl rfl))
 (mk_eq (mk_iload X dX5_least_239 rfl))))
 (mk_lt
 (mk_eq (mk_iload X dX5_least_241 rfl))
 (mk_lt
 (mk_eq (mk_iand X dX5_least_243 rfl))
 (mk_eq (mk_ifeq X dX5_least_244 rfl rfl)))))
 (mk_lt
 (mk_lt
 (mk_eq (mk_aload_n X dX5_least_247 rfl rfl))
 (mk_lt
 (mk_eq (mk_get X (ci := 5) (j := 42) rfl in_X5 (Nat.le_of_ble_eq_true rfl) q789 dX5_least_248 rfl))
 (mk_eq (mk_iload X dX5_least_251 rfl))))
 (mk_lt
 (mk_eq (mk_iload X dX5_least_253 rfl))
 (mk_lt
 (mk_eq (mk_iconst X dX5_least_255 rfl rfl))
 (mk_eq (mk_ixor X dX5_least_256 rfl))))))))
 (mk_lt
 (mk_lt
 (mk_lt
 (mk_lt
 (mk_lt
 (mk_eq (mk_iand X dX5_least_257 rfl))
 (mk_eq (mk_iar X dX5_least_258 rfl)))
 (mk_lt
 (mk_eq (mk_iconst X dX5_least_259 rfl rfl))
 (mk_lt
 (mk_eq (mk_iadd X dX5_least_260 rfl))
 (mk_eq (mk_iload X dX5_least_261 rfl)))))
 (mk_lt
 (mk_lt
 (mk_eq (mk_icle X dX5_least_263 rfl rfl))
 (mk_lt
 (mk_eq (mk_aload_n X dX5_least_266 rfl rfl))
 (mk_eq (mk_iload X dX5_least_267 rfl))))
 (mk_lt
 (mk_eq (mk_iload X dX5_least_269 rfl))
 (mk_lt
 (mk_eq (mk_V3 X h_X5_isEven (ci := 5) rfl (lw_V q1094 q1096 qs52 q66 q1097) ⟨rfl, by decide, by decide, rfl⟩ ⟨(Nat.le_of_ble_eq_true rfl), (Nat.le_of_ble_eq_true rfl)⟩ dX5_least_271 rfl))
 (mk_eq (mk_ifeq X dX5_least_274 rfl rfl))))))
 (mk_lt
 (mk_lt
 (mk_lt
 (mk_eq (mk_aload_n X dX5_least_277 rfl rfl))
 (mk_lt
 (mk_eq (mk_get X (ci := 5) (j := 42) rfl in_X5 (Nat.le_of_ble_eq_true rfl) q789 dX5_least_278 rfl))
 (mk_eq (mk_iload X dX5_least_281 rfl))))
 (mk_lt
 (mk_eq (mk_iload X dX5_least_283 rfl))
 (mk_lt
 (mk_eq (mk_iconst X dX5_least_285 rfl rfl))
 (mk_eq (mk_ixor X dX5_least_286 rfl)))))
 (mk_lt
 (mk_lt
 (mk_eq (mk_iand X dX5_least_287 rfl))
 (mk_lt
 (mk_eq (mk_iar X dX5_least_288 rfl))
 (mk_eq (mk_iconst X dX5_least_289 rfl rfl))))
 (mk_lt
 (mk_eq (mk_iadd X dX5_least_290 rfl))
 (mk_lt
 (mk_eq (mk_istore X dX5_least_291 (Nat.le_of_ble_eq_true rfl) rfl))
 (mk_eq (mk_iload X dX5_least_293 rfl)))))))
 (mk_lt
 (mk_lt
 (mk_lt
 (mk_lt
 (mk_eq (mk_iconst X dX5_least_295 rfl rfl))
 (mk_lt
 (mk_eq (mk_isub X dX5_least_296 rfl))
 (mk_eq (mk_iload X dX5_least_297 rfl))))
 (mk_lt
 (mk_eq (mk_iand X dX5_least_299 rfl))
 (mk_lt
 (mk_eq (mk_istore X dX5_least_300 (Nat.le_of_ble_eq_true rfl) rfl))
 (mk_eq (mk_goto X dX5_least_302 rfl)))))
 (mk_lt
 (mk_lt
 (mk_eq (mk_aload_n X dX5_least_305 rfl rfl))
 (mk_lt
 (mk_eq (mk_get X (ci := 5) (j := 42) rfl in_X5 (Nat.le_of_ble_eq_true rfl) q789 dX5_least_306 rfl))
 (mk_eq (mk_iload X dX5_least_309 rfl))))
 (mk_lt
 (mk_eq (mk_iload X dX5_least_311 rfl))
 (mk_lt
 (mk_eq (mk_iaw X dX5_least_313 rfl))
 (mk_eq (mk_iinc X dX5_least_314 rfl (Nat.le_of_ble_eq_true rfl) rfl))))))
 (mk_lt
 (mk_lt
 (mk_lt
 (mk_eq (mk_goto X dX5_least_317 rfl))
 (mk_lt
 (mk_eq (mk_iload_n X dX5_least_320 rfl rfl))
 (mk_eq (mk_aload_n X dX5_least_321 rfl rfl))))
 (mk_lt
 (mk_eq (mk_get X (ci := 5) (j := 42) rfl in_X5 (Nat.le_of_ble_eq_true rfl) q789 dX5_least_322 rfl))
 (mk_lt
 (mk_eq (mk_iconst X dX5_least_325 rfl rfl))
 (mk_eq (mk_iload_n X dX5_least_326 rfl rfl)))))
 (mk_lt
 (mk_lt
 (mk_eq (mk_ishl X dX5_least_327 rfl))
 (mk_lt
 (mk_eq (mk_iconst X dX5_least_328 rfl rfl))
 (mk_eq (mk_isub X dX5_least_329 rfl))))
 (mk_lt
 (mk_eq (mk_iar X dX5_least_330 rfl))
 (mk_lt
 (mk_eq (mk_isub X dX5_least_331 rfl))
 (mk_eq (mk_ri X dX5_least_332))))))))))
theorem sd_X5_least {l : Launch} {w : ma_Wd} {NC : Nat} {A : Nat → Prop} {S_X5_tells S_X5_isEven : ma_Cs} (hw : ma_Wo w YM NC A) (h_X5_tells : ma_Sd l w YM NC A yX5_tells cX5_tells 4 (some .int) rm_X5_tells S_X5_tells) (h_X5_isEven : ma_Sd l w YM NC A yX5_isEven cX5_isEven 7 (some .boolean) rm_X5_isEven S_X5_isEven) : ma_Sd l w YM NC A yX5_least cX5_least 9 (some .int) rm_X5_least (ma_rn (tb_X5_least S_X5_tells S_X5_isEven) 9) := ma_of hw (by decide) ⟨rfl, rfl⟩ (fun X => tk_X5_least h_X5_tells h_X5_isEven X)
theorem dX5_isEven_0 : decode cX5_isEven 0 = .ok (.iload_n 1, 1) := by decide +kernel
theorem dX5_isEven_1 : decode cX5_isEven 1 = .ok (.iconst 1, 1) := by decide +kernel
theorem dX5_isEven_2 : decode cX5_isEven 2 = .ok (.iload_n 2, 1) := by decide +kernel
theorem dX5_isEven_3 : decode cX5_isEven 3 = .ok (.ishl, 1) := by decide +kernel
theorem dX5_isEven_4 : decode cX5_isEven 4 = .ok (.iconst 1, 1) := by decide +kernel
theorem dX5_isEven_5 : decode cX5_isEven 5 = .ok (.isub, 1) := by decide +kernel
theorem dX5_isEven_6 : decode cX5_isEven 6 = .ok (.iand, 1) := by decide +kernel
theorem dX5_isEven_7 : decode cX5_isEven 7 = .ok (.istore_n 3, 1) := by decide +kernel
theorem dX5_isEven_8 : decode cX5_isEven 8 = .ok (.iload_n 3, 1) := by decide +kernel
theorem dX5_isEven_9 : decode cX5_isEven 9 = .ok (.ifCond .eq 8, 3) := by decide +kernel
theorem dX5_isEven_12 : decode cX5_isEven 12 = .ok (.iload_n 3, 1) := by decide +kernel
theorem dX5_isEven_13 : decode cX5_isEven 13 = .ok (.iload_n 1, 1) := by decide +kernel
theorem dX5_isEven_14 : decode cX5_isEven 14 = .ok (.if_icmp .ne 5, 3) := by decide +kernel
theorem dX5_isEven_17 : decode cX5_isEven 17 = .ok (.iconst 0, 1) := by decide +kernel
theorem dX5_isEven_18 : decode cX5_isEven 18 = .ok (.ireturn, 1) := by decide +kernel
theorem dX5_isEven_19 : decode cX5_isEven 19 = .ok (.lconst 0, 1) := by decide +kernel
theorem dX5_isEven_20 : decode cX5_isEven 20 = .ok (.lstore 4, 2) := by decide +kernel
theorem dX5_isEven_22 : decode cX5_isEven 22 = .ok (.iconst 0, 1) := by decide +kernel
theorem dX5_isEven_23 : decode cX5_isEven 23 = .ok (.istore 6, 2) := by decide +kernel
theorem dX5_isEven_25 : decode cX5_isEven 25 = .ok (.iload 6, 2) := by decide +kernel
theorem dX5_isEven_27 : decode cX5_isEven 27 = .ok (.bipush 12, 2) := by decide +kernel
theorem dX5_isEven_29 : decode cX5_isEven 29 = .ok (.if_icmp .ge 35, 3) := by decide +kernel
theorem dX5_isEven_32 : decode cX5_isEven 32 = .ok (.lload 4, 2) := by decide +kernel
theorem dX5_isEven_34 : decode cX5_isEven 34 = .ok (.iload_n 1, 1) := by decide +kernel
theorem dX5_isEven_35 : decode cX5_isEven 35 = .ok (.iload 6, 2) := by decide +kernel
theorem dX5_isEven_37 : decode cX5_isEven 37 = .ok (.ishr, 1) := by decide +kernel
theorem dX5_isEven_38 : decode cX5_isEven 38 = .ok (.iconst 1, 1) := by decide +kernel
theorem dX5_isEven_39 : decode cX5_isEven 39 = .ok (.iand, 1) := by decide +kernel
theorem dX5_isEven_40 : decode cX5_isEven 40 = .ok (.iconst 1, 1) := by decide +kernel
theorem dX5_isEven_41 : decode cX5_isEven 41 = .ok (.if_icmp .ne 13, 3) := by decide +kernel
theorem dX5_isEven_44 : decode cX5_isEven 44 = .ok (.aload_n 0, 1) := by decide +kernel
theorem dX5_isEven_45 : decode cX5_isEven 45 = .ok (.getfield 97, 3) := by decide +kernel
theorem dX5_isEven_48 : decode cX5_isEven 48 = .ok (.iload 6, 2) := by decide +kernel
theorem dX5_isEven_50 : decode cX5_isEven 50 = .ok (.laload, 1) := by decide +kernel
theorem dX5_isEven_51 : decode cX5_isEven 51 = .ok (.goto 4, 3) := by decide +kernel
theorem dX5_isEven_54 : decode cX5_isEven 54 = .ok (.lconst 0, 1) := by decide +kernel
theorem dX5_isEven_55 : decode cX5_isEven 55 = .ok (.ladd, 1) := by decide +kernel
theorem dX5_isEven_56 : decode cX5_isEven 56 = .ok (.lstore 4, 2) := by decide +kernel
theorem dX5_isEven_58 : decode cX5_isEven 58 = .ok (.iinc 6 1, 3) := by decide +kernel
theorem dX5_isEven_61 : decode cX5_isEven 61 = .ok (.goto (-36), 3) := by decide +kernel
theorem dX5_isEven_64 : decode cX5_isEven 64 = .ok (.lload 4, 2) := by decide +kernel
theorem dX5_isEven_66 : decode cX5_isEven 66 = .ok (.lconst 0, 1) := by decide +kernel
theorem dX5_isEven_67 : decode cX5_isEven 67 = .ok (.lcmp, 1) := by decide +kernel
theorem dX5_isEven_68 : decode cX5_isEven 68 = .ok (.ifCond .ne 7, 3) := by decide +kernel
theorem dX5_isEven_71 : decode cX5_isEven 71 = .ok (.iconst 1, 1) := by decide +kernel
theorem dX5_isEven_72 : decode cX5_isEven 72 = .ok (.goto 4, 3) := by decide +kernel
theorem dX5_isEven_75 : decode cX5_isEven 75 = .ok (.iconst 0, 1) := by decide +kernel
theorem dX5_isEven_76 : decode cX5_isEven 76 = .ok (.ireturn, 1) := by decide +kernel
def tb_X5_isEven : Nat → ma_In := fun pc =>
 (if pc < 35 then
 (if pc < 14 then
 (if pc < 6 then
 (if pc < 3 then
 (if pc < 1 then
 (if pc = 0 then in_ild 1 1 else in_no) else
 (if pc < 2 then
 (if pc = 1 then in_push (.int 1) 2 else in_no) else
 (if pc = 2 then in_ild 2 3 else in_no))) else
 (if pc < 4 then
 (if pc = 3 then in_iii (fun x y => x <<< (y &&& 31)) 4 else in_no) else
 (if pc < 5 then
 (if pc = 4 then in_push (.int 1) 5 else in_no) else
 (if pc = 5 then in_iii (fun x y => x - y) 6 else in_no)))) else
 (if pc < 9 then
 (if pc < 7 then
 (if pc = 6 then in_iii (fun x y => x &&& y) 7 else in_no) else
 (if pc < 8 then
 (if pc = 7 then in_ist 3 8 else in_no) else
 (if pc = 8 then in_ild 3 9 else in_no))) else
 (if pc < 12 then
 (if pc = 9 then in_if1 (fun x => x = 0) 17 12 else in_no) else
 (if pc < 13 then
 (if pc = 12 then in_ild 3 13 else in_no) else
 (if pc = 13 then in_ild 1 14 else in_no))))) else
 (if pc < 23 then
 (if pc < 19 then
 (if pc < 17 then
 (if pc = 14 then in_if2 (fun x y => x = y) 17 19 else in_no) else
 (if pc < 18 then
 (if pc = 17 then in_push (.int 0) 18 else in_no) else
 (if pc = 18 then in_rz else in_no))) else
 (if pc < 20 then
 (if pc = 19 then in_push (.long 0) 20 else in_no) else
 (if pc < 22 then
 (if pc = 20 then in_lst 4 22 else in_no) else
 (if pc = 22 then in_push (.int 0) 23 else in_no)))) else
 (if pc < 29 then
 (if pc < 25 then
 (if pc = 23 then in_ist 6 25 else in_no) else
 (if pc < 27 then
 (if pc = 25 then in_ild 6 27 else in_no) else
 (if pc = 27 then in_push (.int 12) 29 else in_no))) else
 (if pc < 32 then
 (if pc = 29 then in_if2 (fun x y => y ≤ x) 64 32 else in_no) else
 (if pc < 34 then
 (if pc = 32 then in_lld 4 34 else in_no) else
 (if pc = 34 then in_ild 1 35 else in_no)))))) else
 (if pc < 55 then
 (if pc < 44 then
 (if pc < 39 then
 (if pc < 37 then
 (if pc = 35 then in_ild 6 37 else in_no) else
 (if pc < 38 then
 (if pc = 37 then in_iii (fun x y => x >>> (y &&& 31)) 38 else in_no) else
 (if pc = 38 then in_push (.int 1) 39 else in_no))) else
 (if pc < 40 then
 (if pc = 39 then in_iii (fun x y => x &&& y) 40 else in_no) else
 (if pc < 41 then
 (if pc = 40 then in_push (.int 1) 41 else in_no) else
 (if pc = 41 then in_if2 (fun x y => x = y) 44 54 else in_no)))) else
 (if pc < 50 then
 (if pc < 45 then
 (if pc = 44 then in_ald 0 45 else in_no) else
 (if pc < 48 then
 (if pc = 45 then in_get YM 5 41 48 else in_no) else
 (if pc = 48 then in_ild 6 50 else in_no))) else
 (if pc < 51 then
 (if pc = 50 then in_lar YM 51 else in_no) else
 (if pc < 54 then
 (if pc = 51 then in_go 55 else in_no) else
 (if pc = 54 then in_push (.long 0) 55 else in_no))))) else
 (if pc < 67 then
 (if pc < 61 then
 (if pc < 56 then
 (if pc = 55 then in_lll (fun x y => x + y) 56 else in_no) else
 (if pc < 58 then
 (if pc = 56 then in_lst 4 58 else in_no) else
 (if pc = 58 then in_inc 6 1 61 else in_no))) else
 (if pc < 64 then
 (if pc = 61 then in_go 25 else in_no) else
 (if pc < 66 then
 (if pc = 64 then in_lld 4 66 else in_no) else
 (if pc = 66 then in_push (.long 0) 67 else in_no)))) else
 (if pc < 72 then
 (if pc < 68 then
 (if pc = 67 then in_lli lg_cmp 68 else in_no) else
 (if pc < 71 then
 (if pc = 68 then in_if1 (fun x => x = 0) 71 75 else in_no) else
 (if pc = 71 then in_push (.int 1) 72 else in_no))) else
 (if pc < 75 then
 (if pc = 72 then in_go 76 else in_no) else
 (if pc < 76 then
 (if pc = 75 then in_push (.int 0) 76 else in_no) else
 (if pc = 76 then in_rz else in_no)))))))
theorem tk_X5_isEven {l : Launch} {w : ma_Wd} {NC : Nat} {A : Nat → Prop} {p : Program} {e : Env} {s : State} {m : MethodId} {args : Array Value} {below : List Frame} {meth : Method} {c : Code} (X : ma_Cx p s m args meth c w YM NC A yX5_isEven.cls cX5_isEven 7 (some .boolean)) : ∀ pc, ma_Ok p l e rm_X5_isEven s m args below meth c w YM NC A 7 pc (tb_X5_isEven pc) := fun pc =>
 (mk_lt
 (mk_lt
 (mk_lt
 (mk_lt
 (mk_lt
 (mk_eq (mk_iload_n X dX5_isEven_0 rfl rfl))
 (mk_lt
 (mk_eq (mk_iconst X dX5_isEven_1 rfl rfl))
 (mk_eq (mk_iload_n X dX5_isEven_2 rfl rfl))))
 (mk_lt
 (mk_eq (mk_ishl X dX5_isEven_3 rfl))
 (mk_lt
 (mk_eq (mk_iconst X dX5_isEven_4 rfl rfl))
 (mk_eq (mk_isub X dX5_isEven_5 rfl)))))
 (mk_lt
 (mk_lt
 (mk_eq (mk_iand X dX5_isEven_6 rfl))
 (mk_lt
 (mk_eq (mk_istore_n X dX5_isEven_7 rfl (Nat.le_of_ble_eq_true rfl) rfl))
 (mk_eq (mk_iload_n X dX5_isEven_8 rfl rfl))))
 (mk_lt
 (mk_eq (mk_ifeq X dX5_isEven_9 rfl rfl))
 (mk_lt
 (mk_eq (mk_iload_n X dX5_isEven_12 rfl rfl))
 (mk_eq (mk_iload_n X dX5_isEven_13 rfl rfl))))))
 (mk_lt
 (mk_lt
 (mk_lt
 (mk_eq (mk_icne X dX5_isEven_14 rfl rfl))
 (mk_lt
 (mk_eq (mk_iconst X dX5_isEven_17 rfl rfl))
 (mk_eq (mk_rz X dX5_isEven_18))))
 (mk_lt
 (mk_eq (mk_lconst X dX5_isEven_19 rfl rfl))
 (mk_lt
 (mk_eq (mk_lstore X dX5_isEven_20 (Nat.le_of_ble_eq_true rfl) rfl))
 (mk_eq (mk_iconst X dX5_isEven_22 rfl rfl)))))
 (mk_lt
 (mk_lt
 (mk_eq (mk_istore X dX5_isEven_23 (Nat.le_of_ble_eq_true rfl) rfl))
 (mk_lt
 (mk_eq (mk_iload X dX5_isEven_25 rfl))
 (mk_eq (mk_bipush X dX5_isEven_27 rfl rfl))))
 (mk_lt
 (mk_eq (mk_icge X dX5_isEven_29 rfl rfl))
 (mk_lt
 (mk_eq (mk_lload X dX5_isEven_32 rfl))
 (mk_eq (mk_iload_n X dX5_isEven_34 rfl rfl)))))))
 (mk_lt
 (mk_lt
 (mk_lt
 (mk_lt
 (mk_eq (mk_iload X dX5_isEven_35 rfl))
 (mk_lt
 (mk_eq (mk_ishr X dX5_isEven_37 rfl))
 (mk_eq (mk_iconst X dX5_isEven_38 rfl rfl))))
 (mk_lt
 (mk_eq (mk_iand X dX5_isEven_39 rfl))
 (mk_lt
 (mk_eq (mk_iconst X dX5_isEven_40 rfl rfl))
 (mk_eq (mk_icne X dX5_isEven_41 rfl rfl)))))
 (mk_lt
 (mk_lt
 (mk_eq (mk_aload_n X dX5_isEven_44 rfl rfl))
 (mk_lt
 (mk_eq (mk_get X (ci := 5) (j := 41) rfl in_X5 (Nat.le_of_ble_eq_true rfl) q788 dX5_isEven_45 rfl))
 (mk_eq (mk_iload X dX5_isEven_48 rfl))))
 (mk_lt
 (mk_eq (mk_lar X dX5_isEven_50 rfl))
 (mk_lt
 (mk_eq (mk_goto X dX5_isEven_51 rfl))
 (mk_eq (mk_lconst X dX5_isEven_54 rfl rfl))))))
 (mk_lt
 (mk_lt
 (mk_lt
 (mk_eq (mk_ladd X dX5_isEven_55 rfl))
 (mk_lt
 (mk_eq (mk_lstore X dX5_isEven_56 (Nat.le_of_ble_eq_true rfl) rfl))
 (mk_eq (mk_iinc X dX5_isEven_58 rfl (Nat.le_of_ble_eq_true rfl) rfl))))
 (mk_lt
 (mk_eq (mk_goto X dX5_isEven_61 rfl))
 (mk_lt
 (mk_eq (mk_lload X dX5_isEven_64 rfl))
 (mk_eq (mk_lconst X dX5_isEven_66 rfl rfl)))))
 (mk_lt
 (mk_lt
 (mk_eq (mk_lcmp X dX5_isEven_67 rfl))
 (mk_lt
 (mk_eq (mk_ifne X dX5_isEven_68 rfl rfl))
 (mk_eq (mk_iconst X dX5_isEven_71 rfl rfl))))
 (mk_lt
 (mk_eq (mk_goto X dX5_isEven_72 rfl))
 (mk_lt
 (mk_eq (mk_iconst X dX5_isEven_75 rfl rfl))
 (mk_eq (mk_rz X dX5_isEven_76))))))))
theorem sd_X5_isEven {l : Launch} {w : ma_Wd} {NC : Nat} {A : Nat → Prop} (hw : ma_Wo w YM NC A) : ma_Sd l w YM NC A yX5_isEven cX5_isEven 7 (some .boolean) rm_X5_isEven (ma_rn (tb_X5_isEven) 7) := ma_of hw (by decide) ⟨rfl, rfl⟩ (fun X => tk_X5_isEven  X)
