/-! tables: X5_steps X5_made X5_named X5_size X5_downLong X5_slipped X5_madeMarked X5_namedMarked X5_marked X5_sum X5_slip X5_mend -/
set_option maxRecDepth 100000
set_option maxHeartbeats 4000000
theorem dX5_steps_0 : decode cX5_steps 0 = .ok (.iconst 1, 1) := by decide +kernel
theorem dX5_steps_1 : decode cX5_steps 1 = .ok (.istore_n 3, 1) := by decide +kernel
theorem dX5_steps_2 : decode cX5_steps 2 = .ok (.iload_n 3, 1) := by decide +kernel
theorem dX5_steps_3 : decode cX5_steps 3 = .ok (.bipush 13, 2) := by decide +kernel
theorem dX5_steps_5 : decode cX5_steps 5 = .ok (.if_icmp .ge 154, 3) := by decide +kernel
theorem dX5_steps_8 : decode cX5_steps 8 = .ok (.iconst 0, 1) := by decide +kernel
theorem dX5_steps_9 : decode cX5_steps 9 = .ok (.istore 4, 2) := by decide +kernel
theorem dX5_steps_11 : decode cX5_steps 11 = .ok (.iload 4, 2) := by decide +kernel
theorem dX5_steps_13 : decode cX5_steps 13 = .ok (.aload_n 0, 1) := by decide +kernel
theorem dX5_steps_14 : decode cX5_steps 14 = .ok (.getfield 211, 3) := by decide +kernel
theorem dX5_steps_17 : decode cX5_steps 17 = .ok (.aload_n 0, 1) := by decide +kernel
theorem dX5_steps_18 : decode cX5_steps 18 = .ok (.getfield 214, 3) := by decide +kernel
theorem dX5_steps_21 : decode cX5_steps 21 = .ok (.imul, 1) := by decide +kernel
theorem dX5_steps_22 : decode cX5_steps 22 = .ok (.if_icmp .ge 131, 3) := by decide +kernel
theorem dX5_steps_25 : decode cX5_steps 25 = .ok (.iconst 0, 1) := by decide +kernel
theorem dX5_steps_26 : decode cX5_steps 26 = .ok (.istore 5, 2) := by decide +kernel
theorem dX5_steps_28 : decode cX5_steps 28 = .ok (.iload 5, 2) := by decide +kernel
theorem dX5_steps_30 : decode cX5_steps 30 = .ok (.bipush 8, 2) := by decide +kernel
theorem dX5_steps_32 : decode cX5_steps 32 = .ok (.if_icmp .ge 115, 3) := by decide +kernel
theorem dX5_steps_35 : decode cX5_steps 35 = .ok (.iload 5, 2) := by decide +kernel
theorem dX5_steps_37 : decode cX5_steps 37 = .ok (.iconst 4, 1) := by decide +kernel
theorem dX5_steps_38 : decode cX5_steps 38 = .ok (.if_icmp .ge 26, 3) := by decide +kernel
theorem dX5_steps_41 : decode cX5_steps 41 = .ok (.iload 5, 2) := by decide +kernel
theorem dX5_steps_43 : decode cX5_steps 43 = .ok (.aload_n 0, 1) := by decide +kernel
theorem dX5_steps_44 : decode cX5_steps 44 = .ok (.getfield 203, 3) := by decide +kernel
theorem dX5_steps_47 : decode cX5_steps 47 = .ok (.if_icmp .ge 13, 3) := by decide +kernel
theorem dX5_steps_50 : decode cX5_steps 50 = .ok (.aload_n 0, 1) := by decide +kernel
theorem dX5_steps_51 : decode cX5_steps 51 = .ok (.getfield 26, 3) := by decide +kernel
theorem dX5_steps_54 : decode cX5_steps 54 = .ok (.iload 5, 2) := by decide +kernel
theorem dX5_steps_56 : decode cX5_steps 56 = .ok (.iaload, 1) := by decide +kernel
theorem dX5_steps_57 : decode cX5_steps 57 = .ok (.goto 27, 3) := by decide +kernel
theorem dX5_steps_60 : decode cX5_steps 60 = .ok (.iconst (-1), 1) := by decide +kernel
theorem dX5_steps_61 : decode cX5_steps 61 = .ok (.goto 23, 3) := by decide +kernel
theorem dX5_steps_64 : decode cX5_steps 64 = .ok (.aload_n 0, 1) := by decide +kernel
theorem dX5_steps_65 : decode cX5_steps 65 = .ok (.getfield 29, 3) := by decide +kernel
theorem dX5_steps_68 : decode cX5_steps 68 = .ok (.iload 5, 2) := by decide +kernel
theorem dX5_steps_70 : decode cX5_steps 70 = .ok (.iconst 4, 1) := by decide +kernel
theorem dX5_steps_71 : decode cX5_steps 71 = .ok (.isub, 1) := by decide +kernel
theorem dX5_steps_72 : decode cX5_steps 72 = .ok (.iaload, 1) := by decide +kernel
theorem dX5_steps_73 : decode cX5_steps 73 = .ok (.ifCond .ge 10, 3) := by decide +kernel
theorem dX5_steps_76 : decode cX5_steps 76 = .ok (.iload 5, 2) := by decide +kernel
theorem dX5_steps_78 : decode cX5_steps 78 = .ok (.iconst 4, 1) := by decide +kernel
theorem dX5_steps_79 : decode cX5_steps 79 = .ok (.isub, 1) := by decide +kernel
theorem dX5_steps_80 : decode cX5_steps 80 = .ok (.goto 4, 3) := by decide +kernel
theorem dX5_steps_83 : decode cX5_steps 83 = .ok (.iconst (-1), 1) := by decide +kernel
theorem dX5_steps_84 : decode cX5_steps 84 = .ok (.istore 6, 2) := by decide +kernel
theorem dX5_steps_86 : decode cX5_steps 86 = .ok (.iload 6, 2) := by decide +kernel
theorem dX5_steps_88 : decode cX5_steps 88 = .ok (.ifCond .lt 53, 3) := by decide +kernel
theorem dX5_steps_91 : decode cX5_steps 91 = .ok (.iload_n 3, 1) := by decide +kernel
theorem dX5_steps_92 : decode cX5_steps 92 = .ok (.iload 4, 2) := by decide +kernel
theorem dX5_steps_94 : decode cX5_steps 94 = .ok (.iload 6, 2) := by decide +kernel
theorem dX5_steps_96 : decode cX5_steps 96 = .ok (.invokestatic 217, 3) := by decide +kernel
theorem dX5_steps_99 : decode cX5_steps 99 = .ok (.istore 7, 2) := by decide +kernel
theorem dX5_steps_101 : decode cX5_steps 101 = .ok (.aload_n 1, 1) := by decide +kernel
theorem dX5_steps_102 : decode cX5_steps 102 = .ok (.iload 7, 2) := by decide +kernel
theorem dX5_steps_104 : decode cX5_steps 104 = .ok (.aload_n 0, 1) := by decide +kernel
theorem dX5_steps_105 : decode cX5_steps 105 = .ok (.aload_n 0, 1) := by decide +kernel
theorem dX5_steps_106 : decode cX5_steps 106 = .ok (.aload_n 1, 1) := by decide +kernel
theorem dX5_steps_107 : decode cX5_steps 107 = .ok (.iload 6, 2) := by decide +kernel
theorem dX5_steps_109 : decode cX5_steps 109 = .ok (.iload_n 3, 1) := by decide +kernel
theorem dX5_steps_110 : decode cX5_steps 110 = .ok (.iload 4, 2) := by decide +kernel
theorem dX5_steps_112 : decode cX5_steps 112 = .ok (.invokevirtual 248, 3) := by decide +kernel
theorem dX5_steps_115 : decode cX5_steps 115 = .ok (.iload_n 3, 1) := by decide +kernel
theorem dX5_steps_116 : decode cX5_steps 116 = .ok (.iload 4, 2) := by decide +kernel
theorem dX5_steps_118 : decode cX5_steps 118 = .ok (.iload 6, 2) := by decide +kernel
theorem dX5_steps_120 : decode cX5_steps 120 = .ok (.iload_n 2, 1) := by decide +kernel
theorem dX5_steps_121 : decode cX5_steps 121 = .ok (.invokevirtual 251, 3) := by decide +kernel
theorem dX5_steps_124 : decode cX5_steps 124 = .ok (.iastore, 1) := by decide +kernel
theorem dX5_steps_125 : decode cX5_steps 125 = .ok (.aload_n 0, 1) := by decide +kernel
theorem dX5_steps_126 : decode cX5_steps 126 = .ok (.getfield 90, 3) := by decide +kernel
theorem dX5_steps_129 : decode cX5_steps 129 = .ok (.iload 7, 2) := by decide +kernel
theorem dX5_steps_131 : decode cX5_steps 131 = .ok (.aload_n 0, 1) := by decide +kernel
theorem dX5_steps_132 : decode cX5_steps 132 = .ok (.iload 6, 2) := by decide +kernel
theorem dX5_steps_134 : decode cX5_steps 134 = .ok (.iload_n 3, 1) := by decide +kernel
theorem dX5_steps_135 : decode cX5_steps 135 = .ok (.iload 4, 2) := by decide +kernel
theorem dX5_steps_137 : decode cX5_steps 137 = .ok (.invokevirtual 255, 3) := by decide +kernel
theorem dX5_steps_140 : decode cX5_steps 140 = .ok (.bastore, 1) := by decide +kernel
theorem dX5_steps_141 : decode cX5_steps 141 = .ok (.iinc 5 1, 3) := by decide +kernel
theorem dX5_steps_144 : decode cX5_steps 144 = .ok (.goto (-116), 3) := by decide +kernel
theorem dX5_steps_147 : decode cX5_steps 147 = .ok (.iinc 4 1, 3) := by decide +kernel
theorem dX5_steps_150 : decode cX5_steps 150 = .ok (.goto (-139), 3) := by decide +kernel
theorem dX5_steps_153 : decode cX5_steps 153 = .ok (.iinc 3 1, 3) := by decide +kernel
theorem dX5_steps_156 : decode cX5_steps 156 = .ok (.goto (-154), 3) := by decide +kernel
theorem dX5_steps_159 : decode cX5_steps 159 = .ok (.return_, 1) := by decide +kernel
def tb_X5_steps (S_X5_place S_X5_made S_X5_slipped S_X5_madeMarked : ma_Cs) : Nat → ma_In := fun pc =>
 (if pc < 79 then
 (if pc < 38 then
 (if pc < 17 then
 (if pc < 8 then
 (if pc < 2 then
 (if pc < 1 then
 (if pc = 0 then in_push (.int 1) 1 else in_no) else
 (if pc = 1 then in_ist 3 2 else in_no)) else
 (if pc < 3 then
 (if pc = 2 then in_ild 3 3 else in_no) else
 (if pc < 5 then
 (if pc = 3 then in_push (.int 13) 5 else in_no) else
 (if pc = 5 then in_if2 (fun x y => y ≤ x) 159 8 else in_no)))) else
 (if pc < 11 then
 (if pc < 9 then
 (if pc = 8 then in_push (.int 0) 9 else in_no) else
 (if pc = 9 then in_ist 4 11 else in_no)) else
 (if pc < 13 then
 (if pc = 11 then in_ild 4 13 else in_no) else
 (if pc < 14 then
 (if pc = 13 then in_ald 0 14 else in_no) else
 (if pc = 14 then in_get YM 5 35 17 else in_no))))) else
 (if pc < 26 then
 (if pc < 21 then
 (if pc < 18 then
 (if pc = 17 then in_ald 0 18 else in_no) else
 (if pc = 18 then in_get YM 5 36 21 else in_no)) else
 (if pc < 22 then
 (if pc = 21 then in_iii (fun x y => x * y) 22 else in_no) else
 (if pc < 25 then
 (if pc = 22 then in_if2 (fun x y => y ≤ x) 153 25 else in_no) else
 (if pc = 25 then in_push (.int 0) 26 else in_no)))) else
 (if pc < 32 then
 (if pc < 28 then
 (if pc = 26 then in_ist 5 28 else in_no) else
 (if pc < 30 then
 (if pc = 28 then in_ild 5 30 else in_no) else
 (if pc = 30 then in_push (.int 8) 32 else in_no))) else
 (if pc < 35 then
 (if pc = 32 then in_if2 (fun x y => y ≤ x) 147 35 else in_no) else
 (if pc < 37 then
 (if pc = 35 then in_ild 5 37 else in_no) else
 (if pc = 37 then in_push (.int 4) 38 else in_no)))))) else
 (if pc < 60 then
 (if pc < 50 then
 (if pc < 43 then
 (if pc < 41 then
 (if pc = 38 then in_if2 (fun x y => y ≤ x) 64 41 else in_no) else
 (if pc = 41 then in_ild 5 43 else in_no)) else
 (if pc < 44 then
 (if pc = 43 then in_ald 0 44 else in_no) else
 (if pc < 47 then
 (if pc = 44 then in_get YM 5 7 47 else in_no) else
 (if pc = 47 then in_if2 (fun x y => y ≤ x) 60 50 else in_no)))) else
 (if pc < 54 then
 (if pc < 51 then
 (if pc = 50 then in_ald 0 51 else in_no) else
 (if pc = 51 then in_get YM 5 9 54 else in_no)) else
 (if pc < 56 then
 (if pc = 54 then in_ild 5 56 else in_no) else
 (if pc < 57 then
 (if pc = 56 then in_iar YM 57 else in_no) else
 (if pc = 57 then in_go 84 else in_no))))) else
 (if pc < 70 then
 (if pc < 64 then
 (if pc < 61 then
 (if pc = 60 then in_push (.int (-1)) 61 else in_no) else
 (if pc = 61 then in_go 84 else in_no)) else
 (if pc < 65 then
 (if pc = 64 then in_ald 0 65 else in_no) else
 (if pc < 68 then
 (if pc = 65 then in_get YM 5 10 68 else in_no) else
 (if pc = 68 then in_ild 5 70 else in_no)))) else
 (if pc < 73 then
 (if pc < 71 then
 (if pc = 70 then in_push (.int 4) 71 else in_no) else
 (if pc < 72 then
 (if pc = 71 then in_iii (fun x y => x - y) 72 else in_no) else
 (if pc = 72 then in_iar YM 73 else in_no))) else
 (if pc < 76 then
 (if pc = 73 then in_if1 (fun x => 0 ≤ x) 83 76 else in_no) else
 (if pc < 78 then
 (if pc = 76 then in_ild 5 78 else in_no) else
 (if pc = 78 then in_push (.int 4) 79 else in_no))))))) else
 (if pc < 116 then
 (if pc < 99 then
 (if pc < 88 then
 (if pc < 83 then
 (if pc < 80 then
 (if pc = 79 then in_iii (fun x y => x - y) 80 else in_no) else
 (if pc = 80 then in_go 84 else in_no)) else
 (if pc < 84 then
 (if pc = 83 then in_push (.int (-1)) 84 else in_no) else
 (if pc < 86 then
 (if pc = 84 then in_ist 6 86 else in_no) else
 (if pc = 86 then in_ild 6 88 else in_no)))) else
 (if pc < 92 then
 (if pc < 91 then
 (if pc = 88 then in_if1 (fun x => x < 0) 141 91 else in_no) else
 (if pc = 91 then in_ild 3 92 else in_no)) else
 (if pc < 94 then
 (if pc = 92 then in_ild 4 94 else in_no) else
 (if pc < 96 then
 (if pc = 94 then in_ild 6 96 else in_no) else
 (if pc = 96 then in_s3 S_X5_place 99 else in_no))))) else
 (if pc < 106 then
 (if pc < 102 then
 (if pc < 101 then
 (if pc = 99 then in_ist 7 101 else in_no) else
 (if pc = 101 then in_ald 1 102 else in_no)) else
 (if pc < 104 then
 (if pc = 102 then in_ild 7 104 else in_no) else
 (if pc < 105 then
 (if pc = 104 then in_ald 0 105 else in_no) else
 (if pc = 105 then in_ald 0 106 else in_no)))) else
 (if pc < 110 then
 (if pc < 107 then
 (if pc = 106 then in_ald 1 107 else in_no) else
 (if pc < 109 then
 (if pc = 107 then in_ild 6 109 else in_no) else
 (if pc = 109 then in_ild 3 110 else in_no))) else
 (if pc < 112 then
 (if pc = 110 then in_ild 4 112 else in_no) else
 (if pc < 115 then
 (if pc = 112 then in_v5 YM 5 S_X5_made 115 else in_no) else
 (if pc = 115 then in_ild 3 116 else in_no)))))) else
 (if pc < 134 then
 (if pc < 125 then
 (if pc < 120 then
 (if pc < 118 then
 (if pc = 116 then in_ild 4 118 else in_no) else
 (if pc = 118 then in_ild 6 120 else in_no)) else
 (if pc < 121 then
 (if pc = 120 then in_ild 2 121 else in_no) else
 (if pc < 124 then
 (if pc = 121 then in_v6 YM 5 S_X5_slipped 124 else in_no) else
 (if pc = 124 then in_iaw YM 125 else in_no)))) else
 (if pc < 129 then
 (if pc < 126 then
 (if pc = 125 then in_ald 0 126 else in_no) else
 (if pc = 126 then in_get YM 5 39 129 else in_no)) else
 (if pc < 131 then
 (if pc = 129 then in_ild 7 131 else in_no) else
 (if pc < 132 then
 (if pc = 131 then in_ald 0 132 else in_no) else
 (if pc = 132 then in_ild 6 134 else in_no))))) else
 (if pc < 144 then
 (if pc < 137 then
 (if pc < 135 then
 (if pc = 134 then in_ild 3 135 else in_no) else
 (if pc = 135 then in_ild 4 137 else in_no)) else
 (if pc < 140 then
 (if pc = 137 then in_v4 YM 5 S_X5_madeMarked 140 else in_no) else
 (if pc < 141 then
 (if pc = 140 then in_baw YM 141 else in_no) else
 (if pc = 141 then in_inc 5 1 144 else in_no)))) else
 (if pc < 153 then
 (if pc < 147 then
 (if pc = 144 then in_go 28 else in_no) else
 (if pc < 150 then
 (if pc = 147 then in_inc 4 1 150 else in_no) else
 (if pc = 150 then in_go 11 else in_no))) else
 (if pc < 156 then
 (if pc = 153 then in_inc 3 1 156 else in_no) else
 (if pc < 159 then
 (if pc = 156 then in_go 2 else in_no) else
 (if pc = 159 then in_rv else in_no))))))))
theorem tk_X5_steps {l : Launch} {w : ma_Wd} {NC : Nat} {A : Nat → Prop} {S_X5_place S_X5_made S_X5_slipped S_X5_madeMarked : ma_Cs} (h_X5_place : ma_Sd l w YM NC A yX5_place cX5_place 3 (some .int) rm_X5_place S_X5_place) (h_X5_made : ma_Sd l w YM NC A yX5_made cX5_made 14 (some .int) rm_X5_made S_X5_made) (h_X5_slipped : ma_Sd l w YM NC A yX5_slipped cX5_slipped 8 (some .int) rm_X5_slipped S_X5_slipped) (h_X5_madeMarked : ma_Sd l w YM NC A yX5_madeMarked cX5_madeMarked 6 (some .boolean) rm_X5_madeMarked S_X5_madeMarked) {p : Program} {e : Env} {s : State} {m : MethodId} {args : Array Value} {below : List Frame} {meth : Method} {c : Code} (X : ma_Cx p s m args meth c w YM NC A yX5_steps.cls cX5_steps 8 none) : ∀ pc, ma_Ok p l e rm_X5_steps s m args below meth c w YM NC A 8 pc (tb_X5_steps S_X5_place S_X5_made S_X5_slipped S_X5_madeMarked pc) := fun pc =>
 (mk_lt
 (mk_lt
 (mk_lt
 (mk_lt
 (mk_lt
 (mk_lt
 (mk_eq (mk_iconst X dX5_steps_0 rfl rfl))
 (mk_eq (mk_istore_n X dX5_steps_1 rfl (Nat.le_of_ble_eq_true rfl) rfl)))
 (mk_lt
 (mk_eq (mk_iload_n X dX5_steps_2 rfl rfl))
 (mk_lt
 (mk_eq (mk_bipush X dX5_steps_3 rfl rfl))
 (mk_eq (mk_icge X dX5_steps_5 rfl rfl)))))
 (mk_lt
 (mk_lt
 (mk_eq (mk_iconst X dX5_steps_8 rfl rfl))
 (mk_eq (mk_istore X dX5_steps_9 (Nat.le_of_ble_eq_true rfl) rfl)))
 (mk_lt
 (mk_eq (mk_iload X dX5_steps_11 rfl))
 (mk_lt
 (mk_eq (mk_aload_n X dX5_steps_13 rfl rfl))
 (mk_eq (mk_get X (ci := 5) (j := 35) rfl in_X5 (Nat.le_of_ble_eq_true rfl) q782 dX5_steps_14 rfl))))))
 (mk_lt
 (mk_lt
 (mk_lt
 (mk_eq (mk_aload_n X dX5_steps_17 rfl rfl))
 (mk_eq (mk_get X (ci := 5) (j := 36) rfl in_X5 (Nat.le_of_ble_eq_true rfl) q783 dX5_steps_18 rfl)))
 (mk_lt
 (mk_eq (mk_imul X dX5_steps_21 rfl))
 (mk_lt
 (mk_eq (mk_icge X dX5_steps_22 rfl rfl))
 (mk_eq (mk_iconst X dX5_steps_25 rfl rfl)))))
 (mk_lt
 (mk_lt
 (mk_eq (mk_istore X dX5_steps_26 (Nat.le_of_ble_eq_true rfl) rfl))
 (mk_lt
 (mk_eq (mk_iload X dX5_steps_28 rfl))
 (mk_eq (mk_bipush X dX5_steps_30 rfl rfl))))
 (mk_lt
 (mk_eq (mk_icge X dX5_steps_32 rfl rfl))
 (mk_lt
 (mk_eq (mk_iload X dX5_steps_35 rfl))
 (mk_eq (mk_iconst X dX5_steps_37 rfl rfl)))))))
 (mk_lt
 (mk_lt
 (mk_lt
 (mk_lt
 (mk_eq (mk_icge X dX5_steps_38 rfl rfl))
 (mk_eq (mk_iload X dX5_steps_41 rfl)))
 (mk_lt
 (mk_eq (mk_aload_n X dX5_steps_43 rfl rfl))
 (mk_lt
 (mk_eq (mk_get X (ci := 5) (j := 7) rfl in_X5 (Nat.le_of_ble_eq_true rfl) q754 dX5_steps_44 rfl))
 (mk_eq (mk_icge X dX5_steps_47 rfl rfl)))))
 (mk_lt
 (mk_lt
 (mk_eq (mk_aload_n X dX5_steps_50 rfl rfl))
 (mk_eq (mk_get X (ci := 5) (j := 9) rfl in_X5 (Nat.le_of_ble_eq_true rfl) q756 dX5_steps_51 rfl)))
 (mk_lt
 (mk_eq (mk_iload X dX5_steps_54 rfl))
 (mk_lt
 (mk_eq (mk_iar X dX5_steps_56 rfl))
 (mk_eq (mk_goto X dX5_steps_57 rfl))))))
 (mk_lt
 (mk_lt
 (mk_lt
 (mk_eq (mk_iconst X dX5_steps_60 rfl rfl))
 (mk_eq (mk_goto X dX5_steps_61 rfl)))
 (mk_lt
 (mk_eq (mk_aload_n X dX5_steps_64 rfl rfl))
 (mk_lt
 (mk_eq (mk_get X (ci := 5) (j := 10) rfl in_X5 (Nat.le_of_ble_eq_true rfl) q757 dX5_steps_65 rfl))
 (mk_eq (mk_iload X dX5_steps_68 rfl)))))
 (mk_lt
 (mk_lt
 (mk_eq (mk_iconst X dX5_steps_70 rfl rfl))
 (mk_lt
 (mk_eq (mk_isub X dX5_steps_71 rfl))
 (mk_eq (mk_iar X dX5_steps_72 rfl))))
 (mk_lt
 (mk_eq (mk_ifge X dX5_steps_73 rfl rfl))
 (mk_lt
 (mk_eq (mk_iload X dX5_steps_76 rfl))
 (mk_eq (mk_iconst X dX5_steps_78 rfl rfl))))))))
 (mk_lt
 (mk_lt
 (mk_lt
 (mk_lt
 (mk_lt
 (mk_eq (mk_isub X dX5_steps_79 rfl))
 (mk_eq (mk_goto X dX5_steps_80 rfl)))
 (mk_lt
 (mk_eq (mk_iconst X dX5_steps_83 rfl rfl))
 (mk_lt
 (mk_eq (mk_istore X dX5_steps_84 (Nat.le_of_ble_eq_true rfl) rfl))
 (mk_eq (mk_iload X dX5_steps_86 rfl)))))
 (mk_lt
 (mk_lt
 (mk_eq (mk_iflt X dX5_steps_88 rfl rfl))
 (mk_eq (mk_iload_n X dX5_steps_91 rfl rfl)))
 (mk_lt
 (mk_eq (mk_iload X dX5_steps_92 rfl))
 (mk_lt
 (mk_eq (mk_iload X dX5_steps_94 rfl))
 (mk_eq (mk_S3 X h_X5_place (lw_S q999 q1000 q66 q1001) ⟨by decide, by decide, rfl⟩ ⟨(Nat.le_of_ble_eq_true rfl), (Nat.le_of_ble_eq_true rfl)⟩ dX5_steps_96 rfl))))))
 (mk_lt
 (mk_lt
 (mk_lt
 (mk_eq (mk_istore X dX5_steps_99 (Nat.le_of_ble_eq_true rfl) rfl))
 (mk_eq (mk_aload_n X dX5_steps_101 rfl rfl)))
 (mk_lt
 (mk_eq (mk_iload X dX5_steps_102 rfl))
 (mk_lt
 (mk_eq (mk_aload_n X dX5_steps_104 rfl rfl))
 (mk_eq (mk_aload_n X dX5_steps_105 rfl rfl)))))
 (mk_lt
 (mk_lt
 (mk_eq (mk_aload_n X dX5_steps_106 rfl rfl))
 (mk_lt
 (mk_eq (mk_iload X dX5_steps_107 rfl))
 (mk_eq (mk_iload_n X dX5_steps_109 rfl rfl))))
 (mk_lt
 (mk_eq (mk_iload X dX5_steps_110 rfl))
 (mk_lt
 (mk_eq (mk_V5 X h_X5_made (ci := 5) rfl (lw_V q1017 q1019 qs46 q66 q1020) ⟨rfl, by decide, by decide, rfl⟩ ⟨(Nat.le_of_ble_eq_true rfl), (Nat.le_of_ble_eq_true rfl)⟩ dX5_steps_112 rfl))
 (mk_eq (mk_iload_n X dX5_steps_115 rfl rfl)))))))
 (mk_lt
 (mk_lt
 (mk_lt
 (mk_lt
 (mk_eq (mk_iload X dX5_steps_116 rfl))
 (mk_eq (mk_iload X dX5_steps_118 rfl)))
 (mk_lt
 (mk_eq (mk_iload_n X dX5_steps_120 rfl rfl))
 (mk_lt
 (mk_eq (mk_V6 X h_X5_slipped (ci := 5) rfl (lw_V q1035 q1037 qs48 q66 q1038) ⟨rfl, by decide, by decide, rfl⟩ ⟨(Nat.le_of_ble_eq_true rfl), (Nat.le_of_ble_eq_true rfl)⟩ dX5_steps_121 rfl))
 (mk_eq (mk_iaw X dX5_steps_124 rfl)))))
 (mk_lt
 (mk_lt
 (mk_eq (mk_aload_n X dX5_steps_125 rfl rfl))
 (mk_eq (mk_get X (ci := 5) (j := 39) rfl in_X5 (Nat.le_of_ble_eq_true rfl) q786 dX5_steps_126 rfl)))
 (mk_lt
 (mk_eq (mk_iload X dX5_steps_129 rfl))
 (mk_lt
 (mk_eq (mk_aload_n X dX5_steps_131 rfl rfl))
 (mk_eq (mk_iload X dX5_steps_132 rfl))))))
 (mk_lt
 (mk_lt
 (mk_lt
 (mk_eq (mk_iload_n X dX5_steps_134 rfl rfl))
 (mk_eq (mk_iload X dX5_steps_135 rfl)))
 (mk_lt
 (mk_eq (mk_V4 X h_X5_madeMarked (ci := 5) rfl (lw_V q1039 q1041 qs49 q66 q1042) ⟨rfl, by decide, by decide, rfl⟩ ⟨(Nat.le_of_ble_eq_true rfl), (Nat.le_of_ble_eq_true rfl)⟩ dX5_steps_137 rfl))
 (mk_lt
 (mk_eq (mk_baw X dX5_steps_140 rfl))
 (mk_eq (mk_iinc X dX5_steps_141 rfl (Nat.le_of_ble_eq_true rfl) rfl)))))
 (mk_lt
 (mk_lt
 (mk_eq (mk_goto X dX5_steps_144 rfl))
 (mk_lt
 (mk_eq (mk_iinc X dX5_steps_147 rfl (Nat.le_of_ble_eq_true rfl) rfl))
 (mk_eq (mk_goto X dX5_steps_150 rfl))))
 (mk_lt
 (mk_eq (mk_iinc X dX5_steps_153 rfl (Nat.le_of_ble_eq_true rfl) rfl))
 (mk_lt
 (mk_eq (mk_goto X dX5_steps_156 rfl))
 (mk_eq (mk_rv X dX5_steps_159)))))))))
theorem sd_X5_steps {l : Launch} {w : ma_Wd} {NC : Nat} {A : Nat → Prop} {S_X5_place S_X5_made S_X5_slipped S_X5_madeMarked : ma_Cs} (hw : ma_Wo w YM NC A) (h_X5_place : ma_Sd l w YM NC A yX5_place cX5_place 3 (some .int) rm_X5_place S_X5_place) (h_X5_made : ma_Sd l w YM NC A yX5_made cX5_made 14 (some .int) rm_X5_made S_X5_made) (h_X5_slipped : ma_Sd l w YM NC A yX5_slipped cX5_slipped 8 (some .int) rm_X5_slipped S_X5_slipped) (h_X5_madeMarked : ma_Sd l w YM NC A yX5_madeMarked cX5_madeMarked 6 (some .boolean) rm_X5_madeMarked S_X5_madeMarked) : ma_Sd l w YM NC A yX5_steps cX5_steps 8 none rm_X5_steps (ma_rn (tb_X5_steps S_X5_place S_X5_made S_X5_slipped S_X5_madeMarked) 8) := ma_of hw (by decide) ⟨rfl, rfl⟩ (fun X => tk_X5_steps h_X5_place h_X5_made h_X5_slipped h_X5_madeMarked X)
theorem dX5_made_0 : decode cX5_made 0 = .ok (.aload_n 0, 1) := by decide +kernel
theorem dX5_made_1 : decode cX5_made 1 = .ok (.getfield 29, 3) := by decide +kernel
theorem dX5_made_4 : decode cX5_made 4 = .ok (.iload_n 2, 1) := by decide +kernel
theorem dX5_made_5 : decode cX5_made 5 = .ok (.iaload, 1) := by decide +kernel
theorem dX5_made_6 : decode cX5_made 6 = .ok (.ifCond .ge 15, 3) := by decide +kernel
theorem dX5_made_9 : decode cX5_made 9 = .ok (.aload_n 1, 1) := by decide +kernel
theorem dX5_made_10 : decode cX5_made 10 = .ok (.iload_n 3, 1) := by decide +kernel
theorem dX5_made_11 : decode cX5_made 11 = .ok (.iconst 1, 1) := by decide +kernel
theorem dX5_made_12 : decode cX5_made 12 = .ok (.isub, 1) := by decide +kernel
theorem dX5_made_13 : decode cX5_made 13 = .ok (.iload 4, 2) := by decide +kernel
theorem dX5_made_15 : decode cX5_made 15 = .ok (.iload_n 2, 1) := by decide +kernel
theorem dX5_made_16 : decode cX5_made 16 = .ok (.invokestatic 217, 3) := by decide +kernel
theorem dX5_made_19 : decode cX5_made 19 = .ok (.iaload, 1) := by decide +kernel
theorem dX5_made_20 : decode cX5_made 20 = .ok (.ireturn, 1) := by decide +kernel
theorem dX5_made_21 : decode cX5_made 21 = .ok (.lconst 0, 1) := by decide +kernel
theorem dX5_made_22 : decode cX5_made 22 = .ok (.lstore 5, 2) := by decide +kernel
theorem dX5_made_24 : decode cX5_made 24 = .ok (.aload_n 0, 1) := by decide +kernel
theorem dX5_made_25 : decode cX5_made 25 = .ok (.getfield 32, 3) := by decide +kernel
theorem dX5_made_28 : decode cX5_made 28 = .ok (.iload_n 2, 1) := by decide +kernel
theorem dX5_made_29 : decode cX5_made 29 = .ok (.iaload, 1) := by decide +kernel
theorem dX5_made_30 : decode cX5_made 30 = .ok (.istore 7, 2) := by decide +kernel
theorem dX5_made_32 : decode cX5_made 32 = .ok (.iload 7, 2) := by decide +kernel
theorem dX5_made_34 : decode cX5_made 34 = .ok (.aload_n 0, 1) := by decide +kernel
theorem dX5_made_35 : decode cX5_made 35 = .ok (.getfield 32, 3) := by decide +kernel
theorem dX5_made_38 : decode cX5_made 38 = .ok (.iload_n 2, 1) := by decide +kernel
theorem dX5_made_39 : decode cX5_made 39 = .ok (.iaload, 1) := by decide +kernel
theorem dX5_made_40 : decode cX5_made 40 = .ok (.aload_n 0, 1) := by decide +kernel
theorem dX5_made_41 : decode cX5_made 41 = .ok (.getfield 35, 3) := by decide +kernel
theorem dX5_made_44 : decode cX5_made 44 = .ok (.iload_n 2, 1) := by decide +kernel
theorem dX5_made_45 : decode cX5_made 45 = .ok (.iaload, 1) := by decide +kernel
theorem dX5_made_46 : decode cX5_made 46 = .ok (.iadd, 1) := by decide +kernel
theorem dX5_made_47 : decode cX5_made 47 = .ok (.if_icmp .ge 133, 3) := by decide +kernel
theorem dX5_made_50 : decode cX5_made 50 = .ok (.aload_n 0, 1) := by decide +kernel
theorem dX5_made_51 : decode cX5_made 51 = .ok (.aload_n 1, 1) := by decide +kernel
theorem dX5_made_52 : decode cX5_made 52 = .ok (.aload_n 0, 1) := by decide +kernel
theorem dX5_made_53 : decode cX5_made 53 = .ok (.getfield 47, 3) := by decide +kernel
theorem dX5_made_56 : decode cX5_made 56 = .ok (.iload 7, 2) := by decide +kernel
theorem dX5_made_58 : decode cX5_made 58 = .ok (.iaload, 1) := by decide +kernel
theorem dX5_made_59 : decode cX5_made 59 = .ok (.iload_n 3, 1) := by decide +kernel
theorem dX5_made_60 : decode cX5_made 60 = .ok (.iload 4, 2) := by decide +kernel
theorem dX5_made_62 : decode cX5_made 62 = .ok (.invokevirtual 225, 3) := by decide +kernel
theorem dX5_made_65 : decode cX5_made 65 = .ok (.i2l, 1) := by decide +kernel
theorem dX5_made_66 : decode cX5_made 66 = .ok (.lstore 8, 2) := by decide +kernel
theorem dX5_made_68 : decode cX5_made 68 = .ok (.aload_n 0, 1) := by decide +kernel
theorem dX5_made_69 : decode cX5_made 69 = .ok (.getfield 50, 3) := by decide +kernel
theorem dX5_made_72 : decode cX5_made 72 = .ok (.iload 7, 2) := by decide +kernel
theorem dX5_made_74 : decode cX5_made 74 = .ok (.iaload, 1) := by decide +kernel
theorem dX5_made_75 : decode cX5_made 75 = .ok (.ifCond .ge 7, 3) := by decide +kernel
theorem dX5_made_78 : decode cX5_made 78 = .ok (.lconst 1, 1) := by decide +kernel
theorem dX5_made_79 : decode cX5_made 79 = .ok (.goto 19, 3) := by decide +kernel
theorem dX5_made_82 : decode cX5_made 82 = .ok (.aload_n 0, 1) := by decide +kernel
theorem dX5_made_83 : decode cX5_made 83 = .ok (.aload_n 1, 1) := by decide +kernel
theorem dX5_made_84 : decode cX5_made 84 = .ok (.aload_n 0, 1) := by decide +kernel
theorem dX5_made_85 : decode cX5_made 85 = .ok (.getfield 50, 3) := by decide +kernel
theorem dX5_made_88 : decode cX5_made 88 = .ok (.iload 7, 2) := by decide +kernel
theorem dX5_made_90 : decode cX5_made 90 = .ok (.iaload, 1) := by decide +kernel
theorem dX5_made_91 : decode cX5_made 91 = .ok (.iload_n 3, 1) := by decide +kernel
theorem dX5_made_92 : decode cX5_made 92 = .ok (.iload 4, 2) := by decide +kernel
theorem dX5_made_94 : decode cX5_made 94 = .ok (.invokevirtual 225, 3) := by decide +kernel
theorem dX5_made_97 : decode cX5_made 97 = .ok (.i2l, 1) := by decide +kernel
theorem dX5_made_98 : decode cX5_made 98 = .ok (.lstore 10, 2) := by decide +kernel
theorem dX5_made_100 : decode cX5_made 100 = .ok (.lload 8, 2) := by decide +kernel
theorem dX5_made_102 : decode cX5_made 102 = .ok (.ldc2_w 229, 3) := by decide +kernel
theorem dX5_made_105 : decode cX5_made 105 = .ok (.lcmp, 1) := by decide +kernel
theorem dX5_made_106 : decode cX5_made 106 = .ok (.ifCond .eq 27, 3) := by decide +kernel
theorem dX5_made_109 : decode cX5_made 109 = .ok (.lload 10, 2) := by decide +kernel
theorem dX5_made_111 : decode cX5_made 111 = .ok (.ldc2_w 229, 3) := by decide +kernel
theorem dX5_made_114 : decode cX5_made 114 = .ok (.lcmp, 1) := by decide +kernel
theorem dX5_made_115 : decode cX5_made 115 = .ok (.ifCond .eq 18, 3) := by decide +kernel
theorem dX5_made_118 : decode cX5_made 118 = .ok (.lload 8, 2) := by decide +kernel
theorem dX5_made_120 : decode cX5_made 120 = .ok (.lload 10, 2) := by decide +kernel
theorem dX5_made_122 : decode cX5_made 122 = .ok (.lmul, 1) := by decide +kernel
theorem dX5_made_123 : decode cX5_made 123 = .ok (.invokestatic 231, 3) := by decide +kernel
theorem dX5_made_126 : decode cX5_made 126 = .ok (.ldc2_w 235, 3) := by decide +kernel
theorem dX5_made_129 : decode cX5_made 129 = .ok (.lcmp, 1) := by decide +kernel
theorem dX5_made_130 : decode cX5_made 130 = .ok (.ifCond .le 6, 3) := by decide +kernel
theorem dX5_made_133 : decode cX5_made 133 = .ok (.ldc 237, 2) := by decide +kernel
theorem dX5_made_135 : decode cX5_made 135 = .ok (.ireturn, 1) := by decide +kernel
theorem dX5_made_136 : decode cX5_made 136 = .ok (.aload_n 0, 1) := by decide +kernel
theorem dX5_made_137 : decode cX5_made 137 = .ok (.getfield 44, 3) := by decide +kernel
theorem dX5_made_140 : decode cX5_made 140 = .ok (.iload 7, 2) := by decide +kernel
theorem dX5_made_142 : decode cX5_made 142 = .ok (.iaload, 1) := by decide +kernel
theorem dX5_made_143 : decode cX5_made 143 = .ok (.i2l, 1) := by decide +kernel
theorem dX5_made_144 : decode cX5_made 144 = .ok (.lload 8, 2) := by decide +kernel
theorem dX5_made_146 : decode cX5_made 146 = .ok (.lload 10, 2) := by decide +kernel
theorem dX5_made_148 : decode cX5_made 148 = .ok (.lmul, 1) := by decide +kernel
theorem dX5_made_149 : decode cX5_made 149 = .ok (.lmul, 1) := by decide +kernel
theorem dX5_made_150 : decode cX5_made 150 = .ok (.lstore 12, 2) := by decide +kernel
theorem dX5_made_152 : decode cX5_made 152 = .ok (.lload 12, 2) := by decide +kernel
theorem dX5_made_154 : decode cX5_made 154 = .ok (.invokestatic 231, 3) := by decide +kernel
theorem dX5_made_157 : decode cX5_made 157 = .ok (.ldc2_w 235, 3) := by decide +kernel
theorem dX5_made_160 : decode cX5_made 160 = .ok (.lcmp, 1) := by decide +kernel
theorem dX5_made_161 : decode cX5_made 161 = .ok (.ifCond .le 6, 3) := by decide +kernel
theorem dX5_made_164 : decode cX5_made 164 = .ok (.ldc 237, 2) := by decide +kernel
theorem dX5_made_166 : decode cX5_made 166 = .ok (.ireturn, 1) := by decide +kernel
theorem dX5_made_167 : decode cX5_made 167 = .ok (.lload 5, 2) := by decide +kernel
theorem dX5_made_169 : decode cX5_made 169 = .ok (.lload 12, 2) := by decide +kernel
theorem dX5_made_171 : decode cX5_made 171 = .ok (.ladd, 1) := by decide +kernel
theorem dX5_made_172 : decode cX5_made 172 = .ok (.lstore 5, 2) := by decide +kernel
theorem dX5_made_174 : decode cX5_made 174 = .ok (.iinc 7 1, 3) := by decide +kernel
theorem dX5_made_177 : decode cX5_made 177 = .ok (.goto (-145), 3) := by decide +kernel
theorem dX5_made_180 : decode cX5_made 180 = .ok (.lload 5, 2) := by decide +kernel
theorem dX5_made_182 : decode cX5_made 182 = .ok (.invokestatic 231, 3) := by decide +kernel
theorem dX5_made_185 : decode cX5_made 185 = .ok (.ldc2_w 235, 3) := by decide +kernel
theorem dX5_made_188 : decode cX5_made 188 = .ok (.lcmp, 1) := by decide +kernel
theorem dX5_made_189 : decode cX5_made 189 = .ok (.ifCond .le 6, 3) := by decide +kernel
theorem dX5_made_192 : decode cX5_made 192 = .ok (.ldc 237, 2) := by decide +kernel
theorem dX5_made_194 : decode cX5_made 194 = .ok (.ireturn, 1) := by decide +kernel
theorem dX5_made_195 : decode cX5_made 195 = .ok (.aload_n 0, 1) := by decide +kernel
theorem dX5_made_196 : decode cX5_made 196 = .ok (.getfield 38, 3) := by decide +kernel
theorem dX5_made_199 : decode cX5_made 199 = .ok (.iload_n 2, 1) := by decide +kernel
theorem dX5_made_200 : decode cX5_made 200 = .ok (.iaload, 1) := by decide +kernel
theorem dX5_made_201 : decode cX5_made 201 = .ok (.i2l, 1) := by decide +kernel
theorem dX5_made_202 : decode cX5_made 202 = .ok (.lstore 7, 2) := by decide +kernel
theorem dX5_made_204 : decode cX5_made 204 = .ok (.aload_n 0, 1) := by decide +kernel
theorem dX5_made_205 : decode cX5_made 205 = .ok (.getfield 41, 3) := by decide +kernel
theorem dX5_made_208 : decode cX5_made 208 = .ok (.iload_n 2, 1) := by decide +kernel
theorem dX5_made_209 : decode cX5_made 209 = .ok (.iaload, 1) := by decide +kernel
theorem dX5_made_210 : decode cX5_made 210 = .ok (.iconst 1, 1) := by decide +kernel
theorem dX5_made_211 : decode cX5_made 211 = .ok (.if_icmp .ne 24, 3) := by decide +kernel
theorem dX5_made_214 : decode cX5_made 214 = .ok (.ldc2_w 134, 3) := by decide +kernel
theorem dX5_made_217 : decode cX5_made 217 = .ok (.lload 5, 2) := by decide +kernel
theorem dX5_made_219 : decode cX5_made 219 = .ok (.lmul, 1) := by decide +kernel
theorem dX5_made_220 : decode cX5_made 220 = .ok (.lload 7, 2) := by decide +kernel
theorem dX5_made_222 : decode cX5_made 222 = .ok (.ladd, 1) := by decide +kernel
theorem dX5_made_223 : decode cX5_made 223 = .ok (.ldc2_w 134, 3) := by decide +kernel
theorem dX5_made_226 : decode cX5_made 226 = .ok (.lload 7, 2) := by decide +kernel
theorem dX5_made_228 : decode cX5_made 228 = .ok (.lmul, 1) := by decide +kernel
theorem dX5_made_229 : decode cX5_made 229 = .ok (.invokestatic 238, 3) := by decide +kernel
theorem dX5_made_232 : decode cX5_made 232 = .ok (.goto 10, 3) := by decide +kernel
theorem dX5_made_235 : decode cX5_made 235 = .ok (.lload 5, 2) := by decide +kernel
theorem dX5_made_237 : decode cX5_made 237 = .ok (.lload 7, 2) := by decide +kernel
theorem dX5_made_239 : decode cX5_made 239 = .ok (.invokestatic 238, 3) := by decide +kernel
theorem dX5_made_242 : decode cX5_made 242 = .ok (.lstore 9, 2) := by decide +kernel
theorem dX5_made_244 : decode cX5_made 244 = .ok (.lload 9, 2) := by decide +kernel
theorem dX5_made_246 : decode cX5_made 246 = .ok (.invokestatic 231, 3) := by decide +kernel
theorem dX5_made_249 : decode cX5_made 249 = .ok (.ldc2_w 242, 3) := by decide +kernel
theorem dX5_made_252 : decode cX5_made 252 = .ok (.lcmp, 1) := by decide +kernel
theorem dX5_made_253 : decode cX5_made 253 = .ok (.ifCond .le 8, 3) := by decide +kernel
theorem dX5_made_256 : decode cX5_made 256 = .ok (.ldc 237, 2) := by decide +kernel
theorem dX5_made_258 : decode cX5_made 258 = .ok (.goto 6, 3) := by decide +kernel
theorem dX5_made_261 : decode cX5_made 261 = .ok (.lload 9, 2) := by decide +kernel
theorem dX5_made_263 : decode cX5_made 263 = .ok (.l2i, 1) := by decide +kernel
theorem dX5_made_264 : decode cX5_made 264 = .ok (.ireturn, 1) := by decide +kernel
def tb_X5_made (S_X5_place S_X5_named S_X5_size S_X5_downLong : ma_Cs) : Nat → ma_In := fun pc =>
 (if pc < 123 then
 (if pc < 56 then
 (if pc < 28 then
 (if pc < 13 then
 (if pc < 6 then
 (if pc < 4 then
 (if pc < 1 then
 (if pc = 0 then in_ald 0 1 else in_no) else
 (if pc = 1 then in_get YM 5 10 4 else in_no)) else
 (if pc < 5 then
 (if pc = 4 then in_ild 2 5 else in_no) else
 (if pc = 5 then in_iar YM 6 else in_no))) else
 (if pc < 10 then
 (if pc < 9 then
 (if pc = 6 then in_if1 (fun x => 0 ≤ x) 21 9 else in_no) else
 (if pc = 9 then in_ald 1 10 else in_no)) else
 (if pc < 11 then
 (if pc = 10 then in_ild 3 11 else in_no) else
 (if pc < 12 then
 (if pc = 11 then in_push (.int 1) 12 else in_no) else
 (if pc = 12 then in_iii (fun x y => x - y) 13 else in_no))))) else
 (if pc < 20 then
 (if pc < 16 then
 (if pc < 15 then
 (if pc = 13 then in_ild 4 15 else in_no) else
 (if pc = 15 then in_ild 2 16 else in_no)) else
 (if pc < 19 then
 (if pc = 16 then in_s3 S_X5_place 19 else in_no) else
 (if pc = 19 then in_iar YM 20 else in_no))) else
 (if pc < 22 then
 (if pc < 21 then
 (if pc = 20 then in_ri else in_no) else
 (if pc = 21 then in_push (.long 0) 22 else in_no)) else
 (if pc < 24 then
 (if pc = 22 then in_lst 5 24 else in_no) else
 (if pc < 25 then
 (if pc = 24 then in_ald 0 25 else in_no) else
 (if pc = 25 then in_get YM 5 11 28 else in_no)))))) else
 (if pc < 41 then
 (if pc < 34 then
 (if pc < 30 then
 (if pc < 29 then
 (if pc = 28 then in_ild 2 29 else in_no) else
 (if pc = 29 then in_iar YM 30 else in_no)) else
 (if pc < 32 then
 (if pc = 30 then in_ist 7 32 else in_no) else
 (if pc = 32 then in_ild 7 34 else in_no))) else
 (if pc < 38 then
 (if pc < 35 then
 (if pc = 34 then in_ald 0 35 else in_no) else
 (if pc = 35 then in_get YM 5 11 38 else in_no)) else
 (if pc < 39 then
 (if pc = 38 then in_ild 2 39 else in_no) else
 (if pc < 40 then
 (if pc = 39 then in_iar YM 40 else in_no) else
 (if pc = 40 then in_ald 0 41 else in_no))))) else
 (if pc < 47 then
 (if pc < 45 then
 (if pc < 44 then
 (if pc = 41 then in_get YM 5 12 44 else in_no) else
 (if pc = 44 then in_ild 2 45 else in_no)) else
 (if pc < 46 then
 (if pc = 45 then in_iar YM 46 else in_no) else
 (if pc = 46 then in_iii (fun x y => x + y) 47 else in_no))) else
 (if pc < 51 then
 (if pc < 50 then
 (if pc = 47 then in_if2 (fun x y => y ≤ x) 180 50 else in_no) else
 (if pc = 50 then in_ald 0 51 else in_no)) else
 (if pc < 52 then
 (if pc = 51 then in_ald 1 52 else in_no) else
 (if pc < 53 then
 (if pc = 52 then in_ald 0 53 else in_no) else
 (if pc = 53 then in_get YM 5 16 56 else in_no))))))) else
 (if pc < 88 then
 (if pc < 72 then
 (if pc < 62 then
 (if pc < 59 then
 (if pc < 58 then
 (if pc = 56 then in_ild 7 58 else in_no) else
 (if pc = 58 then in_iar YM 59 else in_no)) else
 (if pc < 60 then
 (if pc = 59 then in_ild 3 60 else in_no) else
 (if pc = 60 then in_ild 4 62 else in_no))) else
 (if pc < 66 then
 (if pc < 65 then
 (if pc = 62 then in_v5 YM 5 S_X5_named 65 else in_no) else
 (if pc = 65 then in_il (fun x => x.toInt64) 66 else in_no)) else
 (if pc < 68 then
 (if pc = 66 then in_lst 8 68 else in_no) else
 (if pc < 69 then
 (if pc = 68 then in_ald 0 69 else in_no) else
 (if pc = 69 then in_get YM 5 17 72 else in_no))))) else
 (if pc < 79 then
 (if pc < 75 then
 (if pc < 74 then
 (if pc = 72 then in_ild 7 74 else in_no) else
 (if pc = 74 then in_iar YM 75 else in_no)) else
 (if pc < 78 then
 (if pc = 75 then in_if1 (fun x => 0 ≤ x) 82 78 else in_no) else
 (if pc = 78 then in_push (.long 1) 79 else in_no))) else
 (if pc < 83 then
 (if pc < 82 then
 (if pc = 79 then in_go 98 else in_no) else
 (if pc = 82 then in_ald 0 83 else in_no)) else
 (if pc < 84 then
 (if pc = 83 then in_ald 1 84 else in_no) else
 (if pc < 85 then
 (if pc = 84 then in_ald 0 85 else in_no) else
 (if pc = 85 then in_get YM 5 17 88 else in_no)))))) else
 (if pc < 105 then
 (if pc < 94 then
 (if pc < 91 then
 (if pc < 90 then
 (if pc = 88 then in_ild 7 90 else in_no) else
 (if pc = 90 then in_iar YM 91 else in_no)) else
 (if pc < 92 then
 (if pc = 91 then in_ild 3 92 else in_no) else
 (if pc = 92 then in_ild 4 94 else in_no))) else
 (if pc < 98 then
 (if pc < 97 then
 (if pc = 94 then in_v5 YM 5 S_X5_named 97 else in_no) else
 (if pc = 97 then in_il (fun x => x.toInt64) 98 else in_no)) else
 (if pc < 100 then
 (if pc = 98 then in_lst 10 100 else in_no) else
 (if pc < 102 then
 (if pc = 100 then in_lld 8 102 else in_no) else
 (if pc = 102 then in_push (.long 2000000000) 105 else in_no))))) else
 (if pc < 114 then
 (if pc < 109 then
 (if pc < 106 then
 (if pc = 105 then in_lli lg_cmp 106 else in_no) else
 (if pc = 106 then in_if1 (fun x => x = 0) 133 109 else in_no)) else
 (if pc < 111 then
 (if pc = 109 then in_lld 10 111 else in_no) else
 (if pc = 111 then in_push (.long 2000000000) 114 else in_no))) else
 (if pc < 118 then
 (if pc < 115 then
 (if pc = 114 then in_lli lg_cmp 115 else in_no) else
 (if pc = 115 then in_if1 (fun x => x = 0) 133 118 else in_no)) else
 (if pc < 120 then
 (if pc = 118 then in_lld 8 120 else in_no) else
 (if pc < 122 then
 (if pc = 120 then in_lld 10 122 else in_no) else
 (if pc = 122 then in_lll (fun x y => x * y) 123 else in_no)))))))) else
 (if pc < 195 then
 (if pc < 157 then
 (if pc < 142 then
 (if pc < 133 then
 (if pc < 129 then
 (if pc < 126 then
 (if pc = 123 then in_s1 S_X5_size 126 else in_no) else
 (if pc = 126 then in_push (.long 1000000000000000) 129 else in_no)) else
 (if pc < 130 then
 (if pc = 129 then in_lli lg_cmp 130 else in_no) else
 (if pc = 130 then in_if1 (fun x => x ≤ 0) 136 133 else in_no))) else
 (if pc < 136 then
 (if pc < 135 then
 (if pc = 133 then in_push (.int 2000000000) 135 else in_no) else
 (if pc = 135 then in_ri else in_no)) else
 (if pc < 137 then
 (if pc = 136 then in_ald 0 137 else in_no) else
 (if pc < 140 then
 (if pc = 137 then in_get YM 5 15 140 else in_no) else
 (if pc = 140 then in_ild 7 142 else in_no))))) else
 (if pc < 148 then
 (if pc < 144 then
 (if pc < 143 then
 (if pc = 142 then in_iar YM 143 else in_no) else
 (if pc = 143 then in_il (fun x => x.toInt64) 144 else in_no)) else
 (if pc < 146 then
 (if pc = 144 then in_lld 8 146 else in_no) else
 (if pc = 146 then in_lld 10 148 else in_no))) else
 (if pc < 150 then
 (if pc < 149 then
 (if pc = 148 then in_lll (fun x y => x * y) 149 else in_no) else
 (if pc = 149 then in_lll (fun x y => x * y) 150 else in_no)) else
 (if pc < 152 then
 (if pc = 150 then in_lst 12 152 else in_no) else
 (if pc < 154 then
 (if pc = 152 then in_lld 12 154 else in_no) else
 (if pc = 154 then in_s1 S_X5_size 157 else in_no)))))) else
 (if pc < 174 then
 (if pc < 166 then
 (if pc < 161 then
 (if pc < 160 then
 (if pc = 157 then in_push (.long 1000000000000000) 160 else in_no) else
 (if pc = 160 then in_lli lg_cmp 161 else in_no)) else
 (if pc < 164 then
 (if pc = 161 then in_if1 (fun x => x ≤ 0) 167 164 else in_no) else
 (if pc = 164 then in_push (.int 2000000000) 166 else in_no))) else
 (if pc < 169 then
 (if pc < 167 then
 (if pc = 166 then in_ri else in_no) else
 (if pc = 167 then in_lld 5 169 else in_no)) else
 (if pc < 171 then
 (if pc = 169 then in_lld 12 171 else in_no) else
 (if pc < 172 then
 (if pc = 171 then in_lll (fun x y => x + y) 172 else in_no) else
 (if pc = 172 then in_lst 5 174 else in_no))))) else
 (if pc < 185 then
 (if pc < 180 then
 (if pc < 177 then
 (if pc = 174 then in_inc 7 1 177 else in_no) else
 (if pc = 177 then in_go 32 else in_no)) else
 (if pc < 182 then
 (if pc = 180 then in_lld 5 182 else in_no) else
 (if pc = 182 then in_s1 S_X5_size 185 else in_no))) else
 (if pc < 189 then
 (if pc < 188 then
 (if pc = 185 then in_push (.long 1000000000000000) 188 else in_no) else
 (if pc = 188 then in_lli lg_cmp 189 else in_no)) else
 (if pc < 192 then
 (if pc = 189 then in_if1 (fun x => x ≤ 0) 195 192 else in_no) else
 (if pc < 194 then
 (if pc = 192 then in_push (.int 2000000000) 194 else in_no) else
 (if pc = 194 then in_ri else in_no))))))) else
 (if pc < 226 then
 (if pc < 209 then
 (if pc < 201 then
 (if pc < 199 then
 (if pc < 196 then
 (if pc = 195 then in_ald 0 196 else in_no) else
 (if pc = 196 then in_get YM 5 13 199 else in_no)) else
 (if pc < 200 then
 (if pc = 199 then in_ild 2 200 else in_no) else
 (if pc = 200 then in_iar YM 201 else in_no))) else
 (if pc < 204 then
 (if pc < 202 then
 (if pc = 201 then in_il (fun x => x.toInt64) 202 else in_no) else
 (if pc = 202 then in_lst 7 204 else in_no)) else
 (if pc < 205 then
 (if pc = 204 then in_ald 0 205 else in_no) else
 (if pc < 208 then
 (if pc = 205 then in_get YM 5 14 208 else in_no) else
 (if pc = 208 then in_ild 2 209 else in_no))))) else
 (if pc < 217 then
 (if pc < 211 then
 (if pc < 210 then
 (if pc = 209 then in_iar YM 210 else in_no) else
 (if pc = 210 then in_push (.int 1) 211 else in_no)) else
 (if pc < 214 then
 (if pc = 211 then in_if2 (fun x y => x = y) 214 235 else in_no) else
 (if pc = 214 then in_push (.long 2) 217 else in_no))) else
 (if pc < 220 then
 (if pc < 219 then
 (if pc = 217 then in_lld 5 219 else in_no) else
 (if pc = 219 then in_lll (fun x y => x * y) 220 else in_no)) else
 (if pc < 222 then
 (if pc = 220 then in_lld 7 222 else in_no) else
 (if pc < 223 then
 (if pc = 222 then in_lll (fun x y => x + y) 223 else in_no) else
 (if pc = 223 then in_push (.long 2) 226 else in_no)))))) else
 (if pc < 246 then
 (if pc < 235 then
 (if pc < 229 then
 (if pc < 228 then
 (if pc = 226 then in_lld 7 228 else in_no) else
 (if pc = 228 then in_lll (fun x y => x * y) 229 else in_no)) else
 (if pc < 232 then
 (if pc = 229 then in_s2 S_X5_downLong 232 else in_no) else
 (if pc = 232 then in_go 242 else in_no))) else
 (if pc < 239 then
 (if pc < 237 then
 (if pc = 235 then in_lld 5 237 else in_no) else
 (if pc = 237 then in_lld 7 239 else in_no)) else
 (if pc < 242 then
 (if pc = 239 then in_s2 S_X5_downLong 242 else in_no) else
 (if pc < 244 then
 (if pc = 242 then in_lst 9 244 else in_no) else
 (if pc = 244 then in_lld 9 246 else in_no))))) else
 (if pc < 256 then
 (if pc < 252 then
 (if pc < 249 then
 (if pc = 246 then in_s1 S_X5_size 249 else in_no) else
 (if pc = 249 then in_push (.long 1000000000) 252 else in_no)) else
 (if pc < 253 then
 (if pc = 252 then in_lli lg_cmp 253 else in_no) else
 (if pc = 253 then in_if1 (fun x => x ≤ 0) 261 256 else in_no))) else
 (if pc < 261 then
 (if pc < 258 then
 (if pc = 256 then in_push (.int 2000000000) 258 else in_no) else
 (if pc = 258 then in_go 264 else in_no)) else
 (if pc < 263 then
 (if pc = 261 then in_lld 9 263 else in_no) else
 (if pc < 264 then
 (if pc = 263 then in_li (fun x => x.toInt32) 264 else in_no) else
 (if pc = 264 then in_ri else in_no)))))))))
theorem tk_X5_made {l : Launch} {w : ma_Wd} {NC : Nat} {A : Nat → Prop} {S_X5_place S_X5_named S_X5_size S_X5_downLong : ma_Cs} (h_X5_place : ma_Sd l w YM NC A yX5_place cX5_place 3 (some .int) rm_X5_place S_X5_place) (h_X5_named : ma_Sd l w YM NC A yX5_named cX5_named 8 (some .int) rm_X5_named S_X5_named) (h_X5_size : ma_Sd l w YM NC A yX5_size cX5_size 2 (some .long) rm_X5_size S_X5_size) (h_X5_downLong : ma_Sd l w YM NC A yX5_downLong cX5_downLong 4 (some .long) rm_X5_downLong S_X5_downLong) {p : Program} {e : Env} {s : State} {m : MethodId} {args : Array Value} {below : List Frame} {meth : Method} {c : Code} (X : ma_Cx p s m args meth c w YM NC A yX5_made.cls cX5_made 14 (some .int)) : ∀ pc, ma_Ok p l e rm_X5_made s m args below meth c w YM NC A 14 pc (tb_X5_made S_X5_place S_X5_named S_X5_size S_X5_downLong pc) := fun pc =>
 (mk_lt
 (mk_lt
 (mk_lt
 (mk_lt
 (mk_lt
 (mk_lt
 (mk_lt
 (mk_eq (mk_aload_n X dX5_made_0 rfl rfl))
 (mk_eq (mk_get X (ci := 5) (j := 10) rfl in_X5 (Nat.le_of_ble_eq_true rfl) q757 dX5_made_1 rfl)))
 (mk_lt
 (mk_eq (mk_iload_n X dX5_made_4 rfl rfl))
 (mk_eq (mk_iar X dX5_made_5 rfl))))
 (mk_lt
 (mk_lt
 (mk_eq (mk_ifge X dX5_made_6 rfl rfl))
 (mk_eq (mk_aload_n X dX5_made_9 rfl rfl)))
 (mk_lt
 (mk_eq (mk_iload_n X dX5_made_10 rfl rfl))
 (mk_lt
 (mk_eq (mk_iconst X dX5_made_11 rfl rfl))
 (mk_eq (mk_isub X dX5_made_12 rfl))))))
 (mk_lt
 (mk_lt
 (mk_lt
 (mk_eq (mk_iload X dX5_made_13 rfl))
 (mk_eq (mk_iload_n X dX5_made_15 rfl rfl)))
 (mk_lt
 (mk_eq (mk_S3 X h_X5_place (lw_S q999 q1000 q66 q1001) ⟨by decide, by decide, rfl⟩ ⟨(Nat.le_of_ble_eq_true rfl), (Nat.le_of_ble_eq_true rfl)⟩ dX5_made_16 rfl))
 (mk_eq (mk_iar X dX5_made_19 rfl))))
 (mk_lt
 (mk_lt
 (mk_eq (mk_ri X dX5_made_20))
 (mk_eq (mk_lconst X dX5_made_21 rfl rfl)))
 (mk_lt
 (mk_eq (mk_lstore X dX5_made_22 (Nat.le_of_ble_eq_true rfl) rfl))
 (mk_lt
 (mk_eq (mk_aload_n X dX5_made_24 rfl rfl))
 (mk_eq (mk_get X (ci := 5) (j := 11) rfl in_X5 (Nat.le_of_ble_eq_true rfl) q758 dX5_made_25 rfl)))))))
 (mk_lt
 (mk_lt
 (mk_lt
 (mk_lt
 (mk_eq (mk_iload_n X dX5_made_28 rfl rfl))
 (mk_eq (mk_iar X dX5_made_29 rfl)))
 (mk_lt
 (mk_eq (mk_istore X dX5_made_30 (Nat.le_of_ble_eq_true rfl) rfl))
 (mk_eq (mk_iload X dX5_made_32 rfl))))
 (mk_lt
 (mk_lt
 (mk_eq (mk_aload_n X dX5_made_34 rfl rfl))
 (mk_eq (mk_get X (ci := 5) (j := 11) rfl in_X5 (Nat.le_of_ble_eq_true rfl) q758 dX5_made_35 rfl)))
 (mk_lt
 (mk_eq (mk_iload_n X dX5_made_38 rfl rfl))
 (mk_lt
 (mk_eq (mk_iar X dX5_made_39 rfl))
 (mk_eq (mk_aload_n X dX5_made_40 rfl rfl))))))
 (mk_lt
 (mk_lt
 (mk_lt
 (mk_eq (mk_get X (ci := 5) (j := 12) rfl in_X5 (Nat.le_of_ble_eq_true rfl) q759 dX5_made_41 rfl))
 (mk_eq (mk_iload_n X dX5_made_44 rfl rfl)))
 (mk_lt
 (mk_eq (mk_iar X dX5_made_45 rfl))
 (mk_eq (mk_iadd X dX5_made_46 rfl))))
 (mk_lt
 (mk_lt
 (mk_eq (mk_icge X dX5_made_47 rfl rfl))
 (mk_eq (mk_aload_n X dX5_made_50 rfl rfl)))
 (mk_lt
 (mk_eq (mk_aload_n X dX5_made_51 rfl rfl))
 (mk_lt
 (mk_eq (mk_aload_n X dX5_made_52 rfl rfl))
 (mk_eq (mk_get X (ci := 5) (j := 16) rfl in_X5 (Nat.le_of_ble_eq_true rfl) q763 dX5_made_53 rfl))))))))
 (mk_lt
 (mk_lt
 (mk_lt
 (mk_lt
 (mk_lt
 (mk_eq (mk_iload X dX5_made_56 rfl))
 (mk_eq (mk_iar X dX5_made_58 rfl)))
 (mk_lt
 (mk_eq (mk_iload_n X dX5_made_59 rfl rfl))
 (mk_eq (mk_iload X dX5_made_60 rfl))))
 (mk_lt
 (mk_lt
 (mk_eq (mk_V5 X h_X5_named (ci := 5) rfl (lw_V q1021 q1023 qs47 q66 q1024) ⟨rfl, by decide, by decide, rfl⟩ ⟨(Nat.le_of_ble_eq_true rfl), (Nat.le_of_ble_eq_true rfl)⟩ dX5_made_62 rfl))
 (mk_eq (mk_i2l X dX5_made_65 rfl)))
 (mk_lt
 (mk_eq (mk_lstore X dX5_made_66 (Nat.le_of_ble_eq_true rfl) rfl))
 (mk_lt
 (mk_eq (mk_aload_n X dX5_made_68 rfl rfl))
 (mk_eq (mk_get X (ci := 5) (j := 17) rfl in_X5 (Nat.le_of_ble_eq_true rfl) q764 dX5_made_69 rfl))))))
 (mk_lt
 (mk_lt
 (mk_lt
 (mk_eq (mk_iload X dX5_made_72 rfl))
 (mk_eq (mk_iar X dX5_made_74 rfl)))
 (mk_lt
 (mk_eq (mk_ifge X dX5_made_75 rfl rfl))
 (mk_eq (mk_lconst X dX5_made_78 rfl rfl))))
 (mk_lt
 (mk_lt
 (mk_eq (mk_goto X dX5_made_79 rfl))
 (mk_eq (mk_aload_n X dX5_made_82 rfl rfl)))
 (mk_lt
 (mk_eq (mk_aload_n X dX5_made_83 rfl rfl))
 (mk_lt
 (mk_eq (mk_aload_n X dX5_made_84 rfl rfl))
 (mk_eq (mk_get X (ci := 5) (j := 17) rfl in_X5 (Nat.le_of_ble_eq_true rfl) q764 dX5_made_85 rfl)))))))
 (mk_lt
 (mk_lt
 (mk_lt
 (mk_lt
 (mk_eq (mk_iload X dX5_made_88 rfl))
 (mk_eq (mk_iar X dX5_made_90 rfl)))
 (mk_lt
 (mk_eq (mk_iload_n X dX5_made_91 rfl rfl))
 (mk_eq (mk_iload X dX5_made_92 rfl))))
 (mk_lt
 (mk_lt
 (mk_eq (mk_V5 X h_X5_named (ci := 5) rfl (lw_V q1021 q1023 qs47 q66 q1024) ⟨rfl, by decide, by decide, rfl⟩ ⟨(Nat.le_of_ble_eq_true rfl), (Nat.le_of_ble_eq_true rfl)⟩ dX5_made_94 rfl))
 (mk_eq (mk_i2l X dX5_made_97 rfl)))
 (mk_lt
 (mk_eq (mk_lstore X dX5_made_98 (Nat.le_of_ble_eq_true rfl) rfl))
 (mk_lt
 (mk_eq (mk_lload X dX5_made_100 rfl))
 (mk_eq (mk_ldc2 X dX5_made_102 q1025 rfl))))))
 (mk_lt
 (mk_lt
 (mk_lt
 (mk_eq (mk_lcmp X dX5_made_105 rfl))
 (mk_eq (mk_ifeq X dX5_made_106 rfl rfl)))
 (mk_lt
 (mk_eq (mk_lload X dX5_made_109 rfl))
 (mk_eq (mk_ldc2 X dX5_made_111 q1025 rfl))))
 (mk_lt
 (mk_lt
 (mk_eq (mk_lcmp X dX5_made_114 rfl))
 (mk_eq (mk_ifeq X dX5_made_115 rfl rfl)))
 (mk_lt
 (mk_eq (mk_lload X dX5_made_118 rfl))
 (mk_lt
 (mk_eq (mk_lload X dX5_made_120 rfl))
 (mk_eq (mk_lmul X dX5_made_122 rfl)))))))))
 (mk_lt
 (mk_lt
 (mk_lt
 (mk_lt
 (mk_lt
 (mk_lt
 (mk_eq (mk_S1 X h_X5_size (lw_S q1026 q1027 q66 q1028) ⟨by decide, by decide, rfl⟩ ⟨(Nat.le_of_ble_eq_true rfl), (Nat.le_of_ble_eq_true rfl)⟩ dX5_made_123 rfl))
 (mk_eq (mk_ldc2 X dX5_made_126 q1029 rfl)))
 (mk_lt
 (mk_eq (mk_lcmp X dX5_made_129 rfl))
 (mk_eq (mk_ifle X dX5_made_130 rfl rfl))))
 (mk_lt
 (mk_lt
 (mk_eq (mk_ldc X dX5_made_133 q1030 rfl))
 (mk_eq (mk_ri X dX5_made_135)))
 (mk_lt
 (mk_eq (mk_aload_n X dX5_made_136 rfl rfl))
 (mk_lt
 (mk_eq (mk_get X (ci := 5) (j := 15) rfl in_X5 (Nat.le_of_ble_eq_true rfl) q762 dX5_made_137 rfl))
 (mk_eq (mk_iload X dX5_made_140 rfl))))))
 (mk_lt
 (mk_lt
 (mk_lt
 (mk_eq (mk_iar X dX5_made_142 rfl))
 (mk_eq (mk_i2l X dX5_made_143 rfl)))
 (mk_lt
 (mk_eq (mk_lload X dX5_made_144 rfl))
 (mk_eq (mk_lload X dX5_made_146 rfl))))
 (mk_lt
 (mk_lt
 (mk_eq (mk_lmul X dX5_made_148 rfl))
 (mk_eq (mk_lmul X dX5_made_149 rfl)))
 (mk_lt
 (mk_eq (mk_lstore X dX5_made_150 (Nat.le_of_ble_eq_true rfl) rfl))
 (mk_lt
 (mk_eq (mk_lload X dX5_made_152 rfl))
 (mk_eq (mk_S1 X h_X5_size (lw_S q1026 q1027 q66 q1028) ⟨by decide, by decide, rfl⟩ ⟨(Nat.le_of_ble_eq_true rfl), (Nat.le_of_ble_eq_true rfl)⟩ dX5_made_154 rfl)))))))
 (mk_lt
 (mk_lt
 (mk_lt
 (mk_lt
 (mk_eq (mk_ldc2 X dX5_made_157 q1029 rfl))
 (mk_eq (mk_lcmp X dX5_made_160 rfl)))
 (mk_lt
 (mk_eq (mk_ifle X dX5_made_161 rfl rfl))
 (mk_eq (mk_ldc X dX5_made_164 q1030 rfl))))
 (mk_lt
 (mk_lt
 (mk_eq (mk_ri X dX5_made_166))
 (mk_eq (mk_lload X dX5_made_167 rfl)))
 (mk_lt
 (mk_eq (mk_lload X dX5_made_169 rfl))
 (mk_lt
 (mk_eq (mk_ladd X dX5_made_171 rfl))
 (mk_eq (mk_lstore X dX5_made_172 (Nat.le_of_ble_eq_true rfl) rfl))))))
 (mk_lt
 (mk_lt
 (mk_lt
 (mk_eq (mk_iinc X dX5_made_174 rfl (Nat.le_of_ble_eq_true rfl) rfl))
 (mk_eq (mk_goto X dX5_made_177 rfl)))
 (mk_lt
 (mk_eq (mk_lload X dX5_made_180 rfl))
 (mk_eq (mk_S1 X h_X5_size (lw_S q1026 q1027 q66 q1028) ⟨by decide, by decide, rfl⟩ ⟨(Nat.le_of_ble_eq_true rfl), (Nat.le_of_ble_eq_true rfl)⟩ dX5_made_182 rfl))))
 (mk_lt
 (mk_lt
 (mk_eq (mk_ldc2 X dX5_made_185 q1029 rfl))
 (mk_eq (mk_lcmp X dX5_made_188 rfl)))
 (mk_lt
 (mk_eq (mk_ifle X dX5_made_189 rfl rfl))
 (mk_lt
 (mk_eq (mk_ldc X dX5_made_192 q1030 rfl))
 (mk_eq (mk_ri X dX5_made_194))))))))
 (mk_lt
 (mk_lt
 (mk_lt
 (mk_lt
 (mk_lt
 (mk_eq (mk_aload_n X dX5_made_195 rfl rfl))
 (mk_eq (mk_get X (ci := 5) (j := 13) rfl in_X5 (Nat.le_of_ble_eq_true rfl) q760 dX5_made_196 rfl)))
 (mk_lt
 (mk_eq (mk_iload_n X dX5_made_199 rfl rfl))
 (mk_eq (mk_iar X dX5_made_200 rfl))))
 (mk_lt
 (mk_lt
 (mk_eq (mk_i2l X dX5_made_201 rfl))
 (mk_eq (mk_lstore X dX5_made_202 (Nat.le_of_ble_eq_true rfl) rfl)))
 (mk_lt
 (mk_eq (mk_aload_n X dX5_made_204 rfl rfl))
 (mk_lt
 (mk_eq (mk_get X (ci := 5) (j := 14) rfl in_X5 (Nat.le_of_ble_eq_true rfl) q761 dX5_made_205 rfl))
 (mk_eq (mk_iload_n X dX5_made_208 rfl rfl))))))
 (mk_lt
 (mk_lt
 (mk_lt
 (mk_eq (mk_iar X dX5_made_209 rfl))
 (mk_eq (mk_iconst X dX5_made_210 rfl rfl)))
 (mk_lt
 (mk_eq (mk_icne X dX5_made_211 rfl rfl))
 (mk_eq (mk_ldc2 X dX5_made_214 q890 rfl))))
 (mk_lt
 (mk_lt
 (mk_eq (mk_lload X dX5_made_217 rfl))
 (mk_eq (mk_lmul X dX5_made_219 rfl)))
 (mk_lt
 (mk_eq (mk_lload X dX5_made_220 rfl))
 (mk_lt
 (mk_eq (mk_ladd X dX5_made_222 rfl))
 (mk_eq (mk_ldc2 X dX5_made_223 q890 rfl)))))))
 (mk_lt
 (mk_lt
 (mk_lt
 (mk_lt
 (mk_eq (mk_lload X dX5_made_226 rfl))
 (mk_eq (mk_lmul X dX5_made_228 rfl)))
 (mk_lt
 (mk_eq (mk_S2 X h_X5_downLong (lw_S q1031 q1032 q66 q1033) ⟨by decide, by decide, rfl⟩ ⟨(Nat.le_of_ble_eq_true rfl), (Nat.le_of_ble_eq_true rfl)⟩ dX5_made_229 rfl))
 (mk_eq (mk_goto X dX5_made_232 rfl))))
 (mk_lt
 (mk_lt
 (mk_eq (mk_lload X dX5_made_235 rfl))
 (mk_eq (mk_lload X dX5_made_237 rfl)))
 (mk_lt
 (mk_eq (mk_S2 X h_X5_downLong (lw_S q1031 q1032 q66 q1033) ⟨by decide, by decide, rfl⟩ ⟨(Nat.le_of_ble_eq_true rfl), (Nat.le_of_ble_eq_true rfl)⟩ dX5_made_239 rfl))
 (mk_lt
 (mk_eq (mk_lstore X dX5_made_242 (Nat.le_of_ble_eq_true rfl) rfl))
 (mk_eq (mk_lload X dX5_made_244 rfl))))))
 (mk_lt
 (mk_lt
 (mk_lt
 (mk_eq (mk_S1 X h_X5_size (lw_S q1026 q1027 q66 q1028) ⟨by decide, by decide, rfl⟩ ⟨(Nat.le_of_ble_eq_true rfl), (Nat.le_of_ble_eq_true rfl)⟩ dX5_made_246 rfl))
 (mk_eq (mk_ldc2 X dX5_made_249 q1034 rfl)))
 (mk_lt
 (mk_eq (mk_lcmp X dX5_made_252 rfl))
 (mk_eq (mk_ifle X dX5_made_253 rfl rfl))))
 (mk_lt
 (mk_lt
 (mk_eq (mk_ldc X dX5_made_256 q1030 rfl))
 (mk_eq (mk_goto X dX5_made_258 rfl)))
 (mk_lt
 (mk_eq (mk_lload X dX5_made_261 rfl))
 (mk_lt
 (mk_eq (mk_l2i X dX5_made_263 rfl))
 (mk_eq (mk_ri X dX5_made_264))))))))))
theorem sd_X5_made {l : Launch} {w : ma_Wd} {NC : Nat} {A : Nat → Prop} {S_X5_place S_X5_named S_X5_size S_X5_downLong : ma_Cs} (hw : ma_Wo w YM NC A) (h_X5_place : ma_Sd l w YM NC A yX5_place cX5_place 3 (some .int) rm_X5_place S_X5_place) (h_X5_named : ma_Sd l w YM NC A yX5_named cX5_named 8 (some .int) rm_X5_named S_X5_named) (h_X5_size : ma_Sd l w YM NC A yX5_size cX5_size 2 (some .long) rm_X5_size S_X5_size) (h_X5_downLong : ma_Sd l w YM NC A yX5_downLong cX5_downLong 4 (some .long) rm_X5_downLong S_X5_downLong) : ma_Sd l w YM NC A yX5_made cX5_made 14 (some .int) rm_X5_made (ma_rn (tb_X5_made S_X5_place S_X5_named S_X5_size S_X5_downLong) 14) := ma_of hw (by decide) ⟨rfl, rfl⟩ (fun X => tk_X5_made h_X5_place h_X5_named h_X5_size h_X5_downLong X)
theorem dX5_named_0 : decode cX5_named 0 = .ok (.iload_n 2, 1) := by decide +kernel
theorem dX5_named_1 : decode cX5_named 1 = .ok (.iconst 4, 1) := by decide +kernel
theorem dX5_named_2 : decode cX5_named 2 = .ok (.irem, 1) := by decide +kernel
theorem dX5_named_3 : decode cX5_named 3 = .ok (.istore 5, 2) := by decide +kernel
theorem dX5_named_5 : decode cX5_named 5 = .ok (.iload_n 2, 1) := by decide +kernel
theorem dX5_named_6 : decode cX5_named 6 = .ok (.iconst 4, 1) := by decide +kernel
theorem dX5_named_7 : decode cX5_named 7 = .ok (.idiv, 1) := by decide +kernel
theorem dX5_named_8 : decode cX5_named 8 = .ok (.istore 6, 2) := by decide +kernel
theorem dX5_named_10 : decode cX5_named 10 = .ok (.iload 6, 2) := by decide +kernel
theorem dX5_named_12 : decode cX5_named 12 = .ok (.iconst 5, 1) := by decide +kernel
theorem dX5_named_13 : decode cX5_named 13 = .ok (.if_icmp .ne 14, 3) := by decide +kernel
theorem dX5_named_16 : decode cX5_named 16 = .ok (.aload_n 1, 1) := by decide +kernel
theorem dX5_named_17 : decode cX5_named 17 = .ok (.iload_n 3, 1) := by decide +kernel
theorem dX5_named_18 : decode cX5_named 18 = .ok (.iload 4, 2) := by decide +kernel
theorem dX5_named_20 : decode cX5_named 20 = .ok (.iload 5, 2) := by decide +kernel
theorem dX5_named_22 : decode cX5_named 22 = .ok (.invokestatic 217, 3) := by decide +kernel
theorem dX5_named_25 : decode cX5_named 25 = .ok (.iaload, 1) := by decide +kernel
theorem dX5_named_26 : decode cX5_named 26 = .ok (.ireturn, 1) := by decide +kernel
theorem dX5_named_27 : decode cX5_named 27 = .ok (.iload 6, 2) := by decide +kernel
theorem dX5_named_29 : decode cX5_named 29 = .ok (.ifCond .ne 8, 3) := by decide +kernel
theorem dX5_named_32 : decode cX5_named 32 = .ok (.iload 4, 2) := by decide +kernel
theorem dX5_named_34 : decode cX5_named 34 = .ok (.goto 11, 3) := by decide +kernel
theorem dX5_named_37 : decode cX5_named 37 = .ok (.aload_n 0, 1) := by decide +kernel
theorem dX5_named_38 : decode cX5_named 38 = .ok (.iload 4, 2) := by decide +kernel
theorem dX5_named_40 : decode cX5_named 40 = .ok (.iload 6, 2) := by decide +kernel
theorem dX5_named_42 : decode cX5_named 42 = .ok (.invokevirtual 221, 3) := by decide +kernel
theorem dX5_named_45 : decode cX5_named 45 = .ok (.istore 7, 2) := by decide +kernel
theorem dX5_named_47 : decode cX5_named 47 = .ok (.iload 7, 2) := by decide +kernel
theorem dX5_named_49 : decode cX5_named 49 = .ok (.ifCond .ge 13, 3) := by decide +kernel
theorem dX5_named_52 : decode cX5_named 52 = .ok (.aload_n 0, 1) := by decide +kernel
theorem dX5_named_53 : decode cX5_named 53 = .ok (.getfield 19, 3) := by decide +kernel
theorem dX5_named_56 : decode cX5_named 56 = .ok (.iload 5, 2) := by decide +kernel
theorem dX5_named_58 : decode cX5_named 58 = .ok (.iaload, 1) := by decide +kernel
theorem dX5_named_59 : decode cX5_named 59 = .ok (.goto 15, 3) := by decide +kernel
theorem dX5_named_62 : decode cX5_named 62 = .ok (.aload_n 1, 1) := by decide +kernel
theorem dX5_named_63 : decode cX5_named 63 = .ok (.iload_n 3, 1) := by decide +kernel
theorem dX5_named_64 : decode cX5_named 64 = .ok (.iconst 1, 1) := by decide +kernel
theorem dX5_named_65 : decode cX5_named 65 = .ok (.isub, 1) := by decide +kernel
theorem dX5_named_66 : decode cX5_named 66 = .ok (.iload 7, 2) := by decide +kernel
theorem dX5_named_68 : decode cX5_named 68 = .ok (.iload 5, 2) := by decide +kernel
theorem dX5_named_70 : decode cX5_named 70 = .ok (.invokestatic 217, 3) := by decide +kernel
theorem dX5_named_73 : decode cX5_named 73 = .ok (.iaload, 1) := by decide +kernel
theorem dX5_named_74 : decode cX5_named 74 = .ok (.ireturn, 1) := by decide +kernel
def tb_X5_named (S_X5_place S_X5_next : ma_Cs) : Nat → ma_In := fun pc =>
 (if pc < 34 then
 (if pc < 13 then
 (if pc < 6 then
 (if pc < 2 then
 (if pc < 1 then
 (if pc = 0 then in_ild 2 1 else in_no) else
 (if pc = 1 then in_push (.int 4) 2 else in_no)) else
 (if pc < 3 then
 (if pc = 2 then in_idv (fun x y => x - x / y * y) 3 else in_no) else
 (if pc < 5 then
 (if pc = 3 then in_ist 5 5 else in_no) else
 (if pc = 5 then in_ild 2 6 else in_no)))) else
 (if pc < 8 then
 (if pc < 7 then
 (if pc = 6 then in_push (.int 4) 7 else in_no) else
 (if pc = 7 then in_idv (fun x y => x / y) 8 else in_no)) else
 (if pc < 10 then
 (if pc = 8 then in_ist 6 10 else in_no) else
 (if pc < 12 then
 (if pc = 10 then in_ild 6 12 else in_no) else
 (if pc = 12 then in_push (.int 5) 13 else in_no))))) else
 (if pc < 22 then
 (if pc < 17 then
 (if pc < 16 then
 (if pc = 13 then in_if2 (fun x y => x = y) 16 27 else in_no) else
 (if pc = 16 then in_ald 1 17 else in_no)) else
 (if pc < 18 then
 (if pc = 17 then in_ild 3 18 else in_no) else
 (if pc < 20 then
 (if pc = 18 then in_ild 4 20 else in_no) else
 (if pc = 20 then in_ild 5 22 else in_no)))) else
 (if pc < 27 then
 (if pc < 25 then
 (if pc = 22 then in_s3 S_X5_place 25 else in_no) else
 (if pc < 26 then
 (if pc = 25 then in_iar YM 26 else in_no) else
 (if pc = 26 then in_ri else in_no))) else
 (if pc < 29 then
 (if pc = 27 then in_ild 6 29 else in_no) else
 (if pc < 32 then
 (if pc = 29 then in_if1 (fun x => x = 0) 32 37 else in_no) else
 (if pc = 32 then in_ild 4 34 else in_no)))))) else
 (if pc < 58 then
 (if pc < 45 then
 (if pc < 38 then
 (if pc < 37 then
 (if pc = 34 then in_go 45 else in_no) else
 (if pc = 37 then in_ald 0 38 else in_no)) else
 (if pc < 40 then
 (if pc = 38 then in_ild 4 40 else in_no) else
 (if pc < 42 then
 (if pc = 40 then in_ild 6 42 else in_no) else
 (if pc = 42 then in_v3 YM 5 S_X5_next 45 else in_no)))) else
 (if pc < 52 then
 (if pc < 47 then
 (if pc = 45 then in_ist 7 47 else in_no) else
 (if pc < 49 then
 (if pc = 47 then in_ild 7 49 else in_no) else
 (if pc = 49 then in_if1 (fun x => 0 ≤ x) 62 52 else in_no))) else
 (if pc < 53 then
 (if pc = 52 then in_ald 0 53 else in_no) else
 (if pc < 56 then
 (if pc = 53 then in_get YM 5 4 56 else in_no) else
 (if pc = 56 then in_ild 5 58 else in_no))))) else
 (if pc < 65 then
 (if pc < 62 then
 (if pc < 59 then
 (if pc = 58 then in_iar YM 59 else in_no) else
 (if pc = 59 then in_go 74 else in_no)) else
 (if pc < 63 then
 (if pc = 62 then in_ald 1 63 else in_no) else
 (if pc < 64 then
 (if pc = 63 then in_ild 3 64 else in_no) else
 (if pc = 64 then in_push (.int 1) 65 else in_no)))) else
 (if pc < 70 then
 (if pc < 66 then
 (if pc = 65 then in_iii (fun x y => x - y) 66 else in_no) else
 (if pc < 68 then
 (if pc = 66 then in_ild 7 68 else in_no) else
 (if pc = 68 then in_ild 5 70 else in_no))) else
 (if pc < 73 then
 (if pc = 70 then in_s3 S_X5_place 73 else in_no) else
 (if pc < 74 then
 (if pc = 73 then in_iar YM 74 else in_no) else
 (if pc = 74 then in_ri else in_no)))))))
theorem tk_X5_named {l : Launch} {w : ma_Wd} {NC : Nat} {A : Nat → Prop} {S_X5_place S_X5_next : ma_Cs} (h_X5_place : ma_Sd l w YM NC A yX5_place cX5_place 3 (some .int) rm_X5_place S_X5_place) (h_X5_next : ma_Sd l w YM NC A yX5_next cX5_next 5 (some .int) rm_X5_next S_X5_next) {p : Program} {e : Env} {s : State} {m : MethodId} {args : Array Value} {below : List Frame} {meth : Method} {c : Code} (X : ma_Cx p s m args meth c w YM NC A yX5_named.cls cX5_named 8 (some .int)) : ∀ pc, ma_Ok p l e rm_X5_named s m args below meth c w YM NC A 8 pc (tb_X5_named S_X5_place S_X5_next pc) := fun pc =>
 (mk_lt
 (mk_lt
 (mk_lt
 (mk_lt
 (mk_lt
 (mk_eq (mk_iload_n X dX5_named_0 rfl rfl))
 (mk_eq (mk_iconst X dX5_named_1 rfl rfl)))
 (mk_lt
 (mk_eq (mk_irem X dX5_named_2 rfl))
 (mk_lt
 (mk_eq (mk_istore X dX5_named_3 (Nat.le_of_ble_eq_true rfl) rfl))
 (mk_eq (mk_iload_n X dX5_named_5 rfl rfl)))))
 (mk_lt
 (mk_lt
 (mk_eq (mk_iconst X dX5_named_6 rfl rfl))
 (mk_eq (mk_idiv X dX5_named_7 rfl)))
 (mk_lt
 (mk_eq (mk_istore X dX5_named_8 (Nat.le_of_ble_eq_true rfl) rfl))
 (mk_lt
 (mk_eq (mk_iload X dX5_named_10 rfl))
 (mk_eq (mk_iconst X dX5_named_12 rfl rfl))))))
 (mk_lt
 (mk_lt
 (mk_lt
 (mk_eq (mk_icne X dX5_named_13 rfl rfl))
 (mk_eq (mk_aload_n X dX5_named_16 rfl rfl)))
 (mk_lt
 (mk_eq (mk_iload_n X dX5_named_17 rfl rfl))
 (mk_lt
 (mk_eq (mk_iload X dX5_named_18 rfl))
 (mk_eq (mk_iload X dX5_named_20 rfl)))))
 (mk_lt
 (mk_lt
 (mk_eq (mk_S3 X h_X5_place (lw_S q999 q1000 q66 q1001) ⟨by decide, by decide, rfl⟩ ⟨(Nat.le_of_ble_eq_true rfl), (Nat.le_of_ble_eq_true rfl)⟩ dX5_named_22 rfl))
 (mk_lt
 (mk_eq (mk_iar X dX5_named_25 rfl))
 (mk_eq (mk_ri X dX5_named_26))))
 (mk_lt
 (mk_eq (mk_iload X dX5_named_27 rfl))
 (mk_lt
 (mk_eq (mk_ifne X dX5_named_29 rfl rfl))
 (mk_eq (mk_iload X dX5_named_32 rfl)))))))
 (mk_lt
 (mk_lt
 (mk_lt
 (mk_lt
 (mk_eq (mk_goto X dX5_named_34 rfl))
 (mk_eq (mk_aload_n X dX5_named_37 rfl rfl)))
 (mk_lt
 (mk_eq (mk_iload X dX5_named_38 rfl))
 (mk_lt
 (mk_eq (mk_iload X dX5_named_40 rfl))
 (mk_eq (mk_V3 X h_X5_next (ci := 5) rfl (lw_V q1006 q1008 qs44 q66 q1009) ⟨rfl, by decide, by decide, rfl⟩ ⟨(Nat.le_of_ble_eq_true rfl), (Nat.le_of_ble_eq_true rfl)⟩ dX5_named_42 rfl)))))
 (mk_lt
 (mk_lt
 (mk_eq (mk_istore X dX5_named_45 (Nat.le_of_ble_eq_true rfl) rfl))
 (mk_lt
 (mk_eq (mk_iload X dX5_named_47 rfl))
 (mk_eq (mk_ifge X dX5_named_49 rfl rfl))))
 (mk_lt
 (mk_eq (mk_aload_n X dX5_named_52 rfl rfl))
 (mk_lt
 (mk_eq (mk_get X (ci := 5) (j := 4) rfl in_X5 (Nat.le_of_ble_eq_true rfl) q751 dX5_named_53 rfl))
 (mk_eq (mk_iload X dX5_named_56 rfl))))))
 (mk_lt
 (mk_lt
 (mk_lt
 (mk_eq (mk_iar X dX5_named_58 rfl))
 (mk_eq (mk_goto X dX5_named_59 rfl)))
 (mk_lt
 (mk_eq (mk_aload_n X dX5_named_62 rfl rfl))
 (mk_lt
 (mk_eq (mk_iload_n X dX5_named_63 rfl rfl))
 (mk_eq (mk_iconst X dX5_named_64 rfl rfl)))))
 (mk_lt
 (mk_lt
 (mk_eq (mk_isub X dX5_named_65 rfl))
 (mk_lt
 (mk_eq (mk_iload X dX5_named_66 rfl))
 (mk_eq (mk_iload X dX5_named_68 rfl))))
 (mk_lt
 (mk_eq (mk_S3 X h_X5_place (lw_S q999 q1000 q66 q1001) ⟨by decide, by decide, rfl⟩ ⟨(Nat.le_of_ble_eq_true rfl), (Nat.le_of_ble_eq_true rfl)⟩ dX5_named_70 rfl))
 (mk_lt
 (mk_eq (mk_iar X dX5_named_73 rfl))
 (mk_eq (mk_ri X dX5_named_74))))))))
theorem sd_X5_named {l : Launch} {w : ma_Wd} {NC : Nat} {A : Nat → Prop} {S_X5_place S_X5_next : ma_Cs} (hw : ma_Wo w YM NC A) (h_X5_place : ma_Sd l w YM NC A yX5_place cX5_place 3 (some .int) rm_X5_place S_X5_place) (h_X5_next : ma_Sd l w YM NC A yX5_next cX5_next 5 (some .int) rm_X5_next S_X5_next) : ma_Sd l w YM NC A yX5_named cX5_named 8 (some .int) rm_X5_named (ma_rn (tb_X5_named S_X5_place S_X5_next) 8) := ma_of hw (by decide) ⟨rfl, rfl⟩ (fun X => tk_X5_named h_X5_place h_X5_next X)
theorem dX5_size_0 : decode cX5_size 0 = .ok (.lload_n 0, 1) := by decide +kernel
theorem dX5_size_1 : decode cX5_size 1 = .ok (.lconst 0, 1) := by decide +kernel
theorem dX5_size_2 : decode cX5_size 2 = .ok (.lcmp, 1) := by decide +kernel
theorem dX5_size_3 : decode cX5_size 3 = .ok (.ifCond .ge 8, 3) := by decide +kernel
theorem dX5_size_6 : decode cX5_size 6 = .ok (.lload_n 0, 1) := by decide +kernel
theorem dX5_size_7 : decode cX5_size 7 = .ok (.lneg, 1) := by decide +kernel
theorem dX5_size_8 : decode cX5_size 8 = .ok (.goto 4, 3) := by decide +kernel
theorem dX5_size_11 : decode cX5_size 11 = .ok (.lload_n 0, 1) := by decide +kernel
theorem dX5_size_12 : decode cX5_size 12 = .ok (.lreturn, 1) := by decide +kernel
def tb_X5_size : Nat → ma_In := fun pc =>
 (if pc < 6 then
 (if pc < 2 then
 (if pc < 1 then
 (if pc = 0 then in_lld 0 1 else in_no) else
 (if pc = 1 then in_push (.long 0) 2 else in_no)) else
 (if pc < 3 then
 (if pc = 2 then in_lli lg_cmp 3 else in_no) else
 (if pc = 3 then in_if1 (fun x => 0 ≤ x) 11 6 else in_no))) else
 (if pc < 8 then
 (if pc < 7 then
 (if pc = 6 then in_lld 0 7 else in_no) else
 (if pc = 7 then in_ll (fun x => -x) 8 else in_no)) else
 (if pc < 11 then
 (if pc = 8 then in_go 12 else in_no) else
 (if pc < 12 then
 (if pc = 11 then in_lld 0 12 else in_no) else
 (if pc = 12 then in_rl else in_no)))))
theorem tk_X5_size {l : Launch} {w : ma_Wd} {NC : Nat} {A : Nat → Prop} {p : Program} {e : Env} {s : State} {m : MethodId} {args : Array Value} {below : List Frame} {meth : Method} {c : Code} (X : ma_Cx p s m args meth c w YM NC A yX5_size.cls cX5_size 2 (some .long)) : ∀ pc, ma_Ok p l e rm_X5_size s m args below meth c w YM NC A 2 pc (tb_X5_size pc) := fun pc =>
 (mk_lt
 (mk_lt
 (mk_lt
 (mk_eq (mk_lload_n X dX5_size_0 rfl rfl))
 (mk_eq (mk_lconst X dX5_size_1 rfl rfl)))
 (mk_lt
 (mk_eq (mk_lcmp X dX5_size_2 rfl))
 (mk_eq (mk_ifge X dX5_size_3 rfl rfl))))
 (mk_lt
 (mk_lt
 (mk_eq (mk_lload_n X dX5_size_6 rfl rfl))
 (mk_eq (mk_lneg X dX5_size_7 rfl)))
 (mk_lt
 (mk_eq (mk_goto X dX5_size_8 rfl))
 (mk_lt
 (mk_eq (mk_lload_n X dX5_size_11 rfl rfl))
 (mk_eq (mk_rl X dX5_size_12))))))
theorem sd_X5_size {l : Launch} {w : ma_Wd} {NC : Nat} {A : Nat → Prop} (hw : ma_Wo w YM NC A) : ma_Sd l w YM NC A yX5_size cX5_size 2 (some .long) rm_X5_size (ma_rn (tb_X5_size) 2) := ma_of hw (by decide) ⟨rfl, rfl⟩ (fun X => tk_X5_size  X)
theorem dX5_downLong_0 : decode cX5_downLong 0 = .ok (.lload_n 0, 1) := by decide +kernel
theorem dX5_downLong_1 : decode cX5_downLong 1 = .ok (.lconst 0, 1) := by decide +kernel
theorem dX5_downLong_2 : decode cX5_downLong 2 = .ok (.lcmp, 1) := by decide +kernel
theorem dX5_downLong_3 : decode cX5_downLong 3 = .ok (.ifCond .lt 9, 3) := by decide +kernel
theorem dX5_downLong_6 : decode cX5_downLong 6 = .ok (.lload_n 0, 1) := by decide +kernel
theorem dX5_downLong_7 : decode cX5_downLong 7 = .ok (.lload_n 2, 1) := by decide +kernel
theorem dX5_downLong_8 : decode cX5_downLong 8 = .ok (.ldiv, 1) := by decide +kernel
theorem dX5_downLong_9 : decode cX5_downLong 9 = .ok (.goto 11, 3) := by decide +kernel
theorem dX5_downLong_12 : decode cX5_downLong 12 = .ok (.lload_n 2, 1) := by decide +kernel
theorem dX5_downLong_13 : decode cX5_downLong 13 = .ok (.lconst 1, 1) := by decide +kernel
theorem dX5_downLong_14 : decode cX5_downLong 14 = .ok (.lsub, 1) := by decide +kernel
theorem dX5_downLong_15 : decode cX5_downLong 15 = .ok (.lload_n 0, 1) := by decide +kernel
theorem dX5_downLong_16 : decode cX5_downLong 16 = .ok (.lsub, 1) := by decide +kernel
theorem dX5_downLong_17 : decode cX5_downLong 17 = .ok (.lload_n 2, 1) := by decide +kernel
theorem dX5_downLong_18 : decode cX5_downLong 18 = .ok (.ldiv, 1) := by decide +kernel
theorem dX5_downLong_19 : decode cX5_downLong 19 = .ok (.lneg, 1) := by decide +kernel
theorem dX5_downLong_20 : decode cX5_downLong 20 = .ok (.lreturn, 1) := by decide +kernel
def tb_X5_downLong : Nat → ma_In := fun pc =>
 (if pc < 12 then
 (if pc < 6 then
 (if pc < 2 then
 (if pc < 1 then
 (if pc = 0 then in_lld 0 1 else in_no) else
 (if pc = 1 then in_push (.long 0) 2 else in_no)) else
 (if pc < 3 then
 (if pc = 2 then in_lli lg_cmp 3 else in_no) else
 (if pc = 3 then in_if1 (fun x => x < 0) 12 6 else in_no))) else
 (if pc < 8 then
 (if pc < 7 then
 (if pc = 6 then in_lld 0 7 else in_no) else
 (if pc = 7 then in_lld 2 8 else in_no)) else
 (if pc < 9 then
 (if pc = 8 then in_ldv (fun x y => x / y) 9 else in_no) else
 (if pc = 9 then in_go 20 else in_no)))) else
 (if pc < 16 then
 (if pc < 14 then
 (if pc < 13 then
 (if pc = 12 then in_lld 2 13 else in_no) else
 (if pc = 13 then in_push (.long 1) 14 else in_no)) else
 (if pc < 15 then
 (if pc = 14 then in_lll (fun x y => x - y) 15 else in_no) else
 (if pc = 15 then in_lld 0 16 else in_no))) else
 (if pc < 18 then
 (if pc < 17 then
 (if pc = 16 then in_lll (fun x y => x - y) 17 else in_no) else
 (if pc = 17 then in_lld 2 18 else in_no)) else
 (if pc < 19 then
 (if pc = 18 then in_ldv (fun x y => x / y) 19 else in_no) else
 (if pc < 20 then
 (if pc = 19 then in_ll (fun x => -x) 20 else in_no) else
 (if pc = 20 then in_rl else in_no))))))
theorem tk_X5_downLong {l : Launch} {w : ma_Wd} {NC : Nat} {A : Nat → Prop} {p : Program} {e : Env} {s : State} {m : MethodId} {args : Array Value} {below : List Frame} {meth : Method} {c : Code} (X : ma_Cx p s m args meth c w YM NC A yX5_downLong.cls cX5_downLong 4 (some .long)) : ∀ pc, ma_Ok p l e rm_X5_downLong s m args below meth c w YM NC A 4 pc (tb_X5_downLong pc) := fun pc =>
 (mk_lt
 (mk_lt
 (mk_lt
 (mk_lt
 (mk_eq (mk_lload_n X dX5_downLong_0 rfl rfl))
 (mk_eq (mk_lconst X dX5_downLong_1 rfl rfl)))
 (mk_lt
 (mk_eq (mk_lcmp X dX5_downLong_2 rfl))
 (mk_eq (mk_iflt X dX5_downLong_3 rfl rfl))))
 (mk_lt
 (mk_lt
 (mk_eq (mk_lload_n X dX5_downLong_6 rfl rfl))
 (mk_eq (mk_lload_n X dX5_downLong_7 rfl rfl)))
 (mk_lt
 (mk_eq (mk_ldiv X dX5_downLong_8 rfl))
 (mk_eq (mk_goto X dX5_downLong_9 rfl)))))
 (mk_lt
 (mk_lt
 (mk_lt
 (mk_eq (mk_lload_n X dX5_downLong_12 rfl rfl))
 (mk_eq (mk_lconst X dX5_downLong_13 rfl rfl)))
 (mk_lt
 (mk_eq (mk_lsub X dX5_downLong_14 rfl))
 (mk_eq (mk_lload_n X dX5_downLong_15 rfl rfl))))
 (mk_lt
 (mk_lt
 (mk_eq (mk_lsub X dX5_downLong_16 rfl))
 (mk_eq (mk_lload_n X dX5_downLong_17 rfl rfl)))
 (mk_lt
 (mk_eq (mk_ldiv X dX5_downLong_18 rfl))
 (mk_lt
 (mk_eq (mk_lneg X dX5_downLong_19 rfl))
 (mk_eq (mk_rl X dX5_downLong_20)))))))
theorem sd_X5_downLong {l : Launch} {w : ma_Wd} {NC : Nat} {A : Nat → Prop} (hw : ma_Wo w YM NC A) : ma_Sd l w YM NC A yX5_downLong cX5_downLong 4 (some .long) rm_X5_downLong (ma_rn (tb_X5_downLong) 4) := ma_of hw (by decide) ⟨rfl, rfl⟩ (fun X => tk_X5_downLong  X)
theorem dX5_slipped_0 : decode cX5_slipped 0 = .ok (.iload_n 1, 1) := by decide +kernel
theorem dX5_slipped_1 : decode cX5_slipped 1 = .ok (.istore 6, 2) := by decide +kernel
theorem dX5_slipped_3 : decode cX5_slipped 3 = .ok (.iconst 0, 1) := by decide +kernel
theorem dX5_slipped_4 : decode cX5_slipped 4 = .ok (.istore 7, 2) := by decide +kernel
theorem dX5_slipped_6 : decode cX5_slipped 6 = .ok (.iload 7, 2) := by decide +kernel
theorem dX5_slipped_8 : decode cX5_slipped 8 = .ok (.aload_n 0, 1) := by decide +kernel
theorem dX5_slipped_9 : decode cX5_slipped 9 = .ok (.getfield 116, 3) := by decide +kernel
theorem dX5_slipped_12 : decode cX5_slipped 12 = .ok (.if_icmp .ge 95, 3) := by decide +kernel
theorem dX5_slipped_15 : decode cX5_slipped 15 = .ok (.iload 5, 2) := by decide +kernel
theorem dX5_slipped_17 : decode cX5_slipped 17 = .ok (.iload 7, 2) := by decide +kernel
theorem dX5_slipped_19 : decode cX5_slipped 19 = .ok (.ishr, 1) := by decide +kernel
theorem dX5_slipped_20 : decode cX5_slipped 20 = .ok (.iconst 1, 1) := by decide +kernel
theorem dX5_slipped_21 : decode cX5_slipped 21 = .ok (.iand, 1) := by decide +kernel
theorem dX5_slipped_22 : decode cX5_slipped 22 = .ok (.iconst 1, 1) := by decide +kernel
theorem dX5_slipped_23 : decode cX5_slipped 23 = .ok (.if_icmp .ne 78, 3) := by decide +kernel
theorem dX5_slipped_26 : decode cX5_slipped 26 = .ok (.aload_n 0, 1) := by decide +kernel
theorem dX5_slipped_27 : decode cX5_slipped 27 = .ok (.getfield 56, 3) := by decide +kernel
theorem dX5_slipped_30 : decode cX5_slipped 30 = .ok (.iload 7, 2) := by decide +kernel
theorem dX5_slipped_32 : decode cX5_slipped 32 = .ok (.iaload, 1) := by decide +kernel
theorem dX5_slipped_33 : decode cX5_slipped 33 = .ok (.iload_n 2, 1) := by decide +kernel
theorem dX5_slipped_34 : decode cX5_slipped 34 = .ok (.if_icmp .ne 67, 3) := by decide +kernel
theorem dX5_slipped_37 : decode cX5_slipped 37 = .ok (.aload_n 0, 1) := by decide +kernel
theorem dX5_slipped_38 : decode cX5_slipped 38 = .ok (.getfield 59, 3) := by decide +kernel
theorem dX5_slipped_41 : decode cX5_slipped 41 = .ok (.iload 7, 2) := by decide +kernel
theorem dX5_slipped_43 : decode cX5_slipped 43 = .ok (.iaload, 1) := by decide +kernel
theorem dX5_slipped_44 : decode cX5_slipped 44 = .ok (.iload_n 3, 1) := by decide +kernel
theorem dX5_slipped_45 : decode cX5_slipped 45 = .ok (.if_icmp .ne 56, 3) := by decide +kernel
theorem dX5_slipped_48 : decode cX5_slipped 48 = .ok (.aload_n 0, 1) := by decide +kernel
theorem dX5_slipped_49 : decode cX5_slipped 49 = .ok (.getfield 62, 3) := by decide +kernel
theorem dX5_slipped_52 : decode cX5_slipped 52 = .ok (.iload 7, 2) := by decide +kernel
theorem dX5_slipped_54 : decode cX5_slipped 54 = .ok (.iaload, 1) := by decide +kernel
theorem dX5_slipped_55 : decode cX5_slipped 55 = .ok (.iload 4, 2) := by decide +kernel
theorem dX5_slipped_57 : decode cX5_slipped 57 = .ok (.if_icmp .ne 44, 3) := by decide +kernel
theorem dX5_slipped_60 : decode cX5_slipped 60 = .ok (.iload 6, 2) := by decide +kernel
theorem dX5_slipped_62 : decode cX5_slipped 62 = .ok (.ldc 237, 2) := by decide +kernel
theorem dX5_slipped_64 : decode cX5_slipped 64 = .ok (.if_icmp .eq 37, 3) := by decide +kernel
theorem dX5_slipped_67 : decode cX5_slipped 67 = .ok (.iload 6, 2) := by decide +kernel
theorem dX5_slipped_69 : decode cX5_slipped 69 = .ok (.aload_n 0, 1) := by decide +kernel
theorem dX5_slipped_70 : decode cX5_slipped 70 = .ok (.getfield 65, 3) := by decide +kernel
theorem dX5_slipped_73 : decode cX5_slipped 73 = .ok (.iload 7, 2) := by decide +kernel
theorem dX5_slipped_75 : decode cX5_slipped 75 = .ok (.iaload, 1) := by decide +kernel
theorem dX5_slipped_76 : decode cX5_slipped 76 = .ok (.iadd, 1) := by decide +kernel
theorem dX5_slipped_77 : decode cX5_slipped 77 = .ok (.istore 6, 2) := by decide +kernel
theorem dX5_slipped_79 : decode cX5_slipped 79 = .ok (.iload 6, 2) := by decide +kernel
theorem dX5_slipped_81 : decode cX5_slipped 81 = .ok (.i2l, 1) := by decide +kernel
theorem dX5_slipped_82 : decode cX5_slipped 82 = .ok (.invokestatic 231, 3) := by decide +kernel
theorem dX5_slipped_85 : decode cX5_slipped 85 = .ok (.ldc2_w 242, 3) := by decide +kernel
theorem dX5_slipped_88 : decode cX5_slipped 88 = .ok (.lcmp, 1) := by decide +kernel
theorem dX5_slipped_89 : decode cX5_slipped 89 = .ok (.ifCond .le 8, 3) := by decide +kernel
theorem dX5_slipped_92 : decode cX5_slipped 92 = .ok (.ldc 237, 2) := by decide +kernel
theorem dX5_slipped_94 : decode cX5_slipped 94 = .ok (.goto 5, 3) := by decide +kernel
theorem dX5_slipped_97 : decode cX5_slipped 97 = .ok (.iload 6, 2) := by decide +kernel
theorem dX5_slipped_99 : decode cX5_slipped 99 = .ok (.istore 6, 2) := by decide +kernel
theorem dX5_slipped_101 : decode cX5_slipped 101 = .ok (.iinc 7 1, 3) := by decide +kernel
theorem dX5_slipped_104 : decode cX5_slipped 104 = .ok (.goto (-98), 3) := by decide +kernel
theorem dX5_slipped_107 : decode cX5_slipped 107 = .ok (.iload 6, 2) := by decide +kernel
theorem dX5_slipped_109 : decode cX5_slipped 109 = .ok (.ireturn, 1) := by decide +kernel
def tb_X5_slipped (S_X5_size : ma_Cs) : Nat → ma_In := fun pc =>
 (if pc < 49 then
 (if pc < 23 then
 (if pc < 12 then
 (if pc < 4 then
 (if pc < 1 then
 (if pc = 0 then in_ild 1 1 else in_no) else
 (if pc < 3 then
 (if pc = 1 then in_ist 6 3 else in_no) else
 (if pc = 3 then in_push (.int 0) 4 else in_no))) else
 (if pc < 8 then
 (if pc < 6 then
 (if pc = 4 then in_ist 7 6 else in_no) else
 (if pc = 6 then in_ild 7 8 else in_no)) else
 (if pc < 9 then
 (if pc = 8 then in_ald 0 9 else in_no) else
 (if pc = 9 then in_get YM 5 19 12 else in_no)))) else
 (if pc < 19 then
 (if pc < 15 then
 (if pc = 12 then in_if2 (fun x y => y ≤ x) 107 15 else in_no) else
 (if pc < 17 then
 (if pc = 15 then in_ild 5 17 else in_no) else
 (if pc = 17 then in_ild 7 19 else in_no))) else
 (if pc < 21 then
 (if pc < 20 then
 (if pc = 19 then in_iii (fun x y => x >>> (y &&& 31)) 20 else in_no) else
 (if pc = 20 then in_push (.int 1) 21 else in_no)) else
 (if pc < 22 then
 (if pc = 21 then in_iii (fun x y => x &&& y) 22 else in_no) else
 (if pc = 22 then in_push (.int 1) 23 else in_no))))) else
 (if pc < 37 then
 (if pc < 30 then
 (if pc < 26 then
 (if pc = 23 then in_if2 (fun x y => x = y) 26 101 else in_no) else
 (if pc < 27 then
 (if pc = 26 then in_ald 0 27 else in_no) else
 (if pc = 27 then in_get YM 5 20 30 else in_no))) else
 (if pc < 33 then
 (if pc < 32 then
 (if pc = 30 then in_ild 7 32 else in_no) else
 (if pc = 32 then in_iar YM 33 else in_no)) else
 (if pc < 34 then
 (if pc = 33 then in_ild 2 34 else in_no) else
 (if pc = 34 then in_if2 (fun x y => x = y) 37 101 else in_no)))) else
 (if pc < 43 then
 (if pc < 38 then
 (if pc = 37 then in_ald 0 38 else in_no) else
 (if pc < 41 then
 (if pc = 38 then in_get YM 5 21 41 else in_no) else
 (if pc = 41 then in_ild 7 43 else in_no))) else
 (if pc < 45 then
 (if pc < 44 then
 (if pc = 43 then in_iar YM 44 else in_no) else
 (if pc = 44 then in_ild 3 45 else in_no)) else
 (if pc < 48 then
 (if pc = 45 then in_if2 (fun x y => x = y) 48 101 else in_no) else
 (if pc = 48 then in_ald 0 49 else in_no)))))) else
 (if pc < 77 then
 (if pc < 64 then
 (if pc < 55 then
 (if pc < 52 then
 (if pc = 49 then in_get YM 5 22 52 else in_no) else
 (if pc < 54 then
 (if pc = 52 then in_ild 7 54 else in_no) else
 (if pc = 54 then in_iar YM 55 else in_no))) else
 (if pc < 60 then
 (if pc < 57 then
 (if pc = 55 then in_ild 4 57 else in_no) else
 (if pc = 57 then in_if2 (fun x y => x = y) 60 101 else in_no)) else
 (if pc < 62 then
 (if pc = 60 then in_ild 6 62 else in_no) else
 (if pc = 62 then in_push (.int 2000000000) 64 else in_no)))) else
 (if pc < 70 then
 (if pc < 67 then
 (if pc = 64 then in_if2 (fun x y => x = y) 101 67 else in_no) else
 (if pc < 69 then
 (if pc = 67 then in_ild 6 69 else in_no) else
 (if pc = 69 then in_ald 0 70 else in_no))) else
 (if pc < 75 then
 (if pc < 73 then
 (if pc = 70 then in_get YM 5 23 73 else in_no) else
 (if pc = 73 then in_ild 7 75 else in_no)) else
 (if pc < 76 then
 (if pc = 75 then in_iar YM 76 else in_no) else
 (if pc = 76 then in_iii (fun x y => x + y) 77 else in_no))))) else
 (if pc < 92 then
 (if pc < 82 then
 (if pc < 79 then
 (if pc = 77 then in_ist 6 79 else in_no) else
 (if pc < 81 then
 (if pc = 79 then in_ild 6 81 else in_no) else
 (if pc = 81 then in_il (fun x => x.toInt64) 82 else in_no))) else
 (if pc < 88 then
 (if pc < 85 then
 (if pc = 82 then in_s1 S_X5_size 85 else in_no) else
 (if pc = 85 then in_push (.long 1000000000) 88 else in_no)) else
 (if pc < 89 then
 (if pc = 88 then in_lli lg_cmp 89 else in_no) else
 (if pc = 89 then in_if1 (fun x => x ≤ 0) 97 92 else in_no)))) else
 (if pc < 101 then
 (if pc < 97 then
 (if pc < 94 then
 (if pc = 92 then in_push (.int 2000000000) 94 else in_no) else
 (if pc = 94 then in_go 99 else in_no)) else
 (if pc < 99 then
 (if pc = 97 then in_ild 6 99 else in_no) else
 (if pc = 99 then in_ist 6 101 else in_no))) else
 (if pc < 107 then
 (if pc < 104 then
 (if pc = 101 then in_inc 7 1 104 else in_no) else
 (if pc = 104 then in_go 6 else in_no)) else
 (if pc < 109 then
 (if pc = 107 then in_ild 6 109 else in_no) else
 (if pc = 109 then in_ri else in_no)))))))
theorem tk_X5_slipped {l : Launch} {w : ma_Wd} {NC : Nat} {A : Nat → Prop} {S_X5_size : ma_Cs} (h_X5_size : ma_Sd l w YM NC A yX5_size cX5_size 2 (some .long) rm_X5_size S_X5_size) {p : Program} {e : Env} {s : State} {m : MethodId} {args : Array Value} {below : List Frame} {meth : Method} {c : Code} (X : ma_Cx p s m args meth c w YM NC A yX5_slipped.cls cX5_slipped 8 (some .int)) : ∀ pc, ma_Ok p l e rm_X5_slipped s m args below meth c w YM NC A 8 pc (tb_X5_slipped S_X5_size pc) := fun pc =>
 (mk_lt
 (mk_lt
 (mk_lt
 (mk_lt
 (mk_lt
 (mk_eq (mk_iload_n X dX5_slipped_0 rfl rfl))
 (mk_lt
 (mk_eq (mk_istore X dX5_slipped_1 (Nat.le_of_ble_eq_true rfl) rfl))
 (mk_eq (mk_iconst X dX5_slipped_3 rfl rfl))))
 (mk_lt
 (mk_lt
 (mk_eq (mk_istore X dX5_slipped_4 (Nat.le_of_ble_eq_true rfl) rfl))
 (mk_eq (mk_iload X dX5_slipped_6 rfl)))
 (mk_lt
 (mk_eq (mk_aload_n X dX5_slipped_8 rfl rfl))
 (mk_eq (mk_get X (ci := 5) (j := 19) rfl in_X5 (Nat.le_of_ble_eq_true rfl) q766 dX5_slipped_9 rfl)))))
 (mk_lt
 (mk_lt
 (mk_eq (mk_icge X dX5_slipped_12 rfl rfl))
 (mk_lt
 (mk_eq (mk_iload X dX5_slipped_15 rfl))
 (mk_eq (mk_iload X dX5_slipped_17 rfl))))
 (mk_lt
 (mk_lt
 (mk_eq (mk_ishr X dX5_slipped_19 rfl))
 (mk_eq (mk_iconst X dX5_slipped_20 rfl rfl)))
 (mk_lt
 (mk_eq (mk_iand X dX5_slipped_21 rfl))
 (mk_eq (mk_iconst X dX5_slipped_22 rfl rfl))))))
 (mk_lt
 (mk_lt
 (mk_lt
 (mk_eq (mk_icne X dX5_slipped_23 rfl rfl))
 (mk_lt
 (mk_eq (mk_aload_n X dX5_slipped_26 rfl rfl))
 (mk_eq (mk_get X (ci := 5) (j := 20) rfl in_X5 (Nat.le_of_ble_eq_true rfl) q767 dX5_slipped_27 rfl))))
 (mk_lt
 (mk_lt
 (mk_eq (mk_iload X dX5_slipped_30 rfl))
 (mk_eq (mk_iar X dX5_slipped_32 rfl)))
 (mk_lt
 (mk_eq (mk_iload_n X dX5_slipped_33 rfl rfl))
 (mk_eq (mk_icne X dX5_slipped_34 rfl rfl)))))
 (mk_lt
 (mk_lt
 (mk_eq (mk_aload_n X dX5_slipped_37 rfl rfl))
 (mk_lt
 (mk_eq (mk_get X (ci := 5) (j := 21) rfl in_X5 (Nat.le_of_ble_eq_true rfl) q768 dX5_slipped_38 rfl))
 (mk_eq (mk_iload X dX5_slipped_41 rfl))))
 (mk_lt
 (mk_lt
 (mk_eq (mk_iar X dX5_slipped_43 rfl))
 (mk_eq (mk_iload_n X dX5_slipped_44 rfl rfl)))
 (mk_lt
 (mk_eq (mk_icne X dX5_slipped_45 rfl rfl))
 (mk_eq (mk_aload_n X dX5_slipped_48 rfl rfl)))))))
 (mk_lt
 (mk_lt
 (mk_lt
 (mk_lt
 (mk_eq (mk_get X (ci := 5) (j := 22) rfl in_X5 (Nat.le_of_ble_eq_true rfl) q769 dX5_slipped_49 rfl))
 (mk_lt
 (mk_eq (mk_iload X dX5_slipped_52 rfl))
 (mk_eq (mk_iar X dX5_slipped_54 rfl))))
 (mk_lt
 (mk_lt
 (mk_eq (mk_iload X dX5_slipped_55 rfl))
 (mk_eq (mk_icne X dX5_slipped_57 rfl rfl)))
 (mk_lt
 (mk_eq (mk_iload X dX5_slipped_60 rfl))
 (mk_eq (mk_ldc X dX5_slipped_62 q1030 rfl)))))
 (mk_lt
 (mk_lt
 (mk_eq (mk_iceq X dX5_slipped_64 rfl rfl))
 (mk_lt
 (mk_eq (mk_iload X dX5_slipped_67 rfl))
 (mk_eq (mk_aload_n X dX5_slipped_69 rfl rfl))))
 (mk_lt
 (mk_lt
 (mk_eq (mk_get X (ci := 5) (j := 23) rfl in_X5 (Nat.le_of_ble_eq_true rfl) q770 dX5_slipped_70 rfl))
 (mk_eq (mk_iload X dX5_slipped_73 rfl)))
 (mk_lt
 (mk_eq (mk_iar X dX5_slipped_75 rfl))
 (mk_eq (mk_iadd X dX5_slipped_76 rfl))))))
 (mk_lt
 (mk_lt
 (mk_lt
 (mk_eq (mk_istore X dX5_slipped_77 (Nat.le_of_ble_eq_true rfl) rfl))
 (mk_lt
 (mk_eq (mk_iload X dX5_slipped_79 rfl))
 (mk_eq (mk_i2l X dX5_slipped_81 rfl))))
 (mk_lt
 (mk_lt
 (mk_eq (mk_S1 X h_X5_size (lw_S q1026 q1027 q66 q1028) ⟨by decide, by decide, rfl⟩ ⟨(Nat.le_of_ble_eq_true rfl), (Nat.le_of_ble_eq_true rfl)⟩ dX5_slipped_82 rfl))
 (mk_eq (mk_ldc2 X dX5_slipped_85 q1034 rfl)))
 (mk_lt
 (mk_eq (mk_lcmp X dX5_slipped_88 rfl))
 (mk_eq (mk_ifle X dX5_slipped_89 rfl rfl)))))
 (mk_lt
 (mk_lt
 (mk_lt
 (mk_eq (mk_ldc X dX5_slipped_92 q1030 rfl))
 (mk_eq (mk_goto X dX5_slipped_94 rfl)))
 (mk_lt
 (mk_eq (mk_iload X dX5_slipped_97 rfl))
 (mk_eq (mk_istore X dX5_slipped_99 (Nat.le_of_ble_eq_true rfl) rfl))))
 (mk_lt
 (mk_lt
 (mk_eq (mk_iinc X dX5_slipped_101 rfl (Nat.le_of_ble_eq_true rfl) rfl))
 (mk_eq (mk_goto X dX5_slipped_104 rfl)))
 (mk_lt
 (mk_eq (mk_iload X dX5_slipped_107 rfl))
 (mk_eq (mk_ri X dX5_slipped_109))))))))
theorem sd_X5_slipped {l : Launch} {w : ma_Wd} {NC : Nat} {A : Nat → Prop} {S_X5_size : ma_Cs} (hw : ma_Wo w YM NC A) (h_X5_size : ma_Sd l w YM NC A yX5_size cX5_size 2 (some .long) rm_X5_size S_X5_size) : ma_Sd l w YM NC A yX5_slipped cX5_slipped 8 (some .int) rm_X5_slipped (ma_rn (tb_X5_slipped S_X5_size) 8) := ma_of hw (by decide) ⟨rfl, rfl⟩ (fun X => tk_X5_slipped h_X5_size X)
theorem dX5_madeMarked_0 : decode cX5_madeMarked 0 = .ok (.aload_n 0, 1) := by decide +kernel
theorem dX5_madeMarked_1 : decode cX5_madeMarked 1 = .ok (.getfield 29, 3) := by decide +kernel
theorem dX5_madeMarked_4 : decode cX5_madeMarked 4 = .ok (.iload_n 1, 1) := by decide +kernel
theorem dX5_madeMarked_5 : decode cX5_madeMarked 5 = .ok (.iaload, 1) := by decide +kernel
theorem dX5_madeMarked_6 : decode cX5_madeMarked 6 = .ok (.ifCond .ge 17, 3) := by decide +kernel
theorem dX5_madeMarked_9 : decode cX5_madeMarked 9 = .ok (.aload_n 0, 1) := by decide +kernel
theorem dX5_madeMarked_10 : decode cX5_madeMarked 10 = .ok (.getfield 90, 3) := by decide +kernel
theorem dX5_madeMarked_13 : decode cX5_madeMarked 13 = .ok (.iload_n 2, 1) := by decide +kernel
theorem dX5_madeMarked_14 : decode cX5_madeMarked 14 = .ok (.iconst 1, 1) := by decide +kernel
theorem dX5_madeMarked_15 : decode cX5_madeMarked 15 = .ok (.isub, 1) := by decide +kernel
theorem dX5_madeMarked_16 : decode cX5_madeMarked 16 = .ok (.iload_n 3, 1) := by decide +kernel
theorem dX5_madeMarked_17 : decode cX5_madeMarked 17 = .ok (.iload_n 1, 1) := by decide +kernel
theorem dX5_madeMarked_18 : decode cX5_madeMarked 18 = .ok (.invokestatic 217, 3) := by decide +kernel
theorem dX5_madeMarked_21 : decode cX5_madeMarked 21 = .ok (.baload, 1) := by decide +kernel
theorem dX5_madeMarked_22 : decode cX5_madeMarked 22 = .ok (.ireturn, 1) := by decide +kernel
theorem dX5_madeMarked_23 : decode cX5_madeMarked 23 = .ok (.iconst 0, 1) := by decide +kernel
theorem dX5_madeMarked_24 : decode cX5_madeMarked 24 = .ok (.istore 4, 2) := by decide +kernel
theorem dX5_madeMarked_26 : decode cX5_madeMarked 26 = .ok (.aload_n 0, 1) := by decide +kernel
theorem dX5_madeMarked_27 : decode cX5_madeMarked 27 = .ok (.getfield 32, 3) := by decide +kernel
theorem dX5_madeMarked_30 : decode cX5_madeMarked 30 = .ok (.iload_n 1, 1) := by decide +kernel
theorem dX5_madeMarked_31 : decode cX5_madeMarked 31 = .ok (.iaload, 1) := by decide +kernel
theorem dX5_madeMarked_32 : decode cX5_madeMarked 32 = .ok (.istore 5, 2) := by decide +kernel
theorem dX5_madeMarked_34 : decode cX5_madeMarked 34 = .ok (.iload 5, 2) := by decide +kernel
theorem dX5_madeMarked_36 : decode cX5_madeMarked 36 = .ok (.aload_n 0, 1) := by decide +kernel
theorem dX5_madeMarked_37 : decode cX5_madeMarked 37 = .ok (.getfield 32, 3) := by decide +kernel
theorem dX5_madeMarked_40 : decode cX5_madeMarked 40 = .ok (.iload_n 1, 1) := by decide +kernel
theorem dX5_madeMarked_41 : decode cX5_madeMarked 41 = .ok (.iaload, 1) := by decide +kernel
theorem dX5_madeMarked_42 : decode cX5_madeMarked 42 = .ok (.aload_n 0, 1) := by decide +kernel
theorem dX5_madeMarked_43 : decode cX5_madeMarked 43 = .ok (.getfield 35, 3) := by decide +kernel
theorem dX5_madeMarked_46 : decode cX5_madeMarked 46 = .ok (.iload_n 1, 1) := by decide +kernel
theorem dX5_madeMarked_47 : decode cX5_madeMarked 47 = .ok (.iaload, 1) := by decide +kernel
theorem dX5_madeMarked_48 : decode cX5_madeMarked 48 = .ok (.iadd, 1) := by decide +kernel
theorem dX5_madeMarked_49 : decode cX5_madeMarked 49 = .ok (.if_icmp .ge 63, 3) := by decide +kernel
theorem dX5_madeMarked_52 : decode cX5_madeMarked 52 = .ok (.iload 4, 2) := by decide +kernel
theorem dX5_madeMarked_54 : decode cX5_madeMarked 54 = .ok (.ifCond .ne 45, 3) := by decide +kernel
theorem dX5_madeMarked_57 : decode cX5_madeMarked 57 = .ok (.aload_n 0, 1) := by decide +kernel
theorem dX5_madeMarked_58 : decode cX5_madeMarked 58 = .ok (.aload_n 0, 1) := by decide +kernel
theorem dX5_madeMarked_59 : decode cX5_madeMarked 59 = .ok (.getfield 47, 3) := by decide +kernel
theorem dX5_madeMarked_62 : decode cX5_madeMarked 62 = .ok (.iload 5, 2) := by decide +kernel
theorem dX5_madeMarked_64 : decode cX5_madeMarked 64 = .ok (.iaload, 1) := by decide +kernel
theorem dX5_madeMarked_65 : decode cX5_madeMarked 65 = .ok (.iload_n 2, 1) := by decide +kernel
theorem dX5_madeMarked_66 : decode cX5_madeMarked 66 = .ok (.iload_n 3, 1) := by decide +kernel
theorem dX5_madeMarked_67 : decode cX5_madeMarked 67 = .ok (.invokevirtual 244, 3) := by decide +kernel
theorem dX5_madeMarked_70 : decode cX5_madeMarked 70 = .ok (.ifCond .ne 29, 3) := by decide +kernel
theorem dX5_madeMarked_73 : decode cX5_madeMarked 73 = .ok (.aload_n 0, 1) := by decide +kernel
theorem dX5_madeMarked_74 : decode cX5_madeMarked 74 = .ok (.getfield 50, 3) := by decide +kernel
theorem dX5_madeMarked_77 : decode cX5_madeMarked 77 = .ok (.iload 5, 2) := by decide +kernel
theorem dX5_madeMarked_79 : decode cX5_madeMarked 79 = .ok (.iaload, 1) := by decide +kernel
theorem dX5_madeMarked_80 : decode cX5_madeMarked 80 = .ok (.ifCond .lt 23, 3) := by decide +kernel
theorem dX5_madeMarked_83 : decode cX5_madeMarked 83 = .ok (.aload_n 0, 1) := by decide +kernel
theorem dX5_madeMarked_84 : decode cX5_madeMarked 84 = .ok (.aload_n 0, 1) := by decide +kernel
theorem dX5_madeMarked_85 : decode cX5_madeMarked 85 = .ok (.getfield 50, 3) := by decide +kernel
theorem dX5_madeMarked_88 : decode cX5_madeMarked 88 = .ok (.iload 5, 2) := by decide +kernel
theorem dX5_madeMarked_90 : decode cX5_madeMarked 90 = .ok (.iaload, 1) := by decide +kernel
theorem dX5_madeMarked_91 : decode cX5_madeMarked 91 = .ok (.iload_n 2, 1) := by decide +kernel
theorem dX5_madeMarked_92 : decode cX5_madeMarked 92 = .ok (.iload_n 3, 1) := by decide +kernel
theorem dX5_madeMarked_93 : decode cX5_madeMarked 93 = .ok (.invokevirtual 244, 3) := by decide +kernel
theorem dX5_madeMarked_96 : decode cX5_madeMarked 96 = .ok (.ifCond .eq 7, 3) := by decide +kernel
theorem dX5_madeMarked_99 : decode cX5_madeMarked 99 = .ok (.iconst 1, 1) := by decide +kernel
theorem dX5_madeMarked_100 : decode cX5_madeMarked 100 = .ok (.goto 4, 3) := by decide +kernel
theorem dX5_madeMarked_103 : decode cX5_madeMarked 103 = .ok (.iconst 0, 1) := by decide +kernel
theorem dX5_madeMarked_104 : decode cX5_madeMarked 104 = .ok (.istore 4, 2) := by decide +kernel
theorem dX5_madeMarked_106 : decode cX5_madeMarked 106 = .ok (.iinc 5 1, 3) := by decide +kernel
theorem dX5_madeMarked_109 : decode cX5_madeMarked 109 = .ok (.goto (-75), 3) := by decide +kernel
theorem dX5_madeMarked_112 : decode cX5_madeMarked 112 = .ok (.iload 4, 2) := by decide +kernel
theorem dX5_madeMarked_114 : decode cX5_madeMarked 114 = .ok (.ireturn, 1) := by decide +kernel
def tb_X5_madeMarked (S_X5_place S_X5_namedMarked : ma_Cs) : Nat → ma_In := fun pc =>
 (if pc < 52 then
 (if pc < 24 then
 (if pc < 14 then
 (if pc < 6 then
 (if pc < 4 then
 (if pc < 1 then
 (if pc = 0 then in_ald 0 1 else in_no) else
 (if pc = 1 then in_get YM 5 10 4 else in_no)) else
 (if pc < 5 then
 (if pc = 4 then in_ild 1 5 else in_no) else
 (if pc = 5 then in_iar YM 6 else in_no))) else
 (if pc < 10 then
 (if pc < 9 then
 (if pc = 6 then in_if1 (fun x => 0 ≤ x) 23 9 else in_no) else
 (if pc = 9 then in_ald 0 10 else in_no)) else
 (if pc < 13 then
 (if pc = 10 then in_get YM 5 39 13 else in_no) else
 (if pc = 13 then in_ild 2 14 else in_no)))) else
 (if pc < 18 then
 (if pc < 16 then
 (if pc < 15 then
 (if pc = 14 then in_push (.int 1) 15 else in_no) else
 (if pc = 15 then in_iii (fun x y => x - y) 16 else in_no)) else
 (if pc < 17 then
 (if pc = 16 then in_ild 3 17 else in_no) else
 (if pc = 17 then in_ild 1 18 else in_no))) else
 (if pc < 22 then
 (if pc < 21 then
 (if pc = 18 then in_s3 S_X5_place 21 else in_no) else
 (if pc = 21 then in_bar YM 22 else in_no)) else
 (if pc < 23 then
 (if pc = 22 then in_rz else in_no) else
 (if pc = 23 then in_push (.int 0) 24 else in_no))))) else
 (if pc < 37 then
 (if pc < 31 then
 (if pc < 27 then
 (if pc < 26 then
 (if pc = 24 then in_ist 4 26 else in_no) else
 (if pc = 26 then in_ald 0 27 else in_no)) else
 (if pc < 30 then
 (if pc = 27 then in_get YM 5 11 30 else in_no) else
 (if pc = 30 then in_ild 1 31 else in_no))) else
 (if pc < 34 then
 (if pc < 32 then
 (if pc = 31 then in_iar YM 32 else in_no) else
 (if pc = 32 then in_ist 5 34 else in_no)) else
 (if pc < 36 then
 (if pc = 34 then in_ild 5 36 else in_no) else
 (if pc = 36 then in_ald 0 37 else in_no)))) else
 (if pc < 43 then
 (if pc < 41 then
 (if pc < 40 then
 (if pc = 37 then in_get YM 5 11 40 else in_no) else
 (if pc = 40 then in_ild 1 41 else in_no)) else
 (if pc < 42 then
 (if pc = 41 then in_iar YM 42 else in_no) else
 (if pc = 42 then in_ald 0 43 else in_no))) else
 (if pc < 47 then
 (if pc < 46 then
 (if pc = 43 then in_get YM 5 12 46 else in_no) else
 (if pc = 46 then in_ild 1 47 else in_no)) else
 (if pc < 48 then
 (if pc = 47 then in_iar YM 48 else in_no) else
 (if pc < 49 then
 (if pc = 48 then in_iii (fun x y => x + y) 49 else in_no) else
 (if pc = 49 then in_if2 (fun x y => y ≤ x) 112 52 else in_no))))))) else
 (if pc < 83 then
 (if pc < 66 then
 (if pc < 59 then
 (if pc < 57 then
 (if pc < 54 then
 (if pc = 52 then in_ild 4 54 else in_no) else
 (if pc = 54 then in_if1 (fun x => x = 0) 57 99 else in_no)) else
 (if pc < 58 then
 (if pc = 57 then in_ald 0 58 else in_no) else
 (if pc = 58 then in_ald 0 59 else in_no))) else
 (if pc < 64 then
 (if pc < 62 then
 (if pc = 59 then in_get YM 5 16 62 else in_no) else
 (if pc = 62 then in_ild 5 64 else in_no)) else
 (if pc < 65 then
 (if pc = 64 then in_iar YM 65 else in_no) else
 (if pc = 65 then in_ild 2 66 else in_no)))) else
 (if pc < 74 then
 (if pc < 70 then
 (if pc < 67 then
 (if pc = 66 then in_ild 3 67 else in_no) else
 (if pc = 67 then in_v4 YM 5 S_X5_namedMarked 70 else in_no)) else
 (if pc < 73 then
 (if pc = 70 then in_if1 (fun x => x = 0) 73 99 else in_no) else
 (if pc = 73 then in_ald 0 74 else in_no))) else
 (if pc < 79 then
 (if pc < 77 then
 (if pc = 74 then in_get YM 5 17 77 else in_no) else
 (if pc = 77 then in_ild 5 79 else in_no)) else
 (if pc < 80 then
 (if pc = 79 then in_iar YM 80 else in_no) else
 (if pc = 80 then in_if1 (fun x => x < 0) 103 83 else in_no))))) else
 (if pc < 96 then
 (if pc < 90 then
 (if pc < 85 then
 (if pc < 84 then
 (if pc = 83 then in_ald 0 84 else in_no) else
 (if pc = 84 then in_ald 0 85 else in_no)) else
 (if pc < 88 then
 (if pc = 85 then in_get YM 5 17 88 else in_no) else
 (if pc = 88 then in_ild 5 90 else in_no))) else
 (if pc < 92 then
 (if pc < 91 then
 (if pc = 90 then in_iar YM 91 else in_no) else
 (if pc = 91 then in_ild 2 92 else in_no)) else
 (if pc < 93 then
 (if pc = 92 then in_ild 3 93 else in_no) else
 (if pc = 93 then in_v4 YM 5 S_X5_namedMarked 96 else in_no)))) else
 (if pc < 104 then
 (if pc < 100 then
 (if pc < 99 then
 (if pc = 96 then in_if1 (fun x => x = 0) 103 99 else in_no) else
 (if pc = 99 then in_push (.int 1) 100 else in_no)) else
 (if pc < 103 then
 (if pc = 100 then in_go 104 else in_no) else
 (if pc = 103 then in_push (.int 0) 104 else in_no))) else
 (if pc < 109 then
 (if pc < 106 then
 (if pc = 104 then in_ist 4 106 else in_no) else
 (if pc = 106 then in_inc 5 1 109 else in_no)) else
 (if pc < 112 then
 (if pc = 109 then in_go 34 else in_no) else
 (if pc < 114 then
 (if pc = 112 then in_ild 4 114 else in_no) else
 (if pc = 114 then in_rz else in_no))))))))
theorem tk_X5_madeMarked {l : Launch} {w : ma_Wd} {NC : Nat} {A : Nat → Prop} {S_X5_place S_X5_namedMarked : ma_Cs} (h_X5_place : ma_Sd l w YM NC A yX5_place cX5_place 3 (some .int) rm_X5_place S_X5_place) (h_X5_namedMarked : ma_Sd l w YM NC A yX5_namedMarked cX5_namedMarked 7 (some .boolean) rm_X5_namedMarked S_X5_namedMarked) {p : Program} {e : Env} {s : State} {m : MethodId} {args : Array Value} {below : List Frame} {meth : Method} {c : Code} (X : ma_Cx p s m args meth c w YM NC A yX5_madeMarked.cls cX5_madeMarked 6 (some .boolean)) : ∀ pc, ma_Ok p l e rm_X5_madeMarked s m args below meth c w YM NC A 6 pc (tb_X5_madeMarked S_X5_place S_X5_namedMarked pc) := fun pc =>
 (mk_lt
 (mk_lt
 (mk_lt
 (mk_lt
 (mk_lt
 (mk_lt
 (mk_eq (mk_aload_n X dX5_madeMarked_0 rfl rfl))
 (mk_eq (mk_get X (ci := 5) (j := 10) rfl in_X5 (Nat.le_of_ble_eq_true rfl) q757 dX5_madeMarked_1 rfl)))
 (mk_lt
 (mk_eq (mk_iload_n X dX5_madeMarked_4 rfl rfl))
 (mk_eq (mk_iar X dX5_madeMarked_5 rfl))))
 (mk_lt
 (mk_lt
 (mk_eq (mk_ifge X dX5_madeMarked_6 rfl rfl))
 (mk_eq (mk_aload_n X dX5_madeMarked_9 rfl rfl)))
 (mk_lt
 (mk_eq (mk_get X (ci := 5) (j := 39) rfl in_X5 (Nat.le_of_ble_eq_true rfl) q786 dX5_madeMarked_10 rfl))
 (mk_eq (mk_iload_n X dX5_madeMarked_13 rfl rfl)))))
 (mk_lt
 (mk_lt
 (mk_lt
 (mk_eq (mk_iconst X dX5_madeMarked_14 rfl rfl))
 (mk_eq (mk_isub X dX5_madeMarked_15 rfl)))
 (mk_lt
 (mk_eq (mk_iload_n X dX5_madeMarked_16 rfl rfl))
 (mk_eq (mk_iload_n X dX5_madeMarked_17 rfl rfl))))
 (mk_lt
 (mk_lt
 (mk_eq (mk_S3 X h_X5_place (lw_S q999 q1000 q66 q1001) ⟨by decide, by decide, rfl⟩ ⟨(Nat.le_of_ble_eq_true rfl), (Nat.le_of_ble_eq_true rfl)⟩ dX5_madeMarked_18 rfl))
 (mk_eq (mk_bar X dX5_madeMarked_21 rfl)))
 (mk_lt
 (mk_eq (mk_rz X dX5_madeMarked_22))
 (mk_eq (mk_iconst X dX5_madeMarked_23 rfl rfl))))))
 (mk_lt
 (mk_lt
 (mk_lt
 (mk_lt
 (mk_eq (mk_istore X dX5_madeMarked_24 (Nat.le_of_ble_eq_true rfl) rfl))
 (mk_eq (mk_aload_n X dX5_madeMarked_26 rfl rfl)))
 (mk_lt
 (mk_eq (mk_get X (ci := 5) (j := 11) rfl in_X5 (Nat.le_of_ble_eq_true rfl) q758 dX5_madeMarked_27 rfl))
 (mk_eq (mk_iload_n X dX5_madeMarked_30 rfl rfl))))
 (mk_lt
 (mk_lt
 (mk_eq (mk_iar X dX5_madeMarked_31 rfl))
 (mk_eq (mk_istore X dX5_madeMarked_32 (Nat.le_of_ble_eq_true rfl) rfl)))
 (mk_lt
 (mk_eq (mk_iload X dX5_madeMarked_34 rfl))
 (mk_eq (mk_aload_n X dX5_madeMarked_36 rfl rfl)))))
 (mk_lt
 (mk_lt
 (mk_lt
 (mk_eq (mk_get X (ci := 5) (j := 11) rfl in_X5 (Nat.le_of_ble_eq_true rfl) q758 dX5_madeMarked_37 rfl))
 (mk_eq (mk_iload_n X dX5_madeMarked_40 rfl rfl)))
 (mk_lt
 (mk_eq (mk_iar X dX5_madeMarked_41 rfl))
 (mk_eq (mk_aload_n X dX5_madeMarked_42 rfl rfl))))
 (mk_lt
 (mk_lt
 (mk_eq (mk_get X (ci := 5) (j := 12) rfl in_X5 (Nat.le_of_ble_eq_true rfl) q759 dX5_madeMarked_43 rfl))
 (mk_eq (mk_iload_n X dX5_madeMarked_46 rfl rfl)))
 (mk_lt
 (mk_eq (mk_iar X dX5_madeMarked_47 rfl))
 (mk_lt
 (mk_eq (mk_iadd X dX5_madeMarked_48 rfl))
 (mk_eq (mk_icge X dX5_madeMarked_49 rfl rfl))))))))
 (mk_lt
 (mk_lt
 (mk_lt
 (mk_lt
 (mk_lt
 (mk_eq (mk_iload X dX5_madeMarked_52 rfl))
 (mk_eq (mk_ifne X dX5_madeMarked_54 rfl rfl)))
 (mk_lt
 (mk_eq (mk_aload_n X dX5_madeMarked_57 rfl rfl))
 (mk_eq (mk_aload_n X dX5_madeMarked_58 rfl rfl))))
 (mk_lt
 (mk_lt
 (mk_eq (mk_get X (ci := 5) (j := 16) rfl in_X5 (Nat.le_of_ble_eq_true rfl) q763 dX5_madeMarked_59 rfl))
 (mk_eq (mk_iload X dX5_madeMarked_62 rfl)))
 (mk_lt
 (mk_eq (mk_iar X dX5_madeMarked_64 rfl))
 (mk_eq (mk_iload_n X dX5_madeMarked_65 rfl rfl)))))
 (mk_lt
 (mk_lt
 (mk_lt
 (mk_eq (mk_iload_n X dX5_madeMarked_66 rfl rfl))
 (mk_eq (mk_V4 X h_X5_namedMarked (ci := 5) rfl (lw_V q1043 q1045 qs50 q66 q1046) ⟨rfl, by decide, by decide, rfl⟩ ⟨(Nat.le_of_ble_eq_true rfl), (Nat.le_of_ble_eq_true rfl)⟩ dX5_madeMarked_67 rfl)))
 (mk_lt
 (mk_eq (mk_ifne X dX5_madeMarked_70 rfl rfl))
 (mk_eq (mk_aload_n X dX5_madeMarked_73 rfl rfl))))
 (mk_lt
 (mk_lt
 (mk_eq (mk_get X (ci := 5) (j := 17) rfl in_X5 (Nat.le_of_ble_eq_true rfl) q764 dX5_madeMarked_74 rfl))
 (mk_eq (mk_iload X dX5_madeMarked_77 rfl)))
 (mk_lt
 (mk_eq (mk_iar X dX5_madeMarked_79 rfl))
 (mk_eq (mk_iflt X dX5_madeMarked_80 rfl rfl))))))
 (mk_lt
 (mk_lt
 (mk_lt
 (mk_lt
 (mk_eq (mk_aload_n X dX5_madeMarked_83 rfl rfl))
 (mk_eq (mk_aload_n X dX5_madeMarked_84 rfl rfl)))
 (mk_lt
 (mk_eq (mk_get X (ci := 5) (j := 17) rfl in_X5 (Nat.le_of_ble_eq_true rfl) q764 dX5_madeMarked_85 rfl))
 (mk_eq (mk_iload X dX5_madeMarked_88 rfl))))
 (mk_lt
 (mk_lt
 (mk_eq (mk_iar X dX5_madeMarked_90 rfl))
 (mk_eq (mk_iload_n X dX5_madeMarked_91 rfl rfl)))
 (mk_lt
 (mk_eq (mk_iload_n X dX5_madeMarked_92 rfl rfl))
 (mk_eq (mk_V4 X h_X5_namedMarked (ci := 5) rfl (lw_V q1043 q1045 qs50 q66 q1046) ⟨rfl, by decide, by decide, rfl⟩ ⟨(Nat.le_of_ble_eq_true rfl), (Nat.le_of_ble_eq_true rfl)⟩ dX5_madeMarked_93 rfl)))))
 (mk_lt
 (mk_lt
 (mk_lt
 (mk_eq (mk_ifeq X dX5_madeMarked_96 rfl rfl))
 (mk_eq (mk_iconst X dX5_madeMarked_99 rfl rfl)))
 (mk_lt
 (mk_eq (mk_goto X dX5_madeMarked_100 rfl))
 (mk_eq (mk_iconst X dX5_madeMarked_103 rfl rfl))))
 (mk_lt
 (mk_lt
 (mk_eq (mk_istore X dX5_madeMarked_104 (Nat.le_of_ble_eq_true rfl) rfl))
 (mk_eq (mk_iinc X dX5_madeMarked_106 rfl (Nat.le_of_ble_eq_true rfl) rfl)))
 (mk_lt
 (mk_eq (mk_goto X dX5_madeMarked_109 rfl))
 (mk_lt
 (mk_eq (mk_iload X dX5_madeMarked_112 rfl))
 (mk_eq (mk_rz X dX5_madeMarked_114)))))))))
theorem sd_X5_madeMarked {l : Launch} {w : ma_Wd} {NC : Nat} {A : Nat → Prop} {S_X5_place S_X5_namedMarked : ma_Cs} (hw : ma_Wo w YM NC A) (h_X5_place : ma_Sd l w YM NC A yX5_place cX5_place 3 (some .int) rm_X5_place S_X5_place) (h_X5_namedMarked : ma_Sd l w YM NC A yX5_namedMarked cX5_namedMarked 7 (some .boolean) rm_X5_namedMarked S_X5_namedMarked) : ma_Sd l w YM NC A yX5_madeMarked cX5_madeMarked 6 (some .boolean) rm_X5_madeMarked (ma_rn (tb_X5_madeMarked S_X5_place S_X5_namedMarked) 6) := ma_of hw (by decide) ⟨rfl, rfl⟩ (fun X => tk_X5_madeMarked h_X5_place h_X5_namedMarked X)
theorem dX5_namedMarked_0 : decode cX5_namedMarked 0 = .ok (.iload_n 1, 1) := by decide +kernel
theorem dX5_namedMarked_1 : decode cX5_namedMarked 1 = .ok (.iconst 4, 1) := by decide +kernel
theorem dX5_namedMarked_2 : decode cX5_namedMarked 2 = .ok (.irem, 1) := by decide +kernel
theorem dX5_namedMarked_3 : decode cX5_namedMarked 3 = .ok (.istore 4, 2) := by decide +kernel
theorem dX5_namedMarked_5 : decode cX5_namedMarked 5 = .ok (.iload_n 1, 1) := by decide +kernel
theorem dX5_namedMarked_6 : decode cX5_namedMarked 6 = .ok (.iconst 4, 1) := by decide +kernel
theorem dX5_namedMarked_7 : decode cX5_namedMarked 7 = .ok (.idiv, 1) := by decide +kernel
theorem dX5_namedMarked_8 : decode cX5_namedMarked 8 = .ok (.istore 5, 2) := by decide +kernel
theorem dX5_namedMarked_10 : decode cX5_namedMarked 10 = .ok (.iload 5, 2) := by decide +kernel
theorem dX5_namedMarked_12 : decode cX5_namedMarked 12 = .ok (.iconst 5, 1) := by decide +kernel
theorem dX5_namedMarked_13 : decode cX5_namedMarked 13 = .ok (.if_icmp .ne 16, 3) := by decide +kernel
theorem dX5_namedMarked_16 : decode cX5_namedMarked 16 = .ok (.aload_n 0, 1) := by decide +kernel
theorem dX5_namedMarked_17 : decode cX5_namedMarked 17 = .ok (.getfield 90, 3) := by decide +kernel
theorem dX5_namedMarked_20 : decode cX5_namedMarked 20 = .ok (.iload_n 2, 1) := by decide +kernel
theorem dX5_namedMarked_21 : decode cX5_namedMarked 21 = .ok (.iload_n 3, 1) := by decide +kernel
theorem dX5_namedMarked_22 : decode cX5_namedMarked 22 = .ok (.iload 4, 2) := by decide +kernel
theorem dX5_namedMarked_24 : decode cX5_namedMarked 24 = .ok (.invokestatic 217, 3) := by decide +kernel
theorem dX5_namedMarked_27 : decode cX5_namedMarked 27 = .ok (.baload, 1) := by decide +kernel
theorem dX5_namedMarked_28 : decode cX5_namedMarked 28 = .ok (.ireturn, 1) := by decide +kernel
theorem dX5_namedMarked_29 : decode cX5_namedMarked 29 = .ok (.iload 5, 2) := by decide +kernel
theorem dX5_namedMarked_31 : decode cX5_namedMarked 31 = .ok (.ifCond .ne 7, 3) := by decide +kernel
theorem dX5_namedMarked_34 : decode cX5_namedMarked 34 = .ok (.iload_n 3, 1) := by decide +kernel
theorem dX5_namedMarked_35 : decode cX5_namedMarked 35 = .ok (.goto 10, 3) := by decide +kernel
theorem dX5_namedMarked_38 : decode cX5_namedMarked 38 = .ok (.aload_n 0, 1) := by decide +kernel
theorem dX5_namedMarked_39 : decode cX5_namedMarked 39 = .ok (.iload_n 3, 1) := by decide +kernel
theorem dX5_namedMarked_40 : decode cX5_namedMarked 40 = .ok (.iload 5, 2) := by decide +kernel
theorem dX5_namedMarked_42 : decode cX5_namedMarked 42 = .ok (.invokevirtual 221, 3) := by decide +kernel
theorem dX5_namedMarked_45 : decode cX5_namedMarked 45 = .ok (.istore 6, 2) := by decide +kernel
theorem dX5_namedMarked_47 : decode cX5_namedMarked 47 = .ok (.iload 6, 2) := by decide +kernel
theorem dX5_namedMarked_49 : decode cX5_namedMarked 49 = .ok (.ifCond .lt 25, 3) := by decide +kernel
theorem dX5_namedMarked_52 : decode cX5_namedMarked 52 = .ok (.aload_n 0, 1) := by decide +kernel
theorem dX5_namedMarked_53 : decode cX5_namedMarked 53 = .ok (.getfield 90, 3) := by decide +kernel
theorem dX5_namedMarked_56 : decode cX5_namedMarked 56 = .ok (.iload_n 2, 1) := by decide +kernel
theorem dX5_namedMarked_57 : decode cX5_namedMarked 57 = .ok (.iconst 1, 1) := by decide +kernel
theorem dX5_namedMarked_58 : decode cX5_namedMarked 58 = .ok (.isub, 1) := by decide +kernel
theorem dX5_namedMarked_59 : decode cX5_namedMarked 59 = .ok (.iload 6, 2) := by decide +kernel
theorem dX5_namedMarked_61 : decode cX5_namedMarked 61 = .ok (.iload 4, 2) := by decide +kernel
theorem dX5_namedMarked_63 : decode cX5_namedMarked 63 = .ok (.invokestatic 217, 3) := by decide +kernel
theorem dX5_namedMarked_66 : decode cX5_namedMarked 66 = .ok (.baload, 1) := by decide +kernel
theorem dX5_namedMarked_67 : decode cX5_namedMarked 67 = .ok (.ifCond .eq 7, 3) := by decide +kernel
theorem dX5_namedMarked_70 : decode cX5_namedMarked 70 = .ok (.iconst 1, 1) := by decide +kernel
theorem dX5_namedMarked_71 : decode cX5_namedMarked 71 = .ok (.goto 4, 3) := by decide +kernel
theorem dX5_namedMarked_74 : decode cX5_namedMarked 74 = .ok (.iconst 0, 1) := by decide +kernel
theorem dX5_namedMarked_75 : decode cX5_namedMarked 75 = .ok (.ireturn, 1) := by decide +kernel
def tb_X5_namedMarked (S_X5_place S_X5_next : ma_Cs) : Nat → ma_In := fun pc =>
 (if pc < 35 then
 (if pc < 16 then
 (if pc < 6 then
 (if pc < 2 then
 (if pc < 1 then
 (if pc = 0 then in_ild 1 1 else in_no) else
 (if pc = 1 then in_push (.int 4) 2 else in_no)) else
 (if pc < 3 then
 (if pc = 2 then in_idv (fun x y => x - x / y * y) 3 else in_no) else
 (if pc < 5 then
 (if pc = 3 then in_ist 4 5 else in_no) else
 (if pc = 5 then in_ild 1 6 else in_no)))) else
 (if pc < 10 then
 (if pc < 7 then
 (if pc = 6 then in_push (.int 4) 7 else in_no) else
 (if pc < 8 then
 (if pc = 7 then in_idv (fun x y => x / y) 8 else in_no) else
 (if pc = 8 then in_ist 5 10 else in_no))) else
 (if pc < 12 then
 (if pc = 10 then in_ild 5 12 else in_no) else
 (if pc < 13 then
 (if pc = 12 then in_push (.int 5) 13 else in_no) else
 (if pc = 13 then in_if2 (fun x y => x = y) 16 29 else in_no))))) else
 (if pc < 24 then
 (if pc < 20 then
 (if pc < 17 then
 (if pc = 16 then in_ald 0 17 else in_no) else
 (if pc = 17 then in_get YM 5 39 20 else in_no)) else
 (if pc < 21 then
 (if pc = 20 then in_ild 2 21 else in_no) else
 (if pc < 22 then
 (if pc = 21 then in_ild 3 22 else in_no) else
 (if pc = 22 then in_ild 4 24 else in_no)))) else
 (if pc < 29 then
 (if pc < 27 then
 (if pc = 24 then in_s3 S_X5_place 27 else in_no) else
 (if pc < 28 then
 (if pc = 27 then in_bar YM 28 else in_no) else
 (if pc = 28 then in_rz else in_no))) else
 (if pc < 31 then
 (if pc = 29 then in_ild 5 31 else in_no) else
 (if pc < 34 then
 (if pc = 31 then in_if1 (fun x => x = 0) 34 38 else in_no) else
 (if pc = 34 then in_ild 3 35 else in_no)))))) else
 (if pc < 57 then
 (if pc < 45 then
 (if pc < 39 then
 (if pc < 38 then
 (if pc = 35 then in_go 45 else in_no) else
 (if pc = 38 then in_ald 0 39 else in_no)) else
 (if pc < 40 then
 (if pc = 39 then in_ild 3 40 else in_no) else
 (if pc < 42 then
 (if pc = 40 then in_ild 5 42 else in_no) else
 (if pc = 42 then in_v3 YM 5 S_X5_next 45 else in_no)))) else
 (if pc < 52 then
 (if pc < 47 then
 (if pc = 45 then in_ist 6 47 else in_no) else
 (if pc < 49 then
 (if pc = 47 then in_ild 6 49 else in_no) else
 (if pc = 49 then in_if1 (fun x => x < 0) 74 52 else in_no))) else
 (if pc < 53 then
 (if pc = 52 then in_ald 0 53 else in_no) else
 (if pc < 56 then
 (if pc = 53 then in_get YM 5 39 56 else in_no) else
 (if pc = 56 then in_ild 2 57 else in_no))))) else
 (if pc < 66 then
 (if pc < 59 then
 (if pc < 58 then
 (if pc = 57 then in_push (.int 1) 58 else in_no) else
 (if pc = 58 then in_iii (fun x y => x - y) 59 else in_no)) else
 (if pc < 61 then
 (if pc = 59 then in_ild 6 61 else in_no) else
 (if pc < 63 then
 (if pc = 61 then in_ild 4 63 else in_no) else
 (if pc = 63 then in_s3 S_X5_place 66 else in_no)))) else
 (if pc < 71 then
 (if pc < 67 then
 (if pc = 66 then in_bar YM 67 else in_no) else
 (if pc < 70 then
 (if pc = 67 then in_if1 (fun x => x = 0) 74 70 else in_no) else
 (if pc = 70 then in_push (.int 1) 71 else in_no))) else
 (if pc < 74 then
 (if pc = 71 then in_go 75 else in_no) else
 (if pc < 75 then
 (if pc = 74 then in_push (.int 0) 75 else in_no) else
 (if pc = 75 then in_rz else in_no)))))))
theorem tk_X5_namedMarked {l : Launch} {w : ma_Wd} {NC : Nat} {A : Nat → Prop} {S_X5_place S_X5_next : ma_Cs} (h_X5_place : ma_Sd l w YM NC A yX5_place cX5_place 3 (some .int) rm_X5_place S_X5_place) (h_X5_next : ma_Sd l w YM NC A yX5_next cX5_next 5 (some .int) rm_X5_next S_X5_next) {p : Program} {e : Env} {s : State} {m : MethodId} {args : Array Value} {below : List Frame} {meth : Method} {c : Code} (X : ma_Cx p s m args meth c w YM NC A yX5_namedMarked.cls cX5_namedMarked 7 (some .boolean)) : ∀ pc, ma_Ok p l e rm_X5_namedMarked s m args below meth c w YM NC A 7 pc (tb_X5_namedMarked S_X5_place S_X5_next pc) := fun pc =>
 (mk_lt
 (mk_lt
 (mk_lt
 (mk_lt
 (mk_lt
 (mk_eq (mk_iload_n X dX5_namedMarked_0 rfl rfl))
 (mk_eq (mk_iconst X dX5_namedMarked_1 rfl rfl)))
 (mk_lt
 (mk_eq (mk_irem X dX5_namedMarked_2 rfl))
 (mk_lt
 (mk_eq (mk_istore X dX5_namedMarked_3 (Nat.le_of_ble_eq_true rfl) rfl))
 (mk_eq (mk_iload_n X dX5_namedMarked_5 rfl rfl)))))
 (mk_lt
 (mk_lt
 (mk_eq (mk_iconst X dX5_namedMarked_6 rfl rfl))
 (mk_lt
 (mk_eq (mk_idiv X dX5_namedMarked_7 rfl))
 (mk_eq (mk_istore X dX5_namedMarked_8 (Nat.le_of_ble_eq_true rfl) rfl))))
 (mk_lt
 (mk_eq (mk_iload X dX5_namedMarked_10 rfl))
 (mk_lt
 (mk_eq (mk_iconst X dX5_namedMarked_12 rfl rfl))
 (mk_eq (mk_icne X dX5_namedMarked_13 rfl rfl))))))
 (mk_lt
 (mk_lt
 (mk_lt
 (mk_eq (mk_aload_n X dX5_namedMarked_16 rfl rfl))
 (mk_eq (mk_get X (ci := 5) (j := 39) rfl in_X5 (Nat.le_of_ble_eq_true rfl) q786 dX5_namedMarked_17 rfl)))
 (mk_lt
 (mk_eq (mk_iload_n X dX5_namedMarked_20 rfl rfl))
 (mk_lt
 (mk_eq (mk_iload_n X dX5_namedMarked_21 rfl rfl))
 (mk_eq (mk_iload X dX5_namedMarked_22 rfl)))))
 (mk_lt
 (mk_lt
 (mk_eq (mk_S3 X h_X5_place (lw_S q999 q1000 q66 q1001) ⟨by decide, by decide, rfl⟩ ⟨(Nat.le_of_ble_eq_true rfl), (Nat.le_of_ble_eq_true rfl)⟩ dX5_namedMarked_24 rfl))
 (mk_lt
 (mk_eq (mk_bar X dX5_namedMarked_27 rfl))
 (mk_eq (mk_rz X dX5_namedMarked_28))))
 (mk_lt
 (mk_eq (mk_iload X dX5_namedMarked_29 rfl))
 (mk_lt
 (mk_eq (mk_ifne X dX5_namedMarked_31 rfl rfl))
 (mk_eq (mk_iload_n X dX5_namedMarked_34 rfl rfl)))))))
 (mk_lt
 (mk_lt
 (mk_lt
 (mk_lt
 (mk_eq (mk_goto X dX5_namedMarked_35 rfl))
 (mk_eq (mk_aload_n X dX5_namedMarked_38 rfl rfl)))
 (mk_lt
 (mk_eq (mk_iload_n X dX5_namedMarked_39 rfl rfl))
 (mk_lt
 (mk_eq (mk_iload X dX5_namedMarked_40 rfl))
 (mk_eq (mk_V3 X h_X5_next (ci := 5) rfl (lw_V q1006 q1008 qs44 q66 q1009) ⟨rfl, by decide, by decide, rfl⟩ ⟨(Nat.le_of_ble_eq_true rfl), (Nat.le_of_ble_eq_true rfl)⟩ dX5_namedMarked_42 rfl)))))
 (mk_lt
 (mk_lt
 (mk_eq (mk_istore X dX5_namedMarked_45 (Nat.le_of_ble_eq_true rfl) rfl))
 (mk_lt
 (mk_eq (mk_iload X dX5_namedMarked_47 rfl))
 (mk_eq (mk_iflt X dX5_namedMarked_49 rfl rfl))))
 (mk_lt
 (mk_eq (mk_aload_n X dX5_namedMarked_52 rfl rfl))
 (mk_lt
 (mk_eq (mk_get X (ci := 5) (j := 39) rfl in_X5 (Nat.le_of_ble_eq_true rfl) q786 dX5_namedMarked_53 rfl))
 (mk_eq (mk_iload_n X dX5_namedMarked_56 rfl rfl))))))
 (mk_lt
 (mk_lt
 (mk_lt
 (mk_eq (mk_iconst X dX5_namedMarked_57 rfl rfl))
 (mk_eq (mk_isub X dX5_namedMarked_58 rfl)))
 (mk_lt
 (mk_eq (mk_iload X dX5_namedMarked_59 rfl))
 (mk_lt
 (mk_eq (mk_iload X dX5_namedMarked_61 rfl))
 (mk_eq (mk_S3 X h_X5_place (lw_S q999 q1000 q66 q1001) ⟨by decide, by decide, rfl⟩ ⟨(Nat.le_of_ble_eq_true rfl), (Nat.le_of_ble_eq_true rfl)⟩ dX5_namedMarked_63 rfl)))))
 (mk_lt
 (mk_lt
 (mk_eq (mk_bar X dX5_namedMarked_66 rfl))
 (mk_lt
 (mk_eq (mk_ifeq X dX5_namedMarked_67 rfl rfl))
 (mk_eq (mk_iconst X dX5_namedMarked_70 rfl rfl))))
 (mk_lt
 (mk_eq (mk_goto X dX5_namedMarked_71 rfl))
 (mk_lt
 (mk_eq (mk_iconst X dX5_namedMarked_74 rfl rfl))
 (mk_eq (mk_rz X dX5_namedMarked_75))))))))
theorem sd_X5_namedMarked {l : Launch} {w : ma_Wd} {NC : Nat} {A : Nat → Prop} {S_X5_place S_X5_next : ma_Cs} (hw : ma_Wo w YM NC A) (h_X5_place : ma_Sd l w YM NC A yX5_place cX5_place 3 (some .int) rm_X5_place S_X5_place) (h_X5_next : ma_Sd l w YM NC A yX5_next cX5_next 5 (some .int) rm_X5_next S_X5_next) : ma_Sd l w YM NC A yX5_namedMarked cX5_namedMarked 7 (some .boolean) rm_X5_namedMarked (ma_rn (tb_X5_namedMarked S_X5_place S_X5_next) 7) := ma_of hw (by decide) ⟨rfl, rfl⟩ (fun X => tk_X5_namedMarked h_X5_place h_X5_next X)
theorem dX5_marked_0 : decode cX5_marked 0 = .ok (.aload_n 0, 1) := by decide +kernel
theorem dX5_marked_1 : decode cX5_marked 1 = .ok (.iload_n 1, 1) := by decide +kernel
theorem dX5_marked_2 : decode cX5_marked 2 = .ok (.iload_n 2, 1) := by decide +kernel
theorem dX5_marked_3 : decode cX5_marked 3 = .ok (.iload_n 3, 1) := by decide +kernel
theorem dX5_marked_4 : decode cX5_marked 4 = .ok (.invokevirtual 274, 3) := by decide +kernel
theorem dX5_marked_7 : decode cX5_marked 7 = .ok (.ifCond .ne 5, 3) := by decide +kernel
theorem dX5_marked_10 : decode cX5_marked 10 = .ok (.iconst (-1), 1) := by decide +kernel
theorem dX5_marked_11 : decode cX5_marked 11 = .ok (.ireturn, 1) := by decide +kernel
theorem dX5_marked_12 : decode cX5_marked 12 = .ok (.aload_n 0, 1) := by decide +kernel
theorem dX5_marked_13 : decode cX5_marked 13 = .ok (.aload_n 0, 1) := by decide +kernel
theorem dX5_marked_14 : decode cX5_marked 14 = .ok (.getfield 84, 3) := by decide +kernel
theorem dX5_marked_17 : decode cX5_marked 17 = .ok (.aload_n 0, 1) := by decide +kernel
theorem dX5_marked_18 : decode cX5_marked 18 = .ok (.invokevirtual 278, 3) := by decide +kernel
theorem dX5_marked_21 : decode cX5_marked 21 = .ok (.invokevirtual 281, 3) := by decide +kernel
theorem dX5_marked_24 : decode cX5_marked 24 = .ok (.aload_n 0, 1) := by decide +kernel
theorem dX5_marked_25 : decode cX5_marked 25 = .ok (.getfield 90, 3) := by decide +kernel
theorem dX5_marked_28 : decode cX5_marked 28 = .ok (.iload_n 1, 1) := by decide +kernel
theorem dX5_marked_29 : decode cX5_marked 29 = .ok (.iload_n 2, 1) := by decide +kernel
theorem dX5_marked_30 : decode cX5_marked 30 = .ok (.iload_n 3, 1) := by decide +kernel
theorem dX5_marked_31 : decode cX5_marked 31 = .ok (.invokestatic 217, 3) := by decide +kernel
theorem dX5_marked_34 : decode cX5_marked 34 = .ok (.baload, 1) := by decide +kernel
theorem dX5_marked_35 : decode cX5_marked 35 = .ok (.ifCond .eq 7, 3) := by decide +kernel
theorem dX5_marked_38 : decode cX5_marked 38 = .ok (.iconst 1, 1) := by decide +kernel
theorem dX5_marked_39 : decode cX5_marked 39 = .ok (.goto 4, 3) := by decide +kernel
theorem dX5_marked_42 : decode cX5_marked 42 = .ok (.iconst 0, 1) := by decide +kernel
theorem dX5_marked_43 : decode cX5_marked 43 = .ok (.ireturn, 1) := by decide +kernel
def tb_X5_marked (S_X5_isPlace S_X5_all S_X5_hall S_X5_place : ma_Cs) : Nat → ma_In := fun pc =>
 (if pc < 21 then
 (if pc < 10 then
 (if pc < 3 then
 (if pc < 1 then
 (if pc = 0 then in_ald 0 1 else in_no) else
 (if pc < 2 then
 (if pc = 1 then in_ild 1 2 else in_no) else
 (if pc = 2 then in_ild 2 3 else in_no))) else
 (if pc < 4 then
 (if pc = 3 then in_ild 3 4 else in_no) else
 (if pc < 7 then
 (if pc = 4 then in_v4 YM 5 S_X5_isPlace 7 else in_no) else
 (if pc = 7 then in_if1 (fun x => x = 0) 10 12 else in_no)))) else
 (if pc < 13 then
 (if pc < 11 then
 (if pc = 10 then in_push (.int (-1)) 11 else in_no) else
 (if pc < 12 then
 (if pc = 11 then in_ri else in_no) else
 (if pc = 12 then in_ald 0 13 else in_no))) else
 (if pc < 17 then
 (if pc < 14 then
 (if pc = 13 then in_ald 0 14 else in_no) else
 (if pc = 14 then in_get YM 5 37 17 else in_no)) else
 (if pc < 18 then
 (if pc = 17 then in_ald 0 18 else in_no) else
 (if pc = 18 then in_v1 YM 5 S_X5_all 21 else in_no))))) else
 (if pc < 31 then
 (if pc < 28 then
 (if pc < 24 then
 (if pc = 21 then in_v3 YM 5 S_X5_hall 24 else in_no) else
 (if pc < 25 then
 (if pc = 24 then in_ald 0 25 else in_no) else
 (if pc = 25 then in_get YM 5 39 28 else in_no))) else
 (if pc < 29 then
 (if pc = 28 then in_ild 1 29 else in_no) else
 (if pc < 30 then
 (if pc = 29 then in_ild 2 30 else in_no) else
 (if pc = 30 then in_ild 3 31 else in_no)))) else
 (if pc < 38 then
 (if pc < 34 then
 (if pc = 31 then in_s3 S_X5_place 34 else in_no) else
 (if pc < 35 then
 (if pc = 34 then in_bar YM 35 else in_no) else
 (if pc = 35 then in_if1 (fun x => x = 0) 42 38 else in_no))) else
 (if pc < 42 then
 (if pc < 39 then
 (if pc = 38 then in_push (.int 1) 39 else in_no) else
 (if pc = 39 then in_go 43 else in_no)) else
 (if pc < 43 then
 (if pc = 42 then in_push (.int 0) 43 else in_no) else
 (if pc = 43 then in_ri else in_no))))))
theorem tk_X5_marked {l : Launch} {w : ma_Wd} {NC : Nat} {A : Nat → Prop} {S_X5_isPlace S_X5_all S_X5_hall S_X5_place : ma_Cs} (h_X5_isPlace : ma_Sd l w YM NC A yX5_isPlace cX5_isPlace 4 (some .boolean) rm_X5_isPlace S_X5_isPlace) (h_X5_all : ma_Sd l w YM NC A yX5_all cX5_all 1 (some .int) rm_X5_all S_X5_all) (h_X5_hall : ma_Sd l w YM NC A yX5_hall cX5_hall 5 none rm_X5_hall S_X5_hall) (h_X5_place : ma_Sd l w YM NC A yX5_place cX5_place 3 (some .int) rm_X5_place S_X5_place) {p : Program} {e : Env} {s : State} {m : MethodId} {args : Array Value} {below : List Frame} {meth : Method} {c : Code} (X : ma_Cx p s m args meth c w YM NC A yX5_marked.cls cX5_marked 4 (some .int)) : ∀ pc, ma_Ok p l e rm_X5_marked s m args below meth c w YM NC A 4 pc (tb_X5_marked S_X5_isPlace S_X5_all S_X5_hall S_X5_place pc) := fun pc =>
 (mk_lt
 (mk_lt
 (mk_lt
 (mk_lt
 (mk_eq (mk_aload_n X dX5_marked_0 rfl rfl))
 (mk_lt
 (mk_eq (mk_iload_n X dX5_marked_1 rfl rfl))
 (mk_eq (mk_iload_n X dX5_marked_2 rfl rfl))))
 (mk_lt
 (mk_eq (mk_iload_n X dX5_marked_3 rfl rfl))
 (mk_lt
 (mk_eq (mk_V4 X h_X5_isPlace (ci := 5) rfl (lw_V q985 q987 qs40 q66 q988) ⟨rfl, by decide, by decide, rfl⟩ ⟨(Nat.le_of_ble_eq_true rfl), (Nat.le_of_ble_eq_true rfl)⟩ dX5_marked_4 rfl))
 (mk_eq (mk_ifne X dX5_marked_7 rfl rfl)))))
 (mk_lt
 (mk_lt
 (mk_eq (mk_iconst X dX5_marked_10 rfl rfl))
 (mk_lt
 (mk_eq (mk_ri X dX5_marked_11))
 (mk_eq (mk_aload_n X dX5_marked_12 rfl rfl))))
 (mk_lt
 (mk_lt
 (mk_eq (mk_aload_n X dX5_marked_13 rfl rfl))
 (mk_eq (mk_get X (ci := 5) (j := 37) rfl in_X5 (Nat.le_of_ble_eq_true rfl) q784 dX5_marked_14 rfl)))
 (mk_lt
 (mk_eq (mk_aload_n X dX5_marked_17 rfl rfl))
 (mk_eq (mk_V1 X h_X5_all (ci := 5) rfl (lw_V q991 q993 qs41 q66 q994) ⟨rfl, by decide, by decide, rfl⟩ ⟨(Nat.le_of_ble_eq_true rfl), (Nat.le_of_ble_eq_true rfl)⟩ dX5_marked_18 rfl))))))
 (mk_lt
 (mk_lt
 (mk_lt
 (mk_eq (mk_V3 X h_X5_hall (ci := 5) rfl (lw_V q995 q997 qs42 q66 q998) ⟨rfl, by decide, by decide, rfl⟩ ⟨(Nat.le_of_ble_eq_true rfl), (Nat.le_of_ble_eq_true rfl)⟩ dX5_marked_21 rfl))
 (mk_lt
 (mk_eq (mk_aload_n X dX5_marked_24 rfl rfl))
 (mk_eq (mk_get X (ci := 5) (j := 39) rfl in_X5 (Nat.le_of_ble_eq_true rfl) q786 dX5_marked_25 rfl))))
 (mk_lt
 (mk_eq (mk_iload_n X dX5_marked_28 rfl rfl))
 (mk_lt
 (mk_eq (mk_iload_n X dX5_marked_29 rfl rfl))
 (mk_eq (mk_iload_n X dX5_marked_30 rfl rfl)))))
 (mk_lt
 (mk_lt
 (mk_eq (mk_S3 X h_X5_place (lw_S q999 q1000 q66 q1001) ⟨by decide, by decide, rfl⟩ ⟨(Nat.le_of_ble_eq_true rfl), (Nat.le_of_ble_eq_true rfl)⟩ dX5_marked_31 rfl))
 (mk_lt
 (mk_eq (mk_bar X dX5_marked_34 rfl))
 (mk_eq (mk_ifeq X dX5_marked_35 rfl rfl))))
 (mk_lt
 (mk_lt
 (mk_eq (mk_iconst X dX5_marked_38 rfl rfl))
 (mk_eq (mk_goto X dX5_marked_39 rfl)))
 (mk_lt
 (mk_eq (mk_iconst X dX5_marked_42 rfl rfl))
 (mk_eq (mk_ri X dX5_marked_43)))))))
theorem sd_X5_marked {l : Launch} {w : ma_Wd} {NC : Nat} {A : Nat → Prop} {S_X5_isPlace S_X5_all S_X5_hall S_X5_place : ma_Cs} (hw : ma_Wo w YM NC A) (h_X5_isPlace : ma_Sd l w YM NC A yX5_isPlace cX5_isPlace 4 (some .boolean) rm_X5_isPlace S_X5_isPlace) (h_X5_all : ma_Sd l w YM NC A yX5_all cX5_all 1 (some .int) rm_X5_all S_X5_all) (h_X5_hall : ma_Sd l w YM NC A yX5_hall cX5_hall 5 none rm_X5_hall S_X5_hall) (h_X5_place : ma_Sd l w YM NC A yX5_place cX5_place 3 (some .int) rm_X5_place S_X5_place) : ma_Sd l w YM NC A yX5_marked cX5_marked 4 (some .int) rm_X5_marked (ma_rn (tb_X5_marked S_X5_isPlace S_X5_all S_X5_hall S_X5_place) 4) := ma_of hw (by decide) ⟨rfl, rfl⟩ (fun X => tk_X5_marked h_X5_isPlace h_X5_all h_X5_hall h_X5_place X)
theorem dX5_sum_0 : decode cX5_sum 0 = .ok (.aload_n 0, 1) := by decide +kernel
theorem dX5_sum_1 : decode cX5_sum 1 = .ok (.iload_n 2, 1) := by decide +kernel
theorem dX5_sum_2 : decode cX5_sum 2 = .ok (.iconst 0, 1) := by decide +kernel
theorem dX5_sum_3 : decode cX5_sum 3 = .ok (.iload_n 3, 1) := by decide +kernel
theorem dX5_sum_4 : decode cX5_sum 4 = .ok (.invokevirtual 274, 3) := by decide +kernel
theorem dX5_sum_7 : decode cX5_sum 7 = .ok (.ifCond .ne 7, 3) := by decide +kernel
theorem dX5_sum_10 : decode cX5_sum 10 = .ok (.ldc2_w 284, 3) := by decide +kernel
theorem dX5_sum_13 : decode cX5_sum 13 = .ok (.lreturn, 1) := by decide +kernel
theorem dX5_sum_14 : decode cX5_sum 14 = .ok (.aload_n 0, 1) := by decide +kernel
theorem dX5_sum_15 : decode cX5_sum 15 = .ok (.aload_n 0, 1) := by decide +kernel
theorem dX5_sum_16 : decode cX5_sum 16 = .ok (.getfield 84, 3) := by decide +kernel
theorem dX5_sum_19 : decode cX5_sum 19 = .ok (.iload_n 1, 1) := by decide +kernel
theorem dX5_sum_20 : decode cX5_sum 20 = .ok (.ifCond .eq 7, 3) := by decide +kernel
theorem dX5_sum_23 : decode cX5_sum 23 = .ok (.iconst 0, 1) := by decide +kernel
theorem dX5_sum_24 : decode cX5_sum 24 = .ok (.goto 7, 3) := by decide +kernel
theorem dX5_sum_27 : decode cX5_sum 27 = .ok (.aload_n 0, 1) := by decide +kernel
theorem dX5_sum_28 : decode cX5_sum 28 = .ok (.invokevirtual 278, 3) := by decide +kernel
theorem dX5_sum_31 : decode cX5_sum 31 = .ok (.invokevirtual 281, 3) := by decide +kernel
theorem dX5_sum_34 : decode cX5_sum 34 = .ok (.lconst 0, 1) := by decide +kernel
theorem dX5_sum_35 : decode cX5_sum 35 = .ok (.lstore 4, 2) := by decide +kernel
theorem dX5_sum_37 : decode cX5_sum 37 = .ok (.iconst 0, 1) := by decide +kernel
theorem dX5_sum_38 : decode cX5_sum 38 = .ok (.istore 6, 2) := by decide +kernel
theorem dX5_sum_40 : decode cX5_sum 40 = .ok (.iload 6, 2) := by decide +kernel
theorem dX5_sum_42 : decode cX5_sum 42 = .ok (.aload_n 0, 1) := by decide +kernel
theorem dX5_sum_43 : decode cX5_sum 43 = .ok (.invokevirtual 124, 3) := by decide +kernel
theorem dX5_sum_46 : decode cX5_sum 46 = .ok (.if_icmp .ge 42, 3) := by decide +kernel
theorem dX5_sum_49 : decode cX5_sum 49 = .ok (.aload_n 0, 1) := by decide +kernel
theorem dX5_sum_50 : decode cX5_sum 50 = .ok (.getfield 84, 3) := by decide +kernel
theorem dX5_sum_53 : decode cX5_sum 53 = .ok (.iload_n 2, 1) := by decide +kernel
theorem dX5_sum_54 : decode cX5_sum 54 = .ok (.iload 6, 2) := by decide +kernel
theorem dX5_sum_56 : decode cX5_sum 56 = .ok (.iload_n 3, 1) := by decide +kernel
theorem dX5_sum_57 : decode cX5_sum 57 = .ok (.invokestatic 217, 3) := by decide +kernel
theorem dX5_sum_60 : decode cX5_sum 60 = .ok (.iaload, 1) := by decide +kernel
theorem dX5_sum_61 : decode cX5_sum 61 = .ok (.istore 7, 2) := by decide +kernel
theorem dX5_sum_63 : decode cX5_sum 63 = .ok (.lload 4, 2) := by decide +kernel
theorem dX5_sum_65 : decode cX5_sum 65 = .ok (.iload 7, 2) := by decide +kernel
theorem dX5_sum_67 : decode cX5_sum 67 = .ok (.ldc 237, 2) := by decide +kernel
theorem dX5_sum_69 : decode cX5_sum 69 = .ok (.if_icmp .ne 7, 3) := by decide +kernel
theorem dX5_sum_72 : decode cX5_sum 72 = .ok (.lconst 0, 1) := by decide +kernel
theorem dX5_sum_73 : decode cX5_sum 73 = .ok (.goto 6, 3) := by decide +kernel
theorem dX5_sum_76 : decode cX5_sum 76 = .ok (.iload 7, 2) := by decide +kernel
theorem dX5_sum_78 : decode cX5_sum 78 = .ok (.i2l, 1) := by decide +kernel
theorem dX5_sum_79 : decode cX5_sum 79 = .ok (.ladd, 1) := by decide +kernel
theorem dX5_sum_80 : decode cX5_sum 80 = .ok (.lstore 4, 2) := by decide +kernel
theorem dX5_sum_82 : decode cX5_sum 82 = .ok (.iinc 6 1, 3) := by decide +kernel
theorem dX5_sum_85 : decode cX5_sum 85 = .ok (.goto (-45), 3) := by decide +kernel
theorem dX5_sum_88 : decode cX5_sum 88 = .ok (.lload 4, 2) := by decide +kernel
theorem dX5_sum_90 : decode cX5_sum 90 = .ok (.lreturn, 1) := by decide +kernel
def tb_X5_sum (S_X5_isPlace S_X5_all S_X5_hall S_X5_cells S_X5_place : ma_Cs) : Nat → ma_In := fun pc =>
 (if pc < 43 then
 (if pc < 20 then
 (if pc < 10 then
 (if pc < 3 then
 (if pc < 1 then
 (if pc = 0 then in_ald 0 1 else in_no) else
 (if pc < 2 then
 (if pc = 1 then in_ild 2 2 else in_no) else
 (if pc = 2 then in_push (.int 0) 3 else in_no))) else
 (if pc < 4 then
 (if pc = 3 then in_ild 3 4 else in_no) else
 (if pc < 7 then
 (if pc = 4 then in_v4 YM 5 S_X5_isPlace 7 else in_no) else
 (if pc = 7 then in_if1 (fun x => x = 0) 10 14 else in_no)))) else
 (if pc < 15 then
 (if pc < 13 then
 (if pc = 10 then in_push (.long (-2000000000000)) 13 else in_no) else
 (if pc < 14 then
 (if pc = 13 then in_rl else in_no) else
 (if pc = 14 then in_ald 0 15 else in_no))) else
 (if pc < 16 then
 (if pc = 15 then in_ald 0 16 else in_no) else
 (if pc < 19 then
 (if pc = 16 then in_get YM 5 37 19 else in_no) else
 (if pc = 19 then in_ild 1 20 else in_no))))) else
 (if pc < 34 then
 (if pc < 27 then
 (if pc < 23 then
 (if pc = 20 then in_if1 (fun x => x = 0) 27 23 else in_no) else
 (if pc < 24 then
 (if pc = 23 then in_push (.int 0) 24 else in_no) else
 (if pc = 24 then in_go 31 else in_no))) else
 (if pc < 28 then
 (if pc = 27 then in_ald 0 28 else in_no) else
 (if pc < 31 then
 (if pc = 28 then in_v1 YM 5 S_X5_all 31 else in_no) else
 (if pc = 31 then in_v3 YM 5 S_X5_hall 34 else in_no)))) else
 (if pc < 38 then
 (if pc < 35 then
 (if pc = 34 then in_push (.long 0) 35 else in_no) else
 (if pc < 37 then
 (if pc = 35 then in_lst 4 37 else in_no) else
 (if pc = 37 then in_push (.int 0) 38 else in_no))) else
 (if pc < 40 then
 (if pc = 38 then in_ist 6 40 else in_no) else
 (if pc < 42 then
 (if pc = 40 then in_ild 6 42 else in_no) else
 (if pc = 42 then in_ald 0 43 else in_no)))))) else
 (if pc < 67 then
 (if pc < 56 then
 (if pc < 50 then
 (if pc < 46 then
 (if pc = 43 then in_v1 YM 5 S_X5_cells 46 else in_no) else
 (if pc < 49 then
 (if pc = 46 then in_if2 (fun x y => y ≤ x) 88 49 else in_no) else
 (if pc = 49 then in_ald 0 50 else in_no))) else
 (if pc < 53 then
 (if pc = 50 then in_get YM 5 37 53 else in_no) else
 (if pc < 54 then
 (if pc = 53 then in_ild 2 54 else in_no) else
 (if pc = 54 then in_ild 6 56 else in_no)))) else
 (if pc < 61 then
 (if pc < 57 then
 (if pc = 56 then in_ild 3 57 else in_no) else
 (if pc < 60 then
 (if pc = 57 then in_s3 S_X5_place 60 else in_no) else
 (if pc = 60 then in_iar YM 61 else in_no))) else
 (if pc < 63 then
 (if pc = 61 then in_ist 7 63 else in_no) else
 (if pc < 65 then
 (if pc = 63 then in_lld 4 65 else in_no) else
 (if pc = 65 then in_ild 7 67 else in_no))))) else
 (if pc < 79 then
 (if pc < 73 then
 (if pc < 69 then
 (if pc = 67 then in_push (.int 2000000000) 69 else in_no) else
 (if pc < 72 then
 (if pc = 69 then in_if2 (fun x y => x = y) 72 76 else in_no) else
 (if pc = 72 then in_push (.long 0) 73 else in_no))) else
 (if pc < 76 then
 (if pc = 73 then in_go 79 else in_no) else
 (if pc < 78 then
 (if pc = 76 then in_ild 7 78 else in_no) else
 (if pc = 78 then in_il (fun x => x.toInt64) 79 else in_no)))) else
 (if pc < 85 then
 (if pc < 80 then
 (if pc = 79 then in_lll (fun x y => x + y) 80 else in_no) else
 (if pc < 82 then
 (if pc = 80 then in_lst 4 82 else in_no) else
 (if pc = 82 then in_inc 6 1 85 else in_no))) else
 (if pc < 88 then
 (if pc = 85 then in_go 40 else in_no) else
 (if pc < 90 then
 (if pc = 88 then in_lld 4 90 else in_no) else
 (if pc = 90 then in_rl else in_no)))))))
theorem tk_X5_sum {l : Launch} {w : ma_Wd} {NC : Nat} {A : Nat → Prop} {S_X5_isPlace S_X5_all S_X5_hall S_X5_cells S_X5_place : ma_Cs} (h_X5_isPlace : ma_Sd l w YM NC A yX5_isPlace cX5_isPlace 4 (some .boolean) rm_X5_isPlace S_X5_isPlace) (h_X5_all : ma_Sd l w YM NC A yX5_all cX5_all 1 (some .int) rm_X5_all S_X5_all) (h_X5_hall : ma_Sd l w YM NC A yX5_hall cX5_hall 5 none rm_X5_hall S_X5_hall) (h_X5_cells : ma_Sd l w YM NC A yX5_cells cX5_cells 1 (some .int) rm_X5_cells S_X5_cells) (h_X5_place : ma_Sd l w YM NC A yX5_place cX5_place 3 (some .int) rm_X5_place S_X5_place) {p : Program} {e : Env} {s : State} {m : MethodId} {args : Array Value} {below : List Frame} {meth : Method} {c : Code} (X : ma_Cx p s m args meth c w YM NC A yX5_sum.cls cX5_sum 8 (some .long)) : ∀ pc, ma_Ok p l e rm_X5_sum s m args below meth c w YM NC A 8 pc (tb_X5_sum S_X5_isPlace S_X5_all S_X5_hall S_X5_cells S_X5_place pc) := fun pc =>
 (mk_lt
 (mk_lt
 (mk_lt
 (mk_lt
 (mk_lt
 (mk_eq (mk_aload_n X dX5_sum_0 rfl rfl))
 (mk_lt
 (mk_eq (mk_iload_n X dX5_sum_1 rfl rfl))
 (mk_eq (mk_iconst X dX5_sum_2 rfl rfl))))
 (mk_lt
 (mk_eq (mk_iload_n X dX5_sum_3 rfl rfl))
 (mk_lt
 (mk_eq (mk_V4 X h_X5_isPlace (ci := 5) rfl (lw_V q985 q987 qs40 q66 q988) ⟨rfl, by decide, by decide, rfl⟩ ⟨(Nat.le_of_ble_eq_true rfl), (Nat.le_of_ble_eq_true rfl)⟩ dX5_sum_4 rfl))
 (mk_eq (mk_ifne X dX5_sum_7 rfl rfl)))))
 (mk_lt
 (mk_lt
 (mk_eq (mk_ldc2 X dX5_sum_10 q1055 rfl))
 (mk_lt
 (mk_eq (mk_rl X dX5_sum_13))
 (mk_eq (mk_aload_n X dX5_sum_14 rfl rfl))))
 (mk_lt
 (mk_eq (mk_aload_n X dX5_sum_15 rfl rfl))
 (mk_lt
 (mk_eq (mk_get X (ci := 5) (j := 37) rfl in_X5 (Nat.le_of_ble_eq_true rfl) q784 dX5_sum_16 rfl))
 (mk_eq (mk_iload_n X dX5_sum_19 rfl rfl))))))
 (mk_lt
 (mk_lt
 (mk_lt
 (mk_eq (mk_ifeq X dX5_sum_20 rfl rfl))
 (mk_lt
 (mk_eq (mk_iconst X dX5_sum_23 rfl rfl))
 (mk_eq (mk_goto X dX5_sum_24 rfl))))
 (mk_lt
 (mk_eq (mk_aload_n X dX5_sum_27 rfl rfl))
 (mk_lt
 (mk_eq (mk_V1 X h_X5_all (ci := 5) rfl (lw_V q991 q993 qs41 q66 q994) ⟨rfl, by decide, by decide, rfl⟩ ⟨(Nat.le_of_ble_eq_true rfl), (Nat.le_of_ble_eq_true rfl)⟩ dX5_sum_28 rfl))
 (mk_eq (mk_V3 X h_X5_hall (ci := 5) rfl (lw_V q995 q997 qs42 q66 q998) ⟨rfl, by decide, by decide, rfl⟩ ⟨(Nat.le_of_ble_eq_true rfl), (Nat.le_of_ble_eq_true rfl)⟩ dX5_sum_31 rfl)))))
 (mk_lt
 (mk_lt
 (mk_eq (mk_lconst X dX5_sum_34 rfl rfl))
 (mk_lt
 (mk_eq (mk_lstore X dX5_sum_35 (Nat.le_of_ble_eq_true rfl) rfl))
 (mk_eq (mk_iconst X dX5_sum_37 rfl rfl))))
 (mk_lt
 (mk_eq (mk_istore X dX5_sum_38 (Nat.le_of_ble_eq_true rfl) rfl))
 (mk_lt
 (mk_eq (mk_iload X dX5_sum_40 rfl))
 (mk_eq (mk_aload_n X dX5_sum_42 rfl rfl)))))))
 (mk_lt
 (mk_lt
 (mk_lt
 (mk_lt
 (mk_eq (mk_V1 X h_X5_cells (ci := 5) rfl (lw_V q895 q897 qs30 q66 q898) ⟨rfl, by decide, by decide, rfl⟩ ⟨(Nat.le_of_ble_eq_true rfl), (Nat.le_of_ble_eq_true rfl)⟩ dX5_sum_43 rfl))
 (mk_lt
 (mk_eq (mk_icge X dX5_sum_46 rfl rfl))
 (mk_eq (mk_aload_n X dX5_sum_49 rfl rfl))))
 (mk_lt
 (mk_eq (mk_get X (ci := 5) (j := 37) rfl in_X5 (Nat.le_of_ble_eq_true rfl) q784 dX5_sum_50 rfl))
 (mk_lt
 (mk_eq (mk_iload_n X dX5_sum_53 rfl rfl))
 (mk_eq (mk_iload X dX5_sum_54 rfl)))))
 (mk_lt
 (mk_lt
 (mk_eq (mk_iload_n X dX5_sum_56 rfl rfl))
 (mk_lt
 (mk_eq (mk_S3 X h_X5_place (lw_S q999 q1000 q66 q1001) ⟨by decide, by decide, rfl⟩ ⟨(Nat.le_of_ble_eq_true rfl), (Nat.le_of_ble_eq_true rfl)⟩ dX5_sum_57 rfl))
 (mk_eq (mk_iar X dX5_sum_60 rfl))))
 (mk_lt
 (mk_eq (mk_istore X dX5_sum_61 (Nat.le_of_ble_eq_true rfl) rfl))
 (mk_lt
 (mk_eq (mk_lload X dX5_sum_63 rfl))
 (mk_eq (mk_iload X dX5_sum_65 rfl))))))
 (mk_lt
 (mk_lt
 (mk_lt
 (mk_eq (mk_ldc X dX5_sum_67 q1030 rfl))
 (mk_lt
 (mk_eq (mk_icne X dX5_sum_69 rfl rfl))
 (mk_eq (mk_lconst X dX5_sum_72 rfl rfl))))
 (mk_lt
 (mk_eq (mk_goto X dX5_sum_73 rfl))
 (mk_lt
 (mk_eq (mk_iload X dX5_sum_76 rfl))
 (mk_eq (mk_i2l X dX5_sum_78 rfl)))))
 (mk_lt
 (mk_lt
 (mk_eq (mk_ladd X dX5_sum_79 rfl))
 (mk_lt
 (mk_eq (mk_lstore X dX5_sum_80 (Nat.le_of_ble_eq_true rfl) rfl))
 (mk_eq (mk_iinc X dX5_sum_82 rfl (Nat.le_of_ble_eq_true rfl) rfl))))
 (mk_lt
 (mk_eq (mk_goto X dX5_sum_85 rfl))
 (mk_lt
 (mk_eq (mk_lload X dX5_sum_88 rfl))
 (mk_eq (mk_rl X dX5_sum_90))))))))
theorem sd_X5_sum {l : Launch} {w : ma_Wd} {NC : Nat} {A : Nat → Prop} {S_X5_isPlace S_X5_all S_X5_hall S_X5_cells S_X5_place : ma_Cs} (hw : ma_Wo w YM NC A) (h_X5_isPlace : ma_Sd l w YM NC A yX5_isPlace cX5_isPlace 4 (some .boolean) rm_X5_isPlace S_X5_isPlace) (h_X5_all : ma_Sd l w YM NC A yX5_all cX5_all 1 (some .int) rm_X5_all S_X5_all) (h_X5_hall : ma_Sd l w YM NC A yX5_hall cX5_hall 5 none rm_X5_hall S_X5_hall) (h_X5_cells : ma_Sd l w YM NC A yX5_cells cX5_cells 1 (some .int) rm_X5_cells S_X5_cells) (h_X5_place : ma_Sd l w YM NC A yX5_place cX5_place 3 (some .int) rm_X5_place S_X5_place) : ma_Sd l w YM NC A yX5_sum cX5_sum 8 (some .long) rm_X5_sum (ma_rn (tb_X5_sum S_X5_isPlace S_X5_all S_X5_hall S_X5_cells S_X5_place) 8) := ma_of hw (by decide) ⟨rfl, rfl⟩ (fun X => tk_X5_sum h_X5_isPlace h_X5_all h_X5_hall h_X5_cells h_X5_place X)
theorem dX5_slip_0 : decode cX5_slip 0 = .ok (.iload_n 1, 1) := by decide +kernel
theorem dX5_slip_1 : decode cX5_slip 1 = .ok (.i2l, 1) := by decide +kernel
theorem dX5_slip_2 : decode cX5_slip 2 = .ok (.lconst 1, 1) := by decide +kernel
theorem dX5_slip_3 : decode cX5_slip 3 = .ok (.ldc2_w 272, 3) := by decide +kernel
theorem dX5_slip_6 : decode cX5_slip 6 = .ok (.invokestatic 128, 3) := by decide +kernel
theorem dX5_slip_9 : decode cX5_slip 9 = .ok (.ifCond .eq 38, 3) := by decide +kernel
theorem dX5_slip_12 : decode cX5_slip 12 = .ok (.aload_n 0, 1) := by decide +kernel
theorem dX5_slip_13 : decode cX5_slip 13 = .ok (.iload_n 2, 1) := by decide +kernel
theorem dX5_slip_14 : decode cX5_slip 14 = .ok (.invokevirtual 269, 3) := by decide +kernel
theorem dX5_slip_17 : decode cX5_slip 17 = .ok (.ifCond .eq 30, 3) := by decide +kernel
theorem dX5_slip_20 : decode cX5_slip 20 = .ok (.iload_n 3, 1) := by decide +kernel
theorem dX5_slip_21 : decode cX5_slip 21 = .ok (.invokestatic 146, 3) := by decide +kernel
theorem dX5_slip_24 : decode cX5_slip 24 = .ok (.ifCond .eq 23, 3) := by decide +kernel
theorem dX5_slip_27 : decode cX5_slip 27 = .ok (.iload 4, 2) := by decide +kernel
theorem dX5_slip_29 : decode cX5_slip 29 = .ok (.i2l, 1) := by decide +kernel
theorem dX5_slip_30 : decode cX5_slip 30 = .ok (.ldc2_w 150, 3) := by decide +kernel
theorem dX5_slip_33 : decode cX5_slip 33 = .ok (.ldc2_w 152, 3) := by decide +kernel
theorem dX5_slip_36 : decode cX5_slip 36 = .ok (.invokestatic 128, 3) := by decide +kernel
theorem dX5_slip_39 : decode cX5_slip 39 = .ok (.ifCond .eq 8, 3) := by decide +kernel
theorem dX5_slip_42 : decode cX5_slip 42 = .ok (.iload 4, 2) := by decide +kernel
theorem dX5_slip_44 : decode cX5_slip 44 = .ok (.ifCond .ne 5, 3) := by decide +kernel
theorem dX5_slip_47 : decode cX5_slip 47 = .ok (.iconst (-1), 1) := by decide +kernel
theorem dX5_slip_48 : decode cX5_slip 48 = .ok (.ireturn, 1) := by decide +kernel
theorem dX5_slip_49 : decode cX5_slip 49 = .ok (.aload_n 0, 1) := by decide +kernel
theorem dX5_slip_50 : decode cX5_slip 50 = .ok (.getfield 116, 3) := by decide +kernel
theorem dX5_slip_53 : decode cX5_slip 53 = .ok (.bipush 12, 2) := by decide +kernel
theorem dX5_slip_55 : decode cX5_slip 55 = .ok (.if_icmp .ne 6, 3) := by decide +kernel
theorem dX5_slip_58 : decode cX5_slip 58 = .ok (.bipush (-3), 2) := by decide +kernel
theorem dX5_slip_60 : decode cX5_slip 60 = .ok (.ireturn, 1) := by decide +kernel
theorem dX5_slip_61 : decode cX5_slip 61 = .ok (.aload_n 0, 1) := by decide +kernel
theorem dX5_slip_62 : decode cX5_slip 62 = .ok (.getfield 56, 3) := by decide +kernel
theorem dX5_slip_65 : decode cX5_slip 65 = .ok (.aload_n 0, 1) := by decide +kernel
theorem dX5_slip_66 : decode cX5_slip 66 = .ok (.getfield 116, 3) := by decide +kernel
theorem dX5_slip_69 : decode cX5_slip 69 = .ok (.iload_n 1, 1) := by decide +kernel
theorem dX5_slip_70 : decode cX5_slip 70 = .ok (.iastore, 1) := by decide +kernel
theorem dX5_slip_71 : decode cX5_slip 71 = .ok (.aload_n 0, 1) := by decide +kernel
theorem dX5_slip_72 : decode cX5_slip 72 = .ok (.getfield 59, 3) := by decide +kernel
theorem dX5_slip_75 : decode cX5_slip 75 = .ok (.aload_n 0, 1) := by decide +kernel
theorem dX5_slip_76 : decode cX5_slip 76 = .ok (.getfield 116, 3) := by decide +kernel
theorem dX5_slip_79 : decode cX5_slip 79 = .ok (.iload_n 2, 1) := by decide +kernel
theorem dX5_slip_80 : decode cX5_slip 80 = .ok (.iastore, 1) := by decide +kernel
theorem dX5_slip_81 : decode cX5_slip 81 = .ok (.aload_n 0, 1) := by decide +kernel
theorem dX5_slip_82 : decode cX5_slip 82 = .ok (.getfield 62, 3) := by decide +kernel
theorem dX5_slip_85 : decode cX5_slip 85 = .ok (.aload_n 0, 1) := by decide +kernel
theorem dX5_slip_86 : decode cX5_slip 86 = .ok (.getfield 116, 3) := by decide +kernel
theorem dX5_slip_89 : decode cX5_slip 89 = .ok (.iload_n 3, 1) := by decide +kernel
theorem dX5_slip_90 : decode cX5_slip 90 = .ok (.iastore, 1) := by decide +kernel
theorem dX5_slip_91 : decode cX5_slip 91 = .ok (.aload_n 0, 1) := by decide +kernel
theorem dX5_slip_92 : decode cX5_slip 92 = .ok (.getfield 65, 3) := by decide +kernel
theorem dX5_slip_95 : decode cX5_slip 95 = .ok (.aload_n 0, 1) := by decide +kernel
theorem dX5_slip_96 : decode cX5_slip 96 = .ok (.getfield 116, 3) := by decide +kernel
theorem dX5_slip_99 : decode cX5_slip 99 = .ok (.iload 4, 2) := by decide +kernel
theorem dX5_slip_101 : decode cX5_slip 101 = .ok (.iastore, 1) := by decide +kernel
theorem dX5_slip_102 : decode cX5_slip 102 = .ok (.aload_n 0, 1) := by decide +kernel
theorem dX5_slip_103 : decode cX5_slip 103 = .ok (.dup, 1) := by decide +kernel
theorem dX5_slip_104 : decode cX5_slip 104 = .ok (.getfield 116, 3) := by decide +kernel
theorem dX5_slip_107 : decode cX5_slip 107 = .ok (.iconst 1, 1) := by decide +kernel
theorem dX5_slip_108 : decode cX5_slip 108 = .ok (.iadd, 1) := by decide +kernel
theorem dX5_slip_109 : decode cX5_slip 109 = .ok (.putfield 116, 3) := by decide +kernel
theorem dX5_slip_112 : decode cX5_slip 112 = .ok (.aload_n 0, 1) := by decide +kernel
theorem dX5_slip_113 : decode cX5_slip 113 = .ok (.getfield 116, 3) := by decide +kernel
theorem dX5_slip_116 : decode cX5_slip 116 = .ok (.ireturn, 1) := by decide +kernel
def tb_X5_slip (S_X5_in S_X5_isCell S_X5_isLetter : ma_Cs) : Nat → ma_In := fun pc =>
 (if pc < 65 then
 (if pc < 30 then
 (if pc < 13 then
 (if pc < 3 then
 (if pc < 1 then
 (if pc = 0 then in_ild 1 1 else in_no) else
 (if pc < 2 then
 (if pc = 1 then in_il (fun x => x.toInt64) 2 else in_no) else
 (if pc = 2 then in_push (.long 1) 3 else in_no))) else
 (if pc < 9 then
 (if pc < 6 then
 (if pc = 3 then in_push (.long 12) 6 else in_no) else
 (if pc = 6 then in_s3 S_X5_in 9 else in_no)) else
 (if pc < 12 then
 (if pc = 9 then in_if1 (fun x => x = 0) 47 12 else in_no) else
 (if pc = 12 then in_ald 0 13 else in_no)))) else
 (if pc < 21 then
 (if pc < 17 then
 (if pc < 14 then
 (if pc = 13 then in_ild 2 14 else in_no) else
 (if pc = 14 then in_v2 YM 5 S_X5_isCell 17 else in_no)) else
 (if pc < 20 then
 (if pc = 17 then in_if1 (fun x => x = 0) 47 20 else in_no) else
 (if pc = 20 then in_ild 3 21 else in_no))) else
 (if pc < 27 then
 (if pc < 24 then
 (if pc = 21 then in_s1 S_X5_isLetter 24 else in_no) else
 (if pc = 24 then in_if1 (fun x => x = 0) 47 27 else in_no)) else
 (if pc < 29 then
 (if pc = 27 then in_ild 4 29 else in_no) else
 (if pc = 29 then in_il (fun x => x.toInt64) 30 else in_no))))) else
 (if pc < 49 then
 (if pc < 42 then
 (if pc < 36 then
 (if pc < 33 then
 (if pc = 30 then in_push (.long (-1000000)) 33 else in_no) else
 (if pc = 33 then in_push (.long 1000000) 36 else in_no)) else
 (if pc < 39 then
 (if pc = 36 then in_s3 S_X5_in 39 else in_no) else
 (if pc = 39 then in_if1 (fun x => x = 0) 47 42 else in_no))) else
 (if pc < 47 then
 (if pc < 44 then
 (if pc = 42 then in_ild 4 44 else in_no) else
 (if pc = 44 then in_if1 (fun x => x = 0) 47 49 else in_no)) else
 (if pc < 48 then
 (if pc = 47 then in_push (.int (-1)) 48 else in_no) else
 (if pc = 48 then in_ri else in_no)))) else
 (if pc < 58 then
 (if pc < 53 then
 (if pc < 50 then
 (if pc = 49 then in_ald 0 50 else in_no) else
 (if pc = 50 then in_get YM 5 19 53 else in_no)) else
 (if pc < 55 then
 (if pc = 53 then in_push (.int 12) 55 else in_no) else
 (if pc = 55 then in_if2 (fun x y => x = y) 58 61 else in_no))) else
 (if pc < 61 then
 (if pc < 60 then
 (if pc = 58 then in_push (.int (-3)) 60 else in_no) else
 (if pc = 60 then in_ri else in_no)) else
 (if pc < 62 then
 (if pc = 61 then in_ald 0 62 else in_no) else
 (if pc = 62 then in_get YM 5 20 65 else in_no)))))) else
 (if pc < 90 then
 (if pc < 76 then
 (if pc < 70 then
 (if pc < 66 then
 (if pc = 65 then in_ald 0 66 else in_no) else
 (if pc < 69 then
 (if pc = 66 then in_get YM 5 19 69 else in_no) else
 (if pc = 69 then in_ild 1 70 else in_no))) else
 (if pc < 72 then
 (if pc < 71 then
 (if pc = 70 then in_iaw YM 71 else in_no) else
 (if pc = 71 then in_ald 0 72 else in_no)) else
 (if pc < 75 then
 (if pc = 72 then in_get YM 5 21 75 else in_no) else
 (if pc = 75 then in_ald 0 76 else in_no)))) else
 (if pc < 82 then
 (if pc < 80 then
 (if pc < 79 then
 (if pc = 76 then in_get YM 5 19 79 else in_no) else
 (if pc = 79 then in_ild 2 80 else in_no)) else
 (if pc < 81 then
 (if pc = 80 then in_iaw YM 81 else in_no) else
 (if pc = 81 then in_ald 0 82 else in_no))) else
 (if pc < 86 then
 (if pc < 85 then
 (if pc = 82 then in_get YM 5 22 85 else in_no) else
 (if pc = 85 then in_ald 0 86 else in_no)) else
 (if pc < 89 then
 (if pc = 86 then in_get YM 5 19 89 else in_no) else
 (if pc = 89 then in_ild 3 90 else in_no))))) else
 (if pc < 103 then
 (if pc < 96 then
 (if pc < 92 then
 (if pc < 91 then
 (if pc = 90 then in_iaw YM 91 else in_no) else
 (if pc = 91 then in_ald 0 92 else in_no)) else
 (if pc < 95 then
 (if pc = 92 then in_get YM 5 23 95 else in_no) else
 (if pc = 95 then in_ald 0 96 else in_no))) else
 (if pc < 101 then
 (if pc < 99 then
 (if pc = 96 then in_get YM 5 19 99 else in_no) else
 (if pc = 99 then in_ild 4 101 else in_no)) else
 (if pc < 102 then
 (if pc = 101 then in_iaw YM 102 else in_no) else
 (if pc = 102 then in_ald 0 103 else in_no)))) else
 (if pc < 109 then
 (if pc < 107 then
 (if pc < 104 then
 (if pc = 103 then in_dup 104 else in_no) else
 (if pc = 104 then in_get YM 5 19 107 else in_no)) else
 (if pc < 108 then
 (if pc = 107 then in_push (.int 1) 108 else in_no) else
 (if pc = 108 then in_iii (fun x y => x + y) 109 else in_no))) else
 (if pc < 113 then
 (if pc < 112 then
 (if pc = 109 then in_put YM 5 19 112 else in_no) else
 (if pc = 112 then in_ald 0 113 else in_no)) else
 (if pc < 116 then
 (if pc = 113 then in_get YM 5 19 116 else in_no) else
 (if pc = 116 then in_ri else in_no)))))))
theorem tk_X5_slip {l : Launch} {w : ma_Wd} {NC : Nat} {A : Nat → Prop} {S_X5_in S_X5_isCell S_X5_isLetter : ma_Cs} (h_X5_in : ma_Sd l w YM NC A yX5_in cX5_in 6 (some .boolean) rm_X5_in S_X5_in) (h_X5_isCell : ma_Sd l w YM NC A yX5_isCell cX5_isCell 2 (some .boolean) rm_X5_isCell S_X5_isCell) (h_X5_isLetter : ma_Sd l w YM NC A yX5_isLetter cX5_isLetter 1 (some .boolean) rm_X5_isLetter S_X5_isLetter) {p : Program} {e : Env} {s : State} {m : MethodId} {args : Array Value} {below : List Frame} {meth : Method} {c : Code} (X : ma_Cx p s m args meth c w YM NC A yX5_slip.cls cX5_slip 5 (some .int)) : ∀ pc, ma_Ok p l e rm_X5_slip s m args below meth c w YM NC A 5 pc (tb_X5_slip S_X5_in S_X5_isCell S_X5_isLetter pc) := fun pc =>
 (mk_lt
 (mk_lt
 (mk_lt
 (mk_lt
 (mk_lt
 (mk_eq (mk_iload_n X dX5_slip_0 rfl rfl))
 (mk_lt
 (mk_eq (mk_i2l X dX5_slip_1 rfl))
 (mk_eq (mk_lconst X dX5_slip_2 rfl rfl))))
 (mk_lt
 (mk_lt
 (mk_eq (mk_ldc2 X dX5_slip_3 q989 rfl))
 (mk_eq (mk_S3 X h_X5_in (lw_S q892 q893 q66 q894) ⟨by decide, by decide, rfl⟩ ⟨(Nat.le_of_ble_eq_true rfl), (Nat.le_of_ble_eq_true rfl)⟩ dX5_slip_6 rfl)))
 (mk_lt
 (mk_eq (mk_ifeq X dX5_slip_9 rfl rfl))
 (mk_eq (mk_aload_n X dX5_slip_12 rfl rfl)))))
 (mk_lt
 (mk_lt
 (mk_lt
 (mk_eq (mk_iload_n X dX5_slip_13 rfl rfl))
 (mk_eq (mk_V2 X h_X5_isCell (ci := 5) rfl (lw_V q977 q979 qs39 q66 q980) ⟨rfl, by decide, by decide, rfl⟩ ⟨(Nat.le_of_ble_eq_true rfl), (Nat.le_of_ble_eq_true rfl)⟩ dX5_slip_14 rfl)))
 (mk_lt
 (mk_eq (mk_ifeq X dX5_slip_17 rfl rfl))
 (mk_eq (mk_iload_n X dX5_slip_20 rfl rfl))))
 (mk_lt
 (mk_lt
 (mk_eq (mk_S1 X h_X5_isLetter (lw_S q908 q909 q66 q910) ⟨by decide, by decide, rfl⟩ ⟨(Nat.le_of_ble_eq_true rfl), (Nat.le_of_ble_eq_true rfl)⟩ dX5_slip_21 rfl))
 (mk_eq (mk_ifeq X dX5_slip_24 rfl rfl)))
 (mk_lt
 (mk_eq (mk_iload X dX5_slip_27 rfl))
 (mk_eq (mk_i2l X dX5_slip_29 rfl))))))
 (mk_lt
 (mk_lt
 (mk_lt
 (mk_lt
 (mk_eq (mk_ldc2 X dX5_slip_30 q912 rfl))
 (mk_eq (mk_ldc2 X dX5_slip_33 q913 rfl)))
 (mk_lt
 (mk_eq (mk_S3 X h_X5_in (lw_S q892 q893 q66 q894) ⟨by decide, by decide, rfl⟩ ⟨(Nat.le_of_ble_eq_true rfl), (Nat.le_of_ble_eq_true rfl)⟩ dX5_slip_36 rfl))
 (mk_eq (mk_ifeq X dX5_slip_39 rfl rfl))))
 (mk_lt
 (mk_lt
 (mk_eq (mk_iload X dX5_slip_42 rfl))
 (mk_eq (mk_ifne X dX5_slip_44 rfl rfl)))
 (mk_lt
 (mk_eq (mk_iconst X dX5_slip_47 rfl rfl))
 (mk_eq (mk_ri X dX5_slip_48)))))
 (mk_lt
 (mk_lt
 (mk_lt
 (mk_eq (mk_aload_n X dX5_slip_49 rfl rfl))
 (mk_eq (mk_get X (ci := 5) (j := 19) rfl in_X5 (Nat.le_of_ble_eq_true rfl) q766 dX5_slip_50 rfl)))
 (mk_lt
 (mk_eq (mk_bipush X dX5_slip_53 rfl rfl))
 (mk_eq (mk_icne X dX5_slip_55 rfl rfl))))
 (mk_lt
 (mk_lt
 (mk_eq (mk_bipush X dX5_slip_58 rfl rfl))
 (mk_eq (mk_ri X dX5_slip_60)))
 (mk_lt
 (mk_eq (mk_aload_n X dX5_slip_61 rfl rfl))
 (mk_eq (mk_get X (ci := 5) (j := 20) rfl in_X5 (Nat.le_of_ble_eq_true rfl) q767 dX5_slip_62 rfl)))))))
 (mk_lt
 (mk_lt
 (mk_lt
 (mk_lt
 (mk_eq (mk_aload_n X dX5_slip_65 rfl rfl))
 (mk_lt
 (mk_eq (mk_get X (ci := 5) (j := 19) rfl in_X5 (Nat.le_of_ble_eq_true rfl) q766 dX5_slip_66 rfl))
 (mk_eq (mk_iload_n X dX5_slip_69 rfl rfl))))
 (mk_lt
 (mk_lt
 (mk_eq (mk_iaw X dX5_slip_70 rfl))
 (mk_eq (mk_aload_n X dX5_slip_71 rfl rfl)))
 (mk_lt
 (mk_eq (mk_get X (ci := 5) (j := 21) rfl in_X5 (Nat.le_of_ble_eq_true rfl) q768 dX5_slip_72 rfl))
 (mk_eq (mk_aload_n X dX5_slip_75 rfl rfl)))))
 (mk_lt
 (mk_lt
 (mk_lt
 (mk_eq (mk_get X (ci := 5) (j := 19) rfl in_X5 (Nat.le_of_ble_eq_true rfl) q766 dX5_slip_76 rfl))
 (mk_eq (mk_iload_n X dX5_slip_79 rfl rfl)))
 (mk_lt
 (mk_eq (mk_iaw X dX5_slip_80 rfl))
 (mk_eq (mk_aload_n X dX5_slip_81 rfl rfl))))
 (mk_lt
 (mk_lt
 (mk_eq (mk_get X (ci := 5) (j := 22) rfl in_X5 (Nat.le_of_ble_eq_true rfl) q769 dX5_slip_82 rfl))
 (mk_eq (mk_aload_n X dX5_slip_85 rfl rfl)))
 (mk_lt
 (mk_eq (mk_get X (ci := 5) (j := 19) rfl in_X5 (Nat.le_of_ble_eq_true rfl) q766 dX5_slip_86 rfl))
 (mk_eq (mk_iload_n X dX5_slip_89 rfl rfl))))))
 (mk_lt
 (mk_lt
 (mk_lt
 (mk_lt
 (mk_eq (mk_iaw X dX5_slip_90 rfl))
 (mk_eq (mk_aload_n X dX5_slip_91 rfl rfl)))
 (mk_lt
 (mk_eq (mk_get X (ci := 5) (j := 23) rfl in_X5 (Nat.le_of_ble_eq_true rfl) q770 dX5_slip_92 rfl))
 (mk_eq (mk_aload_n X dX5_slip_95 rfl rfl))))
 (mk_lt
 (mk_lt
 (mk_eq (mk_get X (ci := 5) (j := 19) rfl in_X5 (Nat.le_of_ble_eq_true rfl) q766 dX5_slip_96 rfl))
 (mk_eq (mk_iload X dX5_slip_99 rfl)))
 (mk_lt
 (mk_eq (mk_iaw X dX5_slip_101 rfl))
 (mk_eq (mk_aload_n X dX5_slip_102 rfl rfl)))))
 (mk_lt
 (mk_lt
 (mk_lt
 (mk_eq (mk_dup X dX5_slip_103 rfl))
 (mk_eq (mk_get X (ci := 5) (j := 19) rfl in_X5 (Nat.le_of_ble_eq_true rfl) q766 dX5_slip_104 rfl)))
 (mk_lt
 (mk_eq (mk_iconst X dX5_slip_107 rfl rfl))
 (mk_eq (mk_iadd X dX5_slip_108 rfl))))
 (mk_lt
 (mk_lt
 (mk_eq (mk_put X (ci := 5) (j := 19) rfl in_X5 tyX5_ok nmX5 (Nat.le_of_ble_eq_true rfl) rfl rfl q766 dX5_slip_109 rfl))
 (mk_eq (mk_aload_n X dX5_slip_112 rfl rfl)))
 (mk_lt
 (mk_eq (mk_get X (ci := 5) (j := 19) rfl in_X5 (Nat.le_of_ble_eq_true rfl) q766 dX5_slip_113 rfl))
 (mk_eq (mk_ri X dX5_slip_116))))))))
theorem sd_X5_slip {l : Launch} {w : ma_Wd} {NC : Nat} {A : Nat → Prop} {S_X5_in S_X5_isCell S_X5_isLetter : ma_Cs} (hw : ma_Wo w YM NC A) (h_X5_in : ma_Sd l w YM NC A yX5_in cX5_in 6 (some .boolean) rm_X5_in S_X5_in) (h_X5_isCell : ma_Sd l w YM NC A yX5_isCell cX5_isCell 2 (some .boolean) rm_X5_isCell S_X5_isCell) (h_X5_isLetter : ma_Sd l w YM NC A yX5_isLetter cX5_isLetter 1 (some .boolean) rm_X5_isLetter S_X5_isLetter) : ma_Sd l w YM NC A yX5_slip cX5_slip 5 (some .int) rm_X5_slip (ma_rn (tb_X5_slip S_X5_in S_X5_isCell S_X5_isLetter) 5) := ma_of hw (by decide) ⟨rfl, rfl⟩ (fun X => tk_X5_slip h_X5_in h_X5_isCell h_X5_isLetter X)
theorem dX5_mend_0 : decode cX5_mend 0 = .ok (.aload_n 0, 1) := by decide +kernel
theorem dX5_mend_1 : decode cX5_mend 1 = .ok (.getfield 116, 3) := by decide +kernel
theorem dX5_mend_4 : decode cX5_mend 4 = .ok (.ifCond .ne 6, 3) := by decide +kernel
theorem dX5_mend_7 : decode cX5_mend 7 = .ok (.bipush (-2), 2) := by decide +kernel
theorem dX5_mend_9 : decode cX5_mend 9 = .ok (.ireturn, 1) := by decide +kernel
theorem dX5_mend_10 : decode cX5_mend 10 = .ok (.aload_n 0, 1) := by decide +kernel
theorem dX5_mend_11 : decode cX5_mend 11 = .ok (.dup, 1) := by decide +kernel
theorem dX5_mend_12 : decode cX5_mend 12 = .ok (.getfield 116, 3) := by decide +kernel
theorem dX5_mend_15 : decode cX5_mend 15 = .ok (.iconst 1, 1) := by decide +kernel
theorem dX5_mend_16 : decode cX5_mend 16 = .ok (.isub, 1) := by decide +kernel
theorem dX5_mend_17 : decode cX5_mend 17 = .ok (.putfield 116, 3) := by decide +kernel
theorem dX5_mend_20 : decode cX5_mend 20 = .ok (.aload_n 0, 1) := by decide +kernel
theorem dX5_mend_21 : decode cX5_mend 21 = .ok (.getfield 116, 3) := by decide +kernel
theorem dX5_mend_24 : decode cX5_mend 24 = .ok (.ireturn, 1) := by decide +kernel
def tb_X5_mend : Nat → ma_In := fun pc =>
 (if pc < 12 then
 (if pc < 7 then
 (if pc < 1 then
 (if pc = 0 then in_ald 0 1 else in_no) else
 (if pc < 4 then
 (if pc = 1 then in_get YM 5 19 4 else in_no) else
 (if pc = 4 then in_if1 (fun x => x = 0) 7 10 else in_no))) else
 (if pc < 10 then
 (if pc < 9 then
 (if pc = 7 then in_push (.int (-2)) 9 else in_no) else
 (if pc = 9 then in_ri else in_no)) else
 (if pc < 11 then
 (if pc = 10 then in_ald 0 11 else in_no) else
 (if pc = 11 then in_dup 12 else in_no)))) else
 (if pc < 17 then
 (if pc < 15 then
 (if pc = 12 then in_get YM 5 19 15 else in_no) else
 (if pc < 16 then
 (if pc = 15 then in_push (.int 1) 16 else in_no) else
 (if pc = 16 then in_iii (fun x y => x - y) 17 else in_no))) else
 (if pc < 21 then
 (if pc < 20 then
 (if pc = 17 then in_put YM 5 19 20 else in_no) else
 (if pc = 20 then in_ald 0 21 else in_no)) else
 (if pc < 24 then
 (if pc = 21 then in_get YM 5 19 24 else in_no) else
 (if pc = 24 then in_ri else in_no)))))
theorem tk_X5_mend {l : Launch} {w : ma_Wd} {NC : Nat} {A : Nat → Prop} {p : Program} {e : Env} {s : State} {m : MethodId} {args : Array Value} {below : List Frame} {meth : Method} {c : Code} (X : ma_Cx p s m args meth c w YM NC A yX5_mend.cls cX5_mend 1 (some .int)) : ∀ pc, ma_Ok p l e rm_X5_mend s m args below meth c w YM NC A 1 pc (tb_X5_mend pc) := fun pc =>
 (mk_lt
 (mk_lt
 (mk_lt
 (mk_eq (mk_aload_n X dX5_mend_0 rfl rfl))
 (mk_lt
 (mk_eq (mk_get X (ci := 5) (j := 19) rfl in_X5 (Nat.le_of_ble_eq_true rfl) q766 dX5_mend_1 rfl))
 (mk_eq (mk_ifne X dX5_mend_4 rfl rfl))))
 (mk_lt
 (mk_lt
 (mk_eq (mk_bipush X dX5_mend_7 rfl rfl))
 (mk_eq (mk_ri X dX5_mend_9)))
 (mk_lt
 (mk_eq (mk_aload_n X dX5_mend_10 rfl rfl))
 (mk_eq (mk_dup X dX5_mend_11 rfl)))))
 (mk_lt
 (mk_lt
 (mk_eq (mk_get X (ci := 5) (j := 19) rfl in_X5 (Nat.le_of_ble_eq_true rfl) q766 dX5_mend_12 rfl))
 (mk_lt
 (mk_eq (mk_iconst X dX5_mend_15 rfl rfl))
 (mk_eq (mk_isub X dX5_mend_16 rfl))))
 (mk_lt
 (mk_lt
 (mk_eq (mk_put X (ci := 5) (j := 19) rfl in_X5 tyX5_ok nmX5 (Nat.le_of_ble_eq_true rfl) rfl rfl q766 dX5_mend_17 rfl))
 (mk_eq (mk_aload_n X dX5_mend_20 rfl rfl)))
 (mk_lt
 (mk_eq (mk_get X (ci := 5) (j := 19) rfl in_X5 (Nat.le_of_ble_eq_true rfl) q766 dX5_mend_21 rfl))
 (mk_eq (mk_ri X dX5_mend_24))))))
theorem sd_X5_mend {l : Launch} {w : ma_Wd} {NC : Nat} {A : Nat → Prop} (hw : ma_Wo w YM NC A) : ma_Sd l w YM NC A yX5_mend cX5_mend 1 (some .int) rm_X5_mend (ma_rn (tb_X5_mend) 1) := ma_of hw (by decide) ⟨rfl, rfl⟩ (fun X => tk_X5_mend  X)
