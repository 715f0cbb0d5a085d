/-! tables: X1_reads X1_line X1_here X1_fails X1_eats X1_term X1_isFigure X1_number X1_name -/
set_option maxRecDepth 100000
set_option maxHeartbeats 4000000
theorem dX1_reads_0 : decode cX1_reads 0 = .ok (.aload_n 0, 1) := by decide +kernel
theorem dX1_reads_1 : decode cX1_reads 1 = .ok (.iconst 0, 1) := by decide +kernel
theorem dX1_reads_2 : decode cX1_reads 2 = .ok (.putfield 15, 3) := by decide +kernel
theorem dX1_reads_5 : decode cX1_reads 5 = .ok (.aload_n 0, 1) := by decide +kernel
theorem dX1_reads_6 : decode cX1_reads 6 = .ok (.getfield 3, 3) := by decide +kernel
theorem dX1_reads_9 : decode cX1_reads 9 = .ok (.getfield 65, 3) := by decide +kernel
theorem dX1_reads_12 : decode cX1_reads 12 = .ok (.iconst 0, 1) := by decide +kernel
theorem dX1_reads_13 : decode cX1_reads 13 = .ok (.putfield 96, 3) := by decide +kernel
theorem dX1_reads_16 : decode cX1_reads 16 = .ok (.aload_n 0, 1) := by decide +kernel
theorem dX1_reads_17 : decode cX1_reads 17 = .ok (.getfield 3, 3) := by decide +kernel
theorem dX1_reads_20 : decode cX1_reads 20 = .ok (.getfield 65, 3) := by decide +kernel
theorem dX1_reads_23 : decode cX1_reads 23 = .ok (.iconst 0, 1) := by decide +kernel
theorem dX1_reads_24 : decode cX1_reads 24 = .ok (.putfield 83, 3) := by decide +kernel
theorem dX1_reads_27 : decode cX1_reads 27 = .ok (.aload_n 0, 1) := by decide +kernel
theorem dX1_reads_28 : decode cX1_reads 28 = .ok (.getfield 15, 3) := by decide +kernel
theorem dX1_reads_31 : decode cX1_reads 31 = .ok (.aload_n 0, 1) := by decide +kernel
theorem dX1_reads_32 : decode cX1_reads 32 = .ok (.getfield 3, 3) := by decide +kernel
theorem dX1_reads_35 : decode cX1_reads 35 = .ok (.getfield 19, 3) := by decide +kernel
theorem dX1_reads_38 : decode cX1_reads 38 = .ok (.if_icmp .ge 15, 3) := by decide +kernel
theorem dX1_reads_41 : decode cX1_reads 41 = .ok (.aload_n 0, 1) := by decide +kernel
theorem dX1_reads_42 : decode cX1_reads 42 = .ok (.invokevirtual 116, 3) := by decide +kernel
theorem dX1_reads_45 : decode cX1_reads 45 = .ok (.ifCond .ne (-18), 3) := by decide +kernel
theorem dX1_reads_48 : decode cX1_reads 48 = .ok (.aload_n 0, 1) := by decide +kernel
theorem dX1_reads_49 : decode cX1_reads 49 = .ok (.getfield 26, 3) := by decide +kernel
theorem dX1_reads_52 : decode cX1_reads 52 = .ok (.ireturn, 1) := by decide +kernel
theorem dX1_reads_53 : decode cX1_reads 53 = .ok (.bipush (-4), 2) := by decide +kernel
theorem dX1_reads_55 : decode cX1_reads 55 = .ok (.ireturn, 1) := by decide +kernel
def tb_X1_reads (S_X1_line : ma_Cs) : Nat → ma_In := fun pc =>
 (if pc < 27 then
 (if pc < 12 then
 (if pc < 5 then
 (if pc < 1 then
 (if pc = 0 then in_ald 0 1 else in_no) else
 (if pc < 2 then
 (if pc = 1 then in_push (.int 0) 2 else in_no) else
 (if pc = 2 then in_put YX 1 0 5 else in_no))) else
 (if pc < 6 then
 (if pc = 5 then in_ald 0 6 else in_no) else
 (if pc < 9 then
 (if pc = 6 then in_get YX 1 4 9 else in_no) else
 (if pc = 9 then in_get YX 0 3 12 else in_no)))) else
 (if pc < 17 then
 (if pc < 13 then
 (if pc = 12 then in_push (.int 0) 13 else in_no) else
 (if pc < 16 then
 (if pc = 13 then in_put YX 2 0 16 else in_no) else
 (if pc = 16 then in_ald 0 17 else in_no))) else
 (if pc < 23 then
 (if pc < 20 then
 (if pc = 17 then in_get YX 1 4 20 else in_no) else
 (if pc = 20 then in_get YX 0 3 23 else in_no)) else
 (if pc < 24 then
 (if pc = 23 then in_push (.int 0) 24 else in_no) else
 (if pc = 24 then in_put YX 2 5 27 else in_no))))) else
 (if pc < 42 then
 (if pc < 32 then
 (if pc < 28 then
 (if pc = 27 then in_ald 0 28 else in_no) else
 (if pc < 31 then
 (if pc = 28 then in_get YX 1 0 31 else in_no) else
 (if pc = 31 then in_ald 0 32 else in_no))) else
 (if pc < 38 then
 (if pc < 35 then
 (if pc = 32 then in_get YX 1 4 35 else in_no) else
 (if pc = 35 then in_get YX 0 0 38 else in_no)) else
 (if pc < 41 then
 (if pc = 38 then in_if2 (fun x y => y ≤ x) 53 41 else in_no) else
 (if pc = 41 then in_ald 0 42 else in_no)))) else
 (if pc < 49 then
 (if pc < 45 then
 (if pc = 42 then in_v1 YX 1 S_X1_line 45 else in_no) else
 (if pc < 48 then
 (if pc = 45 then in_if1 (fun x => x = 0) 48 27 else in_no) else
 (if pc = 48 then in_ald 0 49 else in_no))) else
 (if pc < 53 then
 (if pc < 52 then
 (if pc = 49 then in_get YX 1 1 52 else in_no) else
 (if pc = 52 then in_ri else in_no)) else
 (if pc < 55 then
 (if pc = 53 then in_push (.int (-4)) 55 else in_no) else
 (if pc = 55 then in_ri else in_no))))))
theorem tk_X1_reads {l : Launch} {w : ma_Wd} {NC : Nat} {A : Nat → Prop} {S_X1_line : ma_Cs} (h_X1_line : ma_Sd l w YX NC A yX1_line cX1_line 3 (some .boolean) rm_X1_line S_X1_line) {p : Program} {e : Env} {s : State} {m : MethodId} {args : Array Value} {below : List Frame} {meth : Method} {c : Code} (X : ma_Cx p s m args meth c w YX NC A yX1_reads.cls cX1_reads 1 (some .int)) : ∀ pc, ma_Ok p l e rm_X1_reads s m args below meth c w YX NC A 1 pc (tb_X1_reads S_X1_line pc) := fun pc =>
 (mk_lt
 (mk_lt
 (mk_lt
 (mk_lt
 (mk_eq (mk_aload_n X dX1_reads_0 rfl rfl))
 (mk_lt
 (mk_eq (mk_iconst X dX1_reads_1 rfl rfl))
 (mk_eq (mk_put X (ci := 1) (j := 0) rfl in_X1 tyX1_ok nmX1 (Nat.le_of_ble_eq_true rfl) rfl rfl q84 dX1_reads_2 rfl))))
 (mk_lt
 (mk_eq (mk_aload_n X dX1_reads_5 rfl rfl))
 (mk_lt
 (mk_eq (mk_get X (ci := 1) (j := 4) rfl in_X1 (Nat.le_of_ble_eq_true rfl) q88 dX1_reads_6 rfl))
 (mk_eq (mk_getN X (ci := 0) (j := 3) rfl in_X0 (Nat.le_of_ble_eq_true rfl) (List.mem_of_getElem? (i := 18) rfl) dX1_reads_9 rfl)))))
 (mk_lt
 (mk_lt
 (mk_eq (mk_iconst X dX1_reads_12 rfl rfl))
 (mk_lt
 (mk_eq (mk_putN X (ci := 2) (j := 0) rfl in_X2 tyX2_ok nmX2 (Nat.le_of_ble_eq_true rfl) rfl rfl (List.mem_of_getElem? (i := 7) rfl) dX1_reads_13 rfl))
 (mk_eq (mk_aload_n X dX1_reads_16 rfl rfl))))
 (mk_lt
 (mk_lt
 (mk_eq (mk_get X (ci := 1) (j := 4) rfl in_X1 (Nat.le_of_ble_eq_true rfl) q88 dX1_reads_17 rfl))
 (mk_eq (mk_getN X (ci := 0) (j := 3) rfl in_X0 (Nat.le_of_ble_eq_true rfl) (List.mem_of_getElem? (i := 18) rfl) dX1_reads_20 rfl)))
 (mk_lt
 (mk_eq (mk_iconst X dX1_reads_23 rfl rfl))
 (mk_eq (mk_putN X (ci := 2) (j := 5) rfl in_X2 tyX2_ok nmX2 (Nat.le_of_ble_eq_true rfl) rfl rfl (List.mem_of_getElem? (i := 12) rfl) dX1_reads_24 rfl))))))
 (mk_lt
 (mk_lt
 (mk_lt
 (mk_eq (mk_aload_n X dX1_reads_27 rfl rfl))
 (mk_lt
 (mk_eq (mk_get X (ci := 1) (j := 0) rfl in_X1 (Nat.le_of_ble_eq_true rfl) q84 dX1_reads_28 rfl))
 (mk_eq (mk_aload_n X dX1_reads_31 rfl rfl))))
 (mk_lt
 (mk_lt
 (mk_eq (mk_get X (ci := 1) (j := 4) rfl in_X1 (Nat.le_of_ble_eq_true rfl) q88 dX1_reads_32 rfl))
 (mk_eq (mk_getN X (ci := 0) (j := 0) rfl in_X0 (Nat.le_of_ble_eq_true rfl) (List.mem_of_getElem? (i := 16) rfl) dX1_reads_35 rfl)))
 (mk_lt
 (mk_eq (mk_icge X dX1_reads_38 rfl rfl))
 (mk_eq (mk_aload_n X dX1_reads_41 rfl rfl)))))
 (mk_lt
 (mk_lt
 (mk_eq (mk_V1 X h_X1_line (ci := 1) rfl (lw_V q395 q397 qs3 q62 q398) ⟨rfl, by decide, by decide, rfl⟩ ⟨(Nat.le_of_ble_eq_true rfl), (Nat.le_of_ble_eq_true rfl)⟩ dX1_reads_42 rfl))
 (mk_lt
 (mk_eq (mk_ifne X dX1_reads_45 rfl rfl))
 (mk_eq (mk_aload_n X dX1_reads_48 rfl rfl))))
 (mk_lt
 (mk_lt
 (mk_eq (mk_get X (ci := 1) (j := 1) rfl in_X1 (Nat.le_of_ble_eq_true rfl) q85 dX1_reads_49 rfl))
 (mk_eq (mk_ri X dX1_reads_52)))
 (mk_lt
 (mk_eq (mk_bipush X dX1_reads_53 rfl rfl))
 (mk_eq (mk_ri X dX1_reads_55)))))))
theorem sd_X1_reads {l : Launch} {w : ma_Wd} {NC : Nat} {A : Nat → Prop} {S_X1_line : ma_Cs} (hw : ma_Wo w YX NC A) (h_X1_line : ma_Sd l w YX NC A yX1_line cX1_line 3 (some .boolean) rm_X1_line S_X1_line) : ma_Sd l w YX NC A yX1_reads cX1_reads 1 (some .int) rm_X1_reads (ma_rn (tb_X1_reads S_X1_line) 1) := ma_of hw (by decide) ⟨rfl, rfl⟩ (fun X => tk_X1_reads h_X1_line X)
theorem dX1_line_0 : decode cX1_line 0 = .ok (.aload_n 0, 1) := by decide +kernel
theorem dX1_line_1 : decode cX1_line 1 = .ok (.invokevirtual 29, 3) := by decide +kernel
theorem dX1_line_4 : decode cX1_line 4 = .ok (.bipush 97, 2) := by decide +kernel
theorem dX1_line_6 : decode cX1_line 6 = .ok (.isub, 1) := by decide +kernel
theorem dX1_line_7 : decode cX1_line 7 = .ok (.istore_n 1, 1) := by decide +kernel
theorem dX1_line_8 : decode cX1_line 8 = .ok (.iload_n 1, 1) := by decide +kernel
theorem dX1_line_9 : decode cX1_line 9 = .ok (.invokestatic 59, 3) := by decide +kernel
theorem dX1_line_12 : decode cX1_line 12 = .ok (.ifCond .eq 19, 3) := by decide +kernel
theorem dX1_line_15 : decode cX1_line 15 = .ok (.aload_n 0, 1) := by decide +kernel
theorem dX1_line_16 : decode cX1_line 16 = .ok (.getfield 3, 3) := by decide +kernel
theorem dX1_line_19 : decode cX1_line 19 = .ok (.getfield 65, 3) := by decide +kernel
theorem dX1_line_22 : decode cX1_line 22 = .ok (.iload_n 1, 1) := by decide +kernel
theorem dX1_line_23 : decode cX1_line 23 = .ok (.invokevirtual 69, 3) := by decide +kernel
theorem dX1_line_26 : decode cX1_line 26 = .ok (.bipush (-4), 2) := by decide +kernel
theorem dX1_line_28 : decode cX1_line 28 = .ok (.if_icmp .eq 12, 3) := by decide +kernel
theorem dX1_line_31 : decode cX1_line 31 = .ok (.aload_n 0, 1) := by decide +kernel
theorem dX1_line_32 : decode cX1_line 32 = .ok (.aload_n 0, 1) := by decide +kernel
theorem dX1_line_33 : decode cX1_line 33 = .ok (.getfield 15, 3) := by decide +kernel
theorem dX1_line_36 : decode cX1_line 36 = .ok (.invokevirtual 55, 3) := by decide +kernel
theorem dX1_line_39 : decode cX1_line 39 = .ok (.ireturn, 1) := by decide +kernel
theorem dX1_line_40 : decode cX1_line 40 = .ok (.aload_n 0, 1) := by decide +kernel
theorem dX1_line_41 : decode cX1_line 41 = .ok (.dup, 1) := by decide +kernel
theorem dX1_line_42 : decode cX1_line 42 = .ok (.getfield 15, 3) := by decide +kernel
theorem dX1_line_45 : decode cX1_line 45 = .ok (.iconst 1, 1) := by decide +kernel
theorem dX1_line_46 : decode cX1_line 46 = .ok (.iadd, 1) := by decide +kernel
theorem dX1_line_47 : decode cX1_line 47 = .ok (.putfield 15, 3) := by decide +kernel
theorem dX1_line_50 : decode cX1_line 50 = .ok (.aload_n 0, 1) := by decide +kernel
theorem dX1_line_51 : decode cX1_line 51 = .ok (.bipush 61, 2) := by decide +kernel
theorem dX1_line_53 : decode cX1_line 53 = .ok (.invokevirtual 62, 3) := by decide +kernel
theorem dX1_line_56 : decode cX1_line 56 = .ok (.ifCond .ne 12, 3) := by decide +kernel
theorem dX1_line_59 : decode cX1_line 59 = .ok (.aload_n 0, 1) := by decide +kernel
theorem dX1_line_60 : decode cX1_line 60 = .ok (.aload_n 0, 1) := by decide +kernel
theorem dX1_line_61 : decode cX1_line 61 = .ok (.getfield 15, 3) := by decide +kernel
theorem dX1_line_64 : decode cX1_line 64 = .ok (.invokevirtual 55, 3) := by decide +kernel
theorem dX1_line_67 : decode cX1_line 67 = .ok (.ireturn, 1) := by decide +kernel
theorem dX1_line_68 : decode cX1_line 68 = .ok (.aload_n 0, 1) := by decide +kernel
theorem dX1_line_69 : decode cX1_line 69 = .ok (.getfield 3, 3) := by decide +kernel
theorem dX1_line_72 : decode cX1_line 72 = .ok (.getfield 65, 3) := by decide +kernel
theorem dX1_line_75 : decode cX1_line 75 = .ok (.getfield 96, 3) := by decide +kernel
theorem dX1_line_78 : decode cX1_line 78 = .ok (.istore_n 2, 1) := by decide +kernel
theorem dX1_line_79 : decode cX1_line 79 = .ok (.aload_n 0, 1) := by decide +kernel
theorem dX1_line_80 : decode cX1_line 80 = .ok (.getfield 3, 3) := by decide +kernel
theorem dX1_line_83 : decode cX1_line 83 = .ok (.getfield 65, 3) := by decide +kernel
theorem dX1_line_86 : decode cX1_line 86 = .ok (.getfield 99, 3) := by decide +kernel
theorem dX1_line_89 : decode cX1_line 89 = .ok (.iload_n 2, 1) := by decide +kernel
theorem dX1_line_90 : decode cX1_line 90 = .ok (.aload_n 0, 1) := by decide +kernel
theorem dX1_line_91 : decode cX1_line 91 = .ok (.getfield 3, 3) := by decide +kernel
theorem dX1_line_94 : decode cX1_line 94 = .ok (.getfield 65, 3) := by decide +kernel
theorem dX1_line_97 : decode cX1_line 97 = .ok (.getfield 83, 3) := by decide +kernel
theorem dX1_line_100 : decode cX1_line 100 = .ok (.iastore, 1) := by decide +kernel
theorem dX1_line_101 : decode cX1_line 101 = .ok (.aload_n 0, 1) := by decide +kernel
theorem dX1_line_102 : decode cX1_line 102 = .ok (.iconst 1, 1) := by decide +kernel
theorem dX1_line_103 : decode cX1_line 103 = .ok (.invokevirtual 102, 3) := by decide +kernel
theorem dX1_line_106 : decode cX1_line 106 = .ok (.ifCond .ne 5, 3) := by decide +kernel
theorem dX1_line_109 : decode cX1_line 109 = .ok (.iconst 0, 1) := by decide +kernel
theorem dX1_line_110 : decode cX1_line 110 = .ok (.ireturn, 1) := by decide +kernel
theorem dX1_line_111 : decode cX1_line 111 = .ok (.aload_n 0, 1) := by decide +kernel
theorem dX1_line_112 : decode cX1_line 112 = .ok (.invokevirtual 29, 3) := by decide +kernel
theorem dX1_line_115 : decode cX1_line 115 = .ok (.bipush 43, 2) := by decide +kernel
theorem dX1_line_117 : decode cX1_line 117 = .ok (.if_icmp .eq 12, 3) := by decide +kernel
theorem dX1_line_120 : decode cX1_line 120 = .ok (.aload_n 0, 1) := by decide +kernel
theorem dX1_line_121 : decode cX1_line 121 = .ok (.invokevirtual 29, 3) := by decide +kernel
theorem dX1_line_124 : decode cX1_line 124 = .ok (.bipush 45, 2) := by decide +kernel
theorem dX1_line_126 : decode cX1_line 126 = .ok (.if_icmp .ne 13, 3) := by decide +kernel
theorem dX1_line_129 : decode cX1_line 129 = .ok (.aload_n 0, 1) := by decide +kernel
theorem dX1_line_130 : decode cX1_line 130 = .ok (.iconst 0, 1) := by decide +kernel
theorem dX1_line_131 : decode cX1_line 131 = .ok (.invokevirtual 102, 3) := by decide +kernel
theorem dX1_line_134 : decode cX1_line 134 = .ok (.ifCond .ne (-23), 3) := by decide +kernel
theorem dX1_line_137 : decode cX1_line 137 = .ok (.iconst 0, 1) := by decide +kernel
theorem dX1_line_138 : decode cX1_line 138 = .ok (.ireturn, 1) := by decide +kernel
theorem dX1_line_139 : decode cX1_line 139 = .ok (.aload_n 0, 1) := by decide +kernel
theorem dX1_line_140 : decode cX1_line 140 = .ok (.getfield 3, 3) := by decide +kernel
theorem dX1_line_143 : decode cX1_line 143 = .ok (.getfield 65, 3) := by decide +kernel
theorem dX1_line_146 : decode cX1_line 146 = .ok (.getfield 106, 3) := by decide +kernel
theorem dX1_line_149 : decode cX1_line 149 = .ok (.iload_n 2, 1) := by decide +kernel
theorem dX1_line_150 : decode cX1_line 150 = .ok (.iconst 1, 1) := by decide +kernel
theorem dX1_line_151 : decode cX1_line 151 = .ok (.iastore, 1) := by decide +kernel
theorem dX1_line_152 : decode cX1_line 152 = .ok (.aload_n 0, 1) := by decide +kernel
theorem dX1_line_153 : decode cX1_line 153 = .ok (.bipush 47, 2) := by decide +kernel
theorem dX1_line_155 : decode cX1_line 155 = .ok (.invokevirtual 62, 3) := by decide +kernel
theorem dX1_line_158 : decode cX1_line 158 = .ok (.ifCond .eq 31, 3) := by decide +kernel
theorem dX1_line_161 : decode cX1_line 161 = .ok (.aload_n 0, 1) := by decide +kernel
theorem dX1_line_162 : decode cX1_line 162 = .ok (.sipush 1000, 3) := by decide +kernel
theorem dX1_line_165 : decode cX1_line 165 = .ok (.invokevirtual 78, 3) := by decide +kernel
theorem dX1_line_168 : decode cX1_line 168 = .ok (.ifCond .ne 5, 3) := by decide +kernel
theorem dX1_line_171 : decode cX1_line 171 = .ok (.iconst 0, 1) := by decide +kernel
theorem dX1_line_172 : decode cX1_line 172 = .ok (.ireturn, 1) := by decide +kernel
theorem dX1_line_173 : decode cX1_line 173 = .ok (.aload_n 0, 1) := by decide +kernel
theorem dX1_line_174 : decode cX1_line 174 = .ok (.getfield 3, 3) := by decide +kernel
theorem dX1_line_177 : decode cX1_line 177 = .ok (.getfield 65, 3) := by decide +kernel
theorem dX1_line_180 : decode cX1_line 180 = .ok (.getfield 106, 3) := by decide +kernel
theorem dX1_line_183 : decode cX1_line 183 = .ok (.iload_n 2, 1) := by decide +kernel
theorem dX1_line_184 : decode cX1_line 184 = .ok (.aload_n 0, 1) := by decide +kernel
theorem dX1_line_185 : decode cX1_line 185 = .ok (.getfield 41, 3) := by decide +kernel
theorem dX1_line_188 : decode cX1_line 188 = .ok (.iastore, 1) := by decide +kernel
theorem dX1_line_189 : decode cX1_line 189 = .ok (.aload_n 0, 1) := by decide +kernel
theorem dX1_line_190 : decode cX1_line 190 = .ok (.getfield 3, 3) := by decide +kernel
theorem dX1_line_193 : decode cX1_line 193 = .ok (.getfield 65, 3) := by decide +kernel
theorem dX1_line_196 : decode cX1_line 196 = .ok (.getfield 109, 3) := by decide +kernel
theorem dX1_line_199 : decode cX1_line 199 = .ok (.iload_n 2, 1) := by decide +kernel
theorem dX1_line_200 : decode cX1_line 200 = .ok (.aload_n 0, 1) := by decide +kernel
theorem dX1_line_201 : decode cX1_line 201 = .ok (.bipush 126, 2) := by decide +kernel
theorem dX1_line_203 : decode cX1_line 203 = .ok (.invokevirtual 62, 3) := by decide +kernel
theorem dX1_line_206 : decode cX1_line 206 = .ok (.bastore, 1) := by decide +kernel
theorem dX1_line_207 : decode cX1_line 207 = .ok (.aload_n 0, 1) := by decide +kernel
theorem dX1_line_208 : decode cX1_line 208 = .ok (.bipush 59, 2) := by decide +kernel
theorem dX1_line_210 : decode cX1_line 210 = .ok (.invokevirtual 62, 3) := by decide +kernel
theorem dX1_line_213 : decode cX1_line 213 = .ok (.ifCond .ne 12, 3) := by decide +kernel
theorem dX1_line_216 : decode cX1_line 216 = .ok (.aload_n 0, 1) := by decide +kernel
theorem dX1_line_217 : decode cX1_line 217 = .ok (.aload_n 0, 1) := by decide +kernel
theorem dX1_line_218 : decode cX1_line 218 = .ok (.getfield 15, 3) := by decide +kernel
theorem dX1_line_221 : decode cX1_line 221 = .ok (.invokevirtual 55, 3) := by decide +kernel
theorem dX1_line_224 : decode cX1_line 224 = .ok (.ireturn, 1) := by decide +kernel
theorem dX1_line_225 : decode cX1_line 225 = .ok (.aload_n 0, 1) := by decide +kernel
theorem dX1_line_226 : decode cX1_line 226 = .ok (.getfield 3, 3) := by decide +kernel
theorem dX1_line_229 : decode cX1_line 229 = .ok (.getfield 65, 3) := by decide +kernel
theorem dX1_line_232 : decode cX1_line 232 = .ok (.getfield 113, 3) := by decide +kernel
theorem dX1_line_235 : decode cX1_line 235 = .ok (.iload_n 2, 1) := by decide +kernel
theorem dX1_line_236 : decode cX1_line 236 = .ok (.iload_n 1, 1) := by decide +kernel
theorem dX1_line_237 : decode cX1_line 237 = .ok (.iastore, 1) := by decide +kernel
theorem dX1_line_238 : decode cX1_line 238 = .ok (.aload_n 0, 1) := by decide +kernel
theorem dX1_line_239 : decode cX1_line 239 = .ok (.getfield 3, 3) := by decide +kernel
theorem dX1_line_242 : decode cX1_line 242 = .ok (.getfield 65, 3) := by decide +kernel
theorem dX1_line_245 : decode cX1_line 245 = .ok (.dup, 1) := by decide +kernel
theorem dX1_line_246 : decode cX1_line 246 = .ok (.getfield 96, 3) := by decide +kernel
theorem dX1_line_249 : decode cX1_line 249 = .ok (.iconst 1, 1) := by decide +kernel
theorem dX1_line_250 : decode cX1_line 250 = .ok (.iadd, 1) := by decide +kernel
theorem dX1_line_251 : decode cX1_line 251 = .ok (.putfield 96, 3) := by decide +kernel
theorem dX1_line_254 : decode cX1_line 254 = .ok (.aload_n 0, 1) := by decide +kernel
theorem dX1_line_255 : decode cX1_line 255 = .ok (.getfield 3, 3) := by decide +kernel
theorem dX1_line_258 : decode cX1_line 258 = .ok (.getfield 65, 3) := by decide +kernel
theorem dX1_line_261 : decode cX1_line 261 = .ok (.getfield 99, 3) := by decide +kernel
theorem dX1_line_264 : decode cX1_line 264 = .ok (.aload_n 0, 1) := by decide +kernel
theorem dX1_line_265 : decode cX1_line 265 = .ok (.getfield 3, 3) := by decide +kernel
theorem dX1_line_268 : decode cX1_line 268 = .ok (.getfield 65, 3) := by decide +kernel
theorem dX1_line_271 : decode cX1_line 271 = .ok (.getfield 96, 3) := by decide +kernel
theorem dX1_line_274 : decode cX1_line 274 = .ok (.aload_n 0, 1) := by decide +kernel
theorem dX1_line_275 : decode cX1_line 275 = .ok (.getfield 3, 3) := by decide +kernel
theorem dX1_line_278 : decode cX1_line 278 = .ok (.getfield 65, 3) := by decide +kernel
theorem dX1_line_281 : decode cX1_line 281 = .ok (.getfield 83, 3) := by decide +kernel
theorem dX1_line_284 : decode cX1_line 284 = .ok (.iastore, 1) := by decide +kernel
theorem dX1_line_285 : decode cX1_line 285 = .ok (.iconst 1, 1) := by decide +kernel
theorem dX1_line_286 : decode cX1_line 286 = .ok (.ireturn, 1) := by decide +kernel
def tb_X1_line (S_X1_here S_X0_isLetter S_X2_lineOf S_X1_fails S_X1_eats S_X1_term S_X1_number : ma_Cs) : Nat → ma_In := fun pc =>
 (if pc < 140 then
 (if pc < 68 then
 (if pc < 33 then
 (if pc < 15 then
 (if pc < 7 then
 (if pc < 4 then
 (if pc < 1 then
 (if pc = 0 then in_ald 0 1 else in_no) else
 (if pc = 1 then in_v1 YX 1 S_X1_here 4 else in_no)) else
 (if pc < 6 then
 (if pc = 4 then in_push (.int 97) 6 else in_no) else
 (if pc = 6 then in_iii (fun x y => x - y) 7 else in_no))) else
 (if pc < 9 then
 (if pc < 8 then
 (if pc = 7 then in_ist 1 8 else in_no) else
 (if pc = 8 then in_ild 1 9 else in_no)) else
 (if pc < 12 then
 (if pc = 9 then in_s1 S_X0_isLetter 12 else in_no) else
 (if pc = 12 then in_if1 (fun x => x = 0) 31 15 else in_no)))) else
 (if pc < 23 then
 (if pc < 19 then
 (if pc < 16 then
 (if pc = 15 then in_ald 0 16 else in_no) else
 (if pc = 16 then in_get YX 1 4 19 else in_no)) else
 (if pc < 22 then
 (if pc = 19 then in_get YX 0 3 22 else in_no) else
 (if pc = 22 then in_ild 1 23 else in_no))) else
 (if pc < 28 then
 (if pc < 26 then
 (if pc = 23 then in_v2 YX 2 S_X2_lineOf 26 else in_no) else
 (if pc = 26 then in_push (.int (-4)) 28 else in_no)) else
 (if pc < 31 then
 (if pc = 28 then in_if2 (fun x y => x = y) 40 31 else in_no) else
 (if pc < 32 then
 (if pc = 31 then in_ald 0 32 else in_no) else
 (if pc = 32 then in_ald 0 33 else in_no)))))) else
 (if pc < 50 then
 (if pc < 41 then
 (if pc < 39 then
 (if pc < 36 then
 (if pc = 33 then in_get YX 1 0 36 else in_no) else
 (if pc = 36 then in_v2 YX 1 S_X1_fails 39 else in_no)) else
 (if pc < 40 then
 (if pc = 39 then in_rz else in_no) else
 (if pc = 40 then in_ald 0 41 else in_no))) else
 (if pc < 45 then
 (if pc < 42 then
 (if pc = 41 then in_dup 42 else in_no) else
 (if pc = 42 then in_get YX 1 0 45 else in_no)) else
 (if pc < 46 then
 (if pc = 45 then in_push (.int 1) 46 else in_no) else
 (if pc < 47 then
 (if pc = 46 then in_iii (fun x y => x + y) 47 else in_no) else
 (if pc = 47 then in_put YX 1 0 50 else in_no))))) else
 (if pc < 59 then
 (if pc < 53 then
 (if pc < 51 then
 (if pc = 50 then in_ald 0 51 else in_no) else
 (if pc = 51 then in_push (.int 61) 53 else in_no)) else
 (if pc < 56 then
 (if pc = 53 then in_v2 YX 1 S_X1_eats 56 else in_no) else
 (if pc = 56 then in_if1 (fun x => x = 0) 59 68 else in_no))) else
 (if pc < 61 then
 (if pc < 60 then
 (if pc = 59 then in_ald 0 60 else in_no) else
 (if pc = 60 then in_ald 0 61 else in_no)) else
 (if pc < 64 then
 (if pc = 61 then in_get YX 1 0 64 else in_no) else
 (if pc < 67 then
 (if pc = 64 then in_v2 YX 1 S_X1_fails 67 else in_no) else
 (if pc = 67 then in_rz else in_no))))))) else
 (if pc < 106 then
 (if pc < 89 then
 (if pc < 78 then
 (if pc < 72 then
 (if pc < 69 then
 (if pc = 68 then in_ald 0 69 else in_no) else
 (if pc = 69 then in_get YX 1 4 72 else in_no)) else
 (if pc < 75 then
 (if pc = 72 then in_get YX 0 3 75 else in_no) else
 (if pc = 75 then in_get YX 2 0 78 else in_no))) else
 (if pc < 80 then
 (if pc < 79 then
 (if pc = 78 then in_ist 2 79 else in_no) else
 (if pc = 79 then in_ald 0 80 else in_no)) else
 (if pc < 83 then
 (if pc = 80 then in_get YX 1 4 83 else in_no) else
 (if pc < 86 then
 (if pc = 83 then in_get YX 0 3 86 else in_no) else
 (if pc = 86 then in_get YX 2 2 89 else in_no))))) else
 (if pc < 97 then
 (if pc < 91 then
 (if pc < 90 then
 (if pc = 89 then in_ild 2 90 else in_no) else
 (if pc = 90 then in_ald 0 91 else in_no)) else
 (if pc < 94 then
 (if pc = 91 then in_get YX 1 4 94 else in_no) else
 (if pc = 94 then in_get YX 0 3 97 else in_no))) else
 (if pc < 101 then
 (if pc < 100 then
 (if pc = 97 then in_get YX 2 5 100 else in_no) else
 (if pc = 100 then in_iaw YX 101 else in_no)) else
 (if pc < 102 then
 (if pc = 101 then in_ald 0 102 else in_no) else
 (if pc < 103 then
 (if pc = 102 then in_push (.int 1) 103 else in_no) else
 (if pc = 103 then in_v2 YX 1 S_X1_term 106 else in_no)))))) else
 (if pc < 124 then
 (if pc < 112 then
 (if pc < 110 then
 (if pc < 109 then
 (if pc = 106 then in_if1 (fun x => x = 0) 109 111 else in_no) else
 (if pc = 109 then in_push (.int 0) 110 else in_no)) else
 (if pc < 111 then
 (if pc = 110 then in_rz else in_no) else
 (if pc = 111 then in_ald 0 112 else in_no))) else
 (if pc < 117 then
 (if pc < 115 then
 (if pc = 112 then in_v1 YX 1 S_X1_here 115 else in_no) else
 (if pc = 115 then in_push (.int 43) 117 else in_no)) else
 (if pc < 120 then
 (if pc = 117 then in_if2 (fun x y => x = y) 129 120 else in_no) else
 (if pc < 121 then
 (if pc = 120 then in_ald 0 121 else in_no) else
 (if pc = 121 then in_v1 YX 1 S_X1_here 124 else in_no))))) else
 (if pc < 131 then
 (if pc < 129 then
 (if pc < 126 then
 (if pc = 124 then in_push (.int 45) 126 else in_no) else
 (if pc = 126 then in_if2 (fun x y => x = y) 129 139 else in_no)) else
 (if pc < 130 then
 (if pc = 129 then in_ald 0 130 else in_no) else
 (if pc = 130 then in_push (.int 0) 131 else in_no))) else
 (if pc < 137 then
 (if pc < 134 then
 (if pc = 131 then in_v2 YX 1 S_X1_term 134 else in_no) else
 (if pc = 134 then in_if1 (fun x => x = 0) 137 111 else in_no)) else
 (if pc < 138 then
 (if pc = 137 then in_push (.int 0) 138 else in_no) else
 (if pc < 139 then
 (if pc = 138 then in_rz else in_no) else
 (if pc = 139 then in_ald 0 140 else in_no)))))))) else
 (if pc < 213 then
 (if pc < 177 then
 (if pc < 158 then
 (if pc < 150 then
 (if pc < 146 then
 (if pc < 143 then
 (if pc = 140 then in_get YX 1 4 143 else in_no) else
 (if pc = 143 then in_get YX 0 3 146 else in_no)) else
 (if pc < 149 then
 (if pc = 146 then in_get YX 2 3 149 else in_no) else
 (if pc = 149 then in_ild 2 150 else in_no))) else
 (if pc < 152 then
 (if pc < 151 then
 (if pc = 150 then in_push (.int 1) 151 else in_no) else
 (if pc = 151 then in_iaw YX 152 else in_no)) else
 (if pc < 153 then
 (if pc = 152 then in_ald 0 153 else in_no) else
 (if pc < 155 then
 (if pc = 153 then in_push (.int 47) 155 else in_no) else
 (if pc = 155 then in_v2 YX 1 S_X1_eats 158 else in_no))))) else
 (if pc < 168 then
 (if pc < 162 then
 (if pc < 161 then
 (if pc = 158 then in_if1 (fun x => x = 0) 189 161 else in_no) else
 (if pc = 161 then in_ald 0 162 else in_no)) else
 (if pc < 165 then
 (if pc = 162 then in_push (.int 1000) 165 else in_no) else
 (if pc = 165 then in_v2 YX 1 S_X1_number 168 else in_no))) else
 (if pc < 172 then
 (if pc < 171 then
 (if pc = 168 then in_if1 (fun x => x = 0) 171 173 else in_no) else
 (if pc = 171 then in_push (.int 0) 172 else in_no)) else
 (if pc < 173 then
 (if pc = 172 then in_rz else in_no) else
 (if pc < 174 then
 (if pc = 173 then in_ald 0 174 else in_no) else
 (if pc = 174 then in_get YX 1 4 177 else in_no)))))) else
 (if pc < 196 then
 (if pc < 185 then
 (if pc < 183 then
 (if pc < 180 then
 (if pc = 177 then in_get YX 0 3 180 else in_no) else
 (if pc = 180 then in_get YX 2 3 183 else in_no)) else
 (if pc < 184 then
 (if pc = 183 then in_ild 2 184 else in_no) else
 (if pc = 184 then in_ald 0 185 else in_no))) else
 (if pc < 189 then
 (if pc < 188 then
 (if pc = 185 then in_get YX 1 2 188 else in_no) else
 (if pc = 188 then in_iaw YX 189 else in_no)) else
 (if pc < 190 then
 (if pc = 189 then in_ald 0 190 else in_no) else
 (if pc < 193 then
 (if pc = 190 then in_get YX 1 4 193 else in_no) else
 (if pc = 193 then in_get YX 0 3 196 else in_no))))) else
 (if pc < 203 then
 (if pc < 200 then
 (if pc < 199 then
 (if pc = 196 then in_get YX 2 4 199 else in_no) else
 (if pc = 199 then in_ild 2 200 else in_no)) else
 (if pc < 201 then
 (if pc = 200 then in_ald 0 201 else in_no) else
 (if pc = 201 then in_push (.int 126) 203 else in_no))) else
 (if pc < 207 then
 (if pc < 206 then
 (if pc = 203 then in_v2 YX 1 S_X1_eats 206 else in_no) else
 (if pc = 206 then in_baw YX 207 else in_no)) else
 (if pc < 208 then
 (if pc = 207 then in_ald 0 208 else in_no) else
 (if pc < 210 then
 (if pc = 208 then in_push (.int 59) 210 else in_no) else
 (if pc = 210 then in_v2 YX 1 S_X1_eats 213 else in_no))))))) else
 (if pc < 249 then
 (if pc < 232 then
 (if pc < 221 then
 (if pc < 217 then
 (if pc < 216 then
 (if pc = 213 then in_if1 (fun x => x = 0) 216 225 else in_no) else
 (if pc = 216 then in_ald 0 217 else in_no)) else
 (if pc < 218 then
 (if pc = 217 then in_ald 0 218 else in_no) else
 (if pc = 218 then in_get YX 1 0 221 else in_no))) else
 (if pc < 225 then
 (if pc < 224 then
 (if pc = 221 then in_v2 YX 1 S_X1_fails 224 else in_no) else
 (if pc = 224 then in_rz else in_no)) else
 (if pc < 226 then
 (if pc = 225 then in_ald 0 226 else in_no) else
 (if pc < 229 then
 (if pc = 226 then in_get YX 1 4 229 else in_no) else
 (if pc = 229 then in_get YX 0 3 232 else in_no))))) else
 (if pc < 238 then
 (if pc < 236 then
 (if pc < 235 then
 (if pc = 232 then in_get YX 2 1 235 else in_no) else
 (if pc = 235 then in_ild 2 236 else in_no)) else
 (if pc < 237 then
 (if pc = 236 then in_ild 1 237 else in_no) else
 (if pc = 237 then in_iaw YX 238 else in_no))) else
 (if pc < 242 then
 (if pc < 239 then
 (if pc = 238 then in_ald 0 239 else in_no) else
 (if pc = 239 then in_get YX 1 4 242 else in_no)) else
 (if pc < 245 then
 (if pc = 242 then in_get YX 0 3 245 else in_no) else
 (if pc < 246 then
 (if pc = 245 then in_dup 246 else in_no) else
 (if pc = 246 then in_get YX 2 0 249 else in_no)))))) else
 (if pc < 268 then
 (if pc < 255 then
 (if pc < 251 then
 (if pc < 250 then
 (if pc = 249 then in_push (.int 1) 250 else in_no) else
 (if pc = 250 then in_iii (fun x y => x + y) 251 else in_no)) else
 (if pc < 254 then
 (if pc = 251 then in_put YX 2 0 254 else in_no) else
 (if pc = 254 then in_ald 0 255 else in_no))) else
 (if pc < 261 then
 (if pc < 258 then
 (if pc = 255 then in_get YX 1 4 258 else in_no) else
 (if pc = 258 then in_get YX 0 3 261 else in_no)) else
 (if pc < 264 then
 (if pc = 261 then in_get YX 2 2 264 else in_no) else
 (if pc < 265 then
 (if pc = 264 then in_ald 0 265 else in_no) else
 (if pc = 265 then in_get YX 1 4 268 else in_no))))) else
 (if pc < 278 then
 (if pc < 274 then
 (if pc < 271 then
 (if pc = 268 then in_get YX 0 3 271 else in_no) else
 (if pc = 271 then in_get YX 2 0 274 else in_no)) else
 (if pc < 275 then
 (if pc = 274 then in_ald 0 275 else in_no) else
 (if pc = 275 then in_get YX 1 4 278 else in_no))) else
 (if pc < 284 then
 (if pc < 281 then
 (if pc = 278 then in_get YX 0 3 281 else in_no) else
 (if pc = 281 then in_get YX 2 5 284 else in_no)) else
 (if pc < 285 then
 (if pc = 284 then in_iaw YX 285 else in_no) else
 (if pc < 286 then
 (if pc = 285 then in_push (.int 1) 286 else in_no) else
 (if pc = 286 then in_rz else in_no)))))))))
theorem tk_X1_line {l : Launch} {w : ma_Wd} {NC : Nat} {A : Nat → Prop} {S_X1_here S_X0_isLetter S_X2_lineOf S_X1_fails S_X1_eats S_X1_term S_X1_number : ma_Cs} (h_X1_here : ma_Sd l w YX NC A yX1_here cX1_here 1 (some .int) rm_X1_here S_X1_here) (h_X0_isLetter : ma_Sd l w YX NC A yX0_isLetter cX0_isLetter 1 (some .boolean) rm_X0_isLetter S_X0_isLetter) (h_X2_lineOf : ma_Sd l w YX NC A yX2_lineOf cX2_lineOf 3 (some .int) rm_X2_lineOf S_X2_lineOf) (h_X1_fails : ma_Sd l w YX NC A yX1_fails cX1_fails 2 (some .boolean) rm_X1_fails S_X1_fails) (h_X1_eats : ma_Sd l w YX NC A yX1_eats cX1_eats 3 (some .boolean) rm_X1_eats S_X1_eats) (h_X1_term : ma_Sd l w YX NC A yX1_term cX1_term 5 (some .boolean) rm_X1_term S_X1_term) (h_X1_number : ma_Sd l w YX NC A yX1_number cX1_number 4 (some .boolean) rm_X1_number S_X1_number) {p : Program} {e : Env} {s : State} {m : MethodId} {args : Array Value} {below : List Frame} {meth : Method} {c : Code} (X : ma_Cx p s m args meth c w YX NC A yX1_line.cls cX1_line 3 (some .boolean)) : ∀ pc, ma_Ok p l e rm_X1_line s m args below meth c w YX NC A 3 pc (tb_X1_line S_X1_here S_X0_isLetter S_X2_lineOf S_X1_fails S_X1_eats S_X1_term S_X1_number pc) := fun pc =>
 (mk_lt
 (mk_lt
 (mk_lt
 (mk_lt
 (mk_lt
 (mk_lt
 (mk_lt
 (mk_eq (mk_aload_n X dX1_line_0 rfl rfl))
 (mk_eq (mk_V1 X h_X1_here (ci := 1) rfl (lw_V q399 q401 qs4 q62 q402) ⟨rfl, by decide, by decide, rfl⟩ ⟨(Nat.le_of_ble_eq_true rfl), (Nat.le_of_ble_eq_true rfl)⟩ dX1_line_1 rfl)))
 (mk_lt
 (mk_eq (mk_bipush X dX1_line_4 rfl rfl))
 (mk_eq (mk_isub X dX1_line_6 rfl))))
 (mk_lt
 (mk_lt
 (mk_eq (mk_istore_n X dX1_line_7 rfl (Nat.le_of_ble_eq_true rfl) rfl))
 (mk_eq (mk_iload_n X dX1_line_8 rfl rfl)))
 (mk_lt
 (mk_eq (mk_SN1 X h_X0_isLetter (lw_meth q373) (List.mem_of_getElem? (i := 5) rfl) q61 q372 ⟨by decide, by decide, rfl⟩ ⟨(Nat.le_of_ble_eq_true rfl), (Nat.le_of_ble_eq_true rfl)⟩ dX1_line_9 rfl))
 (mk_eq (mk_ifeq X dX1_line_12 rfl rfl)))))
 (mk_lt
 (mk_lt
 (mk_lt
 (mk_eq (mk_aload_n X dX1_line_15 rfl rfl))
 (mk_eq (mk_get X (ci := 1) (j := 4) rfl in_X1 (Nat.le_of_ble_eq_true rfl) q88 dX1_line_16 rfl)))
 (mk_lt
 (mk_eq (mk_getN X (ci := 0) (j := 3) rfl in_X0 (Nat.le_of_ble_eq_true rfl) (List.mem_of_getElem? (i := 18) rfl) dX1_line_19 rfl))
 (mk_eq (mk_iload_n X dX1_line_22 rfl rfl))))
 (mk_lt
 (mk_lt
 (mk_eq (mk_V2 X h_X2_lineOf (ci := 2) rfl (lw_V q404 q405 q406 q63 q407) ⟨rfl, by decide, by decide, rfl⟩ ⟨(Nat.le_of_ble_eq_true rfl), (Nat.le_of_ble_eq_true rfl)⟩ dX1_line_23 rfl))
 (mk_eq (mk_bipush X dX1_line_26 rfl rfl)))
 (mk_lt
 (mk_eq (mk_iceq X dX1_line_28 rfl rfl))
 (mk_lt
 (mk_eq (mk_aload_n X dX1_line_31 rfl rfl))
 (mk_eq (mk_aload_n X dX1_line_32 rfl rfl)))))))
 (mk_lt
 (mk_lt
 (mk_lt
 (mk_lt
 (mk_eq (mk_get X (ci := 1) (j := 0) rfl in_X1 (Nat.le_of_ble_eq_true rfl) q84 dX1_line_33 rfl))
 (mk_eq (mk_V2 X h_X1_fails (ci := 1) rfl (lw_V q408 q410 qs5 q62 q411) ⟨rfl, by decide, by decide, rfl⟩ ⟨(Nat.le_of_ble_eq_true rfl), (Nat.le_of_ble_eq_true rfl)⟩ dX1_line_36 rfl)))
 (mk_lt
 (mk_eq (mk_rz X dX1_line_39))
 (mk_eq (mk_aload_n X dX1_line_40 rfl rfl))))
 (mk_lt
 (mk_lt
 (mk_eq (mk_dup X dX1_line_41 rfl))
 (mk_eq (mk_get X (ci := 1) (j := 0) rfl in_X1 (Nat.le_of_ble_eq_true rfl) q84 dX1_line_42 rfl)))
 (mk_lt
 (mk_eq (mk_iconst X dX1_line_45 rfl rfl))
 (mk_lt
 (mk_eq (mk_iadd X dX1_line_46 rfl))
 (mk_eq (mk_put X (ci := 1) (j := 0) rfl in_X1 tyX1_ok nmX1 (Nat.le_of_ble_eq_true rfl) rfl rfl q84 dX1_line_47 rfl))))))
 (mk_lt
 (mk_lt
 (mk_lt
 (mk_eq (mk_aload_n X dX1_line_50 rfl rfl))
 (mk_eq (mk_bipush X dX1_line_51 rfl rfl)))
 (mk_lt
 (mk_eq (mk_V2 X h_X1_eats (ci := 1) rfl (lw_V q412 q414 qs6 q62 q415) ⟨rfl, by decide, by decide, rfl⟩ ⟨(Nat.le_of_ble_eq_true rfl), (Nat.le_of_ble_eq_true rfl)⟩ dX1_line_53 rfl))
 (mk_eq (mk_ifne X dX1_line_56 rfl rfl))))
 (mk_lt
 (mk_lt
 (mk_eq (mk_aload_n X dX1_line_59 rfl rfl))
 (mk_eq (mk_aload_n X dX1_line_60 rfl rfl)))
 (mk_lt
 (mk_eq (mk_get X (ci := 1) (j := 0) rfl in_X1 (Nat.le_of_ble_eq_true rfl) q84 dX1_line_61 rfl))
 (mk_lt
 (mk_eq (mk_V2 X h_X1_fails (ci := 1) rfl (lw_V q408 q410 qs5 q62 q411) ⟨rfl, by decide, by decide, rfl⟩ ⟨(Nat.le_of_ble_eq_true rfl), (Nat.le_of_ble_eq_true rfl)⟩ dX1_line_64 rfl))
 (mk_eq (mk_rz X dX1_line_67))))))))
 (mk_lt
 (mk_lt
 (mk_lt
 (mk_lt
 (mk_lt
 (mk_eq (mk_aload_n X dX1_line_68 rfl rfl))
 (mk_eq (mk_get X (ci := 1) (j := 4) rfl in_X1 (Nat.le_of_ble_eq_true rfl) q88 dX1_line_69 rfl)))
 (mk_lt
 (mk_eq (mk_getN X (ci := 0) (j := 3) rfl in_X0 (Nat.le_of_ble_eq_true rfl) (List.mem_of_getElem? (i := 18) rfl) dX1_line_72 rfl))
 (mk_eq (mk_getN X (ci := 2) (j := 0) rfl in_X2 (Nat.le_of_ble_eq_true rfl) (List.mem_of_getElem? (i := 7) rfl) dX1_line_75 rfl))))
 (mk_lt
 (mk_lt
 (mk_eq (mk_istore_n X dX1_line_78 rfl (Nat.le_of_ble_eq_true rfl) rfl))
 (mk_eq (mk_aload_n X dX1_line_79 rfl rfl)))
 (mk_lt
 (mk_eq (mk_get X (ci := 1) (j := 4) rfl in_X1 (Nat.le_of_ble_eq_true rfl) q88 dX1_line_80 rfl))
 (mk_lt
 (mk_eq (mk_getN X (ci := 0) (j := 3) rfl in_X0 (Nat.le_of_ble_eq_true rfl) (List.mem_of_getElem? (i := 18) rfl) dX1_line_83 rfl))
 (mk_eq (mk_getN X (ci := 2) (j := 2) rfl in_X2 (Nat.le_of_ble_eq_true rfl) (List.mem_of_getElem? (i := 9) rfl) dX1_line_86 rfl))))))
 (mk_lt
 (mk_lt
 (mk_lt
 (mk_eq (mk_iload_n X dX1_line_89 rfl rfl))
 (mk_eq (mk_aload_n X dX1_line_90 rfl rfl)))
 (mk_lt
 (mk_eq (mk_get X (ci := 1) (j := 4) rfl in_X1 (Nat.le_of_ble_eq_true rfl) q88 dX1_line_91 rfl))
 (mk_eq (mk_getN X (ci := 0) (j := 3) rfl in_X0 (Nat.le_of_ble_eq_true rfl) (List.mem_of_getElem? (i := 18) rfl) dX1_line_94 rfl))))
 (mk_lt
 (mk_lt
 (mk_eq (mk_getN X (ci := 2) (j := 5) rfl in_X2 (Nat.le_of_ble_eq_true rfl) (List.mem_of_getElem? (i := 12) rfl) dX1_line_97 rfl))
 (mk_eq (mk_iaw X dX1_line_100 rfl)))
 (mk_lt
 (mk_eq (mk_aload_n X dX1_line_101 rfl rfl))
 (mk_lt
 (mk_eq (mk_iconst X dX1_line_102 rfl rfl))
 (mk_eq (mk_V2 X h_X1_term (ci := 1) rfl (lw_V q416 q418 qs7 q62 q419) ⟨rfl, by decide, by decide, rfl⟩ ⟨(Nat.le_of_ble_eq_true rfl), (Nat.le_of_ble_eq_true rfl)⟩ dX1_line_103 rfl)))))))
 (mk_lt
 (mk_lt
 (mk_lt
 (mk_lt
 (mk_eq (mk_ifne X dX1_line_106 rfl rfl))
 (mk_eq (mk_iconst X dX1_line_109 rfl rfl)))
 (mk_lt
 (mk_eq (mk_rz X dX1_line_110))
 (mk_eq (mk_aload_n X dX1_line_111 rfl rfl))))
 (mk_lt
 (mk_lt
 (mk_eq (mk_V1 X h_X1_here (ci := 1) rfl (lw_V q399 q401 qs4 q62 q402) ⟨rfl, by decide, by decide, rfl⟩ ⟨(Nat.le_of_ble_eq_true rfl), (Nat.le_of_ble_eq_true rfl)⟩ dX1_line_112 rfl))
 (mk_eq (mk_bipush X dX1_line_115 rfl rfl)))
 (mk_lt
 (mk_eq (mk_iceq X dX1_line_117 rfl rfl))
 (mk_lt
 (mk_eq (mk_aload_n X dX1_line_120 rfl rfl))
 (mk_eq (mk_V1 X h_X1_here (ci := 1) rfl (lw_V q399 q401 qs4 q62 q402) ⟨rfl, by decide, by decide, rfl⟩ ⟨(Nat.le_of_ble_eq_true rfl), (Nat.le_of_ble_eq_true rfl)⟩ dX1_line_121 rfl))))))
 (mk_lt
 (mk_lt
 (mk_lt
 (mk_eq (mk_bipush X dX1_line_124 rfl rfl))
 (mk_eq (mk_icne X dX1_line_126 rfl rfl)))
 (mk_lt
 (mk_eq (mk_aload_n X dX1_line_129 rfl rfl))
 (mk_eq (mk_iconst X dX1_line_130 rfl rfl))))
 (mk_lt
 (mk_lt
 (mk_eq (mk_V2 X h_X1_term (ci := 1) rfl (lw_V q416 q418 qs7 q62 q419) ⟨rfl, by decide, by decide, rfl⟩ ⟨(Nat.le_of_ble_eq_true rfl), (Nat.le_of_ble_eq_true rfl)⟩ dX1_line_131 rfl))
 (mk_eq (mk_ifne X dX1_line_134 rfl rfl)))
 (mk_lt
 (mk_eq (mk_iconst X dX1_line_137 rfl rfl))
 (mk_lt
 (mk_eq (mk_rz X dX1_line_138))
 (mk_eq (mk_aload_n X dX1_line_139 rfl rfl)))))))))
 (mk_lt
 (mk_lt
 (mk_lt
 (mk_lt
 (mk_lt
 (mk_lt
 (mk_eq (mk_get X (ci := 1) (j := 4) rfl in_X1 (Nat.le_of_ble_eq_true rfl) q88 dX1_line_140 rfl))
 (mk_eq (mk_getN X (ci := 0) (j := 3) rfl in_X0 (Nat.le_of_ble_eq_true rfl) (List.mem_of_getElem? (i := 18) rfl) dX1_line_143 rfl)))
 (mk_lt
 (mk_eq (mk_getN X (ci := 2) (j := 3) rfl in_X2 (Nat.le_of_ble_eq_true rfl) (List.mem_of_getElem? (i := 10) rfl) dX1_line_146 rfl))
 (mk_eq (mk_iload_n X dX1_line_149 rfl rfl))))
 (mk_lt
 (mk_lt
 (mk_eq (mk_iconst X dX1_line_150 rfl rfl))
 (mk_eq (mk_iaw X dX1_line_151 rfl)))
 (mk_lt
 (mk_eq (mk_aload_n X dX1_line_152 rfl rfl))
 (mk_lt
 (mk_eq (mk_bipush X dX1_line_153 rfl rfl))
 (mk_eq (mk_V2 X h_X1_eats (ci := 1) rfl (lw_V q412 q414 qs6 q62 q415) ⟨rfl, by decide, by decide, rfl⟩ ⟨(Nat.le_of_ble_eq_true rfl), (Nat.le_of_ble_eq_true rfl)⟩ dX1_line_155 rfl))))))
 (mk_lt
 (mk_lt
 (mk_lt
 (mk_eq (mk_ifeq X dX1_line_158 rfl rfl))
 (mk_eq (mk_aload_n X dX1_line_161 rfl rfl)))
 (mk_lt
 (mk_eq (mk_sipush X dX1_line_162 rfl rfl))
 (mk_eq (mk_V2 X h_X1_number (ci := 1) rfl (lw_V q427 q429 qs9 q62 q430) ⟨rfl, by decide, by decide, rfl⟩ ⟨(Nat.le_of_ble_eq_true rfl), (Nat.le_of_ble_eq_true rfl)⟩ dX1_line_165 rfl))))
 (mk_lt
 (mk_lt
 (mk_eq (mk_ifne X dX1_line_168 rfl rfl))
 (mk_eq (mk_iconst X dX1_line_171 rfl rfl)))
 (mk_lt
 (mk_eq (mk_rz X dX1_line_172))
 (mk_lt
 (mk_eq (mk_aload_n X dX1_line_173 rfl rfl))
 (mk_eq (mk_get X (ci := 1) (j := 4) rfl in_X1 (Nat.le_of_ble_eq_true rfl) q88 dX1_line_174 rfl)))))))
 (mk_lt
 (mk_lt
 (mk_lt
 (mk_lt
 (mk_eq (mk_getN X (ci := 0) (j := 3) rfl in_X0 (Nat.le_of_ble_eq_true rfl) (List.mem_of_getElem? (i := 18) rfl) dX1_line_177 rfl))
 (mk_eq (mk_getN X (ci := 2) (j := 3) rfl in_X2 (Nat.le_of_ble_eq_true rfl) (List.mem_of_getElem? (i := 10) rfl) dX1_line_180 rfl)))
 (mk_lt
 (mk_eq (mk_iload_n X dX1_line_183 rfl rfl))
 (mk_eq (mk_aload_n X dX1_line_184 rfl rfl))))
 (mk_lt
 (mk_lt
 (mk_eq (mk_get X (ci := 1) (j := 2) rfl in_X1 (Nat.le_of_ble_eq_true rfl) q86 dX1_line_185 rfl))
 (mk_eq (mk_iaw X dX1_line_188 rfl)))
 (mk_lt
 (mk_eq (mk_aload_n X dX1_line_189 rfl rfl))
 (mk_lt
 (mk_eq (mk_get X (ci := 1) (j := 4) rfl in_X1 (Nat.le_of_ble_eq_true rfl) q88 dX1_line_190 rfl))
 (mk_eq (mk_getN X (ci := 0) (j := 3) rfl in_X0 (Nat.le_of_ble_eq_true rfl) (List.mem_of_getElem? (i := 18) rfl) dX1_line_193 rfl))))))
 (mk_lt
 (mk_lt
 (mk_lt
 (mk_eq (mk_getN X (ci := 2) (j := 4) rfl in_X2 (Nat.le_of_ble_eq_true rfl) (List.mem_of_getElem? (i := 11) rfl) dX1_line_196 rfl))
 (mk_eq (mk_iload_n X dX1_line_199 rfl rfl)))
 (mk_lt
 (mk_eq (mk_aload_n X dX1_line_200 rfl rfl))
 (mk_eq (mk_bipush X dX1_line_201 rfl rfl))))
 (mk_lt
 (mk_lt
 (mk_eq (mk_V2 X h_X1_eats (ci := 1) rfl (lw_V q412 q414 qs6 q62 q415) ⟨rfl, by decide, by decide, rfl⟩ ⟨(Nat.le_of_ble_eq_true rfl), (Nat.le_of_ble_eq_true rfl)⟩ dX1_line_203 rfl))
 (mk_eq (mk_baw X dX1_line_206 rfl)))
 (mk_lt
 (mk_eq (mk_aload_n X dX1_line_207 rfl rfl))
 (mk_lt
 (mk_eq (mk_bipush X dX1_line_208 rfl rfl))
 (mk_eq (mk_V2 X h_X1_eats (ci := 1) rfl (lw_V q412 q414 qs6 q62 q415) ⟨rfl, by decide, by decide, rfl⟩ ⟨(Nat.le_of_ble_eq_true rfl), (Nat.le_of_ble_eq_true rfl)⟩ dX1_line_210 rfl))))))))
 (mk_lt
 (mk_lt
 (mk_lt
 (mk_lt
 (mk_lt
 (mk_eq (mk_ifne X dX1_line_213 rfl rfl))
 (mk_eq (mk_aload_n X dX1_line_216 rfl rfl)))
 (mk_lt
 (mk_eq (mk_aload_n X dX1_line_217 rfl rfl))
 (mk_eq (mk_get X (ci := 1) (j := 0) rfl in_X1 (Nat.le_of_ble_eq_true rfl) q84 dX1_line_218 rfl))))
 (mk_lt
 (mk_lt
 (mk_eq (mk_V2 X h_X1_fails (ci := 1) rfl (lw_V q408 q410 qs5 q62 q411) ⟨rfl, by decide, by decide, rfl⟩ ⟨(Nat.le_of_ble_eq_true rfl), (Nat.le_of_ble_eq_true rfl)⟩ dX1_line_221 rfl))
 (mk_eq (mk_rz X dX1_line_224)))
 (mk_lt
 (mk_eq (mk_aload_n X dX1_line_225 rfl rfl))
 (mk_lt
 (mk_eq (mk_get X (ci := 1) (j := 4) rfl in_X1 (Nat.le_of_ble_eq_true rfl) q88 dX1_line_226 rfl))
 (mk_eq (mk_getN X (ci := 0) (j := 3) rfl in_X0 (Nat.le_of_ble_eq_true rfl) (List.mem_of_getElem? (i := 18) rfl) dX1_line_229 rfl))))))
 (mk_lt
 (mk_lt
 (mk_lt
 (mk_eq (mk_getN X (ci := 2) (j := 1) rfl in_X2 (Nat.le_of_ble_eq_true rfl) (List.mem_of_getElem? (i := 8) rfl) dX1_line_232 rfl))
 (mk_eq (mk_iload_n X dX1_line_235 rfl rfl)))
 (mk_lt
 (mk_eq (mk_iload_n X dX1_line_236 rfl rfl))
 (mk_eq (mk_iaw X dX1_line_237 rfl))))
 (mk_lt
 (mk_lt
 (mk_eq (mk_aload_n X dX1_line_238 rfl rfl))
 (mk_eq (mk_get X (ci := 1) (j := 4) rfl in_X1 (Nat.le_of_ble_eq_true rfl) q88 dX1_line_239 rfl)))
 (mk_lt
 (mk_eq (mk_getN X (ci := 0) (j := 3) rfl in_X0 (Nat.le_of_ble_eq_true rfl) (List.mem_of_getElem? (i := 18) rfl) dX1_line_242 rfl))
 (mk_lt
 (mk_eq (mk_dup X dX1_line_245 rfl))
 (mk_eq (mk_getN X (ci := 2) (j := 0) rfl in_X2 (Nat.le_of_ble_eq_true rfl) (List.mem_of_getElem? (i := 7) rfl) dX1_line_246 rfl)))))))
 (mk_lt
 (mk_lt
 (mk_lt
 (mk_lt
 (mk_eq (mk_iconst X dX1_line_249 rfl rfl))
 (mk_eq (mk_iadd X dX1_line_250 rfl)))
 (mk_lt
 (mk_eq (mk_putN X (ci := 2) (j := 0) rfl in_X2 tyX2_ok nmX2 (Nat.le_of_ble_eq_true rfl) rfl rfl (List.mem_of_getElem? (i := 7) rfl) dX1_line_251 rfl))
 (mk_eq (mk_aload_n X dX1_line_254 rfl rfl))))
 (mk_lt
 (mk_lt
 (mk_eq (mk_get X (ci := 1) (j := 4) rfl in_X1 (Nat.le_of_ble_eq_true rfl) q88 dX1_line_255 rfl))
 (mk_eq (mk_getN X (ci := 0) (j := 3) rfl in_X0 (Nat.le_of_ble_eq_true rfl) (List.mem_of_getElem? (i := 18) rfl) dX1_line_258 rfl)))
 (mk_lt
 (mk_eq (mk_getN X (ci := 2) (j := 2) rfl in_X2 (Nat.le_of_ble_eq_true rfl) (List.mem_of_getElem? (i := 9) rfl) dX1_line_261 rfl))
 (mk_lt
 (mk_eq (mk_aload_n X dX1_line_264 rfl rfl))
 (mk_eq (mk_get X (ci := 1) (j := 4) rfl in_X1 (Nat.le_of_ble_eq_true rfl) q88 dX1_line_265 rfl))))))
 (mk_lt
 (mk_lt
 (mk_lt
 (mk_eq (mk_getN X (ci := 0) (j := 3) rfl in_X0 (Nat.le_of_ble_eq_true rfl) (List.mem_of_getElem? (i := 18) rfl) dX1_line_268 rfl))
 (mk_eq (mk_getN X (ci := 2) (j := 0) rfl in_X2 (Nat.le_of_ble_eq_true rfl) (List.mem_of_getElem? (i := 7) rfl) dX1_line_271 rfl)))
 (mk_lt
 (mk_eq (mk_aload_n X dX1_line_274 rfl rfl))
 (mk_eq (mk_get X (ci := 1) (j := 4) rfl in_X1 (Nat.le_of_ble_eq_true rfl) q88 dX1_line_275 rfl))))
 (mk_lt
 (mk_lt
 (mk_eq (mk_getN X (ci := 0) (j := 3) rfl in_X0 (Nat.le_of_ble_eq_true rfl) (List.mem_of_getElem? (i := 18) rfl) dX1_line_278 rfl))
 (mk_eq (mk_getN X (ci := 2) (j := 5) rfl in_X2 (Nat.le_of_ble_eq_true rfl) (List.mem_of_getElem? (i := 12) rfl) dX1_line_281 rfl)))
 (mk_lt
 (mk_eq (mk_iaw X dX1_line_284 rfl))
 (mk_lt
 (mk_eq (mk_iconst X dX1_line_285 rfl rfl))
 (mk_eq (mk_rz X dX1_line_286))))))))))
theorem sd_X1_line {l : Launch} {w : ma_Wd} {NC : Nat} {A : Nat → Prop} {S_X1_here S_X0_isLetter S_X2_lineOf S_X1_fails S_X1_eats S_X1_term S_X1_number : ma_Cs} (hw : ma_Wo w YX NC A) (h_X1_here : ma_Sd l w YX NC A yX1_here cX1_here 1 (some .int) rm_X1_here S_X1_here) (h_X0_isLetter : ma_Sd l w YX NC A yX0_isLetter cX0_isLetter 1 (some .boolean) rm_X0_isLetter S_X0_isLetter) (h_X2_lineOf : ma_Sd l w YX NC A yX2_lineOf cX2_lineOf 3 (some .int) rm_X2_lineOf S_X2_lineOf) (h_X1_fails : ma_Sd l w YX NC A yX1_fails cX1_fails 2 (some .boolean) rm_X1_fails S_X1_fails) (h_X1_eats : ma_Sd l w YX NC A yX1_eats cX1_eats 3 (some .boolean) rm_X1_eats S_X1_eats) (h_X1_term : ma_Sd l w YX NC A yX1_term cX1_term 5 (some .boolean) rm_X1_term S_X1_term) (h_X1_number : ma_Sd l w YX NC A yX1_number cX1_number 4 (some .boolean) rm_X1_number S_X1_number) : ma_Sd l w YX NC A yX1_line cX1_line 3 (some .boolean) rm_X1_line (ma_rn (tb_X1_line S_X1_here S_X0_isLetter S_X2_lineOf S_X1_fails S_X1_eats S_X1_term S_X1_number) 3) := ma_of hw (by decide) ⟨rfl, rfl⟩ (fun X => tk_X1_line h_X1_here h_X0_isLetter h_X2_lineOf h_X1_fails h_X1_eats h_X1_term h_X1_number X)
theorem dX1_here_0 : decode cX1_here 0 = .ok (.aload_n 0, 1) := by decide +kernel
theorem dX1_here_1 : decode cX1_here 1 = .ok (.getfield 15, 3) := by decide +kernel
theorem dX1_here_4 : decode cX1_here 4 = .ok (.aload_n 0, 1) := by decide +kernel
theorem dX1_here_5 : decode cX1_here 5 = .ok (.getfield 3, 3) := by decide +kernel
theorem dX1_here_8 : decode cX1_here 8 = .ok (.getfield 19, 3) := by decide +kernel
theorem dX1_here_11 : decode cX1_here 11 = .ok (.if_icmp .ge 18, 3) := by decide +kernel
theorem dX1_here_14 : decode cX1_here 14 = .ok (.aload_n 0, 1) := by decide +kernel
theorem dX1_here_15 : decode cX1_here 15 = .ok (.getfield 3, 3) := by decide +kernel
theorem dX1_here_18 : decode cX1_here 18 = .ok (.getfield 22, 3) := by decide +kernel
theorem dX1_here_21 : decode cX1_here 21 = .ok (.aload_n 0, 1) := by decide +kernel
theorem dX1_here_22 : decode cX1_here 22 = .ok (.getfield 15, 3) := by decide +kernel
theorem dX1_here_25 : decode cX1_here 25 = .ok (.baload, 1) := by decide +kernel
theorem dX1_here_26 : decode cX1_here 26 = .ok (.goto 4, 3) := by decide +kernel
theorem dX1_here_29 : decode cX1_here 29 = .ok (.iconst 0, 1) := by decide +kernel
theorem dX1_here_30 : decode cX1_here 30 = .ok (.ireturn, 1) := by decide +kernel
def tb_X1_here : Nat → ma_In := fun pc =>
 (if pc < 15 then
 (if pc < 5 then
 (if pc < 1 then
 (if pc = 0 then in_ald 0 1 else in_no) else
 (if pc < 4 then
 (if pc = 1 then in_get YX 1 0 4 else in_no) else
 (if pc = 4 then in_ald 0 5 else in_no))) else
 (if pc < 11 then
 (if pc < 8 then
 (if pc = 5 then in_get YX 1 4 8 else in_no) else
 (if pc = 8 then in_get YX 0 0 11 else in_no)) else
 (if pc < 14 then
 (if pc = 11 then in_if2 (fun x y => y ≤ x) 29 14 else in_no) else
 (if pc = 14 then in_ald 0 15 else in_no)))) else
 (if pc < 25 then
 (if pc < 21 then
 (if pc < 18 then
 (if pc = 15 then in_get YX 1 4 18 else in_no) else
 (if pc = 18 then in_get YX 0 1 21 else in_no)) else
 (if pc < 22 then
 (if pc = 21 then in_ald 0 22 else in_no) else
 (if pc = 22 then in_get YX 1 0 25 else in_no))) else
 (if pc < 29 then
 (if pc < 26 then
 (if pc = 25 then in_bar YX 26 else in_no) else
 (if pc = 26 then in_go 30 else in_no)) else
 (if pc < 30 then
 (if pc = 29 then in_push (.int 0) 30 else in_no) else
 (if pc = 30 then in_ri else in_no)))))
theorem tk_X1_here {l : Launch} {w : ma_Wd} {NC : Nat} {A : Nat → Prop} {p : Program} {e : Env} {s : State} {m : MethodId} {args : Array Value} {below : List Frame} {meth : Method} {c : Code} (X : ma_Cx p s m args meth c w YX NC A yX1_here.cls cX1_here 1 (some .int)) : ∀ pc, ma_Ok p l e rm_X1_here s m args below meth c w YX NC A 1 pc (tb_X1_here pc) := fun pc =>
 (mk_lt
 (mk_lt
 (mk_lt
 (mk_eq (mk_aload_n X dX1_here_0 rfl rfl))
 (mk_lt
 (mk_eq (mk_get X (ci := 1) (j := 0) rfl in_X1 (Nat.le_of_ble_eq_true rfl) q84 dX1_here_1 rfl))
 (mk_eq (mk_aload_n X dX1_here_4 rfl rfl))))
 (mk_lt
 (mk_lt
 (mk_eq (mk_get X (ci := 1) (j := 4) rfl in_X1 (Nat.le_of_ble_eq_true rfl) q88 dX1_here_5 rfl))
 (mk_eq (mk_getN X (ci := 0) (j := 0) rfl in_X0 (Nat.le_of_ble_eq_true rfl) (List.mem_of_getElem? (i := 16) rfl) dX1_here_8 rfl)))
 (mk_lt
 (mk_eq (mk_icge X dX1_here_11 rfl rfl))
 (mk_eq (mk_aload_n X dX1_here_14 rfl rfl)))))
 (mk_lt
 (mk_lt
 (mk_lt
 (mk_eq (mk_get X (ci := 1) (j := 4) rfl in_X1 (Nat.le_of_ble_eq_true rfl) q88 dX1_here_15 rfl))
 (mk_eq (mk_getN X (ci := 0) (j := 1) rfl in_X0 (Nat.le_of_ble_eq_true rfl) (List.mem_of_getElem? (i := 17) rfl) dX1_here_18 rfl)))
 (mk_lt
 (mk_eq (mk_aload_n X dX1_here_21 rfl rfl))
 (mk_eq (mk_get X (ci := 1) (j := 0) rfl in_X1 (Nat.le_of_ble_eq_true rfl) q84 dX1_here_22 rfl))))
 (mk_lt
 (mk_lt
 (mk_eq (mk_bar X dX1_here_25 rfl))
 (mk_eq (mk_goto X dX1_here_26 rfl)))
 (mk_lt
 (mk_eq (mk_iconst X dX1_here_29 rfl rfl))
 (mk_eq (mk_ri X dX1_here_30))))))
theorem sd_X1_here {l : Launch} {w : ma_Wd} {NC : Nat} {A : Nat → Prop} (hw : ma_Wo w YX NC A) : ma_Sd l w YX NC A yX1_here cX1_here 1 (some .int) rm_X1_here (ma_rn (tb_X1_here) 1) := ma_of hw (by decide) ⟨rfl, rfl⟩ (fun X => tk_X1_here  X)
theorem dX1_fails_0 : decode cX1_fails 0 = .ok (.aload_n 0, 1) := by decide +kernel
theorem dX1_fails_1 : decode cX1_fails 1 = .ok (.iload_n 1, 1) := by decide +kernel
theorem dX1_fails_2 : decode cX1_fails 2 = .ok (.putfield 26, 3) := by decide +kernel
theorem dX1_fails_5 : decode cX1_fails 5 = .ok (.iconst 0, 1) := by decide +kernel
theorem dX1_fails_6 : decode cX1_fails 6 = .ok (.ireturn, 1) := by decide +kernel
def tb_X1_fails : Nat → ma_In := fun pc =>
 (if pc < 2 then
 (if pc < 1 then
 (if pc = 0 then in_ald 0 1 else in_no) else
 (if pc = 1 then in_ild 1 2 else in_no)) else
 (if pc < 5 then
 (if pc = 2 then in_put YX 1 1 5 else in_no) else
 (if pc < 6 then
 (if pc = 5 then in_push (.int 0) 6 else in_no) else
 (if pc = 6 then in_rz else in_no))))
theorem tk_X1_fails {l : Launch} {w : ma_Wd} {NC : Nat} {A : Nat → Prop} {p : Program} {e : Env} {s : State} {m : MethodId} {args : Array Value} {below : List Frame} {meth : Method} {c : Code} (X : ma_Cx p s m args meth c w YX NC A yX1_fails.cls cX1_fails 2 (some .boolean)) : ∀ pc, ma_Ok p l e rm_X1_fails s m args below meth c w YX NC A 2 pc (tb_X1_fails pc) := fun pc =>
 (mk_lt
 (mk_lt
 (mk_eq (mk_aload_n X dX1_fails_0 rfl rfl))
 (mk_eq (mk_iload_n X dX1_fails_1 rfl rfl)))
 (mk_lt
 (mk_eq (mk_put X (ci := 1) (j := 1) rfl in_X1 tyX1_ok nmX1 (Nat.le_of_ble_eq_true rfl) rfl rfl q85 dX1_fails_2 rfl))
 (mk_lt
 (mk_eq (mk_iconst X dX1_fails_5 rfl rfl))
 (mk_eq (mk_rz X dX1_fails_6)))))
theorem sd_X1_fails {l : Launch} {w : ma_Wd} {NC : Nat} {A : Nat → Prop} (hw : ma_Wo w YX NC A) : ma_Sd l w YX NC A yX1_fails cX1_fails 2 (some .boolean) rm_X1_fails (ma_rn (tb_X1_fails) 2) := ma_of hw (by decide) ⟨rfl, rfl⟩ (fun X => tk_X1_fails  X)
theorem dX1_eats_0 : decode cX1_eats 0 = .ok (.aload_n 0, 1) := by decide +kernel
theorem dX1_eats_1 : decode cX1_eats 1 = .ok (.invokevirtual 29, 3) := by decide +kernel
theorem dX1_eats_4 : decode cX1_eats 4 = .ok (.iload_n 1, 1) := by decide +kernel
theorem dX1_eats_5 : decode cX1_eats 5 = .ok (.if_icmp .ne 7, 3) := by decide +kernel
theorem dX1_eats_8 : decode cX1_eats 8 = .ok (.iconst 1, 1) := by decide +kernel
theorem dX1_eats_9 : decode cX1_eats 9 = .ok (.goto 4, 3) := by decide +kernel
theorem dX1_eats_12 : decode cX1_eats 12 = .ok (.iconst 0, 1) := by decide +kernel
theorem dX1_eats_13 : decode cX1_eats 13 = .ok (.istore_n 2, 1) := by decide +kernel
theorem dX1_eats_14 : decode cX1_eats 14 = .ok (.aload_n 0, 1) := by decide +kernel
theorem dX1_eats_15 : decode cX1_eats 15 = .ok (.dup, 1) := by decide +kernel
theorem dX1_eats_16 : decode cX1_eats 16 = .ok (.getfield 15, 3) := by decide +kernel
theorem dX1_eats_19 : decode cX1_eats 19 = .ok (.iload_n 2, 1) := by decide +kernel
theorem dX1_eats_20 : decode cX1_eats 20 = .ok (.ifCond .eq 7, 3) := by decide +kernel
theorem dX1_eats_23 : decode cX1_eats 23 = .ok (.iconst 1, 1) := by decide +kernel
theorem dX1_eats_24 : decode cX1_eats 24 = .ok (.goto 4, 3) := by decide +kernel
theorem dX1_eats_27 : decode cX1_eats 27 = .ok (.iconst 0, 1) := by decide +kernel
theorem dX1_eats_28 : decode cX1_eats 28 = .ok (.iadd, 1) := by decide +kernel
theorem dX1_eats_29 : decode cX1_eats 29 = .ok (.putfield 15, 3) := by decide +kernel
theorem dX1_eats_32 : decode cX1_eats 32 = .ok (.iload_n 2, 1) := by decide +kernel
theorem dX1_eats_33 : decode cX1_eats 33 = .ok (.ireturn, 1) := by decide +kernel
def tb_X1_eats (S_X1_here : ma_Cs) : Nat → ma_In := fun pc =>
 (if pc < 16 then
 (if pc < 9 then
 (if pc < 4 then
 (if pc < 1 then
 (if pc = 0 then in_ald 0 1 else in_no) else
 (if pc = 1 then in_v1 YX 1 S_X1_here 4 else in_no)) else
 (if pc < 5 then
 (if pc = 4 then in_ild 1 5 else in_no) else
 (if pc < 8 then
 (if pc = 5 then in_if2 (fun x y => x = y) 8 12 else in_no) else
 (if pc = 8 then in_push (.int 1) 9 else in_no)))) else
 (if pc < 13 then
 (if pc < 12 then
 (if pc = 9 then in_go 13 else in_no) else
 (if pc = 12 then in_push (.int 0) 13 else in_no)) else
 (if pc < 14 then
 (if pc = 13 then in_ist 2 14 else in_no) else
 (if pc < 15 then
 (if pc = 14 then in_ald 0 15 else in_no) else
 (if pc = 15 then in_dup 16 else in_no))))) else
 (if pc < 27 then
 (if pc < 20 then
 (if pc < 19 then
 (if pc = 16 then in_get YX 1 0 19 else in_no) else
 (if pc = 19 then in_ild 2 20 else in_no)) else
 (if pc < 23 then
 (if pc = 20 then in_if1 (fun x => x = 0) 27 23 else in_no) else
 (if pc < 24 then
 (if pc = 23 then in_push (.int 1) 24 else in_no) else
 (if pc = 24 then in_go 28 else in_no)))) else
 (if pc < 29 then
 (if pc < 28 then
 (if pc = 27 then in_push (.int 0) 28 else in_no) else
 (if pc = 28 then in_iii (fun x y => x + y) 29 else in_no)) else
 (if pc < 32 then
 (if pc = 29 then in_put YX 1 0 32 else in_no) else
 (if pc < 33 then
 (if pc = 32 then in_ild 2 33 else in_no) else
 (if pc = 33 then in_rz else in_no))))))
theorem tk_X1_eats {l : Launch} {w : ma_Wd} {NC : Nat} {A : Nat → Prop} {S_X1_here : ma_Cs} (h_X1_here : ma_Sd l w YX NC A yX1_here cX1_here 1 (some .int) rm_X1_here S_X1_here) {p : Program} {e : Env} {s : State} {m : MethodId} {args : Array Value} {below : List Frame} {meth : Method} {c : Code} (X : ma_Cx p s m args meth c w YX NC A yX1_eats.cls cX1_eats 3 (some .boolean)) : ∀ pc, ma_Ok p l e rm_X1_eats s m args below meth c w YX NC A 3 pc (tb_X1_eats S_X1_here pc) := fun pc =>
 (mk_lt
 (mk_lt
 (mk_lt
 (mk_lt
 (mk_eq (mk_aload_n X dX1_eats_0 rfl rfl))
 (mk_eq (mk_V1 X h_X1_here (ci := 1) rfl (lw_V q399 q401 qs4 q62 q402) ⟨rfl, by decide, by decide, rfl⟩ ⟨(Nat.le_of_ble_eq_true rfl), (Nat.le_of_ble_eq_true rfl)⟩ dX1_eats_1 rfl)))
 (mk_lt
 (mk_eq (mk_iload_n X dX1_eats_4 rfl rfl))
 (mk_lt
 (mk_eq (mk_icne X dX1_eats_5 rfl rfl))
 (mk_eq (mk_iconst X dX1_eats_8 rfl rfl)))))
 (mk_lt
 (mk_lt
 (mk_eq (mk_goto X dX1_eats_9 rfl))
 (mk_eq (mk_iconst X dX1_eats_12 rfl rfl)))
 (mk_lt
 (mk_eq (mk_istore_n X dX1_eats_13 rfl (Nat.le_of_ble_eq_true rfl) rfl))
 (mk_lt
 (mk_eq (mk_aload_n X dX1_eats_14 rfl rfl))
 (mk_eq (mk_dup X dX1_eats_15 rfl))))))
 (mk_lt
 (mk_lt
 (mk_lt
 (mk_eq (mk_get X (ci := 1) (j := 0) rfl in_X1 (Nat.le_of_ble_eq_true rfl) q84 dX1_eats_16 rfl))
 (mk_eq (mk_iload_n X dX1_eats_19 rfl rfl)))
 (mk_lt
 (mk_eq (mk_ifeq X dX1_eats_20 rfl rfl))
 (mk_lt
 (mk_eq (mk_iconst X dX1_eats_23 rfl rfl))
 (mk_eq (mk_goto X dX1_eats_24 rfl)))))
 (mk_lt
 (mk_lt
 (mk_eq (mk_iconst X dX1_eats_27 rfl rfl))
 (mk_eq (mk_iadd X dX1_eats_28 rfl)))
 (mk_lt
 (mk_eq (mk_put X (ci := 1) (j := 0) rfl in_X1 tyX1_ok nmX1 (Nat.le_of_ble_eq_true rfl) rfl rfl q84 dX1_eats_29 rfl))
 (mk_lt
 (mk_eq (mk_iload_n X dX1_eats_32 rfl rfl))
 (mk_eq (mk_rz X dX1_eats_33)))))))
theorem sd_X1_eats {l : Launch} {w : ma_Wd} {NC : Nat} {A : Nat → Prop} {S_X1_here : ma_Cs} (hw : ma_Wo w YX NC A) (h_X1_here : ma_Sd l w YX NC A yX1_here cX1_here 1 (some .int) rm_X1_here S_X1_here) : ma_Sd l w YX NC A yX1_eats cX1_eats 3 (some .boolean) rm_X1_eats (ma_rn (tb_X1_eats S_X1_here) 3) := ma_of hw (by decide) ⟨rfl, rfl⟩ (fun X => tk_X1_eats h_X1_here X)
theorem dX1_term_0 : decode cX1_term 0 = .ok (.aload_n 0, 1) := by decide +kernel
theorem dX1_term_1 : decode cX1_term 1 = .ok (.bipush 45, 2) := by decide +kernel
theorem dX1_term_3 : decode cX1_term 3 = .ok (.invokevirtual 62, 3) := by decide +kernel
theorem dX1_term_6 : decode cX1_term 6 = .ok (.ifCond .eq 7, 3) := by decide +kernel
theorem dX1_term_9 : decode cX1_term 9 = .ok (.iconst (-1), 1) := by decide +kernel
theorem dX1_term_10 : decode cX1_term 10 = .ok (.goto 21, 3) := by decide +kernel
theorem dX1_term_13 : decode cX1_term 13 = .ok (.aload_n 0, 1) := by decide +kernel
theorem dX1_term_14 : decode cX1_term 14 = .ok (.bipush 43, 2) := by decide +kernel
theorem dX1_term_16 : decode cX1_term 16 = .ok (.invokevirtual 62, 3) := by decide +kernel
theorem dX1_term_19 : decode cX1_term 19 = .ok (.ifCond .ne 7, 3) := by decide +kernel
theorem dX1_term_22 : decode cX1_term 22 = .ok (.iload_n 1, 1) := by decide +kernel
theorem dX1_term_23 : decode cX1_term 23 = .ok (.ifCond .eq 7, 3) := by decide +kernel
theorem dX1_term_26 : decode cX1_term 26 = .ok (.iconst 1, 1) := by decide +kernel
theorem dX1_term_27 : decode cX1_term 27 = .ok (.goto 4, 3) := by decide +kernel
theorem dX1_term_30 : decode cX1_term 30 = .ok (.iconst 0, 1) := by decide +kernel
theorem dX1_term_31 : decode cX1_term 31 = .ok (.istore_n 2, 1) := by decide +kernel
theorem dX1_term_32 : decode cX1_term 32 = .ok (.iload_n 2, 1) := by decide +kernel
theorem dX1_term_33 : decode cX1_term 33 = .ok (.ifCond .ne 12, 3) := by decide +kernel
theorem dX1_term_36 : decode cX1_term 36 = .ok (.aload_n 0, 1) := by decide +kernel
theorem dX1_term_37 : decode cX1_term 37 = .ok (.aload_n 0, 1) := by decide +kernel
theorem dX1_term_38 : decode cX1_term 38 = .ok (.getfield 15, 3) := by decide +kernel
theorem dX1_term_41 : decode cX1_term 41 = .ok (.invokevirtual 55, 3) := by decide +kernel
theorem dX1_term_44 : decode cX1_term 44 = .ok (.ireturn, 1) := by decide +kernel
theorem dX1_term_45 : decode cX1_term 45 = .ok (.iconst 1, 1) := by decide +kernel
theorem dX1_term_46 : decode cX1_term 46 = .ok (.istore_n 3, 1) := by decide +kernel
theorem dX1_term_47 : decode cX1_term 47 = .ok (.aload_n 0, 1) := by decide +kernel
theorem dX1_term_48 : decode cX1_term 48 = .ok (.invokevirtual 44, 3) := by decide +kernel
theorem dX1_term_51 : decode cX1_term 51 = .ok (.ifCond .eq 20, 3) := by decide +kernel
theorem dX1_term_54 : decode cX1_term 54 = .ok (.aload_n 0, 1) := by decide +kernel
theorem dX1_term_55 : decode cX1_term 55 = .ok (.sipush 999, 3) := by decide +kernel
theorem dX1_term_58 : decode cX1_term 58 = .ok (.invokevirtual 78, 3) := by decide +kernel
theorem dX1_term_61 : decode cX1_term 61 = .ok (.ifCond .ne 5, 3) := by decide +kernel
theorem dX1_term_64 : decode cX1_term 64 = .ok (.iconst 0, 1) := by decide +kernel
theorem dX1_term_65 : decode cX1_term 65 = .ok (.ireturn, 1) := by decide +kernel
theorem dX1_term_66 : decode cX1_term 66 = .ok (.aload_n 0, 1) := by decide +kernel
theorem dX1_term_67 : decode cX1_term 67 = .ok (.getfield 41, 3) := by decide +kernel
theorem dX1_term_70 : decode cX1_term 70 = .ok (.istore_n 3, 1) := by decide +kernel
theorem dX1_term_71 : decode cX1_term 71 = .ok (.aload_n 0, 1) := by decide +kernel
theorem dX1_term_72 : decode cX1_term 72 = .ok (.invokevirtual 81, 3) := by decide +kernel
theorem dX1_term_75 : decode cX1_term 75 = .ok (.ifCond .ne 5, 3) := by decide +kernel
theorem dX1_term_78 : decode cX1_term 78 = .ok (.iconst 0, 1) := by decide +kernel
theorem dX1_term_79 : decode cX1_term 79 = .ok (.ireturn, 1) := by decide +kernel
theorem dX1_term_80 : decode cX1_term 80 = .ok (.aload_n 0, 1) := by decide +kernel
theorem dX1_term_81 : decode cX1_term 81 = .ok (.getfield 3, 3) := by decide +kernel
theorem dX1_term_84 : decode cX1_term 84 = .ok (.getfield 65, 3) := by decide +kernel
theorem dX1_term_87 : decode cX1_term 87 = .ok (.getfield 83, 3) := by decide +kernel
theorem dX1_term_90 : decode cX1_term 90 = .ok (.istore 4, 2) := by decide +kernel
theorem dX1_term_92 : decode cX1_term 92 = .ok (.aload_n 0, 1) := by decide +kernel
theorem dX1_term_93 : decode cX1_term 93 = .ok (.getfield 3, 3) := by decide +kernel
theorem dX1_term_96 : decode cX1_term 96 = .ok (.getfield 65, 3) := by decide +kernel
theorem dX1_term_99 : decode cX1_term 99 = .ok (.getfield 86, 3) := by decide +kernel
theorem dX1_term_102 : decode cX1_term 102 = .ok (.iload 4, 2) := by decide +kernel
theorem dX1_term_104 : decode cX1_term 104 = .ok (.iload_n 2, 1) := by decide +kernel
theorem dX1_term_105 : decode cX1_term 105 = .ok (.iload_n 3, 1) := by decide +kernel
theorem dX1_term_106 : decode cX1_term 106 = .ok (.imul, 1) := by decide +kernel
theorem dX1_term_107 : decode cX1_term 107 = .ok (.iastore, 1) := by decide +kernel
theorem dX1_term_108 : decode cX1_term 108 = .ok (.aload_n 0, 1) := by decide +kernel
theorem dX1_term_109 : decode cX1_term 109 = .ok (.getfield 3, 3) := by decide +kernel
theorem dX1_term_112 : decode cX1_term 112 = .ok (.getfield 65, 3) := by decide +kernel
theorem dX1_term_115 : decode cX1_term 115 = .ok (.getfield 90, 3) := by decide +kernel
theorem dX1_term_118 : decode cX1_term 118 = .ok (.iload 4, 2) := by decide +kernel
theorem dX1_term_120 : decode cX1_term 120 = .ok (.aload_n 0, 1) := by decide +kernel
theorem dX1_term_121 : decode cX1_term 121 = .ok (.getfield 75, 3) := by decide +kernel
theorem dX1_term_124 : decode cX1_term 124 = .ok (.iastore, 1) := by decide +kernel
theorem dX1_term_125 : decode cX1_term 125 = .ok (.aload_n 0, 1) := by decide +kernel
theorem dX1_term_126 : decode cX1_term 126 = .ok (.getfield 3, 3) := by decide +kernel
theorem dX1_term_129 : decode cX1_term 129 = .ok (.getfield 65, 3) := by decide +kernel
theorem dX1_term_132 : decode cX1_term 132 = .ok (.getfield 93, 3) := by decide +kernel
theorem dX1_term_135 : decode cX1_term 135 = .ok (.iload 4, 2) := by decide +kernel
theorem dX1_term_137 : decode cX1_term 137 = .ok (.bipush (-4), 2) := by decide +kernel
theorem dX1_term_139 : decode cX1_term 139 = .ok (.iastore, 1) := by decide +kernel
theorem dX1_term_140 : decode cX1_term 140 = .ok (.aload_n 0, 1) := by decide +kernel
theorem dX1_term_141 : decode cX1_term 141 = .ok (.bipush 46, 2) := by decide +kernel
theorem dX1_term_143 : decode cX1_term 143 = .ok (.invokevirtual 62, 3) := by decide +kernel
theorem dX1_term_146 : decode cX1_term 146 = .ok (.ifCond .eq 29, 3) := by decide +kernel
theorem dX1_term_149 : decode cX1_term 149 = .ok (.aload_n 0, 1) := by decide +kernel
theorem dX1_term_150 : decode cX1_term 150 = .ok (.invokevirtual 81, 3) := by decide +kernel
theorem dX1_term_153 : decode cX1_term 153 = .ok (.ifCond .ne 5, 3) := by decide +kernel
theorem dX1_term_156 : decode cX1_term 156 = .ok (.iconst 0, 1) := by decide +kernel
theorem dX1_term_157 : decode cX1_term 157 = .ok (.ireturn, 1) := by decide +kernel
theorem dX1_term_158 : decode cX1_term 158 = .ok (.aload_n 0, 1) := by decide +kernel
theorem dX1_term_159 : decode cX1_term 159 = .ok (.getfield 3, 3) := by decide +kernel
theorem dX1_term_162 : decode cX1_term 162 = .ok (.getfield 65, 3) := by decide +kernel
theorem dX1_term_165 : decode cX1_term 165 = .ok (.getfield 93, 3) := by decide +kernel
theorem dX1_term_168 : decode cX1_term 168 = .ok (.iload 4, 2) := by decide +kernel
theorem dX1_term_170 : decode cX1_term 170 = .ok (.aload_n 0, 1) := by decide +kernel
theorem dX1_term_171 : decode cX1_term 171 = .ok (.getfield 75, 3) := by decide +kernel
theorem dX1_term_174 : decode cX1_term 174 = .ok (.iastore, 1) := by decide +kernel
theorem dX1_term_175 : decode cX1_term 175 = .ok (.aload_n 0, 1) := by decide +kernel
theorem dX1_term_176 : decode cX1_term 176 = .ok (.getfield 3, 3) := by decide +kernel
theorem dX1_term_179 : decode cX1_term 179 = .ok (.getfield 65, 3) := by decide +kernel
theorem dX1_term_182 : decode cX1_term 182 = .ok (.dup, 1) := by decide +kernel
theorem dX1_term_183 : decode cX1_term 183 = .ok (.getfield 83, 3) := by decide +kernel
theorem dX1_term_186 : decode cX1_term 186 = .ok (.iconst 1, 1) := by decide +kernel
theorem dX1_term_187 : decode cX1_term 187 = .ok (.iadd, 1) := by decide +kernel
theorem dX1_term_188 : decode cX1_term 188 = .ok (.putfield 83, 3) := by decide +kernel
theorem dX1_term_191 : decode cX1_term 191 = .ok (.iconst 1, 1) := by decide +kernel
theorem dX1_term_192 : decode cX1_term 192 = .ok (.ireturn, 1) := by decide +kernel
def tb_X1_term (S_X1_eats S_X1_fails S_X1_isFigure S_X1_number S_X1_name : ma_Cs) : Nat → ma_In := fun pc =>
 (if pc < 96 then
 (if pc < 46 then
 (if pc < 26 then
 (if pc < 13 then
 (if pc < 6 then
 (if pc < 1 then
 (if pc = 0 then in_ald 0 1 else in_no) else
 (if pc < 3 then
 (if pc = 1 then in_push (.int 45) 3 else in_no) else
 (if pc = 3 then in_v2 YX 1 S_X1_eats 6 else in_no))) else
 (if pc < 9 then
 (if pc = 6 then in_if1 (fun x => x = 0) 13 9 else in_no) else
 (if pc < 10 then
 (if pc = 9 then in_push (.int (-1)) 10 else in_no) else
 (if pc = 10 then in_go 31 else in_no)))) else
 (if pc < 19 then
 (if pc < 14 then
 (if pc = 13 then in_ald 0 14 else in_no) else
 (if pc < 16 then
 (if pc = 14 then in_push (.int 43) 16 else in_no) else
 (if pc = 16 then in_v2 YX 1 S_X1_eats 19 else in_no))) else
 (if pc < 22 then
 (if pc = 19 then in_if1 (fun x => x = 0) 22 26 else in_no) else
 (if pc < 23 then
 (if pc = 22 then in_ild 1 23 else in_no) else
 (if pc = 23 then in_if1 (fun x => x = 0) 30 26 else in_no))))) else
 (if pc < 36 then
 (if pc < 31 then
 (if pc < 27 then
 (if pc = 26 then in_push (.int 1) 27 else in_no) else
 (if pc < 30 then
 (if pc = 27 then in_go 31 else in_no) else
 (if pc = 30 then in_push (.int 0) 31 else in_no))) else
 (if pc < 32 then
 (if pc = 31 then in_ist 2 32 else in_no) else
 (if pc < 33 then
 (if pc = 32 then in_ild 2 33 else in_no) else
 (if pc = 33 then in_if1 (fun x => x = 0) 36 45 else in_no)))) else
 (if pc < 41 then
 (if pc < 37 then
 (if pc = 36 then in_ald 0 37 else in_no) else
 (if pc < 38 then
 (if pc = 37 then in_ald 0 38 else in_no) else
 (if pc = 38 then in_get YX 1 0 41 else in_no))) else
 (if pc < 44 then
 (if pc = 41 then in_v2 YX 1 S_X1_fails 44 else in_no) else
 (if pc < 45 then
 (if pc = 44 then in_rz else in_no) else
 (if pc = 45 then in_push (.int 1) 46 else in_no)))))) else
 (if pc < 70 then
 (if pc < 58 then
 (if pc < 51 then
 (if pc < 47 then
 (if pc = 46 then in_ist 3 47 else in_no) else
 (if pc < 48 then
 (if pc = 47 then in_ald 0 48 else in_no) else
 (if pc = 48 then in_v1 YX 1 S_X1_isFigure 51 else in_no))) else
 (if pc < 54 then
 (if pc = 51 then in_if1 (fun x => x = 0) 71 54 else in_no) else
 (if pc < 55 then
 (if pc = 54 then in_ald 0 55 else in_no) else
 (if pc = 55 then in_push (.int 999) 58 else in_no)))) else
 (if pc < 65 then
 (if pc < 61 then
 (if pc = 58 then in_v2 YX 1 S_X1_number 61 else in_no) else
 (if pc < 64 then
 (if pc = 61 then in_if1 (fun x => x = 0) 64 66 else in_no) else
 (if pc = 64 then in_push (.int 0) 65 else in_no))) else
 (if pc < 66 then
 (if pc = 65 then in_rz else in_no) else
 (if pc < 67 then
 (if pc = 66 then in_ald 0 67 else in_no) else
 (if pc = 67 then in_get YX 1 2 70 else in_no))))) else
 (if pc < 80 then
 (if pc < 75 then
 (if pc < 71 then
 (if pc = 70 then in_ist 3 71 else in_no) else
 (if pc < 72 then
 (if pc = 71 then in_ald 0 72 else in_no) else
 (if pc = 72 then in_v1 YX 1 S_X1_name 75 else in_no))) else
 (if pc < 78 then
 (if pc = 75 then in_if1 (fun x => x = 0) 78 80 else in_no) else
 (if pc < 79 then
 (if pc = 78 then in_push (.int 0) 79 else in_no) else
 (if pc = 79 then in_rz else in_no)))) else
 (if pc < 87 then
 (if pc < 81 then
 (if pc = 80 then in_ald 0 81 else in_no) else
 (if pc < 84 then
 (if pc = 81 then in_get YX 1 4 84 else in_no) else
 (if pc = 84 then in_get YX 0 3 87 else in_no))) else
 (if pc < 92 then
 (if pc < 90 then
 (if pc = 87 then in_get YX 2 5 90 else in_no) else
 (if pc = 90 then in_ist 4 92 else in_no)) else
 (if pc < 93 then
 (if pc = 92 then in_ald 0 93 else in_no) else
 (if pc = 93 then in_get YX 1 4 96 else in_no))))))) else
 (if pc < 143 then
 (if pc < 120 then
 (if pc < 107 then
 (if pc < 104 then
 (if pc < 99 then
 (if pc = 96 then in_get YX 0 3 99 else in_no) else
 (if pc < 102 then
 (if pc = 99 then in_get YX 2 6 102 else in_no) else
 (if pc = 102 then in_ild 4 104 else in_no))) else
 (if pc < 105 then
 (if pc = 104 then in_ild 2 105 else in_no) else
 (if pc < 106 then
 (if pc = 105 then in_ild 3 106 else in_no) else
 (if pc = 106 then in_iii (fun x y => x * y) 107 else in_no)))) else
 (if pc < 112 then
 (if pc < 108 then
 (if pc = 107 then in_iaw YX 108 else in_no) else
 (if pc < 109 then
 (if pc = 108 then in_ald 0 109 else in_no) else
 (if pc = 109 then in_get YX 1 4 112 else in_no))) else
 (if pc < 115 then
 (if pc = 112 then in_get YX 0 3 115 else in_no) else
 (if pc < 118 then
 (if pc = 115 then in_get YX 2 7 118 else in_no) else
 (if pc = 118 then in_ild 4 120 else in_no))))) else
 (if pc < 132 then
 (if pc < 125 then
 (if pc < 121 then
 (if pc = 120 then in_ald 0 121 else in_no) else
 (if pc < 124 then
 (if pc = 121 then in_get YX 1 3 124 else in_no) else
 (if pc = 124 then in_iaw YX 125 else in_no))) else
 (if pc < 126 then
 (if pc = 125 then in_ald 0 126 else in_no) else
 (if pc < 129 then
 (if pc = 126 then in_get YX 1 4 129 else in_no) else
 (if pc = 129 then in_get YX 0 3 132 else in_no)))) else
 (if pc < 139 then
 (if pc < 135 then
 (if pc = 132 then in_get YX 2 8 135 else in_no) else
 (if pc < 137 then
 (if pc = 135 then in_ild 4 137 else in_no) else
 (if pc = 137 then in_push (.int (-4)) 139 else in_no))) else
 (if pc < 140 then
 (if pc = 139 then in_iaw YX 140 else in_no) else
 (if pc < 141 then
 (if pc = 140 then in_ald 0 141 else in_no) else
 (if pc = 141 then in_push (.int 46) 143 else in_no)))))) else
 (if pc < 170 then
 (if pc < 157 then
 (if pc < 150 then
 (if pc < 146 then
 (if pc = 143 then in_v2 YX 1 S_X1_eats 146 else in_no) else
 (if pc < 149 then
 (if pc = 146 then in_if1 (fun x => x = 0) 175 149 else in_no) else
 (if pc = 149 then in_ald 0 150 else in_no))) else
 (if pc < 153 then
 (if pc = 150 then in_v1 YX 1 S_X1_name 153 else in_no) else
 (if pc < 156 then
 (if pc = 153 then in_if1 (fun x => x = 0) 156 158 else in_no) else
 (if pc = 156 then in_push (.int 0) 157 else in_no)))) else
 (if pc < 162 then
 (if pc < 158 then
 (if pc = 157 then in_rz else in_no) else
 (if pc < 159 then
 (if pc = 158 then in_ald 0 159 else in_no) else
 (if pc = 159 then in_get YX 1 4 162 else in_no))) else
 (if pc < 165 then
 (if pc = 162 then in_get YX 0 3 165 else in_no) else
 (if pc < 168 then
 (if pc = 165 then in_get YX 2 8 168 else in_no) else
 (if pc = 168 then in_ild 4 170 else in_no))))) else
 (if pc < 182 then
 (if pc < 175 then
 (if pc < 171 then
 (if pc = 170 then in_ald 0 171 else in_no) else
 (if pc < 174 then
 (if pc = 171 then in_get YX 1 3 174 else in_no) else
 (if pc = 174 then in_iaw YX 175 else in_no))) else
 (if pc < 176 then
 (if pc = 175 then in_ald 0 176 else in_no) else
 (if pc < 179 then
 (if pc = 176 then in_get YX 1 4 179 else in_no) else
 (if pc = 179 then in_get YX 0 3 182 else in_no)))) else
 (if pc < 187 then
 (if pc < 183 then
 (if pc = 182 then in_dup 183 else in_no) else
 (if pc < 186 then
 (if pc = 183 then in_get YX 2 5 186 else in_no) else
 (if pc = 186 then in_push (.int 1) 187 else in_no))) else
 (if pc < 191 then
 (if pc < 188 then
 (if pc = 187 then in_iii (fun x y => x + y) 188 else in_no) else
 (if pc = 188 then in_put YX 2 5 191 else in_no)) else
 (if pc < 192 then
 (if pc = 191 then in_push (.int 1) 192 else in_no) else
 (if pc = 192 then in_rz else in_no))))))))
theorem tk_X1_term {l : Launch} {w : ma_Wd} {NC : Nat} {A : Nat → Prop} {S_X1_eats S_X1_fails S_X1_isFigure S_X1_number S_X1_name : ma_Cs} (h_X1_eats : ma_Sd l w YX NC A yX1_eats cX1_eats 3 (some .boolean) rm_X1_eats S_X1_eats) (h_X1_fails : ma_Sd l w YX NC A yX1_fails cX1_fails 2 (some .boolean) rm_X1_fails S_X1_fails) (h_X1_isFigure : ma_Sd l w YX NC A yX1_isFigure cX1_isFigure 1 (some .boolean) rm_X1_isFigure S_X1_isFigure) (h_X1_number : ma_Sd l w YX NC A yX1_number cX1_number 4 (some .boolean) rm_X1_number S_X1_number) (h_X1_name : ma_Sd l w YX NC A yX1_name cX1_name 5 (some .boolean) rm_X1_name S_X1_name) {p : Program} {e : Env} {s : State} {m : MethodId} {args : Array Value} {below : List Frame} {meth : Method} {c : Code} (X : ma_Cx p s m args meth c w YX NC A yX1_term.cls cX1_term 5 (some .boolean)) : ∀ pc, ma_Ok p l e rm_X1_term s m args below meth c w YX NC A 5 pc (tb_X1_term S_X1_eats S_X1_fails S_X1_isFigure S_X1_number S_X1_name pc) := fun pc =>
 (mk_lt
 (mk_lt
 (mk_lt
 (mk_lt
 (mk_lt
 (mk_lt
 (mk_eq (mk_aload_n X dX1_term_0 rfl rfl))
 (mk_lt
 (mk_eq (mk_bipush X dX1_term_1 rfl rfl))
 (mk_eq (mk_V2 X h_X1_eats (ci := 1) rfl (lw_V q412 q414 qs6 q62 q415) ⟨rfl, by decide, by decide, rfl⟩ ⟨(Nat.le_of_ble_eq_true rfl), (Nat.le_of_ble_eq_true rfl)⟩ dX1_term_3 rfl))))
 (mk_lt
 (mk_eq (mk_ifeq X dX1_term_6 rfl rfl))
 (mk_lt
 (mk_eq (mk_iconst X dX1_term_9 rfl rfl))
 (mk_eq (mk_goto X dX1_term_10 rfl)))))
 (mk_lt
 (mk_lt
 (mk_eq (mk_aload_n X dX1_term_13 rfl rfl))
 (mk_lt
 (mk_eq (mk_bipush X dX1_term_14 rfl rfl))
 (mk_eq (mk_V2 X h_X1_eats (ci := 1) rfl (lw_V q412 q414 qs6 q62 q415) ⟨rfl, by decide, by decide, rfl⟩ ⟨(Nat.le_of_ble_eq_true rfl), (Nat.le_of_ble_eq_true rfl)⟩ dX1_term_16 rfl))))
 (mk_lt
 (mk_eq (mk_ifne X dX1_term_19 rfl rfl))
 (mk_lt
 (mk_eq (mk_iload_n X dX1_term_22 rfl rfl))
 (mk_eq (mk_ifeq X dX1_term_23 rfl rfl))))))
 (mk_lt
 (mk_lt
 (mk_lt
 (mk_eq (mk_iconst X dX1_term_26 rfl rfl))
 (mk_lt
 (mk_eq (mk_goto X dX1_term_27 rfl))
 (mk_eq (mk_iconst X dX1_term_30 rfl rfl))))
 (mk_lt
 (mk_eq (mk_istore_n X dX1_term_31 rfl (Nat.le_of_ble_eq_true rfl) rfl))
 (mk_lt
 (mk_eq (mk_iload_n X dX1_term_32 rfl rfl))
 (mk_eq (mk_ifne X dX1_term_33 rfl rfl)))))
 (mk_lt
 (mk_lt
 (mk_eq (mk_aload_n X dX1_term_36 rfl rfl))
 (mk_lt
 (mk_eq (mk_aload_n X dX1_term_37 rfl rfl))
 (mk_eq (mk_get X (ci := 1) (j := 0) rfl in_X1 (Nat.le_of_ble_eq_true rfl) q84 dX1_term_38 rfl))))
 (mk_lt
 (mk_eq (mk_V2 X h_X1_fails (ci := 1) rfl (lw_V q408 q410 qs5 q62 q411) ⟨rfl, by decide, by decide, rfl⟩ ⟨(Nat.le_of_ble_eq_true rfl), (Nat.le_of_ble_eq_true rfl)⟩ dX1_term_41 rfl))
 (mk_lt
 (mk_eq (mk_rz X dX1_term_44))
 (mk_eq (mk_iconst X dX1_term_45 rfl rfl)))))))
 (mk_lt
 (mk_lt
 (mk_lt
 (mk_lt
 (mk_eq (mk_istore_n X dX1_term_46 rfl (Nat.le_of_ble_eq_true rfl) rfl))
 (mk_lt
 (mk_eq (mk_aload_n X dX1_term_47 rfl rfl))
 (mk_eq (mk_V1 X h_X1_isFigure (ci := 1) rfl (lw_V q420 q422 qs8 q62 q423) ⟨rfl, by decide, by decide, rfl⟩ ⟨(Nat.le_of_ble_eq_true rfl), (Nat.le_of_ble_eq_true rfl)⟩ dX1_term_48 rfl))))
 (mk_lt
 (mk_eq (mk_ifeq X dX1_term_51 rfl rfl))
 (mk_lt
 (mk_eq (mk_aload_n X dX1_term_54 rfl rfl))
 (mk_eq (mk_sipush X dX1_term_55 rfl rfl)))))
 (mk_lt
 (mk_lt
 (mk_eq (mk_V2 X h_X1_number (ci := 1) rfl (lw_V q427 q429 qs9 q62 q430) ⟨rfl, by decide, by decide, rfl⟩ ⟨(Nat.le_of_ble_eq_true rfl), (Nat.le_of_ble_eq_true rfl)⟩ dX1_term_58 rfl))
 (mk_lt
 (mk_eq (mk_ifne X dX1_term_61 rfl rfl))
 (mk_eq (mk_iconst X dX1_term_64 rfl rfl))))
 (mk_lt
 (mk_eq (mk_rz X dX1_term_65))
 (mk_lt
 (mk_eq (mk_aload_n X dX1_term_66 rfl rfl))
 (mk_eq (mk_get X (ci := 1) (j := 2) rfl in_X1 (Nat.le_of_ble_eq_true rfl) q86 dX1_term_67 rfl))))))
 (mk_lt
 (mk_lt
 (mk_lt
 (mk_eq (mk_istore_n X dX1_term_70 rfl (Nat.le_of_ble_eq_true rfl) rfl))
 (mk_lt
 (mk_eq (mk_aload_n X dX1_term_71 rfl rfl))
 (mk_eq (mk_V1 X h_X1_name (ci := 1) rfl (lw_V q435 q437 qs10 q62 q438) ⟨rfl, by decide, by decide, rfl⟩ ⟨(Nat.le_of_ble_eq_true rfl), (Nat.le_of_ble_eq_true rfl)⟩ dX1_term_72 rfl))))
 (mk_lt
 (mk_eq (mk_ifne X dX1_term_75 rfl rfl))
 (mk_lt
 (mk_eq (mk_iconst X dX1_term_78 rfl rfl))
 (mk_eq (mk_rz X dX1_term_79)))))
 (mk_lt
 (mk_lt
 (mk_eq (mk_aload_n X dX1_term_80 rfl rfl))
 (mk_lt
 (mk_eq (mk_get X (ci := 1) (j := 4) rfl in_X1 (Nat.le_of_ble_eq_true rfl) q88 dX1_term_81 rfl))
 (mk_eq (mk_getN X (ci := 0) (j := 3) rfl in_X0 (Nat.le_of_ble_eq_true rfl) (List.mem_of_getElem? (i := 18) rfl) dX1_term_84 rfl))))
 (mk_lt
 (mk_lt
 (mk_eq (mk_getN X (ci := 2) (j := 5) rfl in_X2 (Nat.le_of_ble_eq_true rfl) (List.mem_of_getElem? (i := 12) rfl) dX1_term_87 rfl))
 (mk_eq (mk_istore X dX1_term_90 (Nat.le_of_ble_eq_true rfl) rfl)))
 (mk_lt
 (mk_eq (mk_aload_n X dX1_term_92 rfl rfl))
 (mk_eq (mk_get X (ci := 1) (j := 4) rfl in_X1 (Nat.le_of_ble_eq_true rfl) q88 dX1_term_93 rfl))))))))
 (mk_lt
 (mk_lt
 (mk_lt
 (mk_lt
 (mk_lt
 (mk_eq (mk_getN X (ci := 0) (j := 3) rfl in_X0 (Nat.le_of_ble_eq_true rfl) (List.mem_of_getElem? (i := 18) rfl) dX1_term_96 rfl))
 (mk_lt
 (mk_eq (mk_getN X (ci := 2) (j := 6) rfl in_X2 (Nat.le_of_ble_eq_true rfl) (List.mem_of_getElem? (i := 13) rfl) dX1_term_99 rfl))
 (mk_eq (mk_iload X dX1_term_102 rfl))))
 (mk_lt
 (mk_eq (mk_iload_n X dX1_term_104 rfl rfl))
 (mk_lt
 (mk_eq (mk_iload_n X dX1_term_105 rfl rfl))
 (mk_eq (mk_imul X dX1_term_106 rfl)))))
 (mk_lt
 (mk_lt
 (mk_eq (mk_iaw X dX1_term_107 rfl))
 (mk_lt
 (mk_eq (mk_aload_n X dX1_term_108 rfl rfl))
 (mk_eq (mk_get X (ci := 1) (j := 4) rfl in_X1 (Nat.le_of_ble_eq_true rfl) q88 dX1_term_109 rfl))))
 (mk_lt
 (mk_eq (mk_getN X (ci := 0) (j := 3) rfl in_X0 (Nat.le_of_ble_eq_true rfl) (List.mem_of_getElem? (i := 18) rfl) dX1_term_112 rfl))
 (mk_lt
 (mk_eq (mk_getN X (ci := 2) (j := 7) rfl in_X2 (Nat.le_of_ble_eq_true rfl) (List.mem_of_getElem? (i := 14) rfl) dX1_term_115 rfl))
 (mk_eq (mk_iload X dX1_term_118 rfl))))))
 (mk_lt
 (mk_lt
 (mk_lt
 (mk_eq (mk_aload_n X dX1_term_120 rfl rfl))
 (mk_lt
 (mk_eq (mk_get X (ci := 1) (j := 3) rfl in_X1 (Nat.le_of_ble_eq_true rfl) q87 dX1_term_121 rfl))
 (mk_eq (mk_iaw X dX1_term_124 rfl))))
 (mk_lt
 (mk_eq (mk_aload_n X dX1_term_125 rfl rfl))
 (mk_lt
 (mk_eq (mk_get X (ci := 1) (j := 4) rfl in_X1 (Nat.le_of_ble_eq_true rfl) q88 dX1_term_126 rfl))
 (mk_eq (mk_getN X (ci := 0) (j := 3) rfl in_X0 (Nat.le_of_ble_eq_true rfl) (List.mem_of_getElem? (i := 18) rfl) dX1_term_129 rfl)))))
 (mk_lt
 (mk_lt
 (mk_eq (mk_getN X (ci := 2) (j := 8) rfl in_X2 (Nat.le_of_ble_eq_true rfl) (List.mem_of_getElem? (i := 15) rfl) dX1_term_132 rfl))
 (mk_lt
 (mk_eq (mk_iload X dX1_term_135 rfl))
 (mk_eq (mk_bipush X dX1_term_137 rfl rfl))))
 (mk_lt
 (mk_eq (mk_iaw X dX1_term_139 rfl))
 (mk_lt
 (mk_eq (mk_aload_n X dX1_term_140 rfl rfl))
 (mk_eq (mk_bipush X dX1_term_141 rfl rfl)))))))
 (mk_lt
 (mk_lt
 (mk_lt
 (mk_lt
 (mk_eq (mk_V2 X h_X1_eats (ci := 1) rfl (lw_V q412 q414 qs6 q62 q415) ⟨rfl, by decide, by decide, rfl⟩ ⟨(Nat.le_of_ble_eq_true rfl), (Nat.le_of_ble_eq_true rfl)⟩ dX1_term_143 rfl))
 (mk_lt
 (mk_eq (mk_ifeq X dX1_term_146 rfl rfl))
 (mk_eq (mk_aload_n X dX1_term_149 rfl rfl))))
 (mk_lt
 (mk_eq (mk_V1 X h_X1_name (ci := 1) rfl (lw_V q435 q437 qs10 q62 q438) ⟨rfl, by decide, by decide, rfl⟩ ⟨(Nat.le_of_ble_eq_true rfl), (Nat.le_of_ble_eq_true rfl)⟩ dX1_term_150 rfl))
 (mk_lt
 (mk_eq (mk_ifne X dX1_term_153 rfl rfl))
 (mk_eq (mk_iconst X dX1_term_156 rfl rfl)))))
 (mk_lt
 (mk_lt
 (mk_eq (mk_rz X dX1_term_157))
 (mk_lt
 (mk_eq (mk_aload_n X dX1_term_158 rfl rfl))
 (mk_eq (mk_get X (ci := 1) (j := 4) rfl in_X1 (Nat.le_of_ble_eq_true rfl) q88 dX1_term_159 rfl))))
 (mk_lt
 (mk_eq (mk_getN X (ci := 0) (j := 3) rfl in_X0 (Nat.le_of_ble_eq_true rfl) (List.mem_of_getElem? (i := 18) rfl) dX1_term_162 rfl))
 (mk_lt
 (mk_eq (mk_getN X (ci := 2) (j := 8) rfl in_X2 (Nat.le_of_ble_eq_true rfl) (List.mem_of_getElem? (i := 15) rfl) dX1_term_165 rfl))
 (mk_eq (mk_iload X dX1_term_168 rfl))))))
 (mk_lt
 (mk_lt
 (mk_lt
 (mk_eq (mk_aload_n X dX1_term_170 rfl rfl))
 (mk_lt
 (mk_eq (mk_get X (ci := 1) (j := 3) rfl in_X1 (Nat.le_of_ble_eq_true rfl) q87 dX1_term_171 rfl))
 (mk_eq (mk_iaw X dX1_term_174 rfl))))
 (mk_lt
 (mk_eq (mk_aload_n X dX1_term_175 rfl rfl))
 (mk_lt
 (mk_eq (mk_get X (ci := 1) (j := 4) rfl in_X1 (Nat.le_of_ble_eq_true rfl) q88 dX1_term_176 rfl))
 (mk_eq (mk_getN X (ci := 0) (j := 3) rfl in_X0 (Nat.le_of_ble_eq_true rfl) (List.mem_of_getElem? (i := 18) rfl) dX1_term_179 rfl)))))
 (mk_lt
 (mk_lt
 (mk_eq (mk_dup X dX1_term_182 rfl))
 (mk_lt
 (mk_eq (mk_getN X (ci := 2) (j := 5) rfl in_X2 (Nat.le_of_ble_eq_true rfl) (List.mem_of_getElem? (i := 12) rfl) dX1_term_183 rfl))
 (mk_eq (mk_iconst X dX1_term_186 rfl rfl))))
 (mk_lt
 (mk_lt
 (mk_eq (mk_iadd X dX1_term_187 rfl))
 (mk_eq (mk_putN X (ci := 2) (j := 5) rfl in_X2 tyX2_ok nmX2 (Nat.le_of_ble_eq_true rfl) rfl rfl (List.mem_of_getElem? (i := 12) rfl) dX1_term_188 rfl)))
 (mk_lt
 (mk_eq (mk_iconst X dX1_term_191 rfl rfl))
 (mk_eq (mk_rz X dX1_term_192)))))))))
theorem sd_X1_term {l : Launch} {w : ma_Wd} {NC : Nat} {A : Nat → Prop} {S_X1_eats S_X1_fails S_X1_isFigure S_X1_number S_X1_name : ma_Cs} (hw : ma_Wo w YX NC A) (h_X1_eats : ma_Sd l w YX NC A yX1_eats cX1_eats 3 (some .boolean) rm_X1_eats S_X1_eats) (h_X1_fails : ma_Sd l w YX NC A yX1_fails cX1_fails 2 (some .boolean) rm_X1_fails S_X1_fails) (h_X1_isFigure : ma_Sd l w YX NC A yX1_isFigure cX1_isFigure 1 (some .boolean) rm_X1_isFigure S_X1_isFigure) (h_X1_number : ma_Sd l w YX NC A yX1_number cX1_number 4 (some .boolean) rm_X1_number S_X1_number) (h_X1_name : ma_Sd l w YX NC A yX1_name cX1_name 5 (some .boolean) rm_X1_name S_X1_name) : ma_Sd l w YX NC A yX1_term cX1_term 5 (some .boolean) rm_X1_term (ma_rn (tb_X1_term S_X1_eats S_X1_fails S_X1_isFigure S_X1_number S_X1_name) 5) := ma_of hw (by decide) ⟨rfl, rfl⟩ (fun X => tk_X1_term h_X1_eats h_X1_fails h_X1_isFigure h_X1_number h_X1_name X)
theorem dX1_isFigure_0 : decode cX1_isFigure 0 = .ok (.aload_n 0, 1) := by decide +kernel
theorem dX1_isFigure_1 : decode cX1_isFigure 1 = .ok (.invokevirtual 29, 3) := by decide +kernel
theorem dX1_isFigure_4 : decode cX1_isFigure 4 = .ok (.i2l, 1) := by decide +kernel
theorem dX1_isFigure_5 : decode cX1_isFigure 5 = .ok (.ldc2_w 33, 3) := by decide +kernel
theorem dX1_isFigure_8 : decode cX1_isFigure 8 = .ok (.ldc2_w 35, 3) := by decide +kernel
theorem dX1_isFigure_11 : decode cX1_isFigure 11 = .ok (.invokestatic 37, 3) := by decide +kernel
theorem dX1_isFigure_14 : decode cX1_isFigure 14 = .ok (.ireturn, 1) := by decide +kernel
def tb_X1_isFigure (S_X1_here S_X0_isIn : ma_Cs) : Nat → ma_In := fun pc =>
 (if pc < 5 then
 (if pc < 1 then
 (if pc = 0 then in_ald 0 1 else in_no) else
 (if pc < 4 then
 (if pc = 1 then in_v1 YX 1 S_X1_here 4 else in_no) else
 (if pc = 4 then in_il (fun x => x.toInt64) 5 else in_no))) else
 (if pc < 11 then
 (if pc < 8 then
 (if pc = 5 then in_push (.long 48) 8 else in_no) else
 (if pc = 8 then in_push (.long 57) 11 else in_no)) else
 (if pc < 14 then
 (if pc = 11 then in_s3 S_X0_isIn 14 else in_no) else
 (if pc = 14 then in_rz else in_no))))
theorem tk_X1_isFigure {l : Launch} {w : ma_Wd} {NC : Nat} {A : Nat → Prop} {S_X1_here S_X0_isIn : ma_Cs} (h_X1_here : ma_Sd l w YX NC A yX1_here cX1_here 1 (some .int) rm_X1_here S_X1_here) (h_X0_isIn : ma_Sd l w YX NC A yX0_isIn cX0_isIn 6 (some .boolean) rm_X0_isIn S_X0_isIn) {p : Program} {e : Env} {s : State} {m : MethodId} {args : Array Value} {below : List Frame} {meth : Method} {c : Code} (X : ma_Cx p s m args meth c w YX NC A yX1_isFigure.cls cX1_isFigure 1 (some .boolean)) : ∀ pc, ma_Ok p l e rm_X1_isFigure s m args below meth c w YX NC A 1 pc (tb_X1_isFigure S_X1_here S_X0_isIn pc) := fun pc =>
 (mk_lt
 (mk_lt
 (mk_eq (mk_aload_n X dX1_isFigure_0 rfl rfl))
 (mk_lt
 (mk_eq (mk_V1 X h_X1_here (ci := 1) rfl (lw_V q399 q401 qs4 q62 q402) ⟨rfl, by decide, by decide, rfl⟩ ⟨(Nat.le_of_ble_eq_true rfl), (Nat.le_of_ble_eq_true rfl)⟩ dX1_isFigure_1 rfl))
 (mk_eq (mk_i2l X dX1_isFigure_4 rfl))))
 (mk_lt
 (mk_lt
 (mk_eq (mk_ldc2 X dX1_isFigure_5 q424 rfl))
 (mk_eq (mk_ldc2 X dX1_isFigure_8 q425 rfl)))
 (mk_lt
 (mk_eq (mk_SN3 X h_X0_isIn (lw_meth q357) (List.mem_of_getElem? (i := 6) rfl) q61 q356 ⟨by decide, by decide, rfl⟩ ⟨(Nat.le_of_ble_eq_true rfl), (Nat.le_of_ble_eq_true rfl)⟩ dX1_isFigure_11 rfl))
 (mk_eq (mk_rz X dX1_isFigure_14)))))
theorem sd_X1_isFigure {l : Launch} {w : ma_Wd} {NC : Nat} {A : Nat → Prop} {S_X1_here S_X0_isIn : ma_Cs} (hw : ma_Wo w YX NC A) (h_X1_here : ma_Sd l w YX NC A yX1_here cX1_here 1 (some .int) rm_X1_here S_X1_here) (h_X0_isIn : ma_Sd l w YX NC A yX0_isIn cX0_isIn 6 (some .boolean) rm_X0_isIn S_X0_isIn) : ma_Sd l w YX NC A yX1_isFigure cX1_isFigure 1 (some .boolean) rm_X1_isFigure (ma_rn (tb_X1_isFigure S_X1_here S_X0_isIn) 1) := ma_of hw (by decide) ⟨rfl, rfl⟩ (fun X => tk_X1_isFigure h_X1_here h_X0_isIn X)
theorem dX1_number_0 : decode cX1_number 0 = .ok (.aload_n 0, 1) := by decide +kernel
theorem dX1_number_1 : decode cX1_number 1 = .ok (.getfield 15, 3) := by decide +kernel
theorem dX1_number_4 : decode cX1_number 4 = .ok (.istore_n 2, 1) := by decide +kernel
theorem dX1_number_5 : decode cX1_number 5 = .ok (.aload_n 0, 1) := by decide +kernel
theorem dX1_number_6 : decode cX1_number 6 = .ok (.iconst 0, 1) := by decide +kernel
theorem dX1_number_7 : decode cX1_number 7 = .ok (.putfield 41, 3) := by decide +kernel
theorem dX1_number_10 : decode cX1_number 10 = .ok (.aload_n 0, 1) := by decide +kernel
theorem dX1_number_11 : decode cX1_number 11 = .ok (.invokevirtual 29, 3) := by decide +kernel
theorem dX1_number_14 : decode cX1_number 14 = .ok (.bipush 48, 2) := by decide +kernel
theorem dX1_number_16 : decode cX1_number 16 = .ok (.if_icmp .ne 7, 3) := by decide +kernel
theorem dX1_number_19 : decode cX1_number 19 = .ok (.iconst 1, 1) := by decide +kernel
theorem dX1_number_20 : decode cX1_number 20 = .ok (.goto 4, 3) := by decide +kernel
theorem dX1_number_23 : decode cX1_number 23 = .ok (.iconst 0, 1) := by decide +kernel
theorem dX1_number_24 : decode cX1_number 24 = .ok (.istore_n 3, 1) := by decide +kernel
theorem dX1_number_25 : decode cX1_number 25 = .ok (.aload_n 0, 1) := by decide +kernel
theorem dX1_number_26 : decode cX1_number 26 = .ok (.invokevirtual 44, 3) := by decide +kernel
theorem dX1_number_29 : decode cX1_number 29 = .ok (.ifCond .eq 40, 3) := by decide +kernel
theorem dX1_number_32 : decode cX1_number 32 = .ok (.aload_n 0, 1) := by decide +kernel
theorem dX1_number_33 : decode cX1_number 33 = .ok (.ldc 48, 2) := by decide +kernel
theorem dX1_number_35 : decode cX1_number 35 = .ok (.bipush 10, 2) := by decide +kernel
theorem dX1_number_37 : decode cX1_number 37 = .ok (.aload_n 0, 1) := by decide +kernel
theorem dX1_number_38 : decode cX1_number 38 = .ok (.getfield 41, 3) := by decide +kernel
theorem dX1_number_41 : decode cX1_number 41 = .ok (.imul, 1) := by decide +kernel
theorem dX1_number_42 : decode cX1_number 42 = .ok (.aload_n 0, 1) := by decide +kernel
theorem dX1_number_43 : decode cX1_number 43 = .ok (.invokevirtual 29, 3) := by decide +kernel
theorem dX1_number_46 : decode cX1_number 46 = .ok (.iadd, 1) := by decide +kernel
theorem dX1_number_47 : decode cX1_number 47 = .ok (.bipush 48, 2) := by decide +kernel
theorem dX1_number_49 : decode cX1_number 49 = .ok (.isub, 1) := by decide +kernel
theorem dX1_number_50 : decode cX1_number 50 = .ok (.invokestatic 49, 3) := by decide +kernel
theorem dX1_number_53 : decode cX1_number 53 = .ok (.putfield 41, 3) := by decide +kernel
theorem dX1_number_56 : decode cX1_number 56 = .ok (.aload_n 0, 1) := by decide +kernel
theorem dX1_number_57 : decode cX1_number 57 = .ok (.dup, 1) := by decide +kernel
theorem dX1_number_58 : decode cX1_number 58 = .ok (.getfield 15, 3) := by decide +kernel
theorem dX1_number_61 : decode cX1_number 61 = .ok (.iconst 1, 1) := by decide +kernel
theorem dX1_number_62 : decode cX1_number 62 = .ok (.iadd, 1) := by decide +kernel
theorem dX1_number_63 : decode cX1_number 63 = .ok (.putfield 15, 3) := by decide +kernel
theorem dX1_number_66 : decode cX1_number 66 = .ok (.goto (-41), 3) := by decide +kernel
theorem dX1_number_69 : decode cX1_number 69 = .ok (.aload_n 0, 1) := by decide +kernel
theorem dX1_number_70 : decode cX1_number 70 = .ok (.getfield 15, 3) := by decide +kernel
theorem dX1_number_73 : decode cX1_number 73 = .ok (.iload_n 2, 1) := by decide +kernel
theorem dX1_number_74 : decode cX1_number 74 = .ok (.if_icmp .le 21, 3) := by decide +kernel
theorem dX1_number_77 : decode cX1_number 77 = .ok (.iload_n 3, 1) := by decide +kernel
theorem dX1_number_78 : decode cX1_number 78 = .ok (.ifCond .ne 17, 3) := by decide +kernel
theorem dX1_number_81 : decode cX1_number 81 = .ok (.aload_n 0, 1) := by decide +kernel
theorem dX1_number_82 : decode cX1_number 82 = .ok (.getfield 41, 3) := by decide +kernel
theorem dX1_number_85 : decode cX1_number 85 = .ok (.i2l, 1) := by decide +kernel
theorem dX1_number_86 : decode cX1_number 86 = .ok (.lconst 1, 1) := by decide +kernel
theorem dX1_number_87 : decode cX1_number 87 = .ok (.iload_n 1, 1) := by decide +kernel
theorem dX1_number_88 : decode cX1_number 88 = .ok (.i2l, 1) := by decide +kernel
theorem dX1_number_89 : decode cX1_number 89 = .ok (.invokestatic 37, 3) := by decide +kernel
theorem dX1_number_92 : decode cX1_number 92 = .ok (.ifCond .ne 11, 3) := by decide +kernel
theorem dX1_number_95 : decode cX1_number 95 = .ok (.aload_n 0, 1) := by decide +kernel
theorem dX1_number_96 : decode cX1_number 96 = .ok (.iload_n 2, 1) := by decide +kernel
theorem dX1_number_97 : decode cX1_number 97 = .ok (.invokevirtual 55, 3) := by decide +kernel
theorem dX1_number_100 : decode cX1_number 100 = .ok (.ifCond .eq 7, 3) := by decide +kernel
theorem dX1_number_103 : decode cX1_number 103 = .ok (.iconst 1, 1) := by decide +kernel
theorem dX1_number_104 : decode cX1_number 104 = .ok (.goto 4, 3) := by decide +kernel
theorem dX1_number_107 : decode cX1_number 107 = .ok (.iconst 0, 1) := by decide +kernel
theorem dX1_number_108 : decode cX1_number 108 = .ok (.ireturn, 1) := by decide +kernel
def tb_X1_number (S_X1_here S_X1_isFigure S_J0_min S_X0_isIn S_X1_fails : ma_Cs) : Nat → ma_In := fun pc =>
 (if pc < 53 then
 (if pc < 25 then
 (if pc < 11 then
 (if pc < 5 then
 (if pc < 1 then
 (if pc = 0 then in_ald 0 1 else in_no) else
 (if pc < 4 then
 (if pc = 1 then in_get YX 1 0 4 else in_no) else
 (if pc = 4 then in_ist 2 5 else in_no))) else
 (if pc < 7 then
 (if pc < 6 then
 (if pc = 5 then in_ald 0 6 else in_no) else
 (if pc = 6 then in_push (.int 0) 7 else in_no)) else
 (if pc < 10 then
 (if pc = 7 then in_put YX 1 2 10 else in_no) else
 (if pc = 10 then in_ald 0 11 else in_no)))) else
 (if pc < 19 then
 (if pc < 14 then
 (if pc = 11 then in_v1 YX 1 S_X1_here 14 else in_no) else
 (if pc < 16 then
 (if pc = 14 then in_push (.int 48) 16 else in_no) else
 (if pc = 16 then in_if2 (fun x y => x = y) 19 23 else in_no))) else
 (if pc < 23 then
 (if pc < 20 then
 (if pc = 19 then in_push (.int 1) 20 else in_no) else
 (if pc = 20 then in_go 24 else in_no)) else
 (if pc < 24 then
 (if pc = 23 then in_push (.int 0) 24 else in_no) else
 (if pc = 24 then in_ist 3 25 else in_no))))) else
 (if pc < 38 then
 (if pc < 32 then
 (if pc < 26 then
 (if pc = 25 then in_ald 0 26 else in_no) else
 (if pc < 29 then
 (if pc = 26 then in_v1 YX 1 S_X1_isFigure 29 else in_no) else
 (if pc = 29 then in_if1 (fun x => x = 0) 69 32 else in_no))) else
 (if pc < 35 then
 (if pc < 33 then
 (if pc = 32 then in_ald 0 33 else in_no) else
 (if pc = 33 then in_push (.int 100000) 35 else in_no)) else
 (if pc < 37 then
 (if pc = 35 then in_push (.int 10) 37 else in_no) else
 (if pc = 37 then in_ald 0 38 else in_no)))) else
 (if pc < 46 then
 (if pc < 42 then
 (if pc < 41 then
 (if pc = 38 then in_get YX 1 2 41 else in_no) else
 (if pc = 41 then in_iii (fun x y => x * y) 42 else in_no)) else
 (if pc < 43 then
 (if pc = 42 then in_ald 0 43 else in_no) else
 (if pc = 43 then in_v1 YX 1 S_X1_here 46 else in_no))) else
 (if pc < 49 then
 (if pc < 47 then
 (if pc = 46 then in_iii (fun x y => x + y) 47 else in_no) else
 (if pc = 47 then in_push (.int 48) 49 else in_no)) else
 (if pc < 50 then
 (if pc = 49 then in_iii (fun x y => x - y) 50 else in_no) else
 (if pc = 50 then in_s2 S_J0_min 53 else in_no)))))) else
 (if pc < 82 then
 (if pc < 66 then
 (if pc < 58 then
 (if pc < 56 then
 (if pc = 53 then in_put YX 1 2 56 else in_no) else
 (if pc < 57 then
 (if pc = 56 then in_ald 0 57 else in_no) else
 (if pc = 57 then in_dup 58 else in_no))) else
 (if pc < 62 then
 (if pc < 61 then
 (if pc = 58 then in_get YX 1 0 61 else in_no) else
 (if pc = 61 then in_push (.int 1) 62 else in_no)) else
 (if pc < 63 then
 (if pc = 62 then in_iii (fun x y => x + y) 63 else in_no) else
 (if pc = 63 then in_put YX 1 0 66 else in_no)))) else
 (if pc < 74 then
 (if pc < 70 then
 (if pc < 69 then
 (if pc = 66 then in_go 25 else in_no) else
 (if pc = 69 then in_ald 0 70 else in_no)) else
 (if pc < 73 then
 (if pc = 70 then in_get YX 1 0 73 else in_no) else
 (if pc = 73 then in_ild 2 74 else in_no))) else
 (if pc < 78 then
 (if pc < 77 then
 (if pc = 74 then in_if2 (fun x y => x ≤ y) 95 77 else in_no) else
 (if pc = 77 then in_ild 3 78 else in_no)) else
 (if pc < 81 then
 (if pc = 78 then in_if1 (fun x => x = 0) 81 95 else in_no) else
 (if pc = 81 then in_ald 0 82 else in_no))))) else
 (if pc < 95 then
 (if pc < 87 then
 (if pc < 85 then
 (if pc = 82 then in_get YX 1 2 85 else in_no) else
 (if pc < 86 then
 (if pc = 85 then in_il (fun x => x.toInt64) 86 else in_no) else
 (if pc = 86 then in_push (.long 1) 87 else in_no))) else
 (if pc < 89 then
 (if pc < 88 then
 (if pc = 87 then in_ild 1 88 else in_no) else
 (if pc = 88 then in_il (fun x => x.toInt64) 89 else in_no)) else
 (if pc < 92 then
 (if pc = 89 then in_s3 S_X0_isIn 92 else in_no) else
 (if pc = 92 then in_if1 (fun x => x = 0) 95 103 else in_no)))) else
 (if pc < 103 then
 (if pc < 97 then
 (if pc < 96 then
 (if pc = 95 then in_ald 0 96 else in_no) else
 (if pc = 96 then in_ild 2 97 else in_no)) else
 (if pc < 100 then
 (if pc = 97 then in_v2 YX 1 S_X1_fails 100 else in_no) else
 (if pc = 100 then in_if1 (fun x => x = 0) 107 103 else in_no))) else
 (if pc < 107 then
 (if pc < 104 then
 (if pc = 103 then in_push (.int 1) 104 else in_no) else
 (if pc = 104 then in_go 108 else in_no)) else
 (if pc < 108 then
 (if pc = 107 then in_push (.int 0) 108 else in_no) else
 (if pc = 108 then in_rz else in_no)))))))
theorem tk_X1_number {l : Launch} {w : ma_Wd} {NC : Nat} {A : Nat → Prop} {S_X1_here S_X1_isFigure S_J0_min S_X0_isIn S_X1_fails : ma_Cs} (h_X1_here : ma_Sd l w YX NC A yX1_here cX1_here 1 (some .int) rm_X1_here S_X1_here) (h_X1_isFigure : ma_Sd l w YX NC A yX1_isFigure cX1_isFigure 1 (some .boolean) rm_X1_isFigure S_X1_isFigure) (h_J0_min : ma_Sd l w YX NC A yJ0_min cJ0_min 2 (some .int) rm_J0_min S_J0_min) (h_X0_isIn : ma_Sd l w YX NC A yX0_isIn cX0_isIn 6 (some .boolean) rm_X0_isIn S_X0_isIn) (h_X1_fails : ma_Sd l w YX NC A yX1_fails cX1_fails 2 (some .boolean) rm_X1_fails S_X1_fails) {p : Program} {e : Env} {s : State} {m : MethodId} {args : Array Value} {below : List Frame} {meth : Method} {c : Code} (X : ma_Cx p s m args meth c w YX NC A yX1_number.cls cX1_number 4 (some .boolean)) : ∀ pc, ma_Ok p l e rm_X1_number s m args below meth c w YX NC A 4 pc (tb_X1_number S_X1_here S_X1_isFigure S_J0_min S_X0_isIn S_X1_fails pc) := fun pc =>
 (mk_lt
 (mk_lt
 (mk_lt
 (mk_lt
 (mk_lt
 (mk_eq (mk_aload_n X dX1_number_0 rfl rfl))
 (mk_lt
 (mk_eq (mk_get X (ci := 1) (j := 0) rfl in_X1 (Nat.le_of_ble_eq_true rfl) q84 dX1_number_1 rfl))
 (mk_eq (mk_istore_n X dX1_number_4 rfl (Nat.le_of_ble_eq_true rfl) rfl))))
 (mk_lt
 (mk_lt
 (mk_eq (mk_aload_n X dX1_number_5 rfl rfl))
 (mk_eq (mk_iconst X dX1_number_6 rfl rfl)))
 (mk_lt
 (mk_eq (mk_put X (ci := 1) (j := 2) rfl in_X1 tyX1_ok nmX1 (Nat.le_of_ble_eq_true rfl) rfl rfl q86 dX1_number_7 rfl))
 (mk_eq (mk_aload_n X dX1_number_10 rfl rfl)))))
 (mk_lt
 (mk_lt
 (mk_eq (mk_V1 X h_X1_here (ci := 1) rfl (lw_V q399 q401 qs4 q62 q402) ⟨rfl, by decide, by decide, rfl⟩ ⟨(Nat.le_of_ble_eq_true rfl), (Nat.le_of_ble_eq_true rfl)⟩ dX1_number_11 rfl))
 (mk_lt
 (mk_eq (mk_bipush X dX1_number_14 rfl rfl))
 (mk_eq (mk_icne X dX1_number_16 rfl rfl))))
 (mk_lt
 (mk_lt
 (mk_eq (mk_iconst X dX1_number_19 rfl rfl))
 (mk_eq (mk_goto X dX1_number_20 rfl)))
 (mk_lt
 (mk_eq (mk_iconst X dX1_number_23 rfl rfl))
 (mk_eq (mk_istore_n X dX1_number_24 rfl (Nat.le_of_ble_eq_true rfl) rfl))))))
 (mk_lt
 (mk_lt
 (mk_lt
 (mk_eq (mk_aload_n X dX1_number_25 rfl rfl))
 (mk_lt
 (mk_eq (mk_V1 X h_X1_isFigure (ci := 1) rfl (lw_V q420 q422 qs8 q62 q423) ⟨rfl, by decide, by decide, rfl⟩ ⟨(Nat.le_of_ble_eq_true rfl), (Nat.le_of_ble_eq_true rfl)⟩ dX1_number_26 rfl))
 (mk_eq (mk_ifeq X dX1_number_29 rfl rfl))))
 (mk_lt
 (mk_lt
 (mk_eq (mk_aload_n X dX1_number_32 rfl rfl))
 (mk_eq (mk_ldc X dX1_number_33 q431 rfl)))
 (mk_lt
 (mk_eq (mk_bipush X dX1_number_35 rfl rfl))
 (mk_eq (mk_aload_n X dX1_number_37 rfl rfl)))))
 (mk_lt
 (mk_lt
 (mk_lt
 (mk_eq (mk_get X (ci := 1) (j := 2) rfl in_X1 (Nat.le_of_ble_eq_true rfl) q86 dX1_number_38 rfl))
 (mk_eq (mk_imul X dX1_number_41 rfl)))
 (mk_lt
 (mk_eq (mk_aload_n X dX1_number_42 rfl rfl))
 (mk_eq (mk_V1 X h_X1_here (ci := 1) rfl (lw_V q399 q401 qs4 q62 q402) ⟨rfl, by decide, by decide, rfl⟩ ⟨(Nat.le_of_ble_eq_true rfl), (Nat.le_of_ble_eq_true rfl)⟩ dX1_number_43 rfl))))
 (mk_lt
 (mk_lt
 (mk_eq (mk_iadd X dX1_number_46 rfl))
 (mk_eq (mk_bipush X dX1_number_47 rfl rfl)))
 (mk_lt
 (mk_eq (mk_isub X dX1_number_49 rfl))
 (mk_eq (mk_S2 X h_J0_min (lw_S q432 q433 q67 q434) ⟨by decide, by decide, rfl⟩ ⟨(Nat.le_of_ble_eq_true rfl), (Nat.le_of_ble_eq_true rfl)⟩ dX1_number_50 rfl)))))))
 (mk_lt
 (mk_lt
 (mk_lt
 (mk_lt
 (mk_eq (mk_put X (ci := 1) (j := 2) rfl in_X1 tyX1_ok nmX1 (Nat.le_of_ble_eq_true rfl) rfl rfl q86 dX1_number_53 rfl))
 (mk_lt
 (mk_eq (mk_aload_n X dX1_number_56 rfl rfl))
 (mk_eq (mk_dup X dX1_number_57 rfl))))
 (mk_lt
 (mk_lt
 (mk_eq (mk_get X (ci := 1) (j := 0) rfl in_X1 (Nat.le_of_ble_eq_true rfl) q84 dX1_number_58 rfl))
 (mk_eq (mk_iconst X dX1_number_61 rfl rfl)))
 (mk_lt
 (mk_eq (mk_iadd X dX1_number_62 rfl))
 (mk_eq (mk_put X (ci := 1) (j := 0) rfl in_X1 tyX1_ok nmX1 (Nat.le_of_ble_eq_true rfl) rfl rfl q84 dX1_number_63 rfl)))))
 (mk_lt
 (mk_lt
 (mk_lt
 (mk_eq (mk_goto X dX1_number_66 rfl))
 (mk_eq (mk_aload_n X dX1_number_69 rfl rfl)))
 (mk_lt
 (mk_eq (mk_get X (ci := 1) (j := 0) rfl in_X1 (Nat.le_of_ble_eq_true rfl) q84 dX1_number_70 rfl))
 (mk_eq (mk_iload_n X dX1_number_73 rfl rfl))))
 (mk_lt
 (mk_lt
 (mk_eq (mk_icle X dX1_number_74 rfl rfl))
 (mk_eq (mk_iload_n X dX1_number_77 rfl rfl)))
 (mk_lt
 (mk_eq (mk_ifne X dX1_number_78 rfl rfl))
 (mk_eq (mk_aload_n X dX1_number_81 rfl rfl))))))
 (mk_lt
 (mk_lt
 (mk_lt
 (mk_eq (mk_get X (ci := 1) (j := 2) rfl in_X1 (Nat.le_of_ble_eq_true rfl) q86 dX1_number_82 rfl))
 (mk_lt
 (mk_eq (mk_i2l X dX1_number_85 rfl))
 (mk_eq (mk_lconst X dX1_number_86 rfl rfl))))
 (mk_lt
 (mk_lt
 (mk_eq (mk_iload_n X dX1_number_87 rfl rfl))
 (mk_eq (mk_i2l X dX1_number_88 rfl)))
 (mk_lt
 (mk_eq (mk_SN3 X h_X0_isIn (lw_meth q357) (List.mem_of_getElem? (i := 6) rfl) q61 q356 ⟨by decide, by decide, rfl⟩ ⟨(Nat.le_of_ble_eq_true rfl), (Nat.le_of_ble_eq_true rfl)⟩ dX1_number_89 rfl))
 (mk_eq (mk_ifne X dX1_number_92 rfl rfl)))))
 (mk_lt
 (mk_lt
 (mk_lt
 (mk_eq (mk_aload_n X dX1_number_95 rfl rfl))
 (mk_eq (mk_iload_n X dX1_number_96 rfl rfl)))
 (mk_lt
 (mk_eq (mk_V2 X h_X1_fails (ci := 1) rfl (lw_V q408 q410 qs5 q62 q411) ⟨rfl, by decide, by decide, rfl⟩ ⟨(Nat.le_of_ble_eq_true rfl), (Nat.le_of_ble_eq_true rfl)⟩ dX1_number_97 rfl))
 (mk_eq (mk_ifeq X dX1_number_100 rfl rfl))))
 (mk_lt
 (mk_lt
 (mk_eq (mk_iconst X dX1_number_103 rfl rfl))
 (mk_eq (mk_goto X dX1_number_104 rfl)))
 (mk_lt
 (mk_eq (mk_iconst X dX1_number_107 rfl rfl))
 (mk_eq (mk_rz X dX1_number_108))))))))
theorem sd_X1_number {l : Launch} {w : ma_Wd} {NC : Nat} {A : Nat → Prop} {S_X1_here S_X1_isFigure S_J0_min S_X0_isIn S_X1_fails : ma_Cs} (hw : ma_Wo w YX NC A) (h_X1_here : ma_Sd l w YX NC A yX1_here cX1_here 1 (some .int) rm_X1_here S_X1_here) (h_X1_isFigure : ma_Sd l w YX NC A yX1_isFigure cX1_isFigure 1 (some .boolean) rm_X1_isFigure S_X1_isFigure) (h_J0_min : ma_Sd l w YX NC A yJ0_min cJ0_min 2 (some .int) rm_J0_min S_J0_min) (h_X0_isIn : ma_Sd l w YX NC A yX0_isIn cX0_isIn 6 (some .boolean) rm_X0_isIn S_X0_isIn) (h_X1_fails : ma_Sd l w YX NC A yX1_fails cX1_fails 2 (some .boolean) rm_X1_fails S_X1_fails) : ma_Sd l w YX NC A yX1_number cX1_number 4 (some .boolean) rm_X1_number (ma_rn (tb_X1_number S_X1_here S_X1_isFigure S_J0_min S_X0_isIn S_X1_fails) 4) := ma_of hw (by decide) ⟨rfl, rfl⟩ (fun X => tk_X1_number h_X1_here h_X1_isFigure h_J0_min h_X0_isIn h_X1_fails X)
theorem dX1_name_0 : decode cX1_name 0 = .ok (.aload_n 0, 1) := by decide +kernel
theorem dX1_name_1 : decode cX1_name 1 = .ok (.getfield 15, 3) := by decide +kernel
theorem dX1_name_4 : decode cX1_name 4 = .ok (.istore_n 1, 1) := by decide +kernel
theorem dX1_name_5 : decode cX1_name 5 = .ok (.aload_n 0, 1) := by decide +kernel
theorem dX1_name_6 : decode cX1_name 6 = .ok (.invokevirtual 29, 3) := by decide +kernel
theorem dX1_name_9 : decode cX1_name 9 = .ok (.bipush 97, 2) := by decide +kernel
theorem dX1_name_11 : decode cX1_name 11 = .ok (.isub, 1) := by decide +kernel
theorem dX1_name_12 : decode cX1_name 12 = .ok (.istore_n 2, 1) := by decide +kernel
theorem dX1_name_13 : decode cX1_name 13 = .ok (.iload_n 2, 1) := by decide +kernel
theorem dX1_name_14 : decode cX1_name 14 = .ok (.invokestatic 59, 3) := by decide +kernel
theorem dX1_name_17 : decode cX1_name 17 = .ok (.ifCond .ne 12, 3) := by decide +kernel
theorem dX1_name_20 : decode cX1_name 20 = .ok (.aload_n 0, 1) := by decide +kernel
theorem dX1_name_21 : decode cX1_name 21 = .ok (.aload_n 0, 1) := by decide +kernel
theorem dX1_name_22 : decode cX1_name 22 = .ok (.getfield 15, 3) := by decide +kernel
theorem dX1_name_25 : decode cX1_name 25 = .ok (.invokevirtual 55, 3) := by decide +kernel
theorem dX1_name_28 : decode cX1_name 28 = .ok (.ireturn, 1) := by decide +kernel
theorem dX1_name_29 : decode cX1_name 29 = .ok (.aload_n 0, 1) := by decide +kernel
theorem dX1_name_30 : decode cX1_name 30 = .ok (.dup, 1) := by decide +kernel
theorem dX1_name_31 : decode cX1_name 31 = .ok (.getfield 15, 3) := by decide +kernel
theorem dX1_name_34 : decode cX1_name 34 = .ok (.iconst 1, 1) := by decide +kernel
theorem dX1_name_35 : decode cX1_name 35 = .ok (.iadd, 1) := by decide +kernel
theorem dX1_name_36 : decode cX1_name 36 = .ok (.putfield 15, 3) := by decide +kernel
theorem dX1_name_39 : decode cX1_name 39 = .ok (.aload_n 0, 1) := by decide +kernel
theorem dX1_name_40 : decode cX1_name 40 = .ok (.bipush 110, 2) := by decide +kernel
theorem dX1_name_42 : decode cX1_name 42 = .ok (.invokevirtual 62, 3) := by decide +kernel
theorem dX1_name_45 : decode cX1_name 45 = .ok (.ifCond .eq 7, 3) := by decide +kernel
theorem dX1_name_48 : decode cX1_name 48 = .ok (.iconst 1, 1) := by decide +kernel
theorem dX1_name_49 : decode cX1_name 49 = .ok (.goto 43, 3) := by decide +kernel
theorem dX1_name_52 : decode cX1_name 52 = .ok (.aload_n 0, 1) := by decide +kernel
theorem dX1_name_53 : decode cX1_name 53 = .ok (.bipush 101, 2) := by decide +kernel
theorem dX1_name_55 : decode cX1_name 55 = .ok (.invokevirtual 62, 3) := by decide +kernel
theorem dX1_name_58 : decode cX1_name 58 = .ok (.ifCond .eq 7, 3) := by decide +kernel
theorem dX1_name_61 : decode cX1_name 61 = .ok (.iconst 2, 1) := by decide +kernel
theorem dX1_name_62 : decode cX1_name 62 = .ok (.goto 30, 3) := by decide +kernel
theorem dX1_name_65 : decode cX1_name 65 = .ok (.aload_n 0, 1) := by decide +kernel
theorem dX1_name_66 : decode cX1_name 66 = .ok (.bipush 115, 2) := by decide +kernel
theorem dX1_name_68 : decode cX1_name 68 = .ok (.invokevirtual 62, 3) := by decide +kernel
theorem dX1_name_71 : decode cX1_name 71 = .ok (.ifCond .eq 7, 3) := by decide +kernel
theorem dX1_name_74 : decode cX1_name 74 = .ok (.iconst 3, 1) := by decide +kernel
theorem dX1_name_75 : decode cX1_name 75 = .ok (.goto 17, 3) := by decide +kernel
theorem dX1_name_78 : decode cX1_name 78 = .ok (.aload_n 0, 1) := by decide +kernel
theorem dX1_name_79 : decode cX1_name 79 = .ok (.bipush 119, 2) := by decide +kernel
theorem dX1_name_81 : decode cX1_name 81 = .ok (.invokevirtual 62, 3) := by decide +kernel
theorem dX1_name_84 : decode cX1_name 84 = .ok (.ifCond .eq 7, 3) := by decide +kernel
theorem dX1_name_87 : decode cX1_name 87 = .ok (.iconst 4, 1) := by decide +kernel
theorem dX1_name_88 : decode cX1_name 88 = .ok (.goto 4, 3) := by decide +kernel
theorem dX1_name_91 : decode cX1_name 91 = .ok (.iconst 0, 1) := by decide +kernel
theorem dX1_name_92 : decode cX1_name 92 = .ok (.istore_n 3, 1) := by decide +kernel
theorem dX1_name_93 : decode cX1_name 93 = .ok (.aload_n 0, 1) := by decide +kernel
theorem dX1_name_94 : decode cX1_name 94 = .ok (.bipush 39, 2) := by decide +kernel
theorem dX1_name_96 : decode cX1_name 96 = .ok (.invokevirtual 62, 3) := by decide +kernel
theorem dX1_name_99 : decode cX1_name 99 = .ok (.istore 4, 2) := by decide +kernel
theorem dX1_name_101 : decode cX1_name 101 = .ok (.iload 4, 2) := by decide +kernel
theorem dX1_name_103 : decode cX1_name 103 = .ok (.ifCond .eq 29, 3) := by decide +kernel
theorem dX1_name_106 : decode cX1_name 106 = .ok (.iload_n 3, 1) := by decide +kernel
theorem dX1_name_107 : decode cX1_name 107 = .ok (.ifCond .gt 19, 3) := by decide +kernel
theorem dX1_name_110 : decode cX1_name 110 = .ok (.aload_n 0, 1) := by decide +kernel
theorem dX1_name_111 : decode cX1_name 111 = .ok (.getfield 3, 3) := by decide +kernel
theorem dX1_name_114 : decode cX1_name 114 = .ok (.getfield 65, 3) := by decide +kernel
theorem dX1_name_117 : decode cX1_name 117 = .ok (.iload_n 2, 1) := by decide +kernel
theorem dX1_name_118 : decode cX1_name 118 = .ok (.invokevirtual 69, 3) := by decide +kernel
theorem dX1_name_121 : decode cX1_name 121 = .ok (.bipush (-4), 2) := by decide +kernel
theorem dX1_name_123 : decode cX1_name 123 = .ok (.if_icmp .ne 9, 3) := by decide +kernel
theorem dX1_name_126 : decode cX1_name 126 = .ok (.aload_n 0, 1) := by decide +kernel
theorem dX1_name_127 : decode cX1_name 127 = .ok (.iload_n 1, 1) := by decide +kernel
theorem dX1_name_128 : decode cX1_name 128 = .ok (.invokevirtual 55, 3) := by decide +kernel
theorem dX1_name_131 : decode cX1_name 131 = .ok (.ireturn, 1) := by decide +kernel
theorem dX1_name_132 : decode cX1_name 132 = .ok (.aload_n 0, 1) := by decide +kernel
theorem dX1_name_133 : decode cX1_name 133 = .ok (.bipush 16, 2) := by decide +kernel
theorem dX1_name_135 : decode cX1_name 135 = .ok (.iload_n 2, 1) := by decide +kernel
theorem dX1_name_136 : decode cX1_name 136 = .ok (.imul, 1) := by decide +kernel
theorem dX1_name_137 : decode cX1_name 137 = .ok (.iconst 2, 1) := by decide +kernel
theorem dX1_name_138 : decode cX1_name 138 = .ok (.iload_n 3, 1) := by decide +kernel
theorem dX1_name_139 : decode cX1_name 139 = .ok (.imul, 1) := by decide +kernel
theorem dX1_name_140 : decode cX1_name 140 = .ok (.iadd, 1) := by decide +kernel
theorem dX1_name_141 : decode cX1_name 141 = .ok (.iload 4, 2) := by decide +kernel
theorem dX1_name_143 : decode cX1_name 143 = .ok (.ifCond .eq 7, 3) := by decide +kernel
theorem dX1_name_146 : decode cX1_name 146 = .ok (.iconst 1, 1) := by decide +kernel
theorem dX1_name_147 : decode cX1_name 147 = .ok (.goto 4, 3) := by decide +kernel
theorem dX1_name_150 : decode cX1_name 150 = .ok (.iconst 0, 1) := by decide +kernel
theorem dX1_name_151 : decode cX1_name 151 = .ok (.iadd, 1) := by decide +kernel
theorem dX1_name_152 : decode cX1_name 152 = .ok (.putfield 75, 3) := by decide +kernel
theorem dX1_name_155 : decode cX1_name 155 = .ok (.iconst 1, 1) := by decide +kernel
theorem dX1_name_156 : decode cX1_name 156 = .ok (.ireturn, 1) := by decide +kernel
def tb_X1_name (S_X1_here S_X0_isLetter S_X1_fails S_X1_eats S_X2_lineOf : ma_Cs) : Nat → ma_In := fun pc =>
 (if pc < 81 then
 (if pc < 36 then
 (if pc < 17 then
 (if pc < 9 then
 (if pc < 4 then
 (if pc < 1 then
 (if pc = 0 then in_ald 0 1 else in_no) else
 (if pc = 1 then in_get YX 1 0 4 else in_no)) else
 (if pc < 5 then
 (if pc = 4 then in_ist 1 5 else in_no) else
 (if pc < 6 then
 (if pc = 5 then in_ald 0 6 else in_no) else
 (if pc = 6 then in_v1 YX 1 S_X1_here 9 else in_no)))) else
 (if pc < 12 then
 (if pc < 11 then
 (if pc = 9 then in_push (.int 97) 11 else in_no) else
 (if pc = 11 then in_iii (fun x y => x - y) 12 else in_no)) else
 (if pc < 13 then
 (if pc = 12 then in_ist 2 13 else in_no) else
 (if pc < 14 then
 (if pc = 13 then in_ild 2 14 else in_no) else
 (if pc = 14 then in_s1 S_X0_isLetter 17 else in_no))))) else
 (if pc < 28 then
 (if pc < 21 then
 (if pc < 20 then
 (if pc = 17 then in_if1 (fun x => x = 0) 20 29 else in_no) else
 (if pc = 20 then in_ald 0 21 else in_no)) else
 (if pc < 22 then
 (if pc = 21 then in_ald 0 22 else in_no) else
 (if pc < 25 then
 (if pc = 22 then in_get YX 1 0 25 else in_no) else
 (if pc = 25 then in_v2 YX 1 S_X1_fails 28 else in_no)))) else
 (if pc < 31 then
 (if pc < 29 then
 (if pc = 28 then in_rz else in_no) else
 (if pc < 30 then
 (if pc = 29 then in_ald 0 30 else in_no) else
 (if pc = 30 then in_dup 31 else in_no))) else
 (if pc < 34 then
 (if pc = 31 then in_get YX 1 0 34 else in_no) else
 (if pc < 35 then
 (if pc = 34 then in_push (.int 1) 35 else in_no) else
 (if pc = 35 then in_iii (fun x y => x + y) 36 else in_no)))))) else
 (if pc < 58 then
 (if pc < 48 then
 (if pc < 40 then
 (if pc < 39 then
 (if pc = 36 then in_put YX 1 0 39 else in_no) else
 (if pc = 39 then in_ald 0 40 else in_no)) else
 (if pc < 42 then
 (if pc = 40 then in_push (.int 110) 42 else in_no) else
 (if pc < 45 then
 (if pc = 42 then in_v2 YX 1 S_X1_eats 45 else in_no) else
 (if pc = 45 then in_if1 (fun x => x = 0) 52 48 else in_no)))) else
 (if pc < 52 then
 (if pc < 49 then
 (if pc = 48 then in_push (.int 1) 49 else in_no) else
 (if pc = 49 then in_go 92 else in_no)) else
 (if pc < 53 then
 (if pc = 52 then in_ald 0 53 else in_no) else
 (if pc < 55 then
 (if pc = 53 then in_push (.int 101) 55 else in_no) else
 (if pc = 55 then in_v2 YX 1 S_X1_eats 58 else in_no))))) else
 (if pc < 68 then
 (if pc < 62 then
 (if pc < 61 then
 (if pc = 58 then in_if1 (fun x => x = 0) 65 61 else in_no) else
 (if pc = 61 then in_push (.int 2) 62 else in_no)) else
 (if pc < 65 then
 (if pc = 62 then in_go 92 else in_no) else
 (if pc < 66 then
 (if pc = 65 then in_ald 0 66 else in_no) else
 (if pc = 66 then in_push (.int 115) 68 else in_no)))) else
 (if pc < 75 then
 (if pc < 71 then
 (if pc = 68 then in_v2 YX 1 S_X1_eats 71 else in_no) else
 (if pc < 74 then
 (if pc = 71 then in_if1 (fun x => x = 0) 78 74 else in_no) else
 (if pc = 74 then in_push (.int 3) 75 else in_no))) else
 (if pc < 78 then
 (if pc = 75 then in_go 92 else in_no) else
 (if pc < 79 then
 (if pc = 78 then in_ald 0 79 else in_no) else
 (if pc = 79 then in_push (.int 119) 81 else in_no))))))) else
 (if pc < 126 then
 (if pc < 101 then
 (if pc < 92 then
 (if pc < 87 then
 (if pc < 84 then
 (if pc = 81 then in_v2 YX 1 S_X1_eats 84 else in_no) else
 (if pc = 84 then in_if1 (fun x => x = 0) 91 87 else in_no)) else
 (if pc < 88 then
 (if pc = 87 then in_push (.int 4) 88 else in_no) else
 (if pc < 91 then
 (if pc = 88 then in_go 92 else in_no) else
 (if pc = 91 then in_push (.int 0) 92 else in_no)))) else
 (if pc < 94 then
 (if pc < 93 then
 (if pc = 92 then in_ist 3 93 else in_no) else
 (if pc = 93 then in_ald 0 94 else in_no)) else
 (if pc < 96 then
 (if pc = 94 then in_push (.int 39) 96 else in_no) else
 (if pc < 99 then
 (if pc = 96 then in_v2 YX 1 S_X1_eats 99 else in_no) else
 (if pc = 99 then in_ist 4 101 else in_no))))) else
 (if pc < 111 then
 (if pc < 106 then
 (if pc < 103 then
 (if pc = 101 then in_ild 4 103 else in_no) else
 (if pc = 103 then in_if1 (fun x => x = 0) 132 106 else in_no)) else
 (if pc < 107 then
 (if pc = 106 then in_ild 3 107 else in_no) else
 (if pc < 110 then
 (if pc = 107 then in_if1 (fun x => 0 < x) 126 110 else in_no) else
 (if pc = 110 then in_ald 0 111 else in_no)))) else
 (if pc < 118 then
 (if pc < 114 then
 (if pc = 111 then in_get YX 1 4 114 else in_no) else
 (if pc < 117 then
 (if pc = 114 then in_get YX 0 3 117 else in_no) else
 (if pc = 117 then in_ild 2 118 else in_no))) else
 (if pc < 121 then
 (if pc = 118 then in_v2 YX 2 S_X2_lineOf 121 else in_no) else
 (if pc < 123 then
 (if pc = 121 then in_push (.int (-4)) 123 else in_no) else
 (if pc = 123 then in_if2 (fun x y => x = y) 126 132 else in_no)))))) else
 (if pc < 139 then
 (if pc < 133 then
 (if pc < 128 then
 (if pc < 127 then
 (if pc = 126 then in_ald 0 127 else in_no) else
 (if pc = 127 then in_ild 1 128 else in_no)) else
 (if pc < 131 then
 (if pc = 128 then in_v2 YX 1 S_X1_fails 131 else in_no) else
 (if pc < 132 then
 (if pc = 131 then in_rz else in_no) else
 (if pc = 132 then in_ald 0 133 else in_no)))) else
 (if pc < 136 then
 (if pc < 135 then
 (if pc = 133 then in_push (.int 16) 135 else in_no) else
 (if pc = 135 then in_ild 2 136 else in_no)) else
 (if pc < 137 then
 (if pc = 136 then in_iii (fun x y => x * y) 137 else in_no) else
 (if pc < 138 then
 (if pc = 137 then in_push (.int 2) 138 else in_no) else
 (if pc = 138 then in_ild 3 139 else in_no))))) else
 (if pc < 147 then
 (if pc < 141 then
 (if pc < 140 then
 (if pc = 139 then in_iii (fun x y => x * y) 140 else in_no) else
 (if pc = 140 then in_iii (fun x y => x + y) 141 else in_no)) else
 (if pc < 143 then
 (if pc = 141 then in_ild 4 143 else in_no) else
 (if pc < 146 then
 (if pc = 143 then in_if1 (fun x => x = 0) 150 146 else in_no) else
 (if pc = 146 then in_push (.int 1) 147 else in_no)))) else
 (if pc < 152 then
 (if pc < 150 then
 (if pc = 147 then in_go 151 else in_no) else
 (if pc < 151 then
 (if pc = 150 then in_push (.int 0) 151 else in_no) else
 (if pc = 151 then in_iii (fun x y => x + y) 152 else in_no))) else
 (if pc < 155 then
 (if pc = 152 then in_put YX 1 3 155 else in_no) else
 (if pc < 156 then
 (if pc = 155 then in_push (.int 1) 156 else in_no) else
 (if pc = 156 then in_rz else in_no))))))))
theorem tk_X1_name {l : Launch} {w : ma_Wd} {NC : Nat} {A : Nat → Prop} {S_X1_here S_X0_isLetter S_X1_fails S_X1_eats S_X2_lineOf : ma_Cs} (h_X1_here : ma_Sd l w YX NC A yX1_here cX1_here 1 (some .int) rm_X1_here S_X1_here) (h_X0_isLetter : ma_Sd l w YX NC A yX0_isLetter cX0_isLetter 1 (some .boolean) rm_X0_isLetter S_X0_isLetter) (h_X1_fails : ma_Sd l w YX NC A yX1_fails cX1_fails 2 (some .boolean) rm_X1_fails S_X1_fails) (h_X1_eats : ma_Sd l w YX NC A yX1_eats cX1_eats 3 (some .boolean) rm_X1_eats S_X1_eats) (h_X2_lineOf : ma_Sd l w YX NC A yX2_lineOf cX2_lineOf 3 (some .int) rm_X2_lineOf S_X2_lineOf) {p : Program} {e : Env} {s : State} {m : MethodId} {args : Array Value} {below : List Frame} {meth : Method} {c : Code} (X : ma_Cx p s m args meth c w YX NC A yX1_name.cls cX1_name 5 (some .boolean)) : ∀ pc, ma_Ok p l e rm_X1_name s m args below meth c w YX NC A 5 pc (tb_X1_name S_X1_here S_X0_isLetter S_X1_fails S_X1_eats S_X2_lineOf pc) := fun pc =>
 (mk_lt
 (mk_lt
 (mk_lt
 (mk_lt
 (mk_lt
 (mk_lt
 (mk_eq (mk_aload_n X dX1_name_0 rfl rfl))
 (mk_eq (mk_get X (ci := 1) (j := 0) rfl in_X1 (Nat.le_of_ble_eq_true rfl) q84 dX1_name_1 rfl)))
 (mk_lt
 (mk_eq (mk_istore_n X dX1_name_4 rfl (Nat.le_of_ble_eq_true rfl) rfl))
 (mk_lt
 (mk_eq (mk_aload_n X dX1_name_5 rfl rfl))
 (mk_eq (mk_V1 X h_X1_here (ci := 1) rfl (lw_V q399 q401 qs4 q62 q402) ⟨rfl, by decide, by decide, rfl⟩ ⟨(Nat.le_of_ble_eq_true rfl), (Nat.le_of_ble_eq_true rfl)⟩ dX1_name_6 rfl)))))
 (mk_lt
 (mk_lt
 (mk_eq (mk_bipush X dX1_name_9 rfl rfl))
 (mk_eq (mk_isub X dX1_name_11 rfl)))
 (mk_lt
 (mk_eq (mk_istore_n X dX1_name_12 rfl (Nat.le_of_ble_eq_true rfl) rfl))
 (mk_lt
 (mk_eq (mk_iload_n X dX1_name_13 rfl rfl))
 (mk_eq (mk_SN1 X h_X0_isLetter (lw_meth q373) (List.mem_of_getElem? (i := 5) rfl) q61 q372 ⟨by decide, by decide, rfl⟩ ⟨(Nat.le_of_ble_eq_true rfl), (Nat.le_of_ble_eq_true rfl)⟩ dX1_name_14 rfl))))))
 (mk_lt
 (mk_lt
 (mk_lt
 (mk_eq (mk_ifne X dX1_name_17 rfl rfl))
 (mk_eq (mk_aload_n X dX1_name_20 rfl rfl)))
 (mk_lt
 (mk_eq (mk_aload_n X dX1_name_21 rfl rfl))
 (mk_lt
 (mk_eq (mk_get X (ci := 1) (j := 0) rfl in_X1 (Nat.le_of_ble_eq_true rfl) q84 dX1_name_22 rfl))
 (mk_eq (mk_V2 X h_X1_fails (ci := 1) rfl (lw_V q408 q410 qs5 q62 q411) ⟨rfl, by decide, by decide, rfl⟩ ⟨(Nat.le_of_ble_eq_true rfl), (Nat.le_of_ble_eq_true rfl)⟩ dX1_name_25 rfl)))))
 (mk_lt
 (mk_lt
 (mk_eq (mk_rz X dX1_name_28))
 (mk_lt
 (mk_eq (mk_aload_n X dX1_name_29 rfl rfl))
 (mk_eq (mk_dup X dX1_name_30 rfl))))
 (mk_lt
 (mk_eq (mk_get X (ci := 1) (j := 0) rfl in_X1 (Nat.le_of_ble_eq_true rfl) q84 dX1_name_31 rfl))
 (mk_lt
 (mk_eq (mk_iconst X dX1_name_34 rfl rfl))
 (mk_eq (mk_iadd X dX1_name_35 rfl)))))))
 (mk_lt
 (mk_lt
 (mk_lt
 (mk_lt
 (mk_eq (mk_put X (ci := 1) (j := 0) rfl in_X1 tyX1_ok nmX1 (Nat.le_of_ble_eq_true rfl) rfl rfl q84 dX1_name_36 rfl))
 (mk_eq (mk_aload_n X dX1_name_39 rfl rfl)))
 (mk_lt
 (mk_eq (mk_bipush X dX1_name_40 rfl rfl))
 (mk_lt
 (mk_eq (mk_V2 X h_X1_eats (ci := 1) rfl (lw_V q412 q414 qs6 q62 q415) ⟨rfl, by decide, by decide, rfl⟩ ⟨(Nat.le_of_ble_eq_true rfl), (Nat.le_of_ble_eq_true rfl)⟩ dX1_name_42 rfl))
 (mk_eq (mk_ifeq X dX1_name_45 rfl rfl)))))
 (mk_lt
 (mk_lt
 (mk_eq (mk_iconst X dX1_name_48 rfl rfl))
 (mk_eq (mk_goto X dX1_name_49 rfl)))
 (mk_lt
 (mk_eq (mk_aload_n X dX1_name_52 rfl rfl))
 (mk_lt
 (mk_eq (mk_bipush X dX1_name_53 rfl rfl))
 (mk_eq (mk_V2 X h_X1_eats (ci := 1) rfl (lw_V q412 q414 qs6 q62 q415) ⟨rfl, by decide, by decide, rfl⟩ ⟨(Nat.le_of_ble_eq_true rfl), (Nat.le_of_ble_eq_true rfl)⟩ dX1_name_55 rfl))))))
 (mk_lt
 (mk_lt
 (mk_lt
 (mk_eq (mk_ifeq X dX1_name_58 rfl rfl))
 (mk_eq (mk_iconst X dX1_name_61 rfl rfl)))
 (mk_lt
 (mk_eq (mk_goto X dX1_name_62 rfl))
 (mk_lt
 (mk_eq (mk_aload_n X dX1_name_65 rfl rfl))
 (mk_eq (mk_bipush X dX1_name_66 rfl rfl)))))
 (mk_lt
 (mk_lt
 (mk_eq (mk_V2 X h_X1_eats (ci := 1) rfl (lw_V q412 q414 qs6 q62 q415) ⟨rfl, by decide, by decide, rfl⟩ ⟨(Nat.le_of_ble_eq_true rfl), (Nat.le_of_ble_eq_true rfl)⟩ dX1_name_68 rfl))
 (mk_lt
 (mk_eq (mk_ifeq X dX1_name_71 rfl rfl))
 (mk_eq (mk_iconst X dX1_name_74 rfl rfl))))
 (mk_lt
 (mk_eq (mk_goto X dX1_name_75 rfl))
 (mk_lt
 (mk_eq (mk_aload_n X dX1_name_78 rfl rfl))
 (mk_eq (mk_bipush X dX1_name_79 rfl rfl))))))))
 (mk_lt
 (mk_lt
 (mk_lt
 (mk_lt
 (mk_lt
 (mk_eq (mk_V2 X h_X1_eats (ci := 1) rfl (lw_V q412 q414 qs6 q62 q415) ⟨rfl, by decide, by decide, rfl⟩ ⟨(Nat.le_of_ble_eq_true rfl), (Nat.le_of_ble_eq_true rfl)⟩ dX1_name_81 rfl))
 (mk_eq (mk_ifeq X dX1_name_84 rfl rfl)))
 (mk_lt
 (mk_eq (mk_iconst X dX1_name_87 rfl rfl))
 (mk_lt
 (mk_eq (mk_goto X dX1_name_88 rfl))
 (mk_eq (mk_iconst X dX1_name_91 rfl rfl)))))
 (mk_lt
 (mk_lt
 (mk_eq (mk_istore_n X dX1_name_92 rfl (Nat.le_of_ble_eq_true rfl) rfl))
 (mk_eq (mk_aload_n X dX1_name_93 rfl rfl)))
 (mk_lt
 (mk_eq (mk_bipush X dX1_name_94 rfl rfl))
 (mk_lt
 (mk_eq (mk_V2 X h_X1_eats (ci := 1) rfl (lw_V q412 q414 qs6 q62 q415) ⟨rfl, by decide, by decide, rfl⟩ ⟨(Nat.le_of_ble_eq_true rfl), (Nat.le_of_ble_eq_true rfl)⟩ dX1_name_96 rfl))
 (mk_eq (mk_istore X dX1_name_99 (Nat.le_of_ble_eq_true rfl) rfl))))))
 (mk_lt
 (mk_lt
 (mk_lt
 (mk_eq (mk_iload X dX1_name_101 rfl))
 (mk_eq (mk_ifeq X dX1_name_103 rfl rfl)))
 (mk_lt
 (mk_eq (mk_iload_n X dX1_name_106 rfl rfl))
 (mk_lt
 (mk_eq (mk_ifgt X dX1_name_107 rfl rfl))
 (mk_eq (mk_aload_n X dX1_name_110 rfl rfl)))))
 (mk_lt
 (mk_lt
 (mk_eq (mk_get X (ci := 1) (j := 4) rfl in_X1 (Nat.le_of_ble_eq_true rfl) q88 dX1_name_111 rfl))
 (mk_lt
 (mk_eq (mk_getN X (ci := 0) (j := 3) rfl in_X0 (Nat.le_of_ble_eq_true rfl) (List.mem_of_getElem? (i := 18) rfl) dX1_name_114 rfl))
 (mk_eq (mk_iload_n X dX1_name_117 rfl rfl))))
 (mk_lt
 (mk_eq (mk_V2 X h_X2_lineOf (ci := 2) rfl (lw_V q404 q405 q406 q63 q407) ⟨rfl, by decide, by decide, rfl⟩ ⟨(Nat.le_of_ble_eq_true rfl), (Nat.le_of_ble_eq_true rfl)⟩ dX1_name_118 rfl))
 (mk_lt
 (mk_eq (mk_bipush X dX1_name_121 rfl rfl))
 (mk_eq (mk_icne X dX1_name_123 rfl rfl)))))))
 (mk_lt
 (mk_lt
 (mk_lt
 (mk_lt
 (mk_eq (mk_aload_n X dX1_name_126 rfl rfl))
 (mk_eq (mk_iload_n X dX1_name_127 rfl rfl)))
 (mk_lt
 (mk_eq (mk_V2 X h_X1_fails (ci := 1) rfl (lw_V q408 q410 qs5 q62 q411) ⟨rfl, by decide, by decide, rfl⟩ ⟨(Nat.le_of_ble_eq_true rfl), (Nat.le_of_ble_eq_true rfl)⟩ dX1_name_128 rfl))
 (mk_lt
 (mk_eq (mk_rz X dX1_name_131))
 (mk_eq (mk_aload_n X dX1_name_132 rfl rfl)))))
 (mk_lt
 (mk_lt
 (mk_eq (mk_bipush X dX1_name_133 rfl rfl))
 (mk_eq (mk_iload_n X dX1_name_135 rfl rfl)))
 (mk_lt
 (mk_eq (mk_imul X dX1_name_136 rfl))
 (mk_lt
 (mk_eq (mk_iconst X dX1_name_137 rfl rfl))
 (mk_eq (mk_iload_n X dX1_name_138 rfl rfl))))))
 (mk_lt
 (mk_lt
 (mk_lt
 (mk_eq (mk_imul X dX1_name_139 rfl))
 (mk_eq (mk_iadd X dX1_name_140 rfl)))
 (mk_lt
 (mk_eq (mk_iload X dX1_name_141 rfl))
 (mk_lt
 (mk_eq (mk_ifeq X dX1_name_143 rfl rfl))
 (mk_eq (mk_iconst X dX1_name_146 rfl rfl)))))
 (mk_lt
 (mk_lt
 (mk_eq (mk_goto X dX1_name_147 rfl))
 (mk_lt
 (mk_eq (mk_iconst X dX1_name_150 rfl rfl))
 (mk_eq (mk_iadd X dX1_name_151 rfl))))
 (mk_lt
 (mk_eq (mk_put X (ci := 1) (j := 3) rfl in_X1 tyX1_ok nmX1 (Nat.le_of_ble_eq_true rfl) rfl rfl q87 dX1_name_152 rfl))
 (mk_lt
 (mk_eq (mk_iconst X dX1_name_155 rfl rfl))
 (mk_eq (mk_rz X dX1_name_156)))))))))
theorem sd_X1_name {l : Launch} {w : ma_Wd} {NC : Nat} {A : Nat → Prop} {S_X1_here S_X0_isLetter S_X1_fails S_X1_eats S_X2_lineOf : ma_Cs} (hw : ma_Wo w YX NC A) (h_X1_here : ma_Sd l w YX NC A yX1_here cX1_here 1 (some .int) rm_X1_here S_X1_here) (h_X0_isLetter : ma_Sd l w YX NC A yX0_isLetter cX0_isLetter 1 (some .boolean) rm_X0_isLetter S_X0_isLetter) (h_X1_fails : ma_Sd l w YX NC A yX1_fails cX1_fails 2 (some .boolean) rm_X1_fails S_X1_fails) (h_X1_eats : ma_Sd l w YX NC A yX1_eats cX1_eats 3 (some .boolean) rm_X1_eats S_X1_eats) (h_X2_lineOf : ma_Sd l w YX NC A yX2_lineOf cX2_lineOf 3 (some .int) rm_X2_lineOf S_X2_lineOf) : ma_Sd l w YX NC A yX1_name cX1_name 5 (some .boolean) rm_X1_name (ma_rn (tb_X1_name S_X1_here S_X0_isLetter S_X1_fails S_X1_eats S_X2_lineOf) 5) := ma_of hw (by decide) ⟨rfl, rfl⟩ (fun X => tk_X1_name h_X1_here h_X0_isLetter h_X1_fails h_X1_eats h_X2_lineOf X)
