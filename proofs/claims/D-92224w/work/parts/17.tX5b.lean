/-! tables: X5_name X5_plan X5_line X5_hasProduct X5_first X5_isCell X5_at X5_isPlace X5_all X5_hall X5_place X5_filled X5_next X5_down -/
set_option maxRecDepth 100000
set_option maxHeartbeats 4000000
theorem dX5_name_0 : decode cX5_name 0 = .ok (.aload_n 0, 1) := by decide +kernel
theorem dX5_name_1 : decode cX5_name 1 = .ok (.getfield 165, 3) := by decide +kernel
theorem dX5_name_4 : decode cX5_name 4 = .ok (.istore_n 1, 1) := by decide +kernel
theorem dX5_name_5 : decode cX5_name 5 = .ok (.aload_n 0, 1) := by decide +kernel
theorem dX5_name_6 : decode cX5_name 6 = .ok (.aload_n 0, 1) := by decide +kernel
theorem dX5_name_7 : decode cX5_name 7 = .ok (.getfield 165, 3) := by decide +kernel
theorem dX5_name_10 : decode cX5_name 10 = .ok (.invokevirtual 168, 3) := by decide +kernel
theorem dX5_name_13 : decode cX5_name 13 = .ok (.bipush 97, 2) := by decide +kernel
theorem dX5_name_15 : decode cX5_name 15 = .ok (.isub, 1) := by decide +kernel
theorem dX5_name_16 : decode cX5_name 16 = .ok (.istore_n 2, 1) := by decide +kernel
theorem dX5_name_17 : decode cX5_name 17 = .ok (.iload_n 2, 1) := by decide +kernel
theorem dX5_name_18 : decode cX5_name 18 = .ok (.invokestatic 146, 3) := by decide +kernel
theorem dX5_name_21 : decode cX5_name 21 = .ok (.ifCond .ne 13, 3) := by decide +kernel
theorem dX5_name_24 : decode cX5_name 24 = .ok (.aload_n 0, 1) := by decide +kernel
theorem dX5_name_25 : decode cX5_name 25 = .ok (.aload_n 0, 1) := by decide +kernel
theorem dX5_name_26 : decode cX5_name 26 = .ok (.getfield 165, 3) := by decide +kernel
theorem dX5_name_29 : decode cX5_name 29 = .ok (.invokevirtual 177, 3) := by decide +kernel
theorem dX5_name_32 : decode cX5_name 32 = .ok (.iconst 0, 1) := by decide +kernel
theorem dX5_name_33 : decode cX5_name 33 = .ok (.ireturn, 1) := by decide +kernel
theorem dX5_name_34 : decode cX5_name 34 = .ok (.aload_n 0, 1) := by decide +kernel
theorem dX5_name_35 : decode cX5_name 35 = .ok (.dup, 1) := by decide +kernel
theorem dX5_name_36 : decode cX5_name 36 = .ok (.getfield 165, 3) := by decide +kernel
theorem dX5_name_39 : decode cX5_name 39 = .ok (.iconst 1, 1) := by decide +kernel
theorem dX5_name_40 : decode cX5_name 40 = .ok (.iadd, 1) := by decide +kernel
theorem dX5_name_41 : decode cX5_name 41 = .ok (.putfield 165, 3) := by decide +kernel
theorem dX5_name_44 : decode cX5_name 44 = .ok (.aload_n 0, 1) := by decide +kernel
theorem dX5_name_45 : decode cX5_name 45 = .ok (.aload_n 0, 1) := by decide +kernel
theorem dX5_name_46 : decode cX5_name 46 = .ok (.getfield 165, 3) := by decide +kernel
theorem dX5_name_49 : decode cX5_name 49 = .ok (.invokevirtual 168, 3) := by decide +kernel
theorem dX5_name_52 : decode cX5_name 52 = .ok (.istore_n 3, 1) := by decide +kernel
theorem dX5_name_53 : decode cX5_name 53 = .ok (.iload_n 3, 1) := by decide +kernel
theorem dX5_name_54 : decode cX5_name 54 = .ok (.bipush 110, 2) := by decide +kernel
theorem dX5_name_56 : decode cX5_name 56 = .ok (.if_icmp .ne 7, 3) := by decide +kernel
theorem dX5_name_59 : decode cX5_name 59 = .ok (.iconst 1, 1) := by decide +kernel
theorem dX5_name_60 : decode cX5_name 60 = .ok (.goto 34, 3) := by decide +kernel
theorem dX5_name_63 : decode cX5_name 63 = .ok (.iload_n 3, 1) := by decide +kernel
theorem dX5_name_64 : decode cX5_name 64 = .ok (.bipush 101, 2) := by decide +kernel
theorem dX5_name_66 : decode cX5_name 66 = .ok (.if_icmp .ne 7, 3) := by decide +kernel
theorem dX5_name_69 : decode cX5_name 69 = .ok (.iconst 2, 1) := by decide +kernel
theorem dX5_name_70 : decode cX5_name 70 = .ok (.goto 24, 3) := by decide +kernel
theorem dX5_name_73 : decode cX5_name 73 = .ok (.iload_n 3, 1) := by decide +kernel
theorem dX5_name_74 : decode cX5_name 74 = .ok (.bipush 115, 2) := by decide +kernel
theorem dX5_name_76 : decode cX5_name 76 = .ok (.if_icmp .ne 7, 3) := by decide +kernel
theorem dX5_name_79 : decode cX5_name 79 = .ok (.iconst 3, 1) := by decide +kernel
theorem dX5_name_80 : decode cX5_name 80 = .ok (.goto 14, 3) := by decide +kernel
theorem dX5_name_83 : decode cX5_name 83 = .ok (.iload_n 3, 1) := by decide +kernel
theorem dX5_name_84 : decode cX5_name 84 = .ok (.bipush 119, 2) := by decide +kernel
theorem dX5_name_86 : decode cX5_name 86 = .ok (.if_icmp .ne 7, 3) := by decide +kernel
theorem dX5_name_89 : decode cX5_name 89 = .ok (.iconst 4, 1) := by decide +kernel
theorem dX5_name_90 : decode cX5_name 90 = .ok (.goto 4, 3) := by decide +kernel
theorem dX5_name_93 : decode cX5_name 93 = .ok (.iconst 0, 1) := by decide +kernel
theorem dX5_name_94 : decode cX5_name 94 = .ok (.istore 4, 2) := by decide +kernel
theorem dX5_name_96 : decode cX5_name 96 = .ok (.aload_n 0, 1) := by decide +kernel
theorem dX5_name_97 : decode cX5_name 97 = .ok (.dup, 1) := by decide +kernel
theorem dX5_name_98 : decode cX5_name 98 = .ok (.getfield 165, 3) := by decide +kernel
theorem dX5_name_101 : decode cX5_name 101 = .ok (.iload 4, 2) := by decide +kernel
theorem dX5_name_103 : decode cX5_name 103 = .ok (.ifCond .le 7, 3) := by decide +kernel
theorem dX5_name_106 : decode cX5_name 106 = .ok (.iconst 1, 1) := by decide +kernel
theorem dX5_name_107 : decode cX5_name 107 = .ok (.goto 4, 3) := by decide +kernel
theorem dX5_name_110 : decode cX5_name 110 = .ok (.iconst 0, 1) := by decide +kernel
theorem dX5_name_111 : decode cX5_name 111 = .ok (.iadd, 1) := by decide +kernel
theorem dX5_name_112 : decode cX5_name 112 = .ok (.putfield 165, 3) := by decide +kernel
theorem dX5_name_115 : decode cX5_name 115 = .ok (.aload_n 0, 1) := by decide +kernel
theorem dX5_name_116 : decode cX5_name 116 = .ok (.aload_n 0, 1) := by decide +kernel
theorem dX5_name_117 : decode cX5_name 117 = .ok (.getfield 165, 3) := by decide +kernel
theorem dX5_name_120 : decode cX5_name 120 = .ok (.invokevirtual 168, 3) := by decide +kernel
theorem dX5_name_123 : decode cX5_name 123 = .ok (.bipush 39, 2) := by decide +kernel
theorem dX5_name_125 : decode cX5_name 125 = .ok (.if_icmp .ne 77, 3) := by decide +kernel
theorem dX5_name_128 : decode cX5_name 128 = .ok (.iconst 0, 1) := by decide +kernel
theorem dX5_name_129 : decode cX5_name 129 = .ok (.istore 5, 2) := by decide +kernel
theorem dX5_name_131 : decode cX5_name 131 = .ok (.iconst 0, 1) := by decide +kernel
theorem dX5_name_132 : decode cX5_name 132 = .ok (.istore 6, 2) := by decide +kernel
theorem dX5_name_134 : decode cX5_name 134 = .ok (.iload 6, 2) := by decide +kernel
theorem dX5_name_136 : decode cX5_name 136 = .ok (.aload_n 0, 1) := by decide +kernel
theorem dX5_name_137 : decode cX5_name 137 = .ok (.getfield 181, 3) := by decide +kernel
theorem dX5_name_140 : decode cX5_name 140 = .ok (.if_icmp .ge 34, 3) := by decide +kernel
theorem dX5_name_143 : decode cX5_name 143 = .ok (.iload 5, 2) := by decide +kernel
theorem dX5_name_145 : decode cX5_name 145 = .ok (.ifCond .ne 16, 3) := by decide +kernel
theorem dX5_name_148 : decode cX5_name 148 = .ok (.aload_n 0, 1) := by decide +kernel
theorem dX5_name_149 : decode cX5_name 149 = .ok (.getfield 26, 3) := by decide +kernel
theorem dX5_name_152 : decode cX5_name 152 = .ok (.iconst 4, 1) := by decide +kernel
theorem dX5_name_153 : decode cX5_name 153 = .ok (.iload 6, 2) := by decide +kernel
theorem dX5_name_155 : decode cX5_name 155 = .ok (.iadd, 1) := by decide +kernel
theorem dX5_name_156 : decode cX5_name 156 = .ok (.iaload, 1) := by decide +kernel
theorem dX5_name_157 : decode cX5_name 157 = .ok (.iload_n 2, 1) := by decide +kernel
theorem dX5_name_158 : decode cX5_name 158 = .ok (.if_icmp .ne 7, 3) := by decide +kernel
theorem dX5_name_161 : decode cX5_name 161 = .ok (.iconst 1, 1) := by decide +kernel
theorem dX5_name_162 : decode cX5_name 162 = .ok (.goto 4, 3) := by decide +kernel
theorem dX5_name_165 : decode cX5_name 165 = .ok (.iconst 0, 1) := by decide +kernel
theorem dX5_name_166 : decode cX5_name 166 = .ok (.istore 5, 2) := by decide +kernel
theorem dX5_name_168 : decode cX5_name 168 = .ok (.iinc 6 1, 3) := by decide +kernel
theorem dX5_name_171 : decode cX5_name 171 = .ok (.goto (-37), 3) := by decide +kernel
theorem dX5_name_174 : decode cX5_name 174 = .ok (.iload 4, 2) := by decide +kernel
theorem dX5_name_176 : decode cX5_name 176 = .ok (.ifCond .gt 8, 3) := by decide +kernel
theorem dX5_name_179 : decode cX5_name 179 = .ok (.iload 5, 2) := by decide +kernel
theorem dX5_name_181 : decode cX5_name 181 = .ok (.ifCond .ne 8, 3) := by decide +kernel
theorem dX5_name_184 : decode cX5_name 184 = .ok (.aload_n 0, 1) := by decide +kernel
theorem dX5_name_185 : decode cX5_name 185 = .ok (.iload_n 1, 1) := by decide +kernel
theorem dX5_name_186 : decode cX5_name 186 = .ok (.invokevirtual 177, 3) := by decide +kernel
theorem dX5_name_189 : decode cX5_name 189 = .ok (.iconst 5, 1) := by decide +kernel
theorem dX5_name_190 : decode cX5_name 190 = .ok (.istore 4, 2) := by decide +kernel
theorem dX5_name_192 : decode cX5_name 192 = .ok (.aload_n 0, 1) := by decide +kernel
theorem dX5_name_193 : decode cX5_name 193 = .ok (.dup, 1) := by decide +kernel
theorem dX5_name_194 : decode cX5_name 194 = .ok (.getfield 165, 3) := by decide +kernel
theorem dX5_name_197 : decode cX5_name 197 = .ok (.iconst 1, 1) := by decide +kernel
theorem dX5_name_198 : decode cX5_name 198 = .ok (.iadd, 1) := by decide +kernel
theorem dX5_name_199 : decode cX5_name 199 = .ok (.putfield 165, 3) := by decide +kernel
theorem dX5_name_202 : decode cX5_name 202 = .ok (.iload_n 2, 1) := by decide +kernel
theorem dX5_name_203 : decode cX5_name 203 = .ok (.iconst 4, 1) := by decide +kernel
theorem dX5_name_204 : decode cX5_name 204 = .ok (.iload 4, 2) := by decide +kernel
theorem dX5_name_206 : decode cX5_name 206 = .ok (.imul, 1) := by decide +kernel
theorem dX5_name_207 : decode cX5_name 207 = .ok (.iadd, 1) := by decide +kernel
theorem dX5_name_208 : decode cX5_name 208 = .ok (.ireturn, 1) := by decide +kernel
def tb_X5_name (S_X5_byteAt S_X5_isLetter S_X5_fails : ma_Cs) : Nat → ma_In := fun pc =>
 (if pc < 103 then
 (if pc < 49 then
 (if pc < 25 then
 (if pc < 13 then
 (if pc < 5 then
 (if pc < 1 then
 (if pc = 0 then in_ald 0 1 else in_no) else
 (if pc < 4 then
 (if pc = 1 then in_get YM 5 32 4 else in_no) else
 (if pc = 4 then in_ist 1 5 else in_no))) else
 (if pc < 7 then
 (if pc < 6 then
 (if pc = 5 then in_ald 0 6 else in_no) else
 (if pc = 6 then in_ald 0 7 else in_no)) else
 (if pc < 10 then
 (if pc = 7 then in_get YM 5 32 10 else in_no) else
 (if pc = 10 then in_v2 YM 5 S_X5_byteAt 13 else in_no)))) else
 (if pc < 17 then
 (if pc < 15 then
 (if pc = 13 then in_push (.int 97) 15 else in_no) else
 (if pc < 16 then
 (if pc = 15 then in_iii (fun x y => x - y) 16 else in_no) else
 (if pc = 16 then in_ist 2 17 else in_no))) else
 (if pc < 21 then
 (if pc < 18 then
 (if pc = 17 then in_ild 2 18 else in_no) else
 (if pc = 18 then in_s1 S_X5_isLetter 21 else in_no)) else
 (if pc < 24 then
 (if pc = 21 then in_if1 (fun x => x = 0) 24 34 else in_no) else
 (if pc = 24 then in_ald 0 25 else in_no))))) else
 (if pc < 36 then
 (if pc < 32 then
 (if pc < 26 then
 (if pc = 25 then in_ald 0 26 else in_no) else
 (if pc < 29 then
 (if pc = 26 then in_get YM 5 32 29 else in_no) else
 (if pc = 29 then in_v2 YM 5 S_X5_fails 32 else in_no))) else
 (if pc < 34 then
 (if pc < 33 then
 (if pc = 32 then in_push (.int 0) 33 else in_no) else
 (if pc = 33 then in_ri else in_no)) else
 (if pc < 35 then
 (if pc = 34 then in_ald 0 35 else in_no) else
 (if pc = 35 then in_dup 36 else in_no)))) else
 (if pc < 41 then
 (if pc < 39 then
 (if pc = 36 then in_get YM 5 32 39 else in_no) else
 (if pc < 40 then
 (if pc = 39 then in_push (.int 1) 40 else in_no) else
 (if pc = 40 then in_iii (fun x y => x + y) 41 else in_no))) else
 (if pc < 45 then
 (if pc < 44 then
 (if pc = 41 then in_put YM 5 32 44 else in_no) else
 (if pc = 44 then in_ald 0 45 else in_no)) else
 (if pc < 46 then
 (if pc = 45 then in_ald 0 46 else in_no) else
 (if pc = 46 then in_get YM 5 32 49 else in_no)))))) else
 (if pc < 76 then
 (if pc < 63 then
 (if pc < 54 then
 (if pc < 52 then
 (if pc = 49 then in_v2 YM 5 S_X5_byteAt 52 else in_no) else
 (if pc < 53 then
 (if pc = 52 then in_ist 3 53 else in_no) else
 (if pc = 53 then in_ild 3 54 else in_no))) else
 (if pc < 59 then
 (if pc < 56 then
 (if pc = 54 then in_push (.int 110) 56 else in_no) else
 (if pc = 56 then in_if2 (fun x y => x = y) 59 63 else in_no)) else
 (if pc < 60 then
 (if pc = 59 then in_push (.int 1) 60 else in_no) else
 (if pc = 60 then in_go 94 else in_no)))) else
 (if pc < 69 then
 (if pc < 64 then
 (if pc = 63 then in_ild 3 64 else in_no) else
 (if pc < 66 then
 (if pc = 64 then in_push (.int 101) 66 else in_no) else
 (if pc = 66 then in_if2 (fun x y => x = y) 69 73 else in_no))) else
 (if pc < 73 then
 (if pc < 70 then
 (if pc = 69 then in_push (.int 2) 70 else in_no) else
 (if pc = 70 then in_go 94 else in_no)) else
 (if pc < 74 then
 (if pc = 73 then in_ild 3 74 else in_no) else
 (if pc = 74 then in_push (.int 115) 76 else in_no))))) else
 (if pc < 90 then
 (if pc < 83 then
 (if pc < 79 then
 (if pc = 76 then in_if2 (fun x y => x = y) 79 83 else in_no) else
 (if pc < 80 then
 (if pc = 79 then in_push (.int 3) 80 else in_no) else
 (if pc = 80 then in_go 94 else in_no))) else
 (if pc < 86 then
 (if pc < 84 then
 (if pc = 83 then in_ild 3 84 else in_no) else
 (if pc = 84 then in_push (.int 119) 86 else in_no)) else
 (if pc < 89 then
 (if pc = 86 then in_if2 (fun x y => x = y) 89 93 else in_no) else
 (if pc = 89 then in_push (.int 4) 90 else in_no)))) else
 (if pc < 96 then
 (if pc < 93 then
 (if pc = 90 then in_go 94 else in_no) else
 (if pc < 94 then
 (if pc = 93 then in_push (.int 0) 94 else in_no) else
 (if pc = 94 then in_ist 4 96 else in_no))) else
 (if pc < 98 then
 (if pc < 97 then
 (if pc = 96 then in_ald 0 97 else in_no) else
 (if pc = 97 then in_dup 98 else in_no)) else
 (if pc < 101 then
 (if pc = 98 then in_get YM 5 32 101 else in_no) else
 (if pc = 101 then in_ild 4 103 else in_no))))))) else
 (if pc < 157 then
 (if pc < 131 then
 (if pc < 116 then
 (if pc < 110 then
 (if pc < 106 then
 (if pc = 103 then in_if1 (fun x => x ≤ 0) 110 106 else in_no) else
 (if pc < 107 then
 (if pc = 106 then in_push (.int 1) 107 else in_no) else
 (if pc = 107 then in_go 111 else in_no))) else
 (if pc < 112 then
 (if pc < 111 then
 (if pc = 110 then in_push (.int 0) 111 else in_no) else
 (if pc = 111 then in_iii (fun x y => x + y) 112 else in_no)) else
 (if pc < 115 then
 (if pc = 112 then in_put YM 5 32 115 else in_no) else
 (if pc = 115 then in_ald 0 116 else in_no)))) else
 (if pc < 123 then
 (if pc < 117 then
 (if pc = 116 then in_ald 0 117 else in_no) else
 (if pc < 120 then
 (if pc = 117 then in_get YM 5 32 120 else in_no) else
 (if pc = 120 then in_v2 YM 5 S_X5_byteAt 123 else in_no))) else
 (if pc < 128 then
 (if pc < 125 then
 (if pc = 123 then in_push (.int 39) 125 else in_no) else
 (if pc = 125 then in_if2 (fun x y => x = y) 128 202 else in_no)) else
 (if pc < 129 then
 (if pc = 128 then in_push (.int 0) 129 else in_no) else
 (if pc = 129 then in_ist 5 131 else in_no))))) else
 (if pc < 145 then
 (if pc < 136 then
 (if pc < 132 then
 (if pc = 131 then in_push (.int 0) 132 else in_no) else
 (if pc < 134 then
 (if pc = 132 then in_ist 6 134 else in_no) else
 (if pc = 134 then in_ild 6 136 else in_no))) else
 (if pc < 140 then
 (if pc < 137 then
 (if pc = 136 then in_ald 0 137 else in_no) else
 (if pc = 137 then in_get YM 5 8 140 else in_no)) else
 (if pc < 143 then
 (if pc = 140 then in_if2 (fun x y => y ≤ x) 174 143 else in_no) else
 (if pc = 143 then in_ild 5 145 else in_no)))) else
 (if pc < 152 then
 (if pc < 148 then
 (if pc = 145 then in_if1 (fun x => x = 0) 148 161 else in_no) else
 (if pc < 149 then
 (if pc = 148 then in_ald 0 149 else in_no) else
 (if pc = 149 then in_get YM 5 9 152 else in_no))) else
 (if pc < 155 then
 (if pc < 153 then
 (if pc = 152 then in_push (.int 4) 153 else in_no) else
 (if pc = 153 then in_ild 6 155 else in_no)) else
 (if pc < 156 then
 (if pc = 155 then in_iii (fun x y => x + y) 156 else in_no) else
 (if pc = 156 then in_iar YM 157 else in_no)))))) else
 (if pc < 186 then
 (if pc < 171 then
 (if pc < 162 then
 (if pc < 158 then
 (if pc = 157 then in_ild 2 158 else in_no) else
 (if pc < 161 then
 (if pc = 158 then in_if2 (fun x y => x = y) 161 165 else in_no) else
 (if pc = 161 then in_push (.int 1) 162 else in_no))) else
 (if pc < 166 then
 (if pc < 165 then
 (if pc = 162 then in_go 166 else in_no) else
 (if pc = 165 then in_push (.int 0) 166 else in_no)) else
 (if pc < 168 then
 (if pc = 166 then in_ist 5 168 else in_no) else
 (if pc = 168 then in_inc 6 1 171 else in_no)))) else
 (if pc < 179 then
 (if pc < 174 then
 (if pc = 171 then in_go 134 else in_no) else
 (if pc < 176 then
 (if pc = 174 then in_ild 4 176 else in_no) else
 (if pc = 176 then in_if1 (fun x => 0 < x) 184 179 else in_no))) else
 (if pc < 184 then
 (if pc < 181 then
 (if pc = 179 then in_ild 5 181 else in_no) else
 (if pc = 181 then in_if1 (fun x => x = 0) 184 189 else in_no)) else
 (if pc < 185 then
 (if pc = 184 then in_ald 0 185 else in_no) else
 (if pc = 185 then in_ild 1 186 else in_no))))) else
 (if pc < 198 then
 (if pc < 192 then
 (if pc < 189 then
 (if pc = 186 then in_v2 YM 5 S_X5_fails 189 else in_no) else
 (if pc < 190 then
 (if pc = 189 then in_push (.int 5) 190 else in_no) else
 (if pc = 190 then in_ist 4 192 else in_no))) else
 (if pc < 194 then
 (if pc < 193 then
 (if pc = 192 then in_ald 0 193 else in_no) else
 (if pc = 193 then in_dup 194 else in_no)) else
 (if pc < 197 then
 (if pc = 194 then in_get YM 5 32 197 else in_no) else
 (if pc = 197 then in_push (.int 1) 198 else in_no)))) else
 (if pc < 204 then
 (if pc < 202 then
 (if pc < 199 then
 (if pc = 198 then in_iii (fun x y => x + y) 199 else in_no) else
 (if pc = 199 then in_put YM 5 32 202 else in_no)) else
 (if pc < 203 then
 (if pc = 202 then in_ild 2 203 else in_no) else
 (if pc = 203 then in_push (.int 4) 204 else in_no))) else
 (if pc < 207 then
 (if pc < 206 then
 (if pc = 204 then in_ild 4 206 else in_no) else
 (if pc = 206 then in_iii (fun x y => x * y) 207 else in_no)) else
 (if pc < 208 then
 (if pc = 207 then in_iii (fun x y => x + y) 208 else in_no) else
 (if pc = 208 then in_ri else in_no))))))))
theorem tk_X5_name {l : Launch} {w : ma_Wd} {NC : Nat} {A : Nat → Prop} {S_X5_byteAt S_X5_isLetter S_X5_fails : ma_Cs} (h_X5_byteAt : ma_Sd l w YM NC A yX5_byteAt cX5_byteAt 2 (some .int) rm_X5_byteAt S_X5_byteAt) (h_X5_isLetter : ma_Sd l w YM NC A yX5_isLetter cX5_isLetter 1 (some .boolean) rm_X5_isLetter S_X5_isLetter) (h_X5_fails : ma_Sd l w YM NC A yX5_fails cX5_fails 2 none rm_X5_fails S_X5_fails) {p : Program} {e : Env} {s : State} {m : MethodId} {args : Array Value} {below : List Frame} {meth : Method} {c : Code} (X : ma_Cx p s m args meth c w YM NC A yX5_name.cls cX5_name 7 (some .int)) : ∀ pc, ma_Ok p l e rm_X5_name s m args below meth c w YM NC A 7 pc (tb_X5_name S_X5_byteAt S_X5_isLetter S_X5_fails pc) := fun pc =>
 (mk_lt
 (mk_lt
 (mk_lt
 (mk_lt
 (mk_lt
 (mk_lt
 (mk_eq (mk_aload_n X dX5_name_0 rfl rfl))
 (mk_lt
 (mk_eq (mk_get X (ci := 5) (j := 32) rfl in_X5 (Nat.le_of_ble_eq_true rfl) q779 dX5_name_1 rfl))
 (mk_eq (mk_istore_n X dX5_name_4 rfl (Nat.le_of_ble_eq_true rfl) rfl))))
 (mk_lt
 (mk_lt
 (mk_eq (mk_aload_n X dX5_name_5 rfl rfl))
 (mk_eq (mk_aload_n X dX5_name_6 rfl rfl)))
 (mk_lt
 (mk_eq (mk_get X (ci := 5) (j := 32) rfl in_X5 (Nat.le_of_ble_eq_true rfl) q779 dX5_name_7 rfl))
 (mk_eq (mk_V2 X h_X5_byteAt (ci := 5) rfl (lw_V q937 q939 qs33 q66 q940) ⟨rfl, by decide, by decide, rfl⟩ ⟨(Nat.le_of_ble_eq_true rfl), (Nat.le_of_ble_eq_true rfl)⟩ dX5_name_10 rfl)))))
 (mk_lt
 (mk_lt
 (mk_eq (mk_bipush X dX5_name_13 rfl rfl))
 (mk_lt
 (mk_eq (mk_isub X dX5_name_15 rfl))
 (mk_eq (mk_istore_n X dX5_name_16 rfl (Nat.le_of_ble_eq_true rfl) rfl))))
 (mk_lt
 (mk_lt
 (mk_eq (mk_iload_n X dX5_name_17 rfl rfl))
 (mk_eq (mk_S1 X h_X5_isLetter (lw_S q908 q909 q66 q910) ⟨by decide, by decide, rfl⟩ ⟨(Nat.le_of_ble_eq_true rfl), (Nat.le_of_ble_eq_true rfl)⟩ dX5_name_18 rfl)))
 (mk_lt
 (mk_eq (mk_ifne X dX5_name_21 rfl rfl))
 (mk_eq (mk_aload_n X dX5_name_24 rfl rfl))))))
 (mk_lt
 (mk_lt
 (mk_lt
 (mk_eq (mk_aload_n X dX5_name_25 rfl rfl))
 (mk_lt
 (mk_eq (mk_get X (ci := 5) (j := 32) rfl in_X5 (Nat.le_of_ble_eq_true rfl) q779 dX5_name_26 rfl))
 (mk_eq (mk_V2 X h_X5_fails (ci := 5) rfl (lw_V q941 q943 qs34 q66 q944) ⟨rfl, by decide, by decide, rfl⟩ ⟨(Nat.le_of_ble_eq_true rfl), (Nat.le_of_ble_eq_true rfl)⟩ dX5_name_29 rfl))))
 (mk_lt
 (mk_lt
 (mk_eq (mk_iconst X dX5_name_32 rfl rfl))
 (mk_eq (mk_ri X dX5_name_33)))
 (mk_lt
 (mk_eq (mk_aload_n X dX5_name_34 rfl rfl))
 (mk_eq (mk_dup X dX5_name_35 rfl)))))
 (mk_lt
 (mk_lt
 (mk_eq (mk_get X (ci := 5) (j := 32) rfl in_X5 (Nat.le_of_ble_eq_true rfl) q779 dX5_name_36 rfl))
 (mk_lt
 (mk_eq (mk_iconst X dX5_name_39 rfl rfl))
 (mk_eq (mk_iadd X dX5_name_40 rfl))))
 (mk_lt
 (mk_lt
 (mk_eq (mk_put X (ci := 5) (j := 32) rfl in_X5 tyX5_ok nmX5 (Nat.le_of_ble_eq_true rfl) rfl rfl q779 dX5_name_41 rfl))
 (mk_eq (mk_aload_n X dX5_name_44 rfl rfl)))
 (mk_lt
 (mk_eq (mk_aload_n X dX5_name_45 rfl rfl))
 (mk_eq (mk_get X (ci := 5) (j := 32) rfl in_X5 (Nat.le_of_ble_eq_true rfl) q779 dX5_name_46 rfl)))))))
 (mk_lt
 (mk_lt
 (mk_lt
 (mk_lt
 (mk_eq (mk_V2 X h_X5_byteAt (ci := 5) rfl (lw_V q937 q939 qs33 q66 q940) ⟨rfl, by decide, by decide, rfl⟩ ⟨(Nat.le_of_ble_eq_true rfl), (Nat.le_of_ble_eq_true rfl)⟩ dX5_name_49 rfl))
 (mk_lt
 (mk_eq (mk_istore_n X dX5_name_52 rfl (Nat.le_of_ble_eq_true rfl) rfl))
 (mk_eq (mk_iload_n X dX5_name_53 rfl rfl))))
 (mk_lt
 (mk_lt
 (mk_eq (mk_bipush X dX5_name_54 rfl rfl))
 (mk_eq (mk_icne X dX5_name_56 rfl rfl)))
 (mk_lt
 (mk_eq (mk_iconst X dX5_name_59 rfl rfl))
 (mk_eq (mk_goto X dX5_name_60 rfl)))))
 (mk_lt
 (mk_lt
 (mk_eq (mk_iload_n X dX5_name_63 rfl rfl))
 (mk_lt
 (mk_eq (mk_bipush X dX5_name_64 rfl rfl))
 (mk_eq (mk_icne X dX5_name_66 rfl rfl))))
 (mk_lt
 (mk_lt
 (mk_eq (mk_iconst X dX5_name_69 rfl rfl))
 (mk_eq (mk_goto X dX5_name_70 rfl)))
 (mk_lt
 (mk_eq (mk_iload_n X dX5_name_73 rfl rfl))
 (mk_eq (mk_bipush X dX5_name_74 rfl rfl))))))
 (mk_lt
 (mk_lt
 (mk_lt
 (mk_eq (mk_icne X dX5_name_76 rfl rfl))
 (mk_lt
 (mk_eq (mk_iconst X dX5_name_79 rfl rfl))
 (mk_eq (mk_goto X dX5_name_80 rfl))))
 (mk_lt
 (mk_lt
 (mk_eq (mk_iload_n X dX5_name_83 rfl rfl))
 (mk_eq (mk_bipush X dX5_name_84 rfl rfl)))
 (mk_lt
 (mk_eq (mk_icne X dX5_name_86 rfl rfl))
 (mk_eq (mk_iconst X dX5_name_89 rfl rfl)))))
 (mk_lt
 (mk_lt
 (mk_eq (mk_goto X dX5_name_90 rfl))
 (mk_lt
 (mk_eq (mk_iconst X dX5_name_93 rfl rfl))
 (mk_eq (mk_istore X dX5_name_94 (Nat.le_of_ble_eq_true rfl) rfl))))
 (mk_lt
 (mk_lt
 (mk_eq (mk_aload_n X dX5_name_96 rfl rfl))
 (mk_eq (mk_dup X dX5_name_97 rfl)))
 (mk_lt
 (mk_eq (mk_get X (ci := 5) (j := 32) rfl in_X5 (Nat.le_of_ble_eq_true rfl) q779 dX5_name_98 rfl))
 (mk_eq (mk_iload X dX5_name_101 rfl))))))))
 (mk_lt
 (mk_lt
 (mk_lt
 (mk_lt
 (mk_lt
 (mk_eq (mk_ifle X dX5_name_103 rfl rfl))
 (mk_lt
 (mk_eq (mk_iconst X dX5_name_106 rfl rfl))
 (mk_eq (mk_goto X dX5_name_107 rfl))))
 (mk_lt
 (mk_lt
 (mk_eq (mk_iconst X dX5_name_110 rfl rfl))
 (mk_eq (mk_iadd X dX5_name_111 rfl)))
 (mk_lt
 (mk_eq (mk_put X (ci := 5) (j := 32) rfl in_X5 tyX5_ok nmX5 (Nat.le_of_ble_eq_true rfl) rfl rfl q779 dX5_name_112 rfl))
 (mk_eq (mk_aload_n X dX5_name_115 rfl rfl)))))
 (mk_lt
 (mk_lt
 (mk_eq (mk_aload_n X dX5_name_116 rfl rfl))
 (mk_lt
 (mk_eq (mk_get X (ci := 5) (j := 32) rfl in_X5 (Nat.le_of_ble_eq_true rfl) q779 dX5_name_117 rfl))
 (mk_eq (mk_V2 X h_X5_byteAt (ci := 5) rfl (lw_V q937 q939 qs33 q66 q940) ⟨rfl, by decide, by decide, rfl⟩ ⟨(Nat.le_of_ble_eq_true rfl), (Nat.le_of_ble_eq_true rfl)⟩ dX5_name_120 rfl))))
 (mk_lt
 (mk_lt
 (mk_eq (mk_bipush X dX5_name_123 rfl rfl))
 (mk_eq (mk_icne X dX5_name_125 rfl rfl)))
 (mk_lt
 (mk_eq (mk_iconst X dX5_name_128 rfl rfl))
 (mk_eq (mk_istore X dX5_name_129 (Nat.le_of_ble_eq_true rfl) rfl))))))
 (mk_lt
 (mk_lt
 (mk_lt
 (mk_eq (mk_iconst X dX5_name_131 rfl rfl))
 (mk_lt
 (mk_eq (mk_istore X dX5_name_132 (Nat.le_of_ble_eq_true rfl) rfl))
 (mk_eq (mk_iload X dX5_name_134 rfl))))
 (mk_lt
 (mk_lt
 (mk_eq (mk_aload_n X dX5_name_136 rfl rfl))
 (mk_eq (mk_get X (ci := 5) (j := 8) rfl in_X5 (Nat.le_of_ble_eq_true rfl) q755 dX5_name_137 rfl)))
 (mk_lt
 (mk_eq (mk_icge X dX5_name_140 rfl rfl))
 (mk_eq (mk_iload X dX5_name_143 rfl)))))
 (mk_lt
 (mk_lt
 (mk_eq (mk_ifne X dX5_name_145 rfl rfl))
 (mk_lt
 (mk_eq (mk_aload_n X dX5_name_148 rfl rfl))
 (mk_eq (mk_get X (ci := 5) (j := 9) rfl in_X5 (Nat.le_of_ble_eq_true rfl) q756 dX5_name_149 rfl))))
 (mk_lt
 (mk_lt
 (mk_eq (mk_iconst X dX5_name_152 rfl rfl))
 (mk_eq (mk_iload X dX5_name_153 rfl)))
 (mk_lt
 (mk_eq (mk_iadd X dX5_name_155 rfl))
 (mk_eq (mk_iar X dX5_name_156 rfl)))))))
 (mk_lt
 (mk_lt
 (mk_lt
 (mk_lt
 (mk_eq (mk_iload_n X dX5_name_157 rfl rfl))
 (mk_lt
 (mk_eq (mk_icne X dX5_name_158 rfl rfl))
 (mk_eq (mk_iconst X dX5_name_161 rfl rfl))))
 (mk_lt
 (mk_lt
 (mk_eq (mk_goto X dX5_name_162 rfl))
 (mk_eq (mk_iconst X dX5_name_165 rfl rfl)))
 (mk_lt
 (mk_eq (mk_istore X dX5_name_166 (Nat.le_of_ble_eq_true rfl) rfl))
 (mk_eq (mk_iinc X dX5_name_168 rfl (Nat.le_of_ble_eq_true rfl) rfl)))))
 (mk_lt
 (mk_lt
 (mk_eq (mk_goto X dX5_name_171 rfl))
 (mk_lt
 (mk_eq (mk_iload X dX5_name_174 rfl))
 (mk_eq (mk_ifgt X dX5_name_176 rfl rfl))))
 (mk_lt
 (mk_lt
 (mk_eq (mk_iload X dX5_name_179 rfl))
 (mk_eq (mk_ifne X dX5_name_181 rfl rfl)))
 (mk_lt
 (mk_eq (mk_aload_n X dX5_name_184 rfl rfl))
 (mk_eq (mk_iload_n X dX5_name_185 rfl rfl))))))
 (mk_lt
 (mk_lt
 (mk_lt
 (mk_eq (mk_V2 X h_X5_fails (ci := 5) rfl (lw_V q941 q943 qs34 q66 q944) ⟨rfl, by decide, by decide, rfl⟩ ⟨(Nat.le_of_ble_eq_true rfl), (Nat.le_of_ble_eq_true rfl)⟩ dX5_name_186 rfl))
 (mk_lt
 (mk_eq (mk_iconst X dX5_name_189 rfl rfl))
 (mk_eq (mk_istore X dX5_name_190 (Nat.le_of_ble_eq_true rfl) rfl))))
 (mk_lt
 (mk_lt
 (mk_eq (mk_aload_n X dX5_name_192 rfl rfl))
 (mk_eq (mk_dup X dX5_name_193 rfl)))
 (mk_lt
 (mk_eq (mk_get X (ci := 5) (j := 32) rfl in_X5 (Nat.le_of_ble_eq_true rfl) q779 dX5_name_194 rfl))
 (mk_eq (mk_iconst X dX5_name_197 rfl rfl)))))
 (mk_lt
 (mk_lt
 (mk_lt
 (mk_eq (mk_iadd X dX5_name_198 rfl))
 (mk_eq (mk_put X (ci := 5) (j := 32) rfl in_X5 tyX5_ok nmX5 (Nat.le_of_ble_eq_true rfl) rfl rfl q779 dX5_name_199 rfl)))
 (mk_lt
 (mk_eq (mk_iload_n X dX5_name_202 rfl rfl))
 (mk_eq (mk_iconst X dX5_name_203 rfl rfl))))
 (mk_lt
 (mk_lt
 (mk_eq (mk_iload X dX5_name_204 rfl))
 (mk_eq (mk_imul X dX5_name_206 rfl)))
 (mk_lt
 (mk_eq (mk_iadd X dX5_name_207 rfl))
 (mk_eq (mk_ri X dX5_name_208)))))))))
theorem sd_X5_name {l : Launch} {w : ma_Wd} {NC : Nat} {A : Nat → Prop} {S_X5_byteAt S_X5_isLetter S_X5_fails : ma_Cs} (hw : ma_Wo w YM NC A) (h_X5_byteAt : ma_Sd l w YM NC A yX5_byteAt cX5_byteAt 2 (some .int) rm_X5_byteAt S_X5_byteAt) (h_X5_isLetter : ma_Sd l w YM NC A yX5_isLetter cX5_isLetter 1 (some .boolean) rm_X5_isLetter S_X5_isLetter) (h_X5_fails : ma_Sd l w YM NC A yX5_fails cX5_fails 2 none rm_X5_fails S_X5_fails) : ma_Sd l w YM NC A yX5_name cX5_name 7 (some .int) rm_X5_name (ma_rn (tb_X5_name S_X5_byteAt S_X5_isLetter S_X5_fails) 7) := ma_of hw (by decide) ⟨rfl, rfl⟩ (fun X => tk_X5_name h_X5_byteAt h_X5_isLetter h_X5_fails X)
theorem dX5_plan_0 : decode cX5_plan 0 = .ok (.aload_n 0, 1) := by decide +kernel
theorem dX5_plan_1 : decode cX5_plan 1 = .ok (.invokevirtual 200, 3) := by decide +kernel
theorem dX5_plan_4 : decode cX5_plan 4 = .ok (.bipush (-4), 2) := by decide +kernel
theorem dX5_plan_6 : decode cX5_plan 6 = .ok (.if_icmp .eq 6, 3) := by decide +kernel
theorem dX5_plan_9 : decode cX5_plan 9 = .ok (.bipush (-2), 2) := by decide +kernel
theorem dX5_plan_11 : decode cX5_plan 11 = .ok (.ireturn, 1) := by decide +kernel
theorem dX5_plan_12 : decode cX5_plan 12 = .ok (.aload_n 0, 1) := by decide +kernel
theorem dX5_plan_13 : decode cX5_plan 13 = .ok (.aload_n 0, 1) := by decide +kernel
theorem dX5_plan_14 : decode cX5_plan 14 = .ok (.getfield 181, 3) := by decide +kernel
theorem dX5_plan_17 : decode cX5_plan 17 = .ok (.putfield 203, 3) := by decide +kernel
theorem dX5_plan_20 : decode cX5_plan 20 = .ok (.iconst 0, 1) := by decide +kernel
theorem dX5_plan_21 : decode cX5_plan 21 = .ok (.istore_n 1, 1) := by decide +kernel
theorem dX5_plan_22 : decode cX5_plan 22 = .ok (.iload_n 1, 1) := by decide +kernel
theorem dX5_plan_23 : decode cX5_plan 23 = .ok (.iconst 4, 1) := by decide +kernel
theorem dX5_plan_24 : decode cX5_plan 24 = .ok (.if_icmp .ge 93, 3) := by decide +kernel
theorem dX5_plan_27 : decode cX5_plan 27 = .ok (.aload_n 0, 1) := by decide +kernel
theorem dX5_plan_28 : decode cX5_plan 28 = .ok (.getfield 26, 3) := by decide +kernel
theorem dX5_plan_31 : decode cX5_plan 31 = .ok (.iload_n 1, 1) := by decide +kernel
theorem dX5_plan_32 : decode cX5_plan 32 = .ok (.aload_n 0, 1) := by decide +kernel
theorem dX5_plan_33 : decode cX5_plan 33 = .ok (.getfield 26, 3) := by decide +kernel
theorem dX5_plan_36 : decode cX5_plan 36 = .ok (.iconst 4, 1) := by decide +kernel
theorem dX5_plan_37 : decode cX5_plan 37 = .ok (.iload_n 1, 1) := by decide +kernel
theorem dX5_plan_38 : decode cX5_plan 38 = .ok (.iadd, 1) := by decide +kernel
theorem dX5_plan_39 : decode cX5_plan 39 = .ok (.iaload, 1) := by decide +kernel
theorem dX5_plan_40 : decode cX5_plan 40 = .ok (.iastore, 1) := by decide +kernel
theorem dX5_plan_41 : decode cX5_plan 41 = .ok (.aload_n 0, 1) := by decide +kernel
theorem dX5_plan_42 : decode cX5_plan 42 = .ok (.getfield 29, 3) := by decide +kernel
theorem dX5_plan_45 : decode cX5_plan 45 = .ok (.iload_n 1, 1) := by decide +kernel
theorem dX5_plan_46 : decode cX5_plan 46 = .ok (.aload_n 0, 1) := by decide +kernel
theorem dX5_plan_47 : decode cX5_plan 47 = .ok (.getfield 29, 3) := by decide +kernel
theorem dX5_plan_50 : decode cX5_plan 50 = .ok (.iconst 4, 1) := by decide +kernel
theorem dX5_plan_51 : decode cX5_plan 51 = .ok (.iload_n 1, 1) := by decide +kernel
theorem dX5_plan_52 : decode cX5_plan 52 = .ok (.iadd, 1) := by decide +kernel
theorem dX5_plan_53 : decode cX5_plan 53 = .ok (.iaload, 1) := by decide +kernel
theorem dX5_plan_54 : decode cX5_plan 54 = .ok (.iastore, 1) := by decide +kernel
theorem dX5_plan_55 : decode cX5_plan 55 = .ok (.aload_n 0, 1) := by decide +kernel
theorem dX5_plan_56 : decode cX5_plan 56 = .ok (.getfield 32, 3) := by decide +kernel
theorem dX5_plan_59 : decode cX5_plan 59 = .ok (.iload_n 1, 1) := by decide +kernel
theorem dX5_plan_60 : decode cX5_plan 60 = .ok (.aload_n 0, 1) := by decide +kernel
theorem dX5_plan_61 : decode cX5_plan 61 = .ok (.getfield 32, 3) := by decide +kernel
theorem dX5_plan_64 : decode cX5_plan 64 = .ok (.iconst 4, 1) := by decide +kernel
theorem dX5_plan_65 : decode cX5_plan 65 = .ok (.iload_n 1, 1) := by decide +kernel
theorem dX5_plan_66 : decode cX5_plan 66 = .ok (.iadd, 1) := by decide +kernel
theorem dX5_plan_67 : decode cX5_plan 67 = .ok (.iaload, 1) := by decide +kernel
theorem dX5_plan_68 : decode cX5_plan 68 = .ok (.iastore, 1) := by decide +kernel
theorem dX5_plan_69 : decode cX5_plan 69 = .ok (.aload_n 0, 1) := by decide +kernel
theorem dX5_plan_70 : decode cX5_plan 70 = .ok (.getfield 35, 3) := by decide +kernel
theorem dX5_plan_73 : decode cX5_plan 73 = .ok (.iload_n 1, 1) := by decide +kernel
theorem dX5_plan_74 : decode cX5_plan 74 = .ok (.aload_n 0, 1) := by decide +kernel
theorem dX5_plan_75 : decode cX5_plan 75 = .ok (.getfield 35, 3) := by decide +kernel
theorem dX5_plan_78 : decode cX5_plan 78 = .ok (.iconst 4, 1) := by decide +kernel
theorem dX5_plan_79 : decode cX5_plan 79 = .ok (.iload_n 1, 1) := by decide +kernel
theorem dX5_plan_80 : decode cX5_plan 80 = .ok (.iadd, 1) := by decide +kernel
theorem dX5_plan_81 : decode cX5_plan 81 = .ok (.iaload, 1) := by decide +kernel
theorem dX5_plan_82 : decode cX5_plan 82 = .ok (.iastore, 1) := by decide +kernel
theorem dX5_plan_83 : decode cX5_plan 83 = .ok (.aload_n 0, 1) := by decide +kernel
theorem dX5_plan_84 : decode cX5_plan 84 = .ok (.getfield 38, 3) := by decide +kernel
theorem dX5_plan_87 : decode cX5_plan 87 = .ok (.iload_n 1, 1) := by decide +kernel
theorem dX5_plan_88 : decode cX5_plan 88 = .ok (.aload_n 0, 1) := by decide +kernel
theorem dX5_plan_89 : decode cX5_plan 89 = .ok (.getfield 38, 3) := by decide +kernel
theorem dX5_plan_92 : decode cX5_plan 92 = .ok (.iconst 4, 1) := by decide +kernel
theorem dX5_plan_93 : decode cX5_plan 93 = .ok (.iload_n 1, 1) := by decide +kernel
theorem dX5_plan_94 : decode cX5_plan 94 = .ok (.iadd, 1) := by decide +kernel
theorem dX5_plan_95 : decode cX5_plan 95 = .ok (.iaload, 1) := by decide +kernel
theorem dX5_plan_96 : decode cX5_plan 96 = .ok (.iastore, 1) := by decide +kernel
theorem dX5_plan_97 : decode cX5_plan 97 = .ok (.aload_n 0, 1) := by decide +kernel
theorem dX5_plan_98 : decode cX5_plan 98 = .ok (.getfield 41, 3) := by decide +kernel
theorem dX5_plan_101 : decode cX5_plan 101 = .ok (.iload_n 1, 1) := by decide +kernel
theorem dX5_plan_102 : decode cX5_plan 102 = .ok (.aload_n 0, 1) := by decide +kernel
theorem dX5_plan_103 : decode cX5_plan 103 = .ok (.getfield 41, 3) := by decide +kernel
theorem dX5_plan_106 : decode cX5_plan 106 = .ok (.iconst 4, 1) := by decide +kernel
theorem dX5_plan_107 : decode cX5_plan 107 = .ok (.iload_n 1, 1) := by decide +kernel
theorem dX5_plan_108 : decode cX5_plan 108 = .ok (.iadd, 1) := by decide +kernel
theorem dX5_plan_109 : decode cX5_plan 109 = .ok (.iaload, 1) := by decide +kernel
theorem dX5_plan_110 : decode cX5_plan 110 = .ok (.iastore, 1) := by decide +kernel
theorem dX5_plan_111 : decode cX5_plan 111 = .ok (.iinc 1 1, 3) := by decide +kernel
theorem dX5_plan_114 : decode cX5_plan 114 = .ok (.goto (-92), 3) := by decide +kernel
theorem dX5_plan_117 : decode cX5_plan 117 = .ok (.iconst 0, 1) := by decide +kernel
theorem dX5_plan_118 : decode cX5_plan 118 = .ok (.istore_n 1, 1) := by decide +kernel
theorem dX5_plan_119 : decode cX5_plan 119 = .ok (.iload_n 1, 1) := by decide +kernel
theorem dX5_plan_120 : decode cX5_plan 120 = .ok (.bipush 80, 2) := by decide +kernel
theorem dX5_plan_122 : decode cX5_plan 122 = .ok (.if_icmp .ge 54, 3) := by decide +kernel
theorem dX5_plan_125 : decode cX5_plan 125 = .ok (.aload_n 0, 1) := by decide +kernel
theorem dX5_plan_126 : decode cX5_plan 126 = .ok (.getfield 44, 3) := by decide +kernel
theorem dX5_plan_129 : decode cX5_plan 129 = .ok (.iload_n 1, 1) := by decide +kernel
theorem dX5_plan_130 : decode cX5_plan 130 = .ok (.aload_n 0, 1) := by decide +kernel
theorem dX5_plan_131 : decode cX5_plan 131 = .ok (.getfield 44, 3) := by decide +kernel
theorem dX5_plan_134 : decode cX5_plan 134 = .ok (.bipush 80, 2) := by decide +kernel
theorem dX5_plan_136 : decode cX5_plan 136 = .ok (.iload_n 1, 1) := by decide +kernel
theorem dX5_plan_137 : decode cX5_plan 137 = .ok (.iadd, 1) := by decide +kernel
theorem dX5_plan_138 : decode cX5_plan 138 = .ok (.iaload, 1) := by decide +kernel
theorem dX5_plan_139 : decode cX5_plan 139 = .ok (.iastore, 1) := by decide +kernel
theorem dX5_plan_140 : decode cX5_plan 140 = .ok (.aload_n 0, 1) := by decide +kernel
theorem dX5_plan_141 : decode cX5_plan 141 = .ok (.getfield 47, 3) := by decide +kernel
theorem dX5_plan_144 : decode cX5_plan 144 = .ok (.iload_n 1, 1) := by decide +kernel
theorem dX5_plan_145 : decode cX5_plan 145 = .ok (.aload_n 0, 1) := by decide +kernel
theorem dX5_plan_146 : decode cX5_plan 146 = .ok (.getfield 47, 3) := by decide +kernel
theorem dX5_plan_149 : decode cX5_plan 149 = .ok (.bipush 80, 2) := by decide +kernel
theorem dX5_plan_151 : decode cX5_plan 151 = .ok (.iload_n 1, 1) := by decide +kernel
theorem dX5_plan_152 : decode cX5_plan 152 = .ok (.iadd, 1) := by decide +kernel
theorem dX5_plan_153 : decode cX5_plan 153 = .ok (.iaload, 1) := by decide +kernel
theorem dX5_plan_154 : decode cX5_plan 154 = .ok (.iastore, 1) := by decide +kernel
theorem dX5_plan_155 : decode cX5_plan 155 = .ok (.aload_n 0, 1) := by decide +kernel
theorem dX5_plan_156 : decode cX5_plan 156 = .ok (.getfield 50, 3) := by decide +kernel
theorem dX5_plan_159 : decode cX5_plan 159 = .ok (.iload_n 1, 1) := by decide +kernel
theorem dX5_plan_160 : decode cX5_plan 160 = .ok (.aload_n 0, 1) := by decide +kernel
theorem dX5_plan_161 : decode cX5_plan 161 = .ok (.getfield 50, 3) := by decide +kernel
theorem dX5_plan_164 : decode cX5_plan 164 = .ok (.bipush 80, 2) := by decide +kernel
theorem dX5_plan_166 : decode cX5_plan 166 = .ok (.iload_n 1, 1) := by decide +kernel
theorem dX5_plan_167 : decode cX5_plan 167 = .ok (.iadd, 1) := by decide +kernel
theorem dX5_plan_168 : decode cX5_plan 168 = .ok (.iaload, 1) := by decide +kernel
theorem dX5_plan_169 : decode cX5_plan 169 = .ok (.iastore, 1) := by decide +kernel
theorem dX5_plan_170 : decode cX5_plan 170 = .ok (.iinc 1 1, 3) := by decide +kernel
theorem dX5_plan_173 : decode cX5_plan 173 = .ok (.goto (-54), 3) := by decide +kernel
theorem dX5_plan_176 : decode cX5_plan 176 = .ok (.aload_n 0, 1) := by decide +kernel
theorem dX5_plan_177 : decode cX5_plan 177 = .ok (.getfield 203, 3) := by decide +kernel
theorem dX5_plan_180 : decode cX5_plan 180 = .ok (.ireturn, 1) := by decide +kernel
def tb_X5_plan (S_X5_faultOf : ma_Cs) : Nat → ma_In := fun pc =>
 (if pc < 88 then
 (if pc < 47 then
 (if pc < 24 then
 (if pc < 13 then
 (if pc < 6 then
 (if pc < 1 then
 (if pc = 0 then in_ald 0 1 else in_no) else
 (if pc < 4 then
 (if pc = 1 then in_v1 YM 5 S_X5_faultOf 4 else in_no) else
 (if pc = 4 then in_push (.int (-4)) 6 else in_no))) else
 (if pc < 11 then
 (if pc < 9 then
 (if pc = 6 then in_if2 (fun x y => x = y) 12 9 else in_no) else
 (if pc = 9 then in_push (.int (-2)) 11 else in_no)) else
 (if pc < 12 then
 (if pc = 11 then in_ri else in_no) else
 (if pc = 12 then in_ald 0 13 else in_no)))) else
 (if pc < 20 then
 (if pc < 14 then
 (if pc = 13 then in_ald 0 14 else in_no) else
 (if pc < 17 then
 (if pc = 14 then in_get YM 5 8 17 else in_no) else
 (if pc = 17 then in_put YM 5 7 20 else in_no))) else
 (if pc < 22 then
 (if pc < 21 then
 (if pc = 20 then in_push (.int 0) 21 else in_no) else
 (if pc = 21 then in_ist 1 22 else in_no)) else
 (if pc < 23 then
 (if pc = 22 then in_ild 1 23 else in_no) else
 (if pc = 23 then in_push (.int 4) 24 else in_no))))) else
 (if pc < 37 then
 (if pc < 31 then
 (if pc < 27 then
 (if pc = 24 then in_if2 (fun x y => y ≤ x) 117 27 else in_no) else
 (if pc < 28 then
 (if pc = 27 then in_ald 0 28 else in_no) else
 (if pc = 28 then in_get YM 5 9 31 else in_no))) else
 (if pc < 33 then
 (if pc < 32 then
 (if pc = 31 then in_ild 1 32 else in_no) else
 (if pc = 32 then in_ald 0 33 else in_no)) else
 (if pc < 36 then
 (if pc = 33 then in_get YM 5 9 36 else in_no) else
 (if pc = 36 then in_push (.int 4) 37 else in_no)))) else
 (if pc < 41 then
 (if pc < 39 then
 (if pc < 38 then
 (if pc = 37 then in_ild 1 38 else in_no) else
 (if pc = 38 then in_iii (fun x y => x + y) 39 else in_no)) else
 (if pc < 40 then
 (if pc = 39 then in_iar YM 40 else in_no) else
 (if pc = 40 then in_iaw YM 41 else in_no))) else
 (if pc < 45 then
 (if pc < 42 then
 (if pc = 41 then in_ald 0 42 else in_no) else
 (if pc = 42 then in_get YM 5 10 45 else in_no)) else
 (if pc < 46 then
 (if pc = 45 then in_ild 1 46 else in_no) else
 (if pc = 46 then in_ald 0 47 else in_no)))))) else
 (if pc < 67 then
 (if pc < 56 then
 (if pc < 52 then
 (if pc < 50 then
 (if pc = 47 then in_get YM 5 10 50 else in_no) else
 (if pc < 51 then
 (if pc = 50 then in_push (.int 4) 51 else in_no) else
 (if pc = 51 then in_ild 1 52 else in_no))) else
 (if pc < 54 then
 (if pc < 53 then
 (if pc = 52 then in_iii (fun x y => x + y) 53 else in_no) else
 (if pc = 53 then in_iar YM 54 else in_no)) else
 (if pc < 55 then
 (if pc = 54 then in_iaw YM 55 else in_no) else
 (if pc = 55 then in_ald 0 56 else in_no)))) else
 (if pc < 61 then
 (if pc < 59 then
 (if pc = 56 then in_get YM 5 11 59 else in_no) else
 (if pc < 60 then
 (if pc = 59 then in_ild 1 60 else in_no) else
 (if pc = 60 then in_ald 0 61 else in_no))) else
 (if pc < 65 then
 (if pc < 64 then
 (if pc = 61 then in_get YM 5 11 64 else in_no) else
 (if pc = 64 then in_push (.int 4) 65 else in_no)) else
 (if pc < 66 then
 (if pc = 65 then in_ild 1 66 else in_no) else
 (if pc = 66 then in_iii (fun x y => x + y) 67 else in_no))))) else
 (if pc < 78 then
 (if pc < 70 then
 (if pc < 68 then
 (if pc = 67 then in_iar YM 68 else in_no) else
 (if pc < 69 then
 (if pc = 68 then in_iaw YM 69 else in_no) else
 (if pc = 69 then in_ald 0 70 else in_no))) else
 (if pc < 74 then
 (if pc < 73 then
 (if pc = 70 then in_get YM 5 12 73 else in_no) else
 (if pc = 73 then in_ild 1 74 else in_no)) else
 (if pc < 75 then
 (if pc = 74 then in_ald 0 75 else in_no) else
 (if pc = 75 then in_get YM 5 12 78 else in_no)))) else
 (if pc < 82 then
 (if pc < 80 then
 (if pc < 79 then
 (if pc = 78 then in_push (.int 4) 79 else in_no) else
 (if pc = 79 then in_ild 1 80 else in_no)) else
 (if pc < 81 then
 (if pc = 80 then in_iii (fun x y => x + y) 81 else in_no) else
 (if pc = 81 then in_iar YM 82 else in_no))) else
 (if pc < 84 then
 (if pc < 83 then
 (if pc = 82 then in_iaw YM 83 else in_no) else
 (if pc = 83 then in_ald 0 84 else in_no)) else
 (if pc < 87 then
 (if pc = 84 then in_get YM 5 13 87 else in_no) else
 (if pc = 87 then in_ild 1 88 else in_no))))))) else
 (if pc < 134 then
 (if pc < 108 then
 (if pc < 97 then
 (if pc < 93 then
 (if pc < 89 then
 (if pc = 88 then in_ald 0 89 else in_no) else
 (if pc < 92 then
 (if pc = 89 then in_get YM 5 13 92 else in_no) else
 (if pc = 92 then in_push (.int 4) 93 else in_no))) else
 (if pc < 95 then
 (if pc < 94 then
 (if pc = 93 then in_ild 1 94 else in_no) else
 (if pc = 94 then in_iii (fun x y => x + y) 95 else in_no)) else
 (if pc < 96 then
 (if pc = 95 then in_iar YM 96 else in_no) else
 (if pc = 96 then in_iaw YM 97 else in_no)))) else
 (if pc < 102 then
 (if pc < 98 then
 (if pc = 97 then in_ald 0 98 else in_no) else
 (if pc < 101 then
 (if pc = 98 then in_get YM 5 14 101 else in_no) else
 (if pc = 101 then in_ild 1 102 else in_no))) else
 (if pc < 106 then
 (if pc < 103 then
 (if pc = 102 then in_ald 0 103 else in_no) else
 (if pc = 103 then in_get YM 5 14 106 else in_no)) else
 (if pc < 107 then
 (if pc = 106 then in_push (.int 4) 107 else in_no) else
 (if pc = 107 then in_ild 1 108 else in_no))))) else
 (if pc < 119 then
 (if pc < 111 then
 (if pc < 109 then
 (if pc = 108 then in_iii (fun x y => x + y) 109 else in_no) else
 (if pc < 110 then
 (if pc = 109 then in_iar YM 110 else in_no) else
 (if pc = 110 then in_iaw YM 111 else in_no))) else
 (if pc < 117 then
 (if pc < 114 then
 (if pc = 111 then in_inc 1 1 114 else in_no) else
 (if pc = 114 then in_go 22 else in_no)) else
 (if pc < 118 then
 (if pc = 117 then in_push (.int 0) 118 else in_no) else
 (if pc = 118 then in_ist 1 119 else in_no)))) else
 (if pc < 126 then
 (if pc < 122 then
 (if pc < 120 then
 (if pc = 119 then in_ild 1 120 else in_no) else
 (if pc = 120 then in_push (.int 80) 122 else in_no)) else
 (if pc < 125 then
 (if pc = 122 then in_if2 (fun x y => y ≤ x) 176 125 else in_no) else
 (if pc = 125 then in_ald 0 126 else in_no))) else
 (if pc < 130 then
 (if pc < 129 then
 (if pc = 126 then in_get YM 5 15 129 else in_no) else
 (if pc = 129 then in_ild 1 130 else in_no)) else
 (if pc < 131 then
 (if pc = 130 then in_ald 0 131 else in_no) else
 (if pc = 131 then in_get YM 5 15 134 else in_no)))))) else
 (if pc < 155 then
 (if pc < 144 then
 (if pc < 138 then
 (if pc < 136 then
 (if pc = 134 then in_push (.int 80) 136 else in_no) else
 (if pc < 137 then
 (if pc = 136 then in_ild 1 137 else in_no) else
 (if pc = 137 then in_iii (fun x y => x + y) 138 else in_no))) else
 (if pc < 140 then
 (if pc < 139 then
 (if pc = 138 then in_iar YM 139 else in_no) else
 (if pc = 139 then in_iaw YM 140 else in_no)) else
 (if pc < 141 then
 (if pc = 140 then in_ald 0 141 else in_no) else
 (if pc = 141 then in_get YM 5 16 144 else in_no)))) else
 (if pc < 151 then
 (if pc < 146 then
 (if pc < 145 then
 (if pc = 144 then in_ild 1 145 else in_no) else
 (if pc = 145 then in_ald 0 146 else in_no)) else
 (if pc < 149 then
 (if pc = 146 then in_get YM 5 16 149 else in_no) else
 (if pc = 149 then in_push (.int 80) 151 else in_no))) else
 (if pc < 153 then
 (if pc < 152 then
 (if pc = 151 then in_ild 1 152 else in_no) else
 (if pc = 152 then in_iii (fun x y => x + y) 153 else in_no)) else
 (if pc < 154 then
 (if pc = 153 then in_iar YM 154 else in_no) else
 (if pc = 154 then in_iaw YM 155 else in_no))))) else
 (if pc < 167 then
 (if pc < 160 then
 (if pc < 156 then
 (if pc = 155 then in_ald 0 156 else in_no) else
 (if pc < 159 then
 (if pc = 156 then in_get YM 5 17 159 else in_no) else
 (if pc = 159 then in_ild 1 160 else in_no))) else
 (if pc < 164 then
 (if pc < 161 then
 (if pc = 160 then in_ald 0 161 else in_no) else
 (if pc = 161 then in_get YM 5 17 164 else in_no)) else
 (if pc < 166 then
 (if pc = 164 then in_push (.int 80) 166 else in_no) else
 (if pc = 166 then in_ild 1 167 else in_no)))) else
 (if pc < 173 then
 (if pc < 169 then
 (if pc < 168 then
 (if pc = 167 then in_iii (fun x y => x + y) 168 else in_no) else
 (if pc = 168 then in_iar YM 169 else in_no)) else
 (if pc < 170 then
 (if pc = 169 then in_iaw YM 170 else in_no) else
 (if pc = 170 then in_inc 1 1 173 else in_no))) else
 (if pc < 177 then
 (if pc < 176 then
 (if pc = 173 then in_go 119 else in_no) else
 (if pc = 176 then in_ald 0 177 else in_no)) else
 (if pc < 180 then
 (if pc = 177 then in_get YM 5 7 180 else in_no) else
 (if pc = 180 then in_ri else in_no))))))))
theorem tk_X5_plan {l : Launch} {w : ma_Wd} {NC : Nat} {A : Nat → Prop} {S_X5_faultOf : ma_Cs} (h_X5_faultOf : ma_Sd l w YM NC A yX5_faultOf cX5_faultOf 2 (some .int) rm_X5_faultOf S_X5_faultOf) {p : Program} {e : Env} {s : State} {m : MethodId} {args : Array Value} {below : List Frame} {meth : Method} {c : Code} (X : ma_Cx p s m args meth c w YM NC A yX5_plan.cls cX5_plan 2 (some .int)) : ∀ pc, ma_Ok p l e rm_X5_plan s m args below meth c w YM NC A 2 pc (tb_X5_plan S_X5_faultOf pc) := fun pc =>
 (mk_lt
 (mk_lt
 (mk_lt
 (mk_lt
 (mk_lt
 (mk_lt
 (mk_eq (mk_aload_n X dX5_plan_0 rfl rfl))
 (mk_lt
 (mk_eq (mk_V1 X h_X5_faultOf (ci := 5) rfl (lw_V q929 q931 qs31 q66 q932) ⟨rfl, by decide, by decide, rfl⟩ ⟨(Nat.le_of_ble_eq_true rfl), (Nat.le_of_ble_eq_true rfl)⟩ dX5_plan_1 rfl))
 (mk_eq (mk_bipush X dX5_plan_4 rfl rfl))))
 (mk_lt
 (mk_lt
 (mk_eq (mk_iceq X dX5_plan_6 rfl rfl))
 (mk_eq (mk_bipush X dX5_plan_9 rfl rfl)))
 (mk_lt
 (mk_eq (mk_ri X dX5_plan_11))
 (mk_eq (mk_aload_n X dX5_plan_12 rfl rfl)))))
 (mk_lt
 (mk_lt
 (mk_eq (mk_aload_n X dX5_plan_13 rfl rfl))
 (mk_lt
 (mk_eq (mk_get X (ci := 5) (j := 8) rfl in_X5 (Nat.le_of_ble_eq_true rfl) q755 dX5_plan_14 rfl))
 (mk_eq (mk_put X (ci := 5) (j := 7) rfl in_X5 tyX5_ok nmX5 (Nat.le_of_ble_eq_true rfl) rfl rfl q754 dX5_plan_17 rfl))))
 (mk_lt
 (mk_lt
 (mk_eq (mk_iconst X dX5_plan_20 rfl rfl))
 (mk_eq (mk_istore_n X dX5_plan_21 rfl (Nat.le_of_ble_eq_true rfl) rfl)))
 (mk_lt
 (mk_eq (mk_iload_n X dX5_plan_22 rfl rfl))
 (mk_eq (mk_iconst X dX5_plan_23 rfl rfl))))))
 (mk_lt
 (mk_lt
 (mk_lt
 (mk_eq (mk_icge X dX5_plan_24 rfl rfl))
 (mk_lt
 (mk_eq (mk_aload_n X dX5_plan_27 rfl rfl))
 (mk_eq (mk_get X (ci := 5) (j := 9) rfl in_X5 (Nat.le_of_ble_eq_true rfl) q756 dX5_plan_28 rfl))))
 (mk_lt
 (mk_lt
 (mk_eq (mk_iload_n X dX5_plan_31 rfl rfl))
 (mk_eq (mk_aload_n X dX5_plan_32 rfl rfl)))
 (mk_lt
 (mk_eq (mk_get X (ci := 5) (j := 9) rfl in_X5 (Nat.le_of_ble_eq_true rfl) q756 dX5_plan_33 rfl))
 (mk_eq (mk_iconst X dX5_plan_36 rfl rfl)))))
 (mk_lt
 (mk_lt
 (mk_lt
 (mk_eq (mk_iload_n X dX5_plan_37 rfl rfl))
 (mk_eq (mk_iadd X dX5_plan_38 rfl)))
 (mk_lt
 (mk_eq (mk_iar X dX5_plan_39 rfl))
 (mk_eq (mk_iaw X dX5_plan_40 rfl))))
 (mk_lt
 (mk_lt
 (mk_eq (mk_aload_n X dX5_plan_41 rfl rfl))
 (mk_eq (mk_get X (ci := 5) (j := 10) rfl in_X5 (Nat.le_of_ble_eq_true rfl) q757 dX5_plan_42 rfl)))
 (mk_lt
 (mk_eq (mk_iload_n X dX5_plan_45 rfl rfl))
 (mk_eq (mk_aload_n X dX5_plan_46 rfl rfl)))))))
 (mk_lt
 (mk_lt
 (mk_lt
 (mk_lt
 (mk_eq (mk_get X (ci := 5) (j := 10) rfl in_X5 (Nat.le_of_ble_eq_true rfl) q757 dX5_plan_47 rfl))
 (mk_lt
 (mk_eq (mk_iconst X dX5_plan_50 rfl rfl))
 (mk_eq (mk_iload_n X dX5_plan_51 rfl rfl))))
 (mk_lt
 (mk_lt
 (mk_eq (mk_iadd X dX5_plan_52 rfl))
 (mk_eq (mk_iar X dX5_plan_53 rfl)))
 (mk_lt
 (mk_eq (mk_iaw X dX5_plan_54 rfl))
 (mk_eq (mk_aload_n X dX5_plan_55 rfl rfl)))))
 (mk_lt
 (mk_lt
 (mk_eq (mk_get X (ci := 5) (j := 11) rfl in_X5 (Nat.le_of_ble_eq_true rfl) q758 dX5_plan_56 rfl))
 (mk_lt
 (mk_eq (mk_iload_n X dX5_plan_59 rfl rfl))
 (mk_eq (mk_aload_n X dX5_plan_60 rfl rfl))))
 (mk_lt
 (mk_lt
 (mk_eq (mk_get X (ci := 5) (j := 11) rfl in_X5 (Nat.le_of_ble_eq_true rfl) q758 dX5_plan_61 rfl))
 (mk_eq (mk_iconst X dX5_plan_64 rfl rfl)))
 (mk_lt
 (mk_eq (mk_iload_n X dX5_plan_65 rfl rfl))
 (mk_eq (mk_iadd X dX5_plan_66 rfl))))))
 (mk_lt
 (mk_lt
 (mk_lt
 (mk_eq (mk_iar X dX5_plan_67 rfl))
 (mk_lt
 (mk_eq (mk_iaw X dX5_plan_68 rfl))
 (mk_eq (mk_aload_n X dX5_plan_69 rfl rfl))))
 (mk_lt
 (mk_lt
 (mk_eq (mk_get X (ci := 5) (j := 12) rfl in_X5 (Nat.le_of_ble_eq_true rfl) q759 dX5_plan_70 rfl))
 (mk_eq (mk_iload_n X dX5_plan_73 rfl rfl)))
 (mk_lt
 (mk_eq (mk_aload_n X dX5_plan_74 rfl rfl))
 (mk_eq (mk_get X (ci := 5) (j := 12) rfl in_X5 (Nat.le_of_ble_eq_true rfl) q759 dX5_plan_75 rfl)))))
 (mk_lt
 (mk_lt
 (mk_lt
 (mk_eq (mk_iconst X dX5_plan_78 rfl rfl))
 (mk_eq (mk_iload_n X dX5_plan_79 rfl rfl)))
 (mk_lt
 (mk_eq (mk_iadd X dX5_plan_80 rfl))
 (mk_eq (mk_iar X dX5_plan_81 rfl))))
 (mk_lt
 (mk_lt
 (mk_eq (mk_iaw X dX5_plan_82 rfl))
 (mk_eq (mk_aload_n X dX5_plan_83 rfl rfl)))
 (mk_lt
 (mk_eq (mk_get X (ci := 5) (j := 13) rfl in_X5 (Nat.le_of_ble_eq_true rfl) q760 dX5_plan_84 rfl))
 (mk_eq (mk_iload_n X dX5_plan_87 rfl rfl))))))))
 (mk_lt
 (mk_lt
 (mk_lt
 (mk_lt
 (mk_lt
 (mk_eq (mk_aload_n X dX5_plan_88 rfl rfl))
 (mk_lt
 (mk_eq (mk_get X (ci := 5) (j := 13) rfl in_X5 (Nat.le_of_ble_eq_true rfl) q760 dX5_plan_89 rfl))
 (mk_eq (mk_iconst X dX5_plan_92 rfl rfl))))
 (mk_lt
 (mk_lt
 (mk_eq (mk_iload_n X dX5_plan_93 rfl rfl))
 (mk_eq (mk_iadd X dX5_plan_94 rfl)))
 (mk_lt
 (mk_eq (mk_iar X dX5_plan_95 rfl))
 (mk_eq (mk_iaw X dX5_plan_96 rfl)))))
 (mk_lt
 (mk_lt
 (mk_eq (mk_aload_n X dX5_plan_97 rfl rfl))
 (mk_lt
 (mk_eq (mk_get X (ci := 5) (j := 14) rfl in_X5 (Nat.le_of_ble_eq_true rfl) q761 dX5_plan_98 rfl))
 (mk_eq (mk_iload_n X dX5_plan_101 rfl rfl))))
 (mk_lt
 (mk_lt
 (mk_eq (mk_aload_n X dX5_plan_102 rfl rfl))
 (mk_eq (mk_get X (ci := 5) (j := 14) rfl in_X5 (Nat.le_of_ble_eq_true rfl) q761 dX5_plan_103 rfl)))
 (mk_lt
 (mk_eq (mk_iconst X dX5_plan_106 rfl rfl))
 (mk_eq (mk_iload_n X dX5_plan_107 rfl rfl))))))
 (mk_lt
 (mk_lt
 (mk_lt
 (mk_eq (mk_iadd X dX5_plan_108 rfl))
 (mk_lt
 (mk_eq (mk_iar X dX5_plan_109 rfl))
 (mk_eq (mk_iaw X dX5_plan_110 rfl))))
 (mk_lt
 (mk_lt
 (mk_eq (mk_iinc X dX5_plan_111 rfl (Nat.le_of_ble_eq_true rfl) rfl))
 (mk_eq (mk_goto X dX5_plan_114 rfl)))
 (mk_lt
 (mk_eq (mk_iconst X dX5_plan_117 rfl rfl))
 (mk_eq (mk_istore_n X dX5_plan_118 rfl (Nat.le_of_ble_eq_true rfl) rfl)))))
 (mk_lt
 (mk_lt
 (mk_lt
 (mk_eq (mk_iload_n X dX5_plan_119 rfl rfl))
 (mk_eq (mk_bipush X dX5_plan_120 rfl rfl)))
 (mk_lt
 (mk_eq (mk_icge X dX5_plan_122 rfl rfl))
 (mk_eq (mk_aload_n X dX5_plan_125 rfl rfl))))
 (mk_lt
 (mk_lt
 (mk_eq (mk_get X (ci := 5) (j := 15) rfl in_X5 (Nat.le_of_ble_eq_true rfl) q762 dX5_plan_126 rfl))
 (mk_eq (mk_iload_n X dX5_plan_129 rfl rfl)))
 (mk_lt
 (mk_eq (mk_aload_n X dX5_plan_130 rfl rfl))
 (mk_eq (mk_get X (ci := 5) (j := 15) rfl in_X5 (Nat.le_of_ble_eq_true rfl) q762 dX5_plan_131 rfl)))))))
 (mk_lt
 (mk_lt
 (mk_lt
 (mk_lt
 (mk_eq (mk_bipush X dX5_plan_134 rfl rfl))
 (mk_lt
 (mk_eq (mk_iload_n X dX5_plan_136 rfl rfl))
 (mk_eq (mk_iadd X dX5_plan_137 rfl))))
 (mk_lt
 (mk_lt
 (mk_eq (mk_iar X dX5_plan_138 rfl))
 (mk_eq (mk_iaw X dX5_plan_139 rfl)))
 (mk_lt
 (mk_eq (mk_aload_n X dX5_plan_140 rfl rfl))
 (mk_eq (mk_get X (ci := 5) (j := 16) rfl in_X5 (Nat.le_of_ble_eq_true rfl) q763 dX5_plan_141 rfl)))))
 (mk_lt
 (mk_lt
 (mk_lt
 (mk_eq (mk_iload_n X dX5_plan_144 rfl rfl))
 (mk_eq (mk_aload_n X dX5_plan_145 rfl rfl)))
 (mk_lt
 (mk_eq (mk_get X (ci := 5) (j := 16) rfl in_X5 (Nat.le_of_ble_eq_true rfl) q763 dX5_plan_146 rfl))
 (mk_eq (mk_bipush X dX5_plan_149 rfl rfl))))
 (mk_lt
 (mk_lt
 (mk_eq (mk_iload_n X dX5_plan_151 rfl rfl))
 (mk_eq (mk_iadd X dX5_plan_152 rfl)))
 (mk_lt
 (mk_eq (mk_iar X dX5_plan_153 rfl))
 (mk_eq (mk_iaw X dX5_plan_154 rfl))))))
 (mk_lt
 (mk_lt
 (mk_lt
 (mk_eq (mk_aload_n X dX5_plan_155 rfl rfl))
 (mk_lt
 (mk_eq (mk_get X (ci := 5) (j := 17) rfl in_X5 (Nat.le_of_ble_eq_true rfl) q764 dX5_plan_156 rfl))
 (mk_eq (mk_iload_n X dX5_plan_159 rfl rfl))))
 (mk_lt
 (mk_lt
 (mk_eq (mk_aload_n X dX5_plan_160 rfl rfl))
 (mk_eq (mk_get X (ci := 5) (j := 17) rfl in_X5 (Nat.le_of_ble_eq_true rfl) q764 dX5_plan_161 rfl)))
 (mk_lt
 (mk_eq (mk_bipush X dX5_plan_164 rfl rfl))
 (mk_eq (mk_iload_n X dX5_plan_166 rfl rfl)))))
 (mk_lt
 (mk_lt
 (mk_lt
 (mk_eq (mk_iadd X dX5_plan_167 rfl))
 (mk_eq (mk_iar X dX5_plan_168 rfl)))
 (mk_lt
 (mk_eq (mk_iaw X dX5_plan_169 rfl))
 (mk_eq (mk_iinc X dX5_plan_170 rfl (Nat.le_of_ble_eq_true rfl) rfl))))
 (mk_lt
 (mk_lt
 (mk_eq (mk_goto X dX5_plan_173 rfl))
 (mk_eq (mk_aload_n X dX5_plan_176 rfl rfl)))
 (mk_lt
 (mk_eq (mk_get X (ci := 5) (j := 7) rfl in_X5 (Nat.le_of_ble_eq_true rfl) q754 dX5_plan_177 rfl))
 (mk_eq (mk_ri X dX5_plan_180)))))))))
theorem sd_X5_plan {l : Launch} {w : ma_Wd} {NC : Nat} {A : Nat → Prop} {S_X5_faultOf : ma_Cs} (hw : ma_Wo w YM NC A) (h_X5_faultOf : ma_Sd l w YM NC A yX5_faultOf cX5_faultOf 2 (some .int) rm_X5_faultOf S_X5_faultOf) : ma_Sd l w YM NC A yX5_plan cX5_plan 2 (some .int) rm_X5_plan (ma_rn (tb_X5_plan S_X5_faultOf) 2) := ma_of hw (by decide) ⟨rfl, rfl⟩ (fun X => tk_X5_plan h_X5_faultOf X)
theorem dX5_line_0 : decode cX5_line 0 = .ok (.iload_n 1, 1) := by decide +kernel
theorem dX5_line_1 : decode cX5_line 1 = .ok (.invokestatic 146, 3) := by decide +kernel
theorem dX5_line_4 : decode cX5_line 4 = .ok (.ifCond .eq 15, 3) := by decide +kernel
theorem dX5_line_7 : decode cX5_line 7 = .ok (.iload_n 2, 1) := by decide +kernel
theorem dX5_line_8 : decode cX5_line 8 = .ok (.i2l, 1) := by decide +kernel
theorem dX5_line_9 : decode cX5_line 9 = .ok (.lconst 0, 1) := by decide +kernel
theorem dX5_line_10 : decode cX5_line 10 = .ok (.ldc2_w 206, 3) := by decide +kernel
theorem dX5_line_13 : decode cX5_line 13 = .ok (.invokestatic 128, 3) := by decide +kernel
theorem dX5_line_16 : decode cX5_line 16 = .ok (.ifCond .ne 5, 3) := by decide +kernel
theorem dX5_line_19 : decode cX5_line 19 = .ok (.iconst (-1), 1) := by decide +kernel
theorem dX5_line_20 : decode cX5_line 20 = .ok (.ireturn, 1) := by decide +kernel
theorem dX5_line_21 : decode cX5_line 21 = .ok (.aload_n 0, 1) := by decide +kernel
theorem dX5_line_22 : decode cX5_line 22 = .ok (.getfield 29, 3) := by decide +kernel
theorem dX5_line_25 : decode cX5_line 25 = .ok (.iload_n 1, 1) := by decide +kernel
theorem dX5_line_26 : decode cX5_line 26 = .ok (.iaload, 1) := by decide +kernel
theorem dX5_line_27 : decode cX5_line 27 = .ok (.ifCond .ge 6, 3) := by decide +kernel
theorem dX5_line_30 : decode cX5_line 30 = .ok (.bipush (-4), 2) := by decide +kernel
theorem dX5_line_32 : decode cX5_line 32 = .ok (.ireturn, 1) := by decide +kernel
theorem dX5_line_33 : decode cX5_line 33 = .ok (.iload_n 2, 1) := by decide +kernel
theorem dX5_line_34 : decode cX5_line 34 = .ok (.tableswitch 58 0 3 #[30, 37, 44, 51], 30) := by decide +kernel
theorem dX5_line_64 : decode cX5_line 64 = .ok (.aload_n 0, 1) := by decide +kernel
theorem dX5_line_65 : decode cX5_line 65 = .ok (.getfield 29, 3) := by decide +kernel
theorem dX5_line_68 : decode cX5_line 68 = .ok (.iload_n 1, 1) := by decide +kernel
theorem dX5_line_69 : decode cX5_line 69 = .ok (.iaload, 1) := by decide +kernel
theorem dX5_line_70 : decode cX5_line 70 = .ok (.ireturn, 1) := by decide +kernel
theorem dX5_line_71 : decode cX5_line 71 = .ok (.aload_n 0, 1) := by decide +kernel
theorem dX5_line_72 : decode cX5_line 72 = .ok (.getfield 35, 3) := by decide +kernel
theorem dX5_line_75 : decode cX5_line 75 = .ok (.iload_n 1, 1) := by decide +kernel
theorem dX5_line_76 : decode cX5_line 76 = .ok (.iaload, 1) := by decide +kernel
theorem dX5_line_77 : decode cX5_line 77 = .ok (.ireturn, 1) := by decide +kernel
theorem dX5_line_78 : decode cX5_line 78 = .ok (.aload_n 0, 1) := by decide +kernel
theorem dX5_line_79 : decode cX5_line 79 = .ok (.getfield 38, 3) := by decide +kernel
theorem dX5_line_82 : decode cX5_line 82 = .ok (.iload_n 1, 1) := by decide +kernel
theorem dX5_line_83 : decode cX5_line 83 = .ok (.iaload, 1) := by decide +kernel
theorem dX5_line_84 : decode cX5_line 84 = .ok (.ireturn, 1) := by decide +kernel
theorem dX5_line_85 : decode cX5_line 85 = .ok (.aload_n 0, 1) := by decide +kernel
theorem dX5_line_86 : decode cX5_line 86 = .ok (.getfield 41, 3) := by decide +kernel
theorem dX5_line_89 : decode cX5_line 89 = .ok (.iload_n 1, 1) := by decide +kernel
theorem dX5_line_90 : decode cX5_line 90 = .ok (.iaload, 1) := by decide +kernel
theorem dX5_line_91 : decode cX5_line 91 = .ok (.ireturn, 1) := by decide +kernel
theorem dX5_line_92 : decode cX5_line 92 = .ok (.aload_n 0, 1) := by decide +kernel
theorem dX5_line_93 : decode cX5_line 93 = .ok (.iload_n 1, 1) := by decide +kernel
theorem dX5_line_94 : decode cX5_line 94 = .ok (.invokevirtual 208, 3) := by decide +kernel
theorem dX5_line_97 : decode cX5_line 97 = .ok (.ifCond .eq 7, 3) := by decide +kernel
theorem dX5_line_100 : decode cX5_line 100 = .ok (.iconst 1, 1) := by decide +kernel
theorem dX5_line_101 : decode cX5_line 101 = .ok (.goto 4, 3) := by decide +kernel
theorem dX5_line_104 : decode cX5_line 104 = .ok (.iconst 0, 1) := by decide +kernel
theorem dX5_line_105 : decode cX5_line 105 = .ok (.ireturn, 1) := by decide +kernel
def tb_X5_line (S_X5_isLetter S_X5_in S_X5_hasProduct : ma_Cs) : Nat → ma_In := fun pc =>
 (if pc < 70 then
 (if pc < 22 then
 (if pc < 10 then
 (if pc < 7 then
 (if pc < 1 then
 (if pc = 0 then in_ild 1 1 else in_no) else
 (if pc < 4 then
 (if pc = 1 then in_s1 S_X5_isLetter 4 else in_no) else
 (if pc = 4 then in_if1 (fun x => x = 0) 19 7 else in_no))) else
 (if pc < 8 then
 (if pc = 7 then in_ild 2 8 else in_no) else
 (if pc < 9 then
 (if pc = 8 then in_il (fun x => x.toInt64) 9 else in_no) else
 (if pc = 9 then in_push (.long 0) 10 else in_no)))) else
 (if pc < 19 then
 (if pc < 13 then
 (if pc = 10 then in_push (.long 4) 13 else in_no) else
 (if pc < 16 then
 (if pc = 13 then in_s3 S_X5_in 16 else in_no) else
 (if pc = 16 then in_if1 (fun x => x = 0) 19 21 else in_no))) else
 (if pc < 20 then
 (if pc = 19 then in_push (.int (-1)) 20 else in_no) else
 (if pc < 21 then
 (if pc = 20 then in_ri else in_no) else
 (if pc = 21 then in_ald 0 22 else in_no))))) else
 (if pc < 33 then
 (if pc < 27 then
 (if pc < 25 then
 (if pc = 22 then in_get YM 5 10 25 else in_no) else
 (if pc < 26 then
 (if pc = 25 then in_ild 1 26 else in_no) else
 (if pc = 26 then in_iar YM 27 else in_no))) else
 (if pc < 30 then
 (if pc = 27 then in_if1 (fun x => 0 ≤ x) 33 30 else in_no) else
 (if pc < 32 then
 (if pc = 30 then in_push (.int (-4)) 32 else in_no) else
 (if pc = 32 then in_ri else in_no)))) else
 (if pc < 65 then
 (if pc < 34 then
 (if pc = 33 then in_ild 2 34 else in_no) else
 (if pc < 64 then
 (if pc = 34 then in_sw [64, 71, 78, 85] 92 else in_no) else
 (if pc = 64 then in_ald 0 65 else in_no))) else
 (if pc < 68 then
 (if pc = 65 then in_get YM 5 10 68 else in_no) else
 (if pc < 69 then
 (if pc = 68 then in_ild 1 69 else in_no) else
 (if pc = 69 then in_iar YM 70 else in_no)))))) else
 (if pc < 86 then
 (if pc < 78 then
 (if pc < 75 then
 (if pc < 71 then
 (if pc = 70 then in_ri else in_no) else
 (if pc < 72 then
 (if pc = 71 then in_ald 0 72 else in_no) else
 (if pc = 72 then in_get YM 5 12 75 else in_no))) else
 (if pc < 76 then
 (if pc = 75 then in_ild 1 76 else in_no) else
 (if pc < 77 then
 (if pc = 76 then in_iar YM 77 else in_no) else
 (if pc = 77 then in_ri else in_no)))) else
 (if pc < 83 then
 (if pc < 79 then
 (if pc = 78 then in_ald 0 79 else in_no) else
 (if pc < 82 then
 (if pc = 79 then in_get YM 5 13 82 else in_no) else
 (if pc = 82 then in_ild 1 83 else in_no))) else
 (if pc < 84 then
 (if pc = 83 then in_iar YM 84 else in_no) else
 (if pc < 85 then
 (if pc = 84 then in_ri else in_no) else
 (if pc = 85 then in_ald 0 86 else in_no))))) else
 (if pc < 94 then
 (if pc < 91 then
 (if pc < 89 then
 (if pc = 86 then in_get YM 5 14 89 else in_no) else
 (if pc < 90 then
 (if pc = 89 then in_ild 1 90 else in_no) else
 (if pc = 90 then in_iar YM 91 else in_no))) else
 (if pc < 92 then
 (if pc = 91 then in_ri else in_no) else
 (if pc < 93 then
 (if pc = 92 then in_ald 0 93 else in_no) else
 (if pc = 93 then in_ild 1 94 else in_no)))) else
 (if pc < 101 then
 (if pc < 97 then
 (if pc = 94 then in_v2 YM 5 S_X5_hasProduct 97 else in_no) else
 (if pc < 100 then
 (if pc = 97 then in_if1 (fun x => x = 0) 104 100 else in_no) else
 (if pc = 100 then in_push (.int 1) 101 else in_no))) else
 (if pc < 104 then
 (if pc = 101 then in_go 105 else in_no) else
 (if pc < 105 then
 (if pc = 104 then in_push (.int 0) 105 else in_no) else
 (if pc = 105 then in_ri else in_no)))))))
theorem tk_X5_line {l : Launch} {w : ma_Wd} {NC : Nat} {A : Nat → Prop} {S_X5_isLetter S_X5_in S_X5_hasProduct : ma_Cs} (h_X5_isLetter : ma_Sd l w YM NC A yX5_isLetter cX5_isLetter 1 (some .boolean) rm_X5_isLetter S_X5_isLetter) (h_X5_in : ma_Sd l w YM NC A yX5_in cX5_in 6 (some .boolean) rm_X5_in S_X5_in) (h_X5_hasProduct : ma_Sd l w YM NC A yX5_hasProduct cX5_hasProduct 4 (some .boolean) rm_X5_hasProduct S_X5_hasProduct) {p : Program} {e : Env} {s : State} {m : MethodId} {args : Array Value} {below : List Frame} {meth : Method} {c : Code} (X : ma_Cx p s m args meth c w YM NC A yX5_line.cls cX5_line 3 (some .int)) : ∀ pc, ma_Ok p l e rm_X5_line s m args below meth c w YM NC A 3 pc (tb_X5_line S_X5_isLetter S_X5_in S_X5_hasProduct pc) := fun pc =>
 (mk_lt
 (mk_lt
 (mk_lt
 (mk_lt
 (mk_lt
 (mk_eq (mk_iload_n X dX5_line_0 rfl rfl))
 (mk_lt
 (mk_eq (mk_S1 X h_X5_isLetter (lw_S q908 q909 q66 q910) ⟨by decide, by decide, rfl⟩ ⟨(Nat.le_of_ble_eq_true rfl), (Nat.le_of_ble_eq_true rfl)⟩ dX5_line_1 rfl))
 (mk_eq (mk_ifeq X dX5_line_4 rfl rfl))))
 (mk_lt
 (mk_eq (mk_iload_n X dX5_line_7 rfl rfl))
 (mk_lt
 (mk_eq (mk_i2l X dX5_line_8 rfl))
 (mk_eq (mk_lconst X dX5_line_9 rfl rfl)))))
 (mk_lt
 (mk_lt
 (mk_eq (mk_ldc2 X dX5_line_10 q968 rfl))
 (mk_lt
 (mk_eq (mk_S3 X h_X5_in (lw_S q892 q893 q66 q894) ⟨by decide, by decide, rfl⟩ ⟨(Nat.le_of_ble_eq_true rfl), (Nat.le_of_ble_eq_true rfl)⟩ dX5_line_13 rfl))
 (mk_eq (mk_ifne X dX5_line_16 rfl rfl))))
 (mk_lt
 (mk_eq (mk_iconst X dX5_line_19 rfl rfl))
 (mk_lt
 (mk_eq (mk_ri X dX5_line_20))
 (mk_eq (mk_aload_n X dX5_line_21 rfl rfl))))))
 (mk_lt
 (mk_lt
 (mk_lt
 (mk_eq (mk_get X (ci := 5) (j := 10) rfl in_X5 (Nat.le_of_ble_eq_true rfl) q757 dX5_line_22 rfl))
 (mk_lt
 (mk_eq (mk_iload_n X dX5_line_25 rfl rfl))
 (mk_eq (mk_iar X dX5_line_26 rfl))))
 (mk_lt
 (mk_eq (mk_ifge X dX5_line_27 rfl rfl))
 (mk_lt
 (mk_eq (mk_bipush X dX5_line_30 rfl rfl))
 (mk_eq (mk_ri X dX5_line_32)))))
 (mk_lt
 (mk_lt
 (mk_eq (mk_iload_n X dX5_line_33 rfl rfl))
 (mk_lt
 (mk_eq (mk_sw X dX5_line_34 rfl rfl (Nat.le_of_ble_eq_true rfl) rfl))
 (mk_eq (mk_aload_n X dX5_line_64 rfl rfl))))
 (mk_lt
 (mk_eq (mk_get X (ci := 5) (j := 10) rfl in_X5 (Nat.le_of_ble_eq_true rfl) q757 dX5_line_65 rfl))
 (mk_lt
 (mk_eq (mk_iload_n X dX5_line_68 rfl rfl))
 (mk_eq (mk_iar X dX5_line_69 rfl)))))))
 (mk_lt
 (mk_lt
 (mk_lt
 (mk_lt
 (mk_eq (mk_ri X dX5_line_70))
 (mk_lt
 (mk_eq (mk_aload_n X dX5_line_71 rfl rfl))
 (mk_eq (mk_get X (ci := 5) (j := 12) rfl in_X5 (Nat.le_of_ble_eq_true rfl) q759 dX5_line_72 rfl))))
 (mk_lt
 (mk_eq (mk_iload_n X dX5_line_75 rfl rfl))
 (mk_lt
 (mk_eq (mk_iar X dX5_line_76 rfl))
 (mk_eq (mk_ri X dX5_line_77)))))
 (mk_lt
 (mk_lt
 (mk_eq (mk_aload_n X dX5_line_78 rfl rfl))
 (mk_lt
 (mk_eq (mk_get X (ci := 5) (j := 13) rfl in_X5 (Nat.le_of_ble_eq_true rfl) q760 dX5_line_79 rfl))
 (mk_eq (mk_iload_n X dX5_line_82 rfl rfl))))
 (mk_lt
 (mk_eq (mk_iar X dX5_line_83 rfl))
 (mk_lt
 (mk_eq (mk_ri X dX5_line_84))
 (mk_eq (mk_aload_n X dX5_line_85 rfl rfl))))))
 (mk_lt
 (mk_lt
 (mk_lt
 (mk_eq (mk_get X (ci := 5) (j := 14) rfl in_X5 (Nat.le_of_ble_eq_true rfl) q761 dX5_line_86 rfl))
 (mk_lt
 (mk_eq (mk_iload_n X dX5_line_89 rfl rfl))
 (mk_eq (mk_iar X dX5_line_90 rfl))))
 (mk_lt
 (mk_eq (mk_ri X dX5_line_91))
 (mk_lt
 (mk_eq (mk_aload_n X dX5_line_92 rfl rfl))
 (mk_eq (mk_iload_n X dX5_line_93 rfl rfl)))))
 (mk_lt
 (mk_lt
 (mk_eq (mk_V2 X h_X5_hasProduct (ci := 5) rfl (lw_V q969 q971 qs38 q66 q972) ⟨rfl, by decide, by decide, rfl⟩ ⟨(Nat.le_of_ble_eq_true rfl), (Nat.le_of_ble_eq_true rfl)⟩ dX5_line_94 rfl))
 (mk_lt
 (mk_eq (mk_ifeq X dX5_line_97 rfl rfl))
 (mk_eq (mk_iconst X dX5_line_100 rfl rfl))))
 (mk_lt
 (mk_eq (mk_goto X dX5_line_101 rfl))
 (mk_lt
 (mk_eq (mk_iconst X dX5_line_104 rfl rfl))
 (mk_eq (mk_ri X dX5_line_105))))))))
theorem sd_X5_line {l : Launch} {w : ma_Wd} {NC : Nat} {A : Nat → Prop} {S_X5_isLetter S_X5_in S_X5_hasProduct : ma_Cs} (hw : ma_Wo w YM NC A) (h_X5_isLetter : ma_Sd l w YM NC A yX5_isLetter cX5_isLetter 1 (some .boolean) rm_X5_isLetter S_X5_isLetter) (h_X5_in : ma_Sd l w YM NC A yX5_in cX5_in 6 (some .boolean) rm_X5_in S_X5_in) (h_X5_hasProduct : ma_Sd l w YM NC A yX5_hasProduct cX5_hasProduct 4 (some .boolean) rm_X5_hasProduct S_X5_hasProduct) : ma_Sd l w YM NC A yX5_line cX5_line 3 (some .int) rm_X5_line (ma_rn (tb_X5_line S_X5_isLetter S_X5_in S_X5_hasProduct) 3) := ma_of hw (by decide) ⟨rfl, rfl⟩ (fun X => tk_X5_line h_X5_isLetter h_X5_in h_X5_hasProduct X)
theorem dX5_hasProduct_0 : decode cX5_hasProduct 0 = .ok (.iconst 0, 1) := by decide +kernel
theorem dX5_hasProduct_1 : decode cX5_hasProduct 1 = .ok (.istore_n 2, 1) := by decide +kernel
theorem dX5_hasProduct_2 : decode cX5_hasProduct 2 = .ok (.aload_n 0, 1) := by decide +kernel
theorem dX5_hasProduct_3 : decode cX5_hasProduct 3 = .ok (.getfield 32, 3) := by decide +kernel
theorem dX5_hasProduct_6 : decode cX5_hasProduct 6 = .ok (.iload_n 1, 1) := by decide +kernel
theorem dX5_hasProduct_7 : decode cX5_hasProduct 7 = .ok (.iaload, 1) := by decide +kernel
theorem dX5_hasProduct_8 : decode cX5_hasProduct 8 = .ok (.istore_n 3, 1) := by decide +kernel
theorem dX5_hasProduct_9 : decode cX5_hasProduct 9 = .ok (.iload_n 3, 1) := by decide +kernel
theorem dX5_hasProduct_10 : decode cX5_hasProduct 10 = .ok (.aload_n 0, 1) := by decide +kernel
theorem dX5_hasProduct_11 : decode cX5_hasProduct 11 = .ok (.getfield 32, 3) := by decide +kernel
theorem dX5_hasProduct_14 : decode cX5_hasProduct 14 = .ok (.iload_n 1, 1) := by decide +kernel
theorem dX5_hasProduct_15 : decode cX5_hasProduct 15 = .ok (.iaload, 1) := by decide +kernel
theorem dX5_hasProduct_16 : decode cX5_hasProduct 16 = .ok (.aload_n 0, 1) := by decide +kernel
theorem dX5_hasProduct_17 : decode cX5_hasProduct 17 = .ok (.getfield 35, 3) := by decide +kernel
theorem dX5_hasProduct_20 : decode cX5_hasProduct 20 = .ok (.iload_n 1, 1) := by decide +kernel
theorem dX5_hasProduct_21 : decode cX5_hasProduct 21 = .ok (.iaload, 1) := by decide +kernel
theorem dX5_hasProduct_22 : decode cX5_hasProduct 22 = .ok (.iadd, 1) := by decide +kernel
theorem dX5_hasProduct_23 : decode cX5_hasProduct 23 = .ok (.if_icmp .ge 28, 3) := by decide +kernel
theorem dX5_hasProduct_26 : decode cX5_hasProduct 26 = .ok (.iload_n 2, 1) := by decide +kernel
theorem dX5_hasProduct_27 : decode cX5_hasProduct 27 = .ok (.ifCond .ne 12, 3) := by decide +kernel
theorem dX5_hasProduct_30 : decode cX5_hasProduct 30 = .ok (.aload_n 0, 1) := by decide +kernel
theorem dX5_hasProduct_31 : decode cX5_hasProduct 31 = .ok (.getfield 50, 3) := by decide +kernel
theorem dX5_hasProduct_34 : decode cX5_hasProduct 34 = .ok (.iload_n 3, 1) := by decide +kernel
theorem dX5_hasProduct_35 : decode cX5_hasProduct 35 = .ok (.iaload, 1) := by decide +kernel
theorem dX5_hasProduct_36 : decode cX5_hasProduct 36 = .ok (.ifCond .lt 7, 3) := by decide +kernel
theorem dX5_hasProduct_39 : decode cX5_hasProduct 39 = .ok (.iconst 1, 1) := by decide +kernel
theorem dX5_hasProduct_40 : decode cX5_hasProduct 40 = .ok (.goto 4, 3) := by decide +kernel
theorem dX5_hasProduct_43 : decode cX5_hasProduct 43 = .ok (.iconst 0, 1) := by decide +kernel
theorem dX5_hasProduct_44 : decode cX5_hasProduct 44 = .ok (.istore_n 2, 1) := by decide +kernel
theorem dX5_hasProduct_45 : decode cX5_hasProduct 45 = .ok (.iinc 3 1, 3) := by decide +kernel
theorem dX5_hasProduct_48 : decode cX5_hasProduct 48 = .ok (.goto (-39), 3) := by decide +kernel
theorem dX5_hasProduct_51 : decode cX5_hasProduct 51 = .ok (.iload_n 2, 1) := by decide +kernel
theorem dX5_hasProduct_52 : decode cX5_hasProduct 52 = .ok (.ireturn, 1) := by decide +kernel
def tb_X5_hasProduct : Nat → ma_In := fun pc =>
 (if pc < 22 then
 (if pc < 10 then
 (if pc < 6 then
 (if pc < 2 then
 (if pc < 1 then
 (if pc = 0 then in_push (.int 0) 1 else in_no) else
 (if pc = 1 then in_ist 2 2 else in_no)) else
 (if pc < 3 then
 (if pc = 2 then in_ald 0 3 else in_no) else
 (if pc = 3 then in_get YM 5 11 6 else in_no))) else
 (if pc < 8 then
 (if pc < 7 then
 (if pc = 6 then in_ild 1 7 else in_no) else
 (if pc = 7 then in_iar YM 8 else in_no)) else
 (if pc < 9 then
 (if pc = 8 then in_ist 3 9 else in_no) else
 (if pc = 9 then in_ild 3 10 else in_no)))) else
 (if pc < 16 then
 (if pc < 14 then
 (if pc < 11 then
 (if pc = 10 then in_ald 0 11 else in_no) else
 (if pc = 11 then in_get YM 5 11 14 else in_no)) else
 (if pc < 15 then
 (if pc = 14 then in_ild 1 15 else in_no) else
 (if pc = 15 then in_iar YM 16 else in_no))) else
 (if pc < 20 then
 (if pc < 17 then
 (if pc = 16 then in_ald 0 17 else in_no) else
 (if pc = 17 then in_get YM 5 12 20 else in_no)) else
 (if pc < 21 then
 (if pc = 20 then in_ild 1 21 else in_no) else
 (if pc = 21 then in_iar YM 22 else in_no))))) else
 (if pc < 36 then
 (if pc < 30 then
 (if pc < 26 then
 (if pc < 23 then
 (if pc = 22 then in_iii (fun x y => x + y) 23 else in_no) else
 (if pc = 23 then in_if2 (fun x y => y ≤ x) 51 26 else in_no)) else
 (if pc < 27 then
 (if pc = 26 then in_ild 2 27 else in_no) else
 (if pc = 27 then in_if1 (fun x => x = 0) 30 39 else in_no))) else
 (if pc < 34 then
 (if pc < 31 then
 (if pc = 30 then in_ald 0 31 else in_no) else
 (if pc = 31 then in_get YM 5 17 34 else in_no)) else
 (if pc < 35 then
 (if pc = 34 then in_ild 3 35 else in_no) else
 (if pc = 35 then in_iar YM 36 else in_no)))) else
 (if pc < 44 then
 (if pc < 40 then
 (if pc < 39 then
 (if pc = 36 then in_if1 (fun x => x < 0) 43 39 else in_no) else
 (if pc = 39 then in_push (.int 1) 40 else in_no)) else
 (if pc < 43 then
 (if pc = 40 then in_go 44 else in_no) else
 (if pc = 43 then in_push (.int 0) 44 else in_no))) else
 (if pc < 48 then
 (if pc < 45 then
 (if pc = 44 then in_ist 2 45 else in_no) else
 (if pc = 45 then in_inc 3 1 48 else in_no)) else
 (if pc < 51 then
 (if pc = 48 then in_go 9 else in_no) else
 (if pc < 52 then
 (if pc = 51 then in_ild 2 52 else in_no) else
 (if pc = 52 then in_rz else in_no)))))))
theorem tk_X5_hasProduct {l : Launch} {w : ma_Wd} {NC : Nat} {A : Nat → Prop} {p : Program} {e : Env} {s : State} {m : MethodId} {args : Array Value} {below : List Frame} {meth : Method} {c : Code} (X : ma_Cx p s m args meth c w YM NC A yX5_hasProduct.cls cX5_hasProduct 4 (some .boolean)) : ∀ pc, ma_Ok p l e rm_X5_hasProduct s m args below meth c w YM NC A 4 pc (tb_X5_hasProduct pc) := fun pc =>
 (mk_lt
 (mk_lt
 (mk_lt
 (mk_lt
 (mk_lt
 (mk_eq (mk_iconst X dX5_hasProduct_0 rfl rfl))
 (mk_eq (mk_istore_n X dX5_hasProduct_1 rfl (Nat.le_of_ble_eq_true rfl) rfl)))
 (mk_lt
 (mk_eq (mk_aload_n X dX5_hasProduct_2 rfl rfl))
 (mk_eq (mk_get X (ci := 5) (j := 11) rfl in_X5 (Nat.le_of_ble_eq_true rfl) q758 dX5_hasProduct_3 rfl))))
 (mk_lt
 (mk_lt
 (mk_eq (mk_iload_n X dX5_hasProduct_6 rfl rfl))
 (mk_eq (mk_iar X dX5_hasProduct_7 rfl)))
 (mk_lt
 (mk_eq (mk_istore_n X dX5_hasProduct_8 rfl (Nat.le_of_ble_eq_true rfl) rfl))
 (mk_eq (mk_iload_n X dX5_hasProduct_9 rfl rfl)))))
 (mk_lt
 (mk_lt
 (mk_lt
 (mk_eq (mk_aload_n X dX5_hasProduct_10 rfl rfl))
 (mk_eq (mk_get X (ci := 5) (j := 11) rfl in_X5 (Nat.le_of_ble_eq_true rfl) q758 dX5_hasProduct_11 rfl)))
 (mk_lt
 (mk_eq (mk_iload_n X dX5_hasProduct_14 rfl rfl))
 (mk_eq (mk_iar X dX5_hasProduct_15 rfl))))
 (mk_lt
 (mk_lt
 (mk_eq (mk_aload_n X dX5_hasProduct_16 rfl rfl))
 (mk_eq (mk_get X (ci := 5) (j := 12) rfl in_X5 (Nat.le_of_ble_eq_true rfl) q759 dX5_hasProduct_17 rfl)))
 (mk_lt
 (mk_eq (mk_iload_n X dX5_hasProduct_20 rfl rfl))
 (mk_eq (mk_iar X dX5_hasProduct_21 rfl))))))
 (mk_lt
 (mk_lt
 (mk_lt
 (mk_lt
 (mk_eq (mk_iadd X dX5_hasProduct_22 rfl))
 (mk_eq (mk_icge X dX5_hasProduct_23 rfl rfl)))
 (mk_lt
 (mk_eq (mk_iload_n X dX5_hasProduct_26 rfl rfl))
 (mk_eq (mk_ifne X dX5_hasProduct_27 rfl rfl))))
 (mk_lt
 (mk_lt
 (mk_eq (mk_aload_n X dX5_hasProduct_30 rfl rfl))
 (mk_eq (mk_get X (ci := 5) (j := 17) rfl in_X5 (Nat.le_of_ble_eq_true rfl) q764 dX5_hasProduct_31 rfl)))
 (mk_lt
 (mk_eq (mk_iload_n X dX5_hasProduct_34 rfl rfl))
 (mk_eq (mk_iar X dX5_hasProduct_35 rfl)))))
 (mk_lt
 (mk_lt
 (mk_lt
 (mk_eq (mk_iflt X dX5_hasProduct_36 rfl rfl))
 (mk_eq (mk_iconst X dX5_hasProduct_39 rfl rfl)))
 (mk_lt
 (mk_eq (mk_goto X dX5_hasProduct_40 rfl))
 (mk_eq (mk_iconst X dX5_hasProduct_43 rfl rfl))))
 (mk_lt
 (mk_lt
 (mk_eq (mk_istore_n X dX5_hasProduct_44 rfl (Nat.le_of_ble_eq_true rfl) rfl))
 (mk_eq (mk_iinc X dX5_hasProduct_45 rfl (Nat.le_of_ble_eq_true rfl) rfl)))
 (mk_lt
 (mk_eq (mk_goto X dX5_hasProduct_48 rfl))
 (mk_lt
 (mk_eq (mk_iload_n X dX5_hasProduct_51 rfl rfl))
 (mk_eq (mk_rz X dX5_hasProduct_52))))))))
theorem sd_X5_hasProduct {l : Launch} {w : ma_Wd} {NC : Nat} {A : Nat → Prop} (hw : ma_Wo w YM NC A) : ma_Sd l w YM NC A yX5_hasProduct cX5_hasProduct 4 (some .boolean) rm_X5_hasProduct (ma_rn (tb_X5_hasProduct) 4) := ma_of hw (by decide) ⟨rfl, rfl⟩ (fun X => tk_X5_hasProduct  X)
theorem dX5_first_0 : decode cX5_first 0 = .ok (.aload_n 0, 1) := by decide +kernel
theorem dX5_first_1 : decode cX5_first 1 = .ok (.iload_n 1, 1) := by decide +kernel
theorem dX5_first_2 : decode cX5_first 2 = .ok (.invokevirtual 269, 3) := by decide +kernel
theorem dX5_first_5 : decode cX5_first 5 = .ok (.ifCond .eq 30, 3) := by decide +kernel
theorem dX5_first_8 : decode cX5_first 8 = .ok (.iload_n 2, 1) := by decide +kernel
theorem dX5_first_9 : decode cX5_first 9 = .ok (.invokestatic 146, 3) := by decide +kernel
theorem dX5_first_12 : decode cX5_first 12 = .ok (.ifCond .eq 23, 3) := by decide +kernel
theorem dX5_first_15 : decode cX5_first 15 = .ok (.iload_n 3, 1) := by decide +kernel
theorem dX5_first_16 : decode cX5_first 16 = .ok (.i2l, 1) := by decide +kernel
theorem dX5_first_17 : decode cX5_first 17 = .ok (.ldc2_w 150, 3) := by decide +kernel
theorem dX5_first_20 : decode cX5_first 20 = .ok (.ldc2_w 152, 3) := by decide +kernel
theorem dX5_first_23 : decode cX5_first 23 = .ok (.invokestatic 128, 3) := by decide +kernel
theorem dX5_first_26 : decode cX5_first 26 = .ok (.ifCond .ne 12, 3) := by decide +kernel
theorem dX5_first_29 : decode cX5_first 29 = .ok (.iload_n 3, 1) := by decide +kernel
theorem dX5_first_30 : decode cX5_first 30 = .ok (.ldc 115, 2) := by decide +kernel
theorem dX5_first_32 : decode cX5_first 32 = .ok (.if_icmp .eq 6, 3) := by decide +kernel
theorem dX5_first_35 : decode cX5_first 35 = .ok (.ldc 154, 2) := by decide +kernel
theorem dX5_first_37 : decode cX5_first 37 = .ok (.ireturn, 1) := by decide +kernel
theorem dX5_first_38 : decode cX5_first 38 = .ok (.aload_n 0, 1) := by decide +kernel
theorem dX5_first_39 : decode cX5_first 39 = .ok (.getfield 53, 3) := by decide +kernel
theorem dX5_first_42 : decode cX5_first 42 = .ok (.iconst 4, 1) := by decide +kernel
theorem dX5_first_43 : decode cX5_first 43 = .ok (.iload_n 1, 1) := by decide +kernel
theorem dX5_first_44 : decode cX5_first 44 = .ok (.imul, 1) := by decide +kernel
theorem dX5_first_45 : decode cX5_first 45 = .ok (.iload_n 2, 1) := by decide +kernel
theorem dX5_first_46 : decode cX5_first 46 = .ok (.iadd, 1) := by decide +kernel
theorem dX5_first_47 : decode cX5_first 47 = .ok (.iaload, 1) := by decide +kernel
theorem dX5_first_48 : decode cX5_first 48 = .ok (.istore 4, 2) := by decide +kernel
theorem dX5_first_50 : decode cX5_first 50 = .ok (.aload_n 0, 1) := by decide +kernel
theorem dX5_first_51 : decode cX5_first 51 = .ok (.getfield 53, 3) := by decide +kernel
theorem dX5_first_54 : decode cX5_first 54 = .ok (.iconst 4, 1) := by decide +kernel
theorem dX5_first_55 : decode cX5_first 55 = .ok (.iload_n 1, 1) := by decide +kernel
theorem dX5_first_56 : decode cX5_first 56 = .ok (.imul, 1) := by decide +kernel
theorem dX5_first_57 : decode cX5_first 57 = .ok (.iload_n 2, 1) := by decide +kernel
theorem dX5_first_58 : decode cX5_first 58 = .ok (.iadd, 1) := by decide +kernel
theorem dX5_first_59 : decode cX5_first 59 = .ok (.iload_n 3, 1) := by decide +kernel
theorem dX5_first_60 : decode cX5_first 60 = .ok (.iastore, 1) := by decide +kernel
theorem dX5_first_61 : decode cX5_first 61 = .ok (.iload 4, 2) := by decide +kernel
theorem dX5_first_63 : decode cX5_first 63 = .ok (.ireturn, 1) := by decide +kernel
def tb_X5_first (S_X5_isCell S_X5_isLetter S_X5_in : ma_Cs) : Nat → ma_In := fun pc =>
 (if pc < 39 then
 (if pc < 17 then
 (if pc < 8 then
 (if pc < 2 then
 (if pc < 1 then
 (if pc = 0 then in_ald 0 1 else in_no) else
 (if pc = 1 then in_ild 1 2 else in_no)) else
 (if pc < 5 then
 (if pc = 2 then in_v2 YM 5 S_X5_isCell 5 else in_no) else
 (if pc = 5 then in_if1 (fun x => x = 0) 35 8 else in_no))) else
 (if pc < 12 then
 (if pc < 9 then
 (if pc = 8 then in_ild 2 9 else in_no) else
 (if pc = 9 then in_s1 S_X5_isLetter 12 else in_no)) else
 (if pc < 15 then
 (if pc = 12 then in_if1 (fun x => x = 0) 35 15 else in_no) else
 (if pc < 16 then
 (if pc = 15 then in_ild 3 16 else in_no) else
 (if pc = 16 then in_il (fun x => x.toInt64) 17 else in_no))))) else
 (if pc < 30 then
 (if pc < 23 then
 (if pc < 20 then
 (if pc = 17 then in_push (.long (-1000000)) 20 else in_no) else
 (if pc = 20 then in_push (.long 1000000) 23 else in_no)) else
 (if pc < 26 then
 (if pc = 23 then in_s3 S_X5_in 26 else in_no) else
 (if pc < 29 then
 (if pc = 26 then in_if1 (fun x => x = 0) 29 38 else in_no) else
 (if pc = 29 then in_ild 3 30 else in_no)))) else
 (if pc < 35 then
 (if pc < 32 then
 (if pc = 30 then in_push (.int 2000000) 32 else in_no) else
 (if pc = 32 then in_if2 (fun x y => x = y) 38 35 else in_no)) else
 (if pc < 37 then
 (if pc = 35 then in_push (.int (-2000000)) 37 else in_no) else
 (if pc < 38 then
 (if pc = 37 then in_ri else in_no) else
 (if pc = 38 then in_ald 0 39 else in_no)))))) else
 (if pc < 51 then
 (if pc < 45 then
 (if pc < 43 then
 (if pc < 42 then
 (if pc = 39 then in_get YM 5 18 42 else in_no) else
 (if pc = 42 then in_push (.int 4) 43 else in_no)) else
 (if pc < 44 then
 (if pc = 43 then in_ild 1 44 else in_no) else
 (if pc = 44 then in_iii (fun x y => x * y) 45 else in_no))) else
 (if pc < 47 then
 (if pc < 46 then
 (if pc = 45 then in_ild 2 46 else in_no) else
 (if pc = 46 then in_iii (fun x y => x + y) 47 else in_no)) else
 (if pc < 48 then
 (if pc = 47 then in_iar YM 48 else in_no) else
 (if pc < 50 then
 (if pc = 48 then in_ist 4 50 else in_no) else
 (if pc = 50 then in_ald 0 51 else in_no))))) else
 (if pc < 58 then
 (if pc < 55 then
 (if pc < 54 then
 (if pc = 51 then in_get YM 5 18 54 else in_no) else
 (if pc = 54 then in_push (.int 4) 55 else in_no)) else
 (if pc < 56 then
 (if pc = 55 then in_ild 1 56 else in_no) else
 (if pc < 57 then
 (if pc = 56 then in_iii (fun x y => x * y) 57 else in_no) else
 (if pc = 57 then in_ild 2 58 else in_no)))) else
 (if pc < 60 then
 (if pc < 59 then
 (if pc = 58 then in_iii (fun x y => x + y) 59 else in_no) else
 (if pc = 59 then in_ild 3 60 else in_no)) else
 (if pc < 61 then
 (if pc = 60 then in_iaw YM 61 else in_no) else
 (if pc < 63 then
 (if pc = 61 then in_ild 4 63 else in_no) else
 (if pc = 63 then in_ri else in_no)))))))
theorem tk_X5_first {l : Launch} {w : ma_Wd} {NC : Nat} {A : Nat → Prop} {S_X5_isCell S_X5_isLetter S_X5_in : ma_Cs} (h_X5_isCell : ma_Sd l w YM NC A yX5_isCell cX5_isCell 2 (some .boolean) rm_X5_isCell S_X5_isCell) (h_X5_isLetter : ma_Sd l w YM NC A yX5_isLetter cX5_isLetter 1 (some .boolean) rm_X5_isLetter S_X5_isLetter) (h_X5_in : ma_Sd l w YM NC A yX5_in cX5_in 6 (some .boolean) rm_X5_in S_X5_in) {p : Program} {e : Env} {s : State} {m : MethodId} {args : Array Value} {below : List Frame} {meth : Method} {c : Code} (X : ma_Cx p s m args meth c w YM NC A yX5_first.cls cX5_first 5 (some .int)) : ∀ pc, ma_Ok p l e rm_X5_first s m args below meth c w YM NC A 5 pc (tb_X5_first S_X5_isCell S_X5_isLetter S_X5_in pc) := fun pc =>
 (mk_lt
 (mk_lt
 (mk_lt
 (mk_lt
 (mk_lt
 (mk_eq (mk_aload_n X dX5_first_0 rfl rfl))
 (mk_eq (mk_iload_n X dX5_first_1 rfl rfl)))
 (mk_lt
 (mk_eq (mk_V2 X h_X5_isCell (ci := 5) rfl (lw_V q977 q979 qs39 q66 q980) ⟨rfl, by decide, by decide, rfl⟩ ⟨(Nat.le_of_ble_eq_true rfl), (Nat.le_of_ble_eq_true rfl)⟩ dX5_first_2 rfl))
 (mk_eq (mk_ifeq X dX5_first_5 rfl rfl))))
 (mk_lt
 (mk_lt
 (mk_eq (mk_iload_n X dX5_first_8 rfl rfl))
 (mk_eq (mk_S1 X h_X5_isLetter (lw_S q908 q909 q66 q910) ⟨by decide, by decide, rfl⟩ ⟨(Nat.le_of_ble_eq_true rfl), (Nat.le_of_ble_eq_true rfl)⟩ dX5_first_9 rfl)))
 (mk_lt
 (mk_eq (mk_ifeq X dX5_first_12 rfl rfl))
 (mk_lt
 (mk_eq (mk_iload_n X dX5_first_15 rfl rfl))
 (mk_eq (mk_i2l X dX5_first_16 rfl))))))
 (mk_lt
 (mk_lt
 (mk_lt
 (mk_eq (mk_ldc2 X dX5_first_17 q912 rfl))
 (mk_eq (mk_ldc2 X dX5_first_20 q913 rfl)))
 (mk_lt
 (mk_eq (mk_S3 X h_X5_in (lw_S q892 q893 q66 q894) ⟨by decide, by decide, rfl⟩ ⟨(Nat.le_of_ble_eq_true rfl), (Nat.le_of_ble_eq_true rfl)⟩ dX5_first_23 rfl))
 (mk_lt
 (mk_eq (mk_ifne X dX5_first_26 rfl rfl))
 (mk_eq (mk_iload_n X dX5_first_29 rfl rfl)))))
 (mk_lt
 (mk_lt
 (mk_eq (mk_ldc X dX5_first_30 q741 rfl))
 (mk_eq (mk_iceq X dX5_first_32 rfl rfl)))
 (mk_lt
 (mk_eq (mk_ldc X dX5_first_35 q914 rfl))
 (mk_lt
 (mk_eq (mk_ri X dX5_first_37))
 (mk_eq (mk_aload_n X dX5_first_38 rfl rfl)))))))
 (mk_lt
 (mk_lt
 (mk_lt
 (mk_lt
 (mk_eq (mk_get X (ci := 5) (j := 18) rfl in_X5 (Nat.le_of_ble_eq_true rfl) q765 dX5_first_39 rfl))
 (mk_eq (mk_iconst X dX5_first_42 rfl rfl)))
 (mk_lt
 (mk_eq (mk_iload_n X dX5_first_43 rfl rfl))
 (mk_eq (mk_imul X dX5_first_44 rfl))))
 (mk_lt
 (mk_lt
 (mk_eq (mk_iload_n X dX5_first_45 rfl rfl))
 (mk_eq (mk_iadd X dX5_first_46 rfl)))
 (mk_lt
 (mk_eq (mk_iar X dX5_first_47 rfl))
 (mk_lt
 (mk_eq (mk_istore X dX5_first_48 (Nat.le_of_ble_eq_true rfl) rfl))
 (mk_eq (mk_aload_n X dX5_first_50 rfl rfl))))))
 (mk_lt
 (mk_lt
 (mk_lt
 (mk_eq (mk_get X (ci := 5) (j := 18) rfl in_X5 (Nat.le_of_ble_eq_true rfl) q765 dX5_first_51 rfl))
 (mk_eq (mk_iconst X dX5_first_54 rfl rfl)))
 (mk_lt
 (mk_eq (mk_iload_n X dX5_first_55 rfl rfl))
 (mk_lt
 (mk_eq (mk_imul X dX5_first_56 rfl))
 (mk_eq (mk_iload_n X dX5_first_57 rfl rfl)))))
 (mk_lt
 (mk_lt
 (mk_eq (mk_iadd X dX5_first_58 rfl))
 (mk_eq (mk_iload_n X dX5_first_59 rfl rfl)))
 (mk_lt
 (mk_eq (mk_iaw X dX5_first_60 rfl))
 (mk_lt
 (mk_eq (mk_iload X dX5_first_61 rfl))
 (mk_eq (mk_ri X dX5_first_63))))))))
theorem sd_X5_first {l : Launch} {w : ma_Wd} {NC : Nat} {A : Nat → Prop} {S_X5_isCell S_X5_isLetter S_X5_in : ma_Cs} (hw : ma_Wo w YM NC A) (h_X5_isCell : ma_Sd l w YM NC A yX5_isCell cX5_isCell 2 (some .boolean) rm_X5_isCell S_X5_isCell) (h_X5_isLetter : ma_Sd l w YM NC A yX5_isLetter cX5_isLetter 1 (some .boolean) rm_X5_isLetter S_X5_isLetter) (h_X5_in : ma_Sd l w YM NC A yX5_in cX5_in 6 (some .boolean) rm_X5_in S_X5_in) : ma_Sd l w YM NC A yX5_first cX5_first 5 (some .int) rm_X5_first (ma_rn (tb_X5_first S_X5_isCell S_X5_isLetter S_X5_in) 5) := ma_of hw (by decide) ⟨rfl, rfl⟩ (fun X => tk_X5_first h_X5_isCell h_X5_isLetter h_X5_in X)
theorem dX5_isCell_0 : decode cX5_isCell 0 = .ok (.iload_n 1, 1) := by decide +kernel
theorem dX5_isCell_1 : decode cX5_isCell 1 = .ok (.i2l, 1) := by decide +kernel
theorem dX5_isCell_2 : decode cX5_isCell 2 = .ok (.lconst 0, 1) := by decide +kernel
theorem dX5_isCell_3 : decode cX5_isCell 3 = .ok (.aload_n 0, 1) := by decide +kernel
theorem dX5_isCell_4 : decode cX5_isCell 4 = .ok (.invokevirtual 124, 3) := by decide +kernel
theorem dX5_isCell_7 : decode cX5_isCell 7 = .ok (.iconst 1, 1) := by decide +kernel
theorem dX5_isCell_8 : decode cX5_isCell 8 = .ok (.isub, 1) := by decide +kernel
theorem dX5_isCell_9 : decode cX5_isCell 9 = .ok (.i2l, 1) := by decide +kernel
theorem dX5_isCell_10 : decode cX5_isCell 10 = .ok (.invokestatic 128, 3) := by decide +kernel
theorem dX5_isCell_13 : decode cX5_isCell 13 = .ok (.ireturn, 1) := by decide +kernel
def tb_X5_isCell (S_X5_cells S_X5_in : ma_Cs) : Nat → ma_In := fun pc =>
 (if pc < 7 then
 (if pc < 2 then
 (if pc < 1 then
 (if pc = 0 then in_ild 1 1 else in_no) else
 (if pc = 1 then in_il (fun x => x.toInt64) 2 else in_no)) else
 (if pc < 3 then
 (if pc = 2 then in_push (.long 0) 3 else in_no) else
 (if pc < 4 then
 (if pc = 3 then in_ald 0 4 else in_no) else
 (if pc = 4 then in_v1 YM 5 S_X5_cells 7 else in_no)))) else
 (if pc < 9 then
 (if pc < 8 then
 (if pc = 7 then in_push (.int 1) 8 else in_no) else
 (if pc = 8 then in_iii (fun x y => x - y) 9 else in_no)) else
 (if pc < 10 then
 (if pc = 9 then in_il (fun x => x.toInt64) 10 else in_no) else
 (if pc < 13 then
 (if pc = 10 then in_s3 S_X5_in 13 else in_no) else
 (if pc = 13 then in_rz else in_no)))))
theorem tk_X5_isCell {l : Launch} {w : ma_Wd} {NC : Nat} {A : Nat → Prop} {S_X5_cells S_X5_in : ma_Cs} (h_X5_cells : ma_Sd l w YM NC A yX5_cells cX5_cells 1 (some .int) rm_X5_cells S_X5_cells) (h_X5_in : ma_Sd l w YM NC A yX5_in cX5_in 6 (some .boolean) rm_X5_in S_X5_in) {p : Program} {e : Env} {s : State} {m : MethodId} {args : Array Value} {below : List Frame} {meth : Method} {c : Code} (X : ma_Cx p s m args meth c w YM NC A yX5_isCell.cls cX5_isCell 2 (some .boolean)) : ∀ pc, ma_Ok p l e rm_X5_isCell s m args below meth c w YM NC A 2 pc (tb_X5_isCell S_X5_cells S_X5_in pc) := fun pc =>
 (mk_lt
 (mk_lt
 (mk_lt
 (mk_eq (mk_iload_n X dX5_isCell_0 rfl rfl))
 (mk_eq (mk_i2l X dX5_isCell_1 rfl)))
 (mk_lt
 (mk_eq (mk_lconst X dX5_isCell_2 rfl rfl))
 (mk_lt
 (mk_eq (mk_aload_n X dX5_isCell_3 rfl rfl))
 (mk_eq (mk_V1 X h_X5_cells (ci := 5) rfl (lw_V q895 q897 qs30 q66 q898) ⟨rfl, by decide, by decide, rfl⟩ ⟨(Nat.le_of_ble_eq_true rfl), (Nat.le_of_ble_eq_true rfl)⟩ dX5_isCell_4 rfl)))))
 (mk_lt
 (mk_lt
 (mk_eq (mk_iconst X dX5_isCell_7 rfl rfl))
 (mk_eq (mk_isub X dX5_isCell_8 rfl)))
 (mk_lt
 (mk_eq (mk_i2l X dX5_isCell_9 rfl))
 (mk_lt
 (mk_eq (mk_S3 X h_X5_in (lw_S q892 q893 q66 q894) ⟨by decide, by decide, rfl⟩ ⟨(Nat.le_of_ble_eq_true rfl), (Nat.le_of_ble_eq_true rfl)⟩ dX5_isCell_10 rfl))
 (mk_eq (mk_rz X dX5_isCell_13))))))
theorem sd_X5_isCell {l : Launch} {w : ma_Wd} {NC : Nat} {A : Nat → Prop} {S_X5_cells S_X5_in : ma_Cs} (hw : ma_Wo w YM NC A) (h_X5_cells : ma_Sd l w YM NC A yX5_cells cX5_cells 1 (some .int) rm_X5_cells S_X5_cells) (h_X5_in : ma_Sd l w YM NC A yX5_in cX5_in 6 (some .boolean) rm_X5_in S_X5_in) : ma_Sd l w YM NC A yX5_isCell cX5_isCell 2 (some .boolean) rm_X5_isCell (ma_rn (tb_X5_isCell S_X5_cells S_X5_in) 2) := ma_of hw (by decide) ⟨rfl, rfl⟩ (fun X => tk_X5_isCell h_X5_cells h_X5_in X)
theorem dX5_at_0 : decode cX5_at 0 = .ok (.aload_n 0, 1) := by decide +kernel
theorem dX5_at_1 : decode cX5_at 1 = .ok (.iload_n 2, 1) := by decide +kernel
theorem dX5_at_2 : decode cX5_at 2 = .ok (.iload_n 3, 1) := by decide +kernel
theorem dX5_at_3 : decode cX5_at 3 = .ok (.iload 4, 2) := by decide +kernel
theorem dX5_at_5 : decode cX5_at 5 = .ok (.invokevirtual 274, 3) := by decide +kernel
theorem dX5_at_8 : decode cX5_at 8 = .ok (.ifCond .ne 7, 3) := by decide +kernel
theorem dX5_at_11 : decode cX5_at 11 = .ok (.ldc_w 277, 3) := by decide +kernel
theorem dX5_at_14 : decode cX5_at 14 = .ok (.ireturn, 1) := by decide +kernel
theorem dX5_at_15 : decode cX5_at 15 = .ok (.aload_n 0, 1) := by decide +kernel
theorem dX5_at_16 : decode cX5_at 16 = .ok (.aload_n 0, 1) := by decide +kernel
theorem dX5_at_17 : decode cX5_at 17 = .ok (.getfield 84, 3) := by decide +kernel
theorem dX5_at_20 : decode cX5_at 20 = .ok (.iload_n 1, 1) := by decide +kernel
theorem dX5_at_21 : decode cX5_at 21 = .ok (.ifCond .eq 7, 3) := by decide +kernel
theorem dX5_at_24 : decode cX5_at 24 = .ok (.iconst 0, 1) := by decide +kernel
theorem dX5_at_25 : decode cX5_at 25 = .ok (.goto 7, 3) := by decide +kernel
theorem dX5_at_28 : decode cX5_at 28 = .ok (.aload_n 0, 1) := by decide +kernel
theorem dX5_at_29 : decode cX5_at 29 = .ok (.invokevirtual 278, 3) := by decide +kernel
theorem dX5_at_32 : decode cX5_at 32 = .ok (.invokevirtual 281, 3) := by decide +kernel
theorem dX5_at_35 : decode cX5_at 35 = .ok (.aload_n 0, 1) := by decide +kernel
theorem dX5_at_36 : decode cX5_at 36 = .ok (.getfield 84, 3) := by decide +kernel
theorem dX5_at_39 : decode cX5_at 39 = .ok (.iload_n 2, 1) := by decide +kernel
theorem dX5_at_40 : decode cX5_at 40 = .ok (.iload_n 3, 1) := by decide +kernel
theorem dX5_at_41 : decode cX5_at 41 = .ok (.iload 4, 2) := by decide +kernel
theorem dX5_at_43 : decode cX5_at 43 = .ok (.invokestatic 217, 3) := by decide +kernel
theorem dX5_at_46 : decode cX5_at 46 = .ok (.iaload, 1) := by decide +kernel
theorem dX5_at_47 : decode cX5_at 47 = .ok (.ireturn, 1) := by decide +kernel
def tb_X5_at (S_X5_isPlace S_X5_all S_X5_hall S_X5_place : ma_Cs) : Nat → ma_In := fun pc =>
 (if pc < 24 then
 (if pc < 11 then
 (if pc < 3 then
 (if pc < 1 then
 (if pc = 0 then in_ald 0 1 else in_no) else
 (if pc < 2 then
 (if pc = 1 then in_ild 2 2 else in_no) else
 (if pc = 2 then in_ild 3 3 else in_no))) else
 (if pc < 5 then
 (if pc = 3 then in_ild 4 5 else in_no) else
 (if pc < 8 then
 (if pc = 5 then in_v4 YM 5 S_X5_isPlace 8 else in_no) else
 (if pc = 8 then in_if1 (fun x => x = 0) 11 15 else in_no)))) else
 (if pc < 16 then
 (if pc < 14 then
 (if pc = 11 then in_push (.int (-2000000000)) 14 else in_no) else
 (if pc < 15 then
 (if pc = 14 then in_ri else in_no) else
 (if pc = 15 then in_ald 0 16 else in_no))) else
 (if pc < 20 then
 (if pc < 17 then
 (if pc = 16 then in_ald 0 17 else in_no) else
 (if pc = 17 then in_get YM 5 37 20 else in_no)) else
 (if pc < 21 then
 (if pc = 20 then in_ild 1 21 else in_no) else
 (if pc = 21 then in_if1 (fun x => x = 0) 28 24 else in_no))))) else
 (if pc < 36 then
 (if pc < 29 then
 (if pc < 25 then
 (if pc = 24 then in_push (.int 0) 25 else in_no) else
 (if pc < 28 then
 (if pc = 25 then in_go 32 else in_no) else
 (if pc = 28 then in_ald 0 29 else in_no))) else
 (if pc < 32 then
 (if pc = 29 then in_v1 YM 5 S_X5_all 32 else in_no) else
 (if pc < 35 then
 (if pc = 32 then in_v3 YM 5 S_X5_hall 35 else in_no) else
 (if pc = 35 then in_ald 0 36 else in_no)))) else
 (if pc < 41 then
 (if pc < 39 then
 (if pc = 36 then in_get YM 5 37 39 else in_no) else
 (if pc < 40 then
 (if pc = 39 then in_ild 2 40 else in_no) else
 (if pc = 40 then in_ild 3 41 else in_no))) else
 (if pc < 46 then
 (if pc < 43 then
 (if pc = 41 then in_ild 4 43 else in_no) else
 (if pc = 43 then in_s3 S_X5_place 46 else in_no)) else
 (if pc < 47 then
 (if pc = 46 then in_iar YM 47 else in_no) else
 (if pc = 47 then in_ri else in_no))))))
theorem tk_X5_at {l : Launch} {w : ma_Wd} {NC : Nat} {A : Nat → Prop} {S_X5_isPlace S_X5_all S_X5_hall S_X5_place : ma_Cs} (h_X5_isPlace : ma_Sd l w YM NC A yX5_isPlace cX5_isPlace 4 (some .boolean) rm_X5_isPlace S_X5_isPlace) (h_X5_all : ma_Sd l w YM NC A yX5_all cX5_all 1 (some .int) rm_X5_all S_X5_all) (h_X5_hall : ma_Sd l w YM NC A yX5_hall cX5_hall 5 none rm_X5_hall S_X5_hall) (h_X5_place : ma_Sd l w YM NC A yX5_place cX5_place 3 (some .int) rm_X5_place S_X5_place) {p : Program} {e : Env} {s : State} {m : MethodId} {args : Array Value} {below : List Frame} {meth : Method} {c : Code} (X : ma_Cx p s m args meth c w YM NC A yX5_at.cls cX5_at 5 (some .int)) : ∀ pc, ma_Ok p l e rm_X5_at s m args below meth c w YM NC A 5 pc (tb_X5_at S_X5_isPlace S_X5_all S_X5_hall S_X5_place pc) := fun pc =>
 (mk_lt
 (mk_lt
 (mk_lt
 (mk_lt
 (mk_eq (mk_aload_n X dX5_at_0 rfl rfl))
 (mk_lt
 (mk_eq (mk_iload_n X dX5_at_1 rfl rfl))
 (mk_eq (mk_iload_n X dX5_at_2 rfl rfl))))
 (mk_lt
 (mk_eq (mk_iload X dX5_at_3 rfl))
 (mk_lt
 (mk_eq (mk_V4 X h_X5_isPlace (ci := 5) rfl (lw_V q985 q987 qs40 q66 q988) ⟨rfl, by decide, by decide, rfl⟩ ⟨(Nat.le_of_ble_eq_true rfl), (Nat.le_of_ble_eq_true rfl)⟩ dX5_at_5 rfl))
 (mk_eq (mk_ifne X dX5_at_8 rfl rfl)))))
 (mk_lt
 (mk_lt
 (mk_eq (mk_ldcw X dX5_at_11 q990 rfl))
 (mk_lt
 (mk_eq (mk_ri X dX5_at_14))
 (mk_eq (mk_aload_n X dX5_at_15 rfl rfl))))
 (mk_lt
 (mk_lt
 (mk_eq (mk_aload_n X dX5_at_16 rfl rfl))
 (mk_eq (mk_get X (ci := 5) (j := 37) rfl in_X5 (Nat.le_of_ble_eq_true rfl) q784 dX5_at_17 rfl)))
 (mk_lt
 (mk_eq (mk_iload_n X dX5_at_20 rfl rfl))
 (mk_eq (mk_ifeq X dX5_at_21 rfl rfl))))))
 (mk_lt
 (mk_lt
 (mk_lt
 (mk_eq (mk_iconst X dX5_at_24 rfl rfl))
 (mk_lt
 (mk_eq (mk_goto X dX5_at_25 rfl))
 (mk_eq (mk_aload_n X dX5_at_28 rfl rfl))))
 (mk_lt
 (mk_eq (mk_V1 X h_X5_all (ci := 5) rfl (lw_V q991 q993 qs41 q66 q994) ⟨rfl, by decide, by decide, rfl⟩ ⟨(Nat.le_of_ble_eq_true rfl), (Nat.le_of_ble_eq_true rfl)⟩ dX5_at_29 rfl))
 (mk_lt
 (mk_eq (mk_V3 X h_X5_hall (ci := 5) rfl (lw_V q995 q997 qs42 q66 q998) ⟨rfl, by decide, by decide, rfl⟩ ⟨(Nat.le_of_ble_eq_true rfl), (Nat.le_of_ble_eq_true rfl)⟩ dX5_at_32 rfl))
 (mk_eq (mk_aload_n X dX5_at_35 rfl rfl)))))
 (mk_lt
 (mk_lt
 (mk_eq (mk_get X (ci := 5) (j := 37) rfl in_X5 (Nat.le_of_ble_eq_true rfl) q784 dX5_at_36 rfl))
 (mk_lt
 (mk_eq (mk_iload_n X dX5_at_39 rfl rfl))
 (mk_eq (mk_iload_n X dX5_at_40 rfl rfl))))
 (mk_lt
 (mk_lt
 (mk_eq (mk_iload X dX5_at_41 rfl))
 (mk_eq (mk_S3 X h_X5_place (lw_S q999 q1000 q66 q1001) ⟨by decide, by decide, rfl⟩ ⟨(Nat.le_of_ble_eq_true rfl), (Nat.le_of_ble_eq_true rfl)⟩ dX5_at_43 rfl)))
 (mk_lt
 (mk_eq (mk_iar X dX5_at_46 rfl))
 (mk_eq (mk_ri X dX5_at_47)))))))
theorem sd_X5_at {l : Launch} {w : ma_Wd} {NC : Nat} {A : Nat → Prop} {S_X5_isPlace S_X5_all S_X5_hall S_X5_place : ma_Cs} (hw : ma_Wo w YM NC A) (h_X5_isPlace : ma_Sd l w YM NC A yX5_isPlace cX5_isPlace 4 (some .boolean) rm_X5_isPlace S_X5_isPlace) (h_X5_all : ma_Sd l w YM NC A yX5_all cX5_all 1 (some .int) rm_X5_all S_X5_all) (h_X5_hall : ma_Sd l w YM NC A yX5_hall cX5_hall 5 none rm_X5_hall S_X5_hall) (h_X5_place : ma_Sd l w YM NC A yX5_place cX5_place 3 (some .int) rm_X5_place S_X5_place) : ma_Sd l w YM NC A yX5_at cX5_at 5 (some .int) rm_X5_at (ma_rn (tb_X5_at S_X5_isPlace S_X5_all S_X5_hall S_X5_place) 5) := ma_of hw (by decide) ⟨rfl, rfl⟩ (fun X => tk_X5_at h_X5_isPlace h_X5_all h_X5_hall h_X5_place X)
theorem dX5_isPlace_0 : decode cX5_isPlace 0 = .ok (.iload_n 1, 1) := by decide +kernel
theorem dX5_isPlace_1 : decode cX5_isPlace 1 = .ok (.i2l, 1) := by decide +kernel
theorem dX5_isPlace_2 : decode cX5_isPlace 2 = .ok (.lconst 0, 1) := by decide +kernel
theorem dX5_isPlace_3 : decode cX5_isPlace 3 = .ok (.ldc2_w 272, 3) := by decide +kernel
theorem dX5_isPlace_6 : decode cX5_isPlace 6 = .ok (.invokestatic 128, 3) := by decide +kernel
theorem dX5_isPlace_9 : decode cX5_isPlace 9 = .ok (.ifCond .eq 22, 3) := by decide +kernel
theorem dX5_isPlace_12 : decode cX5_isPlace 12 = .ok (.aload_n 0, 1) := by decide +kernel
theorem dX5_isPlace_13 : decode cX5_isPlace 13 = .ok (.iload_n 2, 1) := by decide +kernel
theorem dX5_isPlace_14 : decode cX5_isPlace 14 = .ok (.invokevirtual 269, 3) := by decide +kernel
theorem dX5_isPlace_17 : decode cX5_isPlace 17 = .ok (.ifCond .eq 14, 3) := by decide +kernel
theorem dX5_isPlace_20 : decode cX5_isPlace 20 = .ok (.iload_n 3, 1) := by decide +kernel
theorem dX5_isPlace_21 : decode cX5_isPlace 21 = .ok (.invokestatic 146, 3) := by decide +kernel
theorem dX5_isPlace_24 : decode cX5_isPlace 24 = .ok (.ifCond .eq 7, 3) := by decide +kernel
theorem dX5_isPlace_27 : decode cX5_isPlace 27 = .ok (.iconst 1, 1) := by decide +kernel
theorem dX5_isPlace_28 : decode cX5_isPlace 28 = .ok (.goto 4, 3) := by decide +kernel
theorem dX5_isPlace_31 : decode cX5_isPlace 31 = .ok (.iconst 0, 1) := by decide +kernel
theorem dX5_isPlace_32 : decode cX5_isPlace 32 = .ok (.ireturn, 1) := by decide +kernel
def tb_X5_isPlace (S_X5_in S_X5_isCell S_X5_isLetter : ma_Cs) : Nat → ma_In := fun pc =>
 (if pc < 14 then
 (if pc < 6 then
 (if pc < 2 then
 (if pc < 1 then
 (if pc = 0 then in_ild 1 1 else in_no) else
 (if pc = 1 then in_il (fun x => x.toInt64) 2 else in_no)) else
 (if pc < 3 then
 (if pc = 2 then in_push (.long 0) 3 else in_no) else
 (if pc = 3 then in_push (.long 12) 6 else in_no))) else
 (if pc < 12 then
 (if pc < 9 then
 (if pc = 6 then in_s3 S_X5_in 9 else in_no) else
 (if pc = 9 then in_if1 (fun x => x = 0) 31 12 else in_no)) else
 (if pc < 13 then
 (if pc = 12 then in_ald 0 13 else in_no) else
 (if pc = 13 then in_ild 2 14 else in_no)))) else
 (if pc < 24 then
 (if pc < 20 then
 (if pc < 17 then
 (if pc = 14 then in_v2 YM 5 S_X5_isCell 17 else in_no) else
 (if pc = 17 then in_if1 (fun x => x = 0) 31 20 else in_no)) else
 (if pc < 21 then
 (if pc = 20 then in_ild 3 21 else in_no) else
 (if pc = 21 then in_s1 S_X5_isLetter 24 else in_no))) else
 (if pc < 28 then
 (if pc < 27 then
 (if pc = 24 then in_if1 (fun x => x = 0) 31 27 else in_no) else
 (if pc = 27 then in_push (.int 1) 28 else in_no)) else
 (if pc < 31 then
 (if pc = 28 then in_go 32 else in_no) else
 (if pc < 32 then
 (if pc = 31 then in_push (.int 0) 32 else in_no) else
 (if pc = 32 then in_rz else in_no))))))
theorem tk_X5_isPlace {l : Launch} {w : ma_Wd} {NC : Nat} {A : Nat → Prop} {S_X5_in S_X5_isCell S_X5_isLetter : ma_Cs} (h_X5_in : ma_Sd l w YM NC A yX5_in cX5_in 6 (some .boolean) rm_X5_in S_X5_in) (h_X5_isCell : ma_Sd l w YM NC A yX5_isCell cX5_isCell 2 (some .boolean) rm_X5_isCell S_X5_isCell) (h_X5_isLetter : ma_Sd l w YM NC A yX5_isLetter cX5_isLetter 1 (some .boolean) rm_X5_isLetter S_X5_isLetter) {p : Program} {e : Env} {s : State} {m : MethodId} {args : Array Value} {below : List Frame} {meth : Method} {c : Code} (X : ma_Cx p s m args meth c w YM NC A yX5_isPlace.cls cX5_isPlace 4 (some .boolean)) : ∀ pc, ma_Ok p l e rm_X5_isPlace s m args below meth c w YM NC A 4 pc (tb_X5_isPlace S_X5_in S_X5_isCell S_X5_isLetter pc) := fun pc =>
 (mk_lt
 (mk_lt
 (mk_lt
 (mk_lt
 (mk_eq (mk_iload_n X dX5_isPlace_0 rfl rfl))
 (mk_eq (mk_i2l X dX5_isPlace_1 rfl)))
 (mk_lt
 (mk_eq (mk_lconst X dX5_isPlace_2 rfl rfl))
 (mk_eq (mk_ldc2 X dX5_isPlace_3 q989 rfl))))
 (mk_lt
 (mk_lt
 (mk_eq (mk_S3 X h_X5_in (lw_S q892 q893 q66 q894) ⟨by decide, by decide, rfl⟩ ⟨(Nat.le_of_ble_eq_true rfl), (Nat.le_of_ble_eq_true rfl)⟩ dX5_isPlace_6 rfl))
 (mk_eq (mk_ifeq X dX5_isPlace_9 rfl rfl)))
 (mk_lt
 (mk_eq (mk_aload_n X dX5_isPlace_12 rfl rfl))
 (mk_eq (mk_iload_n X dX5_isPlace_13 rfl rfl)))))
 (mk_lt
 (mk_lt
 (mk_lt
 (mk_eq (mk_V2 X h_X5_isCell (ci := 5) rfl (lw_V q977 q979 qs39 q66 q980) ⟨rfl, by decide, by decide, rfl⟩ ⟨(Nat.le_of_ble_eq_true rfl), (Nat.le_of_ble_eq_true rfl)⟩ dX5_isPlace_14 rfl))
 (mk_eq (mk_ifeq X dX5_isPlace_17 rfl rfl)))
 (mk_lt
 (mk_eq (mk_iload_n X dX5_isPlace_20 rfl rfl))
 (mk_eq (mk_S1 X h_X5_isLetter (lw_S q908 q909 q66 q910) ⟨by decide, by decide, rfl⟩ ⟨(Nat.le_of_ble_eq_true rfl), (Nat.le_of_ble_eq_true rfl)⟩ dX5_isPlace_21 rfl))))
 (mk_lt
 (mk_lt
 (mk_eq (mk_ifeq X dX5_isPlace_24 rfl rfl))
 (mk_eq (mk_iconst X dX5_isPlace_27 rfl rfl)))
 (mk_lt
 (mk_eq (mk_goto X dX5_isPlace_28 rfl))
 (mk_lt
 (mk_eq (mk_iconst X dX5_isPlace_31 rfl rfl))
 (mk_eq (mk_rz X dX5_isPlace_32)))))))
theorem sd_X5_isPlace {l : Launch} {w : ma_Wd} {NC : Nat} {A : Nat → Prop} {S_X5_in S_X5_isCell S_X5_isLetter : ma_Cs} (hw : ma_Wo w YM NC A) (h_X5_in : ma_Sd l w YM NC A yX5_in cX5_in 6 (some .boolean) rm_X5_in S_X5_in) (h_X5_isCell : ma_Sd l w YM NC A yX5_isCell cX5_isCell 2 (some .boolean) rm_X5_isCell S_X5_isCell) (h_X5_isLetter : ma_Sd l w YM NC A yX5_isLetter cX5_isLetter 1 (some .boolean) rm_X5_isLetter S_X5_isLetter) : ma_Sd l w YM NC A yX5_isPlace cX5_isPlace 4 (some .boolean) rm_X5_isPlace (ma_rn (tb_X5_isPlace S_X5_in S_X5_isCell S_X5_isLetter) 4) := ma_of hw (by decide) ⟨rfl, rfl⟩ (fun X => tk_X5_isPlace h_X5_in h_X5_isCell h_X5_isLetter X)
theorem dX5_all_0 : decode cX5_all 0 = .ok (.iconst 1, 1) := by decide +kernel
theorem dX5_all_1 : decode cX5_all 1 = .ok (.aload_n 0, 1) := by decide +kernel
theorem dX5_all_2 : decode cX5_all 2 = .ok (.getfield 116, 3) := by decide +kernel
theorem dX5_all_5 : decode cX5_all 5 = .ok (.ishl, 1) := by decide +kernel
theorem dX5_all_6 : decode cX5_all 6 = .ok (.iconst 1, 1) := by decide +kernel
theorem dX5_all_7 : decode cX5_all 7 = .ok (.isub, 1) := by decide +kernel
theorem dX5_all_8 : decode cX5_all 8 = .ok (.ireturn, 1) := by decide +kernel
def tb_X5_all : Nat → ma_In := fun pc =>
 (if pc < 5 then
 (if pc < 1 then
 (if pc = 0 then in_push (.int 1) 1 else in_no) else
 (if pc < 2 then
 (if pc = 1 then in_ald 0 2 else in_no) else
 (if pc = 2 then in_get YM 5 19 5 else in_no))) else
 (if pc < 7 then
 (if pc < 6 then
 (if pc = 5 then in_iii (fun x y => x <<< (y &&& 31)) 6 else in_no) else
 (if pc = 6 then in_push (.int 1) 7 else in_no)) else
 (if pc < 8 then
 (if pc = 7 then in_iii (fun x y => x - y) 8 else in_no) else
 (if pc = 8 then in_ri else in_no))))
theorem tk_X5_all {l : Launch} {w : ma_Wd} {NC : Nat} {A : Nat → Prop} {p : Program} {e : Env} {s : State} {m : MethodId} {args : Array Value} {below : List Frame} {meth : Method} {c : Code} (X : ma_Cx p s m args meth c w YM NC A yX5_all.cls cX5_all 1 (some .int)) : ∀ pc, ma_Ok p l e rm_X5_all s m args below meth c w YM NC A 1 pc (tb_X5_all pc) := fun pc =>
 (mk_lt
 (mk_lt
 (mk_eq (mk_iconst X dX5_all_0 rfl rfl))
 (mk_lt
 (mk_eq (mk_aload_n X dX5_all_1 rfl rfl))
 (mk_eq (mk_get X (ci := 5) (j := 19) rfl in_X5 (Nat.le_of_ble_eq_true rfl) q766 dX5_all_2 rfl))))
 (mk_lt
 (mk_lt
 (mk_eq (mk_ishl X dX5_all_5 rfl))
 (mk_eq (mk_iconst X dX5_all_6 rfl rfl)))
 (mk_lt
 (mk_eq (mk_isub X dX5_all_7 rfl))
 (mk_eq (mk_ri X dX5_all_8)))))
theorem sd_X5_all {l : Launch} {w : ma_Wd} {NC : Nat} {A : Nat → Prop} (hw : ma_Wo w YM NC A) : ma_Sd l w YM NC A yX5_all cX5_all 1 (some .int) rm_X5_all (ma_rn (tb_X5_all) 1) := ma_of hw (by decide) ⟨rfl, rfl⟩ (fun X => tk_X5_all  X)
theorem dX5_hall_0 : decode cX5_hall 0 = .ok (.aload_n 0, 1) := by decide +kernel
theorem dX5_hall_1 : decode cX5_hall 1 = .ok (.aload_n 0, 1) := by decide +kernel
theorem dX5_hall_2 : decode cX5_hall 2 = .ok (.getfield 7, 3) := by decide +kernel
theorem dX5_hall_5 : decode cX5_hall 5 = .ok (.putfield 211, 3) := by decide +kernel
theorem dX5_hall_8 : decode cX5_hall 8 = .ok (.aload_n 0, 1) := by decide +kernel
theorem dX5_hall_9 : decode cX5_hall 9 = .ok (.aload_n 0, 1) := by decide +kernel
theorem dX5_hall_10 : decode cX5_hall 10 = .ok (.getfield 13, 3) := by decide +kernel
theorem dX5_hall_13 : decode cX5_hall 13 = .ok (.putfield 214, 3) := by decide +kernel
theorem dX5_hall_16 : decode cX5_hall 16 = .ok (.iconst 0, 1) := by decide +kernel
theorem dX5_hall_17 : decode cX5_hall 17 = .ok (.istore_n 3, 1) := by decide +kernel
theorem dX5_hall_18 : decode cX5_hall 18 = .ok (.iload_n 3, 1) := by decide +kernel
theorem dX5_hall_19 : decode cX5_hall 19 = .ok (.aload_n 0, 1) := by decide +kernel
theorem dX5_hall_20 : decode cX5_hall 20 = .ok (.invokevirtual 124, 3) := by decide +kernel
theorem dX5_hall_23 : decode cX5_hall 23 = .ok (.if_icmp .ge 73, 3) := by decide +kernel
theorem dX5_hall_26 : decode cX5_hall 26 = .ok (.iconst 0, 1) := by decide +kernel
theorem dX5_hall_27 : decode cX5_hall 27 = .ok (.istore 4, 2) := by decide +kernel
theorem dX5_hall_29 : decode cX5_hall 29 = .ok (.iload 4, 2) := by decide +kernel
theorem dX5_hall_31 : decode cX5_hall 31 = .ok (.iconst 4, 1) := by decide +kernel
theorem dX5_hall_32 : decode cX5_hall 32 = .ok (.if_icmp .ge 58, 3) := by decide +kernel
theorem dX5_hall_35 : decode cX5_hall 35 = .ok (.aload_n 1, 1) := by decide +kernel
theorem dX5_hall_36 : decode cX5_hall 36 = .ok (.iconst 0, 1) := by decide +kernel
theorem dX5_hall_37 : decode cX5_hall 37 = .ok (.iload_n 3, 1) := by decide +kernel
theorem dX5_hall_38 : decode cX5_hall 38 = .ok (.iload 4, 2) := by decide +kernel
theorem dX5_hall_40 : decode cX5_hall 40 = .ok (.invokestatic 217, 3) := by decide +kernel
theorem dX5_hall_43 : decode cX5_hall 43 = .ok (.aload_n 0, 1) := by decide +kernel
theorem dX5_hall_44 : decode cX5_hall 44 = .ok (.iload_n 3, 1) := by decide +kernel
theorem dX5_hall_45 : decode cX5_hall 45 = .ok (.iload 4, 2) := by decide +kernel
theorem dX5_hall_47 : decode cX5_hall 47 = .ok (.invokevirtual 262, 3) := by decide +kernel
theorem dX5_hall_50 : decode cX5_hall 50 = .ok (.iastore, 1) := by decide +kernel
theorem dX5_hall_51 : decode cX5_hall 51 = .ok (.aload_n 0, 1) := by decide +kernel
theorem dX5_hall_52 : decode cX5_hall 52 = .ok (.getfield 90, 3) := by decide +kernel
theorem dX5_hall_55 : decode cX5_hall 55 = .ok (.iconst 0, 1) := by decide +kernel
theorem dX5_hall_56 : decode cX5_hall 56 = .ok (.iload_n 3, 1) := by decide +kernel
theorem dX5_hall_57 : decode cX5_hall 57 = .ok (.iload 4, 2) := by decide +kernel
theorem dX5_hall_59 : decode cX5_hall 59 = .ok (.invokestatic 217, 3) := by decide +kernel
theorem dX5_hall_62 : decode cX5_hall 62 = .ok (.aload_n 0, 1) := by decide +kernel
theorem dX5_hall_63 : decode cX5_hall 63 = .ok (.getfield 53, 3) := by decide +kernel
theorem dX5_hall_66 : decode cX5_hall 66 = .ok (.iconst 4, 1) := by decide +kernel
theorem dX5_hall_67 : decode cX5_hall 67 = .ok (.iload_n 3, 1) := by decide +kernel
theorem dX5_hall_68 : decode cX5_hall 68 = .ok (.imul, 1) := by decide +kernel
theorem dX5_hall_69 : decode cX5_hall 69 = .ok (.iload 4, 2) := by decide +kernel
theorem dX5_hall_71 : decode cX5_hall 71 = .ok (.iadd, 1) := by decide +kernel
theorem dX5_hall_72 : decode cX5_hall 72 = .ok (.iaload, 1) := by decide +kernel
theorem dX5_hall_73 : decode cX5_hall 73 = .ok (.ldc 115, 2) := by decide +kernel
theorem dX5_hall_75 : decode cX5_hall 75 = .ok (.if_icmp .ne 7, 3) := by decide +kernel
theorem dX5_hall_78 : decode cX5_hall 78 = .ok (.iconst 1, 1) := by decide +kernel
theorem dX5_hall_79 : decode cX5_hall 79 = .ok (.goto 4, 3) := by decide +kernel
theorem dX5_hall_82 : decode cX5_hall 82 = .ok (.iconst 0, 1) := by decide +kernel
theorem dX5_hall_83 : decode cX5_hall 83 = .ok (.bastore, 1) := by decide +kernel
theorem dX5_hall_84 : decode cX5_hall 84 = .ok (.iinc 4 1, 3) := by decide +kernel
theorem dX5_hall_87 : decode cX5_hall 87 = .ok (.goto (-58), 3) := by decide +kernel
theorem dX5_hall_90 : decode cX5_hall 90 = .ok (.iinc 3 1, 3) := by decide +kernel
theorem dX5_hall_93 : decode cX5_hall 93 = .ok (.goto (-75), 3) := by decide +kernel
theorem dX5_hall_96 : decode cX5_hall 96 = .ok (.aload_n 0, 1) := by decide +kernel
theorem dX5_hall_97 : decode cX5_hall 97 = .ok (.aload_n 1, 1) := by decide +kernel
theorem dX5_hall_98 : decode cX5_hall 98 = .ok (.iload_n 2, 1) := by decide +kernel
theorem dX5_hall_99 : decode cX5_hall 99 = .ok (.invokevirtual 265, 3) := by decide +kernel
theorem dX5_hall_102 : decode cX5_hall 102 = .ok (.return_, 1) := by decide +kernel
def tb_X5_hall (S_X5_cells S_X5_place S_X5_filled S_X5_steps : ma_Cs) : Nat → ma_In := fun pc =>
 (if pc < 51 then
 (if pc < 26 then
 (if pc < 13 then
 (if pc < 5 then
 (if pc < 1 then
 (if pc = 0 then in_ald 0 1 else in_no) else
 (if pc < 2 then
 (if pc = 1 then in_ald 0 2 else in_no) else
 (if pc = 2 then in_get YM 5 0 5 else in_no))) else
 (if pc < 9 then
 (if pc < 8 then
 (if pc = 5 then in_put YM 5 35 8 else in_no) else
 (if pc = 8 then in_ald 0 9 else in_no)) else
 (if pc < 10 then
 (if pc = 9 then in_ald 0 10 else in_no) else
 (if pc = 10 then in_get YM 5 1 13 else in_no)))) else
 (if pc < 18 then
 (if pc < 16 then
 (if pc = 13 then in_put YM 5 36 16 else in_no) else
 (if pc < 17 then
 (if pc = 16 then in_push (.int 0) 17 else in_no) else
 (if pc = 17 then in_ist 3 18 else in_no))) else
 (if pc < 20 then
 (if pc < 19 then
 (if pc = 18 then in_ild 3 19 else in_no) else
 (if pc = 19 then in_ald 0 20 else in_no)) else
 (if pc < 23 then
 (if pc = 20 then in_v1 YM 5 S_X5_cells 23 else in_no) else
 (if pc = 23 then in_if2 (fun x y => y ≤ x) 96 26 else in_no))))) else
 (if pc < 37 then
 (if pc < 31 then
 (if pc < 27 then
 (if pc = 26 then in_push (.int 0) 27 else in_no) else
 (if pc < 29 then
 (if pc = 27 then in_ist 4 29 else in_no) else
 (if pc = 29 then in_ild 4 31 else in_no))) else
 (if pc < 35 then
 (if pc < 32 then
 (if pc = 31 then in_push (.int 4) 32 else in_no) else
 (if pc = 32 then in_if2 (fun x y => y ≤ x) 90 35 else in_no)) else
 (if pc < 36 then
 (if pc = 35 then in_ald 1 36 else in_no) else
 (if pc = 36 then in_push (.int 0) 37 else in_no)))) else
 (if pc < 44 then
 (if pc < 40 then
 (if pc < 38 then
 (if pc = 37 then in_ild 3 38 else in_no) else
 (if pc = 38 then in_ild 4 40 else in_no)) else
 (if pc < 43 then
 (if pc = 40 then in_s3 S_X5_place 43 else in_no) else
 (if pc = 43 then in_ald 0 44 else in_no))) else
 (if pc < 47 then
 (if pc < 45 then
 (if pc = 44 then in_ild 3 45 else in_no) else
 (if pc = 45 then in_ild 4 47 else in_no)) else
 (if pc < 50 then
 (if pc = 47 then in_v3 YM 5 S_X5_filled 50 else in_no) else
 (if pc = 50 then in_iaw YM 51 else in_no)))))) else
 (if pc < 73 then
 (if pc < 63 then
 (if pc < 56 then
 (if pc < 52 then
 (if pc = 51 then in_ald 0 52 else in_no) else
 (if pc < 55 then
 (if pc = 52 then in_get YM 5 39 55 else in_no) else
 (if pc = 55 then in_push (.int 0) 56 else in_no))) else
 (if pc < 59 then
 (if pc < 57 then
 (if pc = 56 then in_ild 3 57 else in_no) else
 (if pc = 57 then in_ild 4 59 else in_no)) else
 (if pc < 62 then
 (if pc = 59 then in_s3 S_X5_place 62 else in_no) else
 (if pc = 62 then in_ald 0 63 else in_no)))) else
 (if pc < 68 then
 (if pc < 66 then
 (if pc = 63 then in_get YM 5 18 66 else in_no) else
 (if pc < 67 then
 (if pc = 66 then in_push (.int 4) 67 else in_no) else
 (if pc = 67 then in_ild 3 68 else in_no))) else
 (if pc < 71 then
 (if pc < 69 then
 (if pc = 68 then in_iii (fun x y => x * y) 69 else in_no) else
 (if pc = 69 then in_ild 4 71 else in_no)) else
 (if pc < 72 then
 (if pc = 71 then in_iii (fun x y => x + y) 72 else in_no) else
 (if pc = 72 then in_iar YM 73 else in_no))))) else
 (if pc < 87 then
 (if pc < 79 then
 (if pc < 75 then
 (if pc = 73 then in_push (.int 2000000) 75 else in_no) else
 (if pc < 78 then
 (if pc = 75 then in_if2 (fun x y => x = y) 78 82 else in_no) else
 (if pc = 78 then in_push (.int 1) 79 else in_no))) else
 (if pc < 83 then
 (if pc < 82 then
 (if pc = 79 then in_go 83 else in_no) else
 (if pc = 82 then in_push (.int 0) 83 else in_no)) else
 (if pc < 84 then
 (if pc = 83 then in_baw YM 84 else in_no) else
 (if pc = 84 then in_inc 4 1 87 else in_no)))) else
 (if pc < 97 then
 (if pc < 93 then
 (if pc < 90 then
 (if pc = 87 then in_go 29 else in_no) else
 (if pc = 90 then in_inc 3 1 93 else in_no)) else
 (if pc < 96 then
 (if pc = 93 then in_go 18 else in_no) else
 (if pc = 96 then in_ald 0 97 else in_no))) else
 (if pc < 99 then
 (if pc < 98 then
 (if pc = 97 then in_ald 1 98 else in_no) else
 (if pc = 98 then in_ild 2 99 else in_no)) else
 (if pc < 102 then
 (if pc = 99 then in_v3 YM 5 S_X5_steps 102 else in_no) else
 (if pc = 102 then in_rv else in_no)))))))
theorem tk_X5_hall {l : Launch} {w : ma_Wd} {NC : Nat} {A : Nat → Prop} {S_X5_cells S_X5_place S_X5_filled S_X5_steps : ma_Cs} (h_X5_cells : ma_Sd l w YM NC A yX5_cells cX5_cells 1 (some .int) rm_X5_cells S_X5_cells) (h_X5_place : ma_Sd l w YM NC A yX5_place cX5_place 3 (some .int) rm_X5_place S_X5_place) (h_X5_filled : ma_Sd l w YM NC A yX5_filled cX5_filled 10 (some .int) rm_X5_filled S_X5_filled) (h_X5_steps : ma_Sd l w YM NC A yX5_steps cX5_steps 8 none rm_X5_steps S_X5_steps) {p : Program} {e : Env} {s : State} {m : MethodId} {args : Array Value} {below : List Frame} {meth : Method} {c : Code} (X : ma_Cx p s m args meth c w YM NC A yX5_hall.cls cX5_hall 5 none) : ∀ pc, ma_Ok p l e rm_X5_hall s m args below meth c w YM NC A 5 pc (tb_X5_hall S_X5_cells S_X5_place S_X5_filled S_X5_steps pc) := fun pc =>
 (mk_lt
 (mk_lt
 (mk_lt
 (mk_lt
 (mk_lt
 (mk_eq (mk_aload_n X dX5_hall_0 rfl rfl))
 (mk_lt
 (mk_eq (mk_aload_n X dX5_hall_1 rfl rfl))
 (mk_eq (mk_get X (ci := 5) (j := 0) rfl in_X5 (Nat.le_of_ble_eq_true rfl) q747 dX5_hall_2 rfl))))
 (mk_lt
 (mk_lt
 (mk_eq (mk_put X (ci := 5) (j := 35) rfl in_X5 tyX5_ok nmX5 (Nat.le_of_ble_eq_true rfl) rfl rfl q782 dX5_hall_5 rfl))
 (mk_eq (mk_aload_n X dX5_hall_8 rfl rfl)))
 (mk_lt
 (mk_eq (mk_aload_n X dX5_hall_9 rfl rfl))
 (mk_eq (mk_get X (ci := 5) (j := 1) rfl in_X5 (Nat.le_of_ble_eq_true rfl) q748 dX5_hall_10 rfl)))))
 (mk_lt
 (mk_lt
 (mk_eq (mk_put X (ci := 5) (j := 36) rfl in_X5 tyX5_ok nmX5 (Nat.le_of_ble_eq_true rfl) rfl rfl q783 dX5_hall_13 rfl))
 (mk_lt
 (mk_eq (mk_iconst X dX5_hall_16 rfl rfl))
 (mk_eq (mk_istore_n X dX5_hall_17 rfl (Nat.le_of_ble_eq_true rfl) rfl))))
 (mk_lt
 (mk_lt
 (mk_eq (mk_iload_n X dX5_hall_18 rfl rfl))
 (mk_eq (mk_aload_n X dX5_hall_19 rfl rfl)))
 (mk_lt
 (mk_eq (mk_V1 X h_X5_cells (ci := 5) rfl (lw_V q895 q897 qs30 q66 q898) ⟨rfl, by decide, by decide, rfl⟩ ⟨(Nat.le_of_ble_eq_true rfl), (Nat.le_of_ble_eq_true rfl)⟩ dX5_hall_20 rfl))
 (mk_eq (mk_icge X dX5_hall_23 rfl rfl))))))
 (mk_lt
 (mk_lt
 (mk_lt
 (mk_eq (mk_iconst X dX5_hall_26 rfl rfl))
 (mk_lt
 (mk_eq (mk_istore X dX5_hall_27 (Nat.le_of_ble_eq_true rfl) rfl))
 (mk_eq (mk_iload X dX5_hall_29 rfl))))
 (mk_lt
 (mk_lt
 (mk_eq (mk_iconst X dX5_hall_31 rfl rfl))
 (mk_eq (mk_icge X dX5_hall_32 rfl rfl)))
 (mk_lt
 (mk_eq (mk_aload_n X dX5_hall_35 rfl rfl))
 (mk_eq (mk_iconst X dX5_hall_36 rfl rfl)))))
 (mk_lt
 (mk_lt
 (mk_lt
 (mk_eq (mk_iload_n X dX5_hall_37 rfl rfl))
 (mk_eq (mk_iload X dX5_hall_38 rfl)))
 (mk_lt
 (mk_eq (mk_S3 X h_X5_place (lw_S q999 q1000 q66 q1001) ⟨by decide, by decide, rfl⟩ ⟨(Nat.le_of_ble_eq_true rfl), (Nat.le_of_ble_eq_true rfl)⟩ dX5_hall_40 rfl))
 (mk_eq (mk_aload_n X dX5_hall_43 rfl rfl))))
 (mk_lt
 (mk_lt
 (mk_eq (mk_iload_n X dX5_hall_44 rfl rfl))
 (mk_eq (mk_iload X dX5_hall_45 rfl)))
 (mk_lt
 (mk_eq (mk_V3 X h_X5_filled (ci := 5) rfl (lw_V q1002 q1004 qs43 q66 q1005) ⟨rfl, by decide, by decide, rfl⟩ ⟨(Nat.le_of_ble_eq_true rfl), (Nat.le_of_ble_eq_true rfl)⟩ dX5_hall_47 rfl))
 (mk_eq (mk_iaw X dX5_hall_50 rfl)))))))
 (mk_lt
 (mk_lt
 (mk_lt
 (mk_lt
 (mk_eq (mk_aload_n X dX5_hall_51 rfl rfl))
 (mk_lt
 (mk_eq (mk_get X (ci := 5) (j := 39) rfl in_X5 (Nat.le_of_ble_eq_true rfl) q786 dX5_hall_52 rfl))
 (mk_eq (mk_iconst X dX5_hall_55 rfl rfl))))
 (mk_lt
 (mk_lt
 (mk_eq (mk_iload_n X dX5_hall_56 rfl rfl))
 (mk_eq (mk_iload X dX5_hall_57 rfl)))
 (mk_lt
 (mk_eq (mk_S3 X h_X5_place (lw_S q999 q1000 q66 q1001) ⟨by decide, by decide, rfl⟩ ⟨(Nat.le_of_ble_eq_true rfl), (Nat.le_of_ble_eq_true rfl)⟩ dX5_hall_59 rfl))
 (mk_eq (mk_aload_n X dX5_hall_62 rfl rfl)))))
 (mk_lt
 (mk_lt
 (mk_eq (mk_get X (ci := 5) (j := 18) rfl in_X5 (Nat.le_of_ble_eq_true rfl) q765 dX5_hall_63 rfl))
 (mk_lt
 (mk_eq (mk_iconst X dX5_hall_66 rfl rfl))
 (mk_eq (mk_iload_n X dX5_hall_67 rfl rfl))))
 (mk_lt
 (mk_lt
 (mk_eq (mk_imul X dX5_hall_68 rfl))
 (mk_eq (mk_iload X dX5_hall_69 rfl)))
 (mk_lt
 (mk_eq (mk_iadd X dX5_hall_71 rfl))
 (mk_eq (mk_iar X dX5_hall_72 rfl))))))
 (mk_lt
 (mk_lt
 (mk_lt
 (mk_eq (mk_ldc X dX5_hall_73 q741 rfl))
 (mk_lt
 (mk_eq (mk_icne X dX5_hall_75 rfl rfl))
 (mk_eq (mk_iconst X dX5_hall_78 rfl rfl))))
 (mk_lt
 (mk_lt
 (mk_eq (mk_goto X dX5_hall_79 rfl))
 (mk_eq (mk_iconst X dX5_hall_82 rfl rfl)))
 (mk_lt
 (mk_eq (mk_baw X dX5_hall_83 rfl))
 (mk_eq (mk_iinc X dX5_hall_84 rfl (Nat.le_of_ble_eq_true rfl) rfl)))))
 (mk_lt
 (mk_lt
 (mk_lt
 (mk_eq (mk_goto X dX5_hall_87 rfl))
 (mk_eq (mk_iinc X dX5_hall_90 rfl (Nat.le_of_ble_eq_true rfl) rfl)))
 (mk_lt
 (mk_eq (mk_goto X dX5_hall_93 rfl))
 (mk_eq (mk_aload_n X dX5_hall_96 rfl rfl))))
 (mk_lt
 (mk_lt
 (mk_eq (mk_aload_n X dX5_hall_97 rfl rfl))
 (mk_eq (mk_iload_n X dX5_hall_98 rfl rfl)))
 (mk_lt
 (mk_eq (mk_V3 X h_X5_steps (ci := 5) rfl (lw_V q1013 q1015 qs45 q66 q1016) ⟨rfl, by decide, by decide, rfl⟩ ⟨(Nat.le_of_ble_eq_true rfl), (Nat.le_of_ble_eq_true rfl)⟩ dX5_hall_99 rfl))
 (mk_eq (mk_rv X dX5_hall_102))))))))
theorem sd_X5_hall {l : Launch} {w : ma_Wd} {NC : Nat} {A : Nat → Prop} {S_X5_cells S_X5_place S_X5_filled S_X5_steps : ma_Cs} (hw : ma_Wo w YM NC A) (h_X5_cells : ma_Sd l w YM NC A yX5_cells cX5_cells 1 (some .int) rm_X5_cells S_X5_cells) (h_X5_place : ma_Sd l w YM NC A yX5_place cX5_place 3 (some .int) rm_X5_place S_X5_place) (h_X5_filled : ma_Sd l w YM NC A yX5_filled cX5_filled 10 (some .int) rm_X5_filled S_X5_filled) (h_X5_steps : ma_Sd l w YM NC A yX5_steps cX5_steps 8 none rm_X5_steps S_X5_steps) : ma_Sd l w YM NC A yX5_hall cX5_hall 5 none rm_X5_hall (ma_rn (tb_X5_hall S_X5_cells S_X5_place S_X5_filled S_X5_steps) 5) := ma_of hw (by decide) ⟨rfl, rfl⟩ (fun X => tk_X5_hall h_X5_cells h_X5_place h_X5_filled h_X5_steps X)
theorem dX5_place_0 : decode cX5_place 0 = .ok (.sipush 144, 3) := by decide +kernel
theorem dX5_place_3 : decode cX5_place 3 = .ok (.iload_n 0, 1) := by decide +kernel
theorem dX5_place_4 : decode cX5_place 4 = .ok (.imul, 1) := by decide +kernel
theorem dX5_place_5 : decode cX5_place 5 = .ok (.iconst 4, 1) := by decide +kernel
theorem dX5_place_6 : decode cX5_place 6 = .ok (.iload_n 1, 1) := by decide +kernel
theorem dX5_place_7 : decode cX5_place 7 = .ok (.imul, 1) := by decide +kernel
theorem dX5_place_8 : decode cX5_place 8 = .ok (.iadd, 1) := by decide +kernel
theorem dX5_place_9 : decode cX5_place 9 = .ok (.iload_n 2, 1) := by decide +kernel
theorem dX5_place_10 : decode cX5_place 10 = .ok (.iadd, 1) := by decide +kernel
theorem dX5_place_11 : decode cX5_place 11 = .ok (.ireturn, 1) := by decide +kernel
def tb_X5_place : Nat → ma_In := fun pc =>
 (if pc < 7 then
 (if pc < 4 then
 (if pc < 3 then
 (if pc = 0 then in_push (.int 144) 3 else in_no) else
 (if pc = 3 then in_ild 0 4 else in_no)) else
 (if pc < 5 then
 (if pc = 4 then in_iii (fun x y => x * y) 5 else in_no) else
 (if pc < 6 then
 (if pc = 5 then in_push (.int 4) 6 else in_no) else
 (if pc = 6 then in_ild 1 7 else in_no)))) else
 (if pc < 9 then
 (if pc < 8 then
 (if pc = 7 then in_iii (fun x y => x * y) 8 else in_no) else
 (if pc = 8 then in_iii (fun x y => x + y) 9 else in_no)) else
 (if pc < 10 then
 (if pc = 9 then in_ild 2 10 else in_no) else
 (if pc < 11 then
 (if pc = 10 then in_iii (fun x y => x + y) 11 else in_no) else
 (if pc = 11 then in_ri else in_no)))))
theorem tk_X5_place {l : Launch} {w : ma_Wd} {NC : Nat} {A : Nat → Prop} {p : Program} {e : Env} {s : State} {m : MethodId} {args : Array Value} {below : List Frame} {meth : Method} {c : Code} (X : ma_Cx p s m args meth c w YM NC A yX5_place.cls cX5_place 3 (some .int)) : ∀ pc, ma_Ok p l e rm_X5_place s m args below meth c w YM NC A 3 pc (tb_X5_place pc) := fun pc =>
 (mk_lt
 (mk_lt
 (mk_lt
 (mk_eq (mk_sipush X dX5_place_0 rfl rfl))
 (mk_eq (mk_iload_n X dX5_place_3 rfl rfl)))
 (mk_lt
 (mk_eq (mk_imul X dX5_place_4 rfl))
 (mk_lt
 (mk_eq (mk_iconst X dX5_place_5 rfl rfl))
 (mk_eq (mk_iload_n X dX5_place_6 rfl rfl)))))
 (mk_lt
 (mk_lt
 (mk_eq (mk_imul X dX5_place_7 rfl))
 (mk_eq (mk_iadd X dX5_place_8 rfl)))
 (mk_lt
 (mk_eq (mk_iload_n X dX5_place_9 rfl rfl))
 (mk_lt
 (mk_eq (mk_iadd X dX5_place_10 rfl))
 (mk_eq (mk_ri X dX5_place_11))))))
theorem sd_X5_place {l : Launch} {w : ma_Wd} {NC : Nat} {A : Nat → Prop} (hw : ma_Wo w YM NC A) : ma_Sd l w YM NC A yX5_place cX5_place 3 (some .int) rm_X5_place (ma_rn (tb_X5_place) 3) := ma_of hw (by decide) ⟨rfl, rfl⟩ (fun X => tk_X5_place  X)
theorem dX5_filled_0 : decode cX5_filled 0 = .ok (.aload_n 0, 1) := by decide +kernel
theorem dX5_filled_1 : decode cX5_filled 1 = .ok (.getfield 53, 3) := by decide +kernel
theorem dX5_filled_4 : decode cX5_filled 4 = .ok (.iconst 4, 1) := by decide +kernel
theorem dX5_filled_5 : decode cX5_filled 5 = .ok (.iload_n 1, 1) := by decide +kernel
theorem dX5_filled_6 : decode cX5_filled 6 = .ok (.imul, 1) := by decide +kernel
theorem dX5_filled_7 : decode cX5_filled 7 = .ok (.iload_n 2, 1) := by decide +kernel
theorem dX5_filled_8 : decode cX5_filled 8 = .ok (.iadd, 1) := by decide +kernel
theorem dX5_filled_9 : decode cX5_filled 9 = .ok (.iaload, 1) := by decide +kernel
theorem dX5_filled_10 : decode cX5_filled 10 = .ok (.istore_n 3, 1) := by decide +kernel
theorem dX5_filled_11 : decode cX5_filled 11 = .ok (.iload_n 3, 1) := by decide +kernel
theorem dX5_filled_12 : decode cX5_filled 12 = .ok (.ldc 115, 2) := by decide +kernel
theorem dX5_filled_14 : decode cX5_filled 14 = .ok (.if_icmp .eq 5, 3) := by decide +kernel
theorem dX5_filled_17 : decode cX5_filled 17 = .ok (.iload_n 3, 1) := by decide +kernel
theorem dX5_filled_18 : decode cX5_filled 18 = .ok (.ireturn, 1) := by decide +kernel
theorem dX5_filled_19 : decode cX5_filled 19 = .ok (.lconst 0, 1) := by decide +kernel
theorem dX5_filled_20 : decode cX5_filled 20 = .ok (.lstore 4, 2) := by decide +kernel
theorem dX5_filled_22 : decode cX5_filled 22 = .ok (.iconst 0, 1) := by decide +kernel
theorem dX5_filled_23 : decode cX5_filled 23 = .ok (.istore 6, 2) := by decide +kernel
theorem dX5_filled_25 : decode cX5_filled 25 = .ok (.iconst 1, 1) := by decide +kernel
theorem dX5_filled_26 : decode cX5_filled 26 = .ok (.istore 7, 2) := by decide +kernel
theorem dX5_filled_28 : decode cX5_filled 28 = .ok (.iload 7, 2) := by decide +kernel
theorem dX5_filled_30 : decode cX5_filled 30 = .ok (.iconst 5, 1) := by decide +kernel
theorem dX5_filled_31 : decode cX5_filled 31 = .ok (.if_icmp .ge 81, 3) := by decide +kernel
theorem dX5_filled_34 : decode cX5_filled 34 = .ok (.aload_n 0, 1) := by decide +kernel
theorem dX5_filled_35 : decode cX5_filled 35 = .ok (.iload_n 1, 1) := by decide +kernel
theorem dX5_filled_36 : decode cX5_filled 36 = .ok (.iload 7, 2) := by decide +kernel
theorem dX5_filled_38 : decode cX5_filled 38 = .ok (.invokevirtual 221, 3) := by decide +kernel
theorem dX5_filled_41 : decode cX5_filled 41 = .ok (.istore 8, 2) := by decide +kernel
theorem dX5_filled_43 : decode cX5_filled 43 = .ok (.iload 8, 2) := by decide +kernel
theorem dX5_filled_45 : decode cX5_filled 45 = .ok (.ifCond .ge 12, 3) := by decide +kernel
theorem dX5_filled_48 : decode cX5_filled 48 = .ok (.aload_n 0, 1) := by decide +kernel
theorem dX5_filled_49 : decode cX5_filled 49 = .ok (.getfield 19, 3) := by decide +kernel
theorem dX5_filled_52 : decode cX5_filled 52 = .ok (.iload_n 2, 1) := by decide +kernel
theorem dX5_filled_53 : decode cX5_filled 53 = .ok (.iaload, 1) := by decide +kernel
theorem dX5_filled_54 : decode cX5_filled 54 = .ok (.goto 14, 3) := by decide +kernel
theorem dX5_filled_57 : decode cX5_filled 57 = .ok (.aload_n 0, 1) := by decide +kernel
theorem dX5_filled_58 : decode cX5_filled 58 = .ok (.getfield 53, 3) := by decide +kernel
theorem dX5_filled_61 : decode cX5_filled 61 = .ok (.iconst 4, 1) := by decide +kernel
theorem dX5_filled_62 : decode cX5_filled 62 = .ok (.iload 8, 2) := by decide +kernel
theorem dX5_filled_64 : decode cX5_filled 64 = .ok (.imul, 1) := by decide +kernel
theorem dX5_filled_65 : decode cX5_filled 65 = .ok (.iload_n 2, 1) := by decide +kernel
theorem dX5_filled_66 : decode cX5_filled 66 = .ok (.iadd, 1) := by decide +kernel
theorem dX5_filled_67 : decode cX5_filled 67 = .ok (.iaload, 1) := by decide +kernel
theorem dX5_filled_68 : decode cX5_filled 68 = .ok (.istore 9, 2) := by decide +kernel
theorem dX5_filled_70 : decode cX5_filled 70 = .ok (.lload 4, 2) := by decide +kernel
theorem dX5_filled_72 : decode cX5_filled 72 = .ok (.iload 9, 2) := by decide +kernel
theorem dX5_filled_74 : decode cX5_filled 74 = .ok (.ldc 115, 2) := by decide +kernel
theorem dX5_filled_76 : decode cX5_filled 76 = .ok (.if_icmp .ne 7, 3) := by decide +kernel
theorem dX5_filled_79 : decode cX5_filled 79 = .ok (.lconst 0, 1) := by decide +kernel
theorem dX5_filled_80 : decode cX5_filled 80 = .ok (.goto 6, 3) := by decide +kernel
theorem dX5_filled_83 : decode cX5_filled 83 = .ok (.iload 9, 2) := by decide +kernel
theorem dX5_filled_85 : decode cX5_filled 85 = .ok (.i2l, 1) := by decide +kernel
theorem dX5_filled_86 : decode cX5_filled 86 = .ok (.ladd, 1) := by decide +kernel
theorem dX5_filled_87 : decode cX5_filled 87 = .ok (.lstore 4, 2) := by decide +kernel
theorem dX5_filled_89 : decode cX5_filled 89 = .ok (.iload 6, 2) := by decide +kernel
theorem dX5_filled_91 : decode cX5_filled 91 = .ok (.iload 9, 2) := by decide +kernel
theorem dX5_filled_93 : decode cX5_filled 93 = .ok (.ldc 115, 2) := by decide +kernel
theorem dX5_filled_95 : decode cX5_filled 95 = .ok (.if_icmp .ne 7, 3) := by decide +kernel
theorem dX5_filled_98 : decode cX5_filled 98 = .ok (.iconst 0, 1) := by decide +kernel
theorem dX5_filled_99 : decode cX5_filled 99 = .ok (.goto 4, 3) := by decide +kernel
theorem dX5_filled_102 : decode cX5_filled 102 = .ok (.iconst 1, 1) := by decide +kernel
theorem dX5_filled_103 : decode cX5_filled 103 = .ok (.iadd, 1) := by decide +kernel
theorem dX5_filled_104 : decode cX5_filled 104 = .ok (.istore 6, 2) := by decide +kernel
theorem dX5_filled_106 : decode cX5_filled 106 = .ok (.iinc 7 1, 3) := by decide +kernel
theorem dX5_filled_109 : decode cX5_filled 109 = .ok (.goto (-81), 3) := by decide +kernel
theorem dX5_filled_112 : decode cX5_filled 112 = .ok (.iload 6, 2) := by decide +kernel
theorem dX5_filled_114 : decode cX5_filled 114 = .ok (.ifCond .ne 7, 3) := by decide +kernel
theorem dX5_filled_117 : decode cX5_filled 117 = .ok (.iconst 0, 1) := by decide +kernel
theorem dX5_filled_118 : decode cX5_filled 118 = .ok (.goto 11, 3) := by decide +kernel
theorem dX5_filled_121 : decode cX5_filled 121 = .ok (.lload 4, 2) := by decide +kernel
theorem dX5_filled_123 : decode cX5_filled 123 = .ok (.iload 6, 2) := by decide +kernel
theorem dX5_filled_125 : decode cX5_filled 125 = .ok (.i2l, 1) := by decide +kernel
theorem dX5_filled_126 : decode cX5_filled 126 = .ok (.invokestatic 258, 3) := by decide +kernel
theorem dX5_filled_129 : decode cX5_filled 129 = .ok (.ireturn, 1) := by decide +kernel
def tb_X5_filled (S_X5_next S_X5_down : ma_Cs) : Nat → ma_In := fun pc =>
 (if pc < 61 then
 (if pc < 25 then
 (if pc < 11 then
 (if pc < 6 then
 (if pc < 4 then
 (if pc < 1 then
 (if pc = 0 then in_ald 0 1 else in_no) else
 (if pc = 1 then in_get YM 5 18 4 else in_no)) else
 (if pc < 5 then
 (if pc = 4 then in_push (.int 4) 5 else in_no) else
 (if pc = 5 then in_ild 1 6 else in_no))) else
 (if pc < 8 then
 (if pc < 7 then
 (if pc = 6 then in_iii (fun x y => x * y) 7 else in_no) else
 (if pc = 7 then in_ild 2 8 else in_no)) else
 (if pc < 9 then
 (if pc = 8 then in_iii (fun x y => x + y) 9 else in_no) else
 (if pc < 10 then
 (if pc = 9 then in_iar YM 10 else in_no) else
 (if pc = 10 then in_ist 3 11 else in_no))))) else
 (if pc < 18 then
 (if pc < 14 then
 (if pc < 12 then
 (if pc = 11 then in_ild 3 12 else in_no) else
 (if pc = 12 then in_push (.int 2000000) 14 else in_no)) else
 (if pc < 17 then
 (if pc = 14 then in_if2 (fun x y => x = y) 19 17 else in_no) else
 (if pc = 17 then in_ild 3 18 else in_no))) else
 (if pc < 20 then
 (if pc < 19 then
 (if pc = 18 then in_ri else in_no) else
 (if pc = 19 then in_push (.long 0) 20 else in_no)) else
 (if pc < 22 then
 (if pc = 20 then in_lst 4 22 else in_no) else
 (if pc < 23 then
 (if pc = 22 then in_push (.int 0) 23 else in_no) else
 (if pc = 23 then in_ist 6 25 else in_no)))))) else
 (if pc < 41 then
 (if pc < 31 then
 (if pc < 28 then
 (if pc < 26 then
 (if pc = 25 then in_push (.int 1) 26 else in_no) else
 (if pc = 26 then in_ist 7 28 else in_no)) else
 (if pc < 30 then
 (if pc = 28 then in_ild 7 30 else in_no) else
 (if pc = 30 then in_push (.int 5) 31 else in_no))) else
 (if pc < 35 then
 (if pc < 34 then
 (if pc = 31 then in_if2 (fun x y => y ≤ x) 112 34 else in_no) else
 (if pc = 34 then in_ald 0 35 else in_no)) else
 (if pc < 36 then
 (if pc = 35 then in_ild 1 36 else in_no) else
 (if pc < 38 then
 (if pc = 36 then in_ild 7 38 else in_no) else
 (if pc = 38 then in_v3 YM 5 S_X5_next 41 else in_no))))) else
 (if pc < 52 then
 (if pc < 45 then
 (if pc < 43 then
 (if pc = 41 then in_ist 8 43 else in_no) else
 (if pc = 43 then in_ild 8 45 else in_no)) else
 (if pc < 48 then
 (if pc = 45 then in_if1 (fun x => 0 ≤ x) 57 48 else in_no) else
 (if pc < 49 then
 (if pc = 48 then in_ald 0 49 else in_no) else
 (if pc = 49 then in_get YM 5 4 52 else in_no)))) else
 (if pc < 54 then
 (if pc < 53 then
 (if pc = 52 then in_ild 2 53 else in_no) else
 (if pc = 53 then in_iar YM 54 else in_no)) else
 (if pc < 57 then
 (if pc = 54 then in_go 68 else in_no) else
 (if pc < 58 then
 (if pc = 57 then in_ald 0 58 else in_no) else
 (if pc = 58 then in_get YM 5 18 61 else in_no))))))) else
 (if pc < 91 then
 (if pc < 74 then
 (if pc < 66 then
 (if pc < 64 then
 (if pc < 62 then
 (if pc = 61 then in_push (.int 4) 62 else in_no) else
 (if pc = 62 then in_ild 8 64 else in_no)) else
 (if pc < 65 then
 (if pc = 64 then in_iii (fun x y => x * y) 65 else in_no) else
 (if pc = 65 then in_ild 2 66 else in_no))) else
 (if pc < 68 then
 (if pc < 67 then
 (if pc = 66 then in_iii (fun x y => x + y) 67 else in_no) else
 (if pc = 67 then in_iar YM 68 else in_no)) else
 (if pc < 70 then
 (if pc = 68 then in_ist 9 70 else in_no) else
 (if pc < 72 then
 (if pc = 70 then in_lld 4 72 else in_no) else
 (if pc = 72 then in_ild 9 74 else in_no))))) else
 (if pc < 83 then
 (if pc < 79 then
 (if pc < 76 then
 (if pc = 74 then in_push (.int 2000000) 76 else in_no) else
 (if pc = 76 then in_if2 (fun x y => x = y) 79 83 else in_no)) else
 (if pc < 80 then
 (if pc = 79 then in_push (.long 0) 80 else in_no) else
 (if pc = 80 then in_go 86 else in_no))) else
 (if pc < 86 then
 (if pc < 85 then
 (if pc = 83 then in_ild 9 85 else in_no) else
 (if pc = 85 then in_il (fun x => x.toInt64) 86 else in_no)) else
 (if pc < 87 then
 (if pc = 86 then in_lll (fun x y => x + y) 87 else in_no) else
 (if pc < 89 then
 (if pc = 87 then in_lst 4 89 else in_no) else
 (if pc = 89 then in_ild 6 91 else in_no)))))) else
 (if pc < 109 then
 (if pc < 99 then
 (if pc < 95 then
 (if pc < 93 then
 (if pc = 91 then in_ild 9 93 else in_no) else
 (if pc = 93 then in_push (.int 2000000) 95 else in_no)) else
 (if pc < 98 then
 (if pc = 95 then in_if2 (fun x y => x = y) 98 102 else in_no) else
 (if pc = 98 then in_push (.int 0) 99 else in_no))) else
 (if pc < 103 then
 (if pc < 102 then
 (if pc = 99 then in_go 103 else in_no) else
 (if pc = 102 then in_push (.int 1) 103 else in_no)) else
 (if pc < 104 then
 (if pc = 103 then in_iii (fun x y => x + y) 104 else in_no) else
 (if pc < 106 then
 (if pc = 104 then in_ist 6 106 else in_no) else
 (if pc = 106 then in_inc 7 1 109 else in_no))))) else
 (if pc < 121 then
 (if pc < 114 then
 (if pc < 112 then
 (if pc = 109 then in_go 28 else in_no) else
 (if pc = 112 then in_ild 6 114 else in_no)) else
 (if pc < 117 then
 (if pc = 114 then in_if1 (fun x => x = 0) 117 121 else in_no) else
 (if pc < 118 then
 (if pc = 117 then in_push (.int 0) 118 else in_no) else
 (if pc = 118 then in_go 129 else in_no)))) else
 (if pc < 125 then
 (if pc < 123 then
 (if pc = 121 then in_lld 4 123 else in_no) else
 (if pc = 123 then in_ild 6 125 else in_no)) else
 (if pc < 126 then
 (if pc = 125 then in_il (fun x => x.toInt64) 126 else in_no) else
 (if pc < 129 then
 (if pc = 126 then in_s2 S_X5_down 129 else in_no) else
 (if pc = 129 then in_ri else in_no))))))))
theorem tk_X5_filled {l : Launch} {w : ma_Wd} {NC : Nat} {A : Nat → Prop} {S_X5_next S_X5_down : ma_Cs} (h_X5_next : ma_Sd l w YM NC A yX5_next cX5_next 5 (some .int) rm_X5_next S_X5_next) (h_X5_down : ma_Sd l w YM NC A yX5_down cX5_down 4 (some .int) rm_X5_down S_X5_down) {p : Program} {e : Env} {s : State} {m : MethodId} {args : Array Value} {below : List Frame} {meth : Method} {c : Code} (X : ma_Cx p s m args meth c w YM NC A yX5_filled.cls cX5_filled 10 (some .int)) : ∀ pc, ma_Ok p l e rm_X5_filled s m args below meth c w YM NC A 10 pc (tb_X5_filled S_X5_next S_X5_down pc) := fun pc =>
 (mk_lt
 (mk_lt
 (mk_lt
 (mk_lt
 (mk_lt
 (mk_lt
 (mk_eq (mk_aload_n X dX5_filled_0 rfl rfl))
 (mk_eq (mk_get X (ci := 5) (j := 18) rfl in_X5 (Nat.le_of_ble_eq_true rfl) q765 dX5_filled_1 rfl)))
 (mk_lt
 (mk_eq (mk_iconst X dX5_filled_4 rfl rfl))
 (mk_eq (mk_iload_n X dX5_filled_5 rfl rfl))))
 (mk_lt
 (mk_lt
 (mk_eq (mk_imul X dX5_filled_6 rfl))
 (mk_eq (mk_iload_n X dX5_filled_7 rfl rfl)))
 (mk_lt
 (mk_eq (mk_iadd X dX5_filled_8 rfl))
 (mk_lt
 (mk_eq (mk_iar X dX5_filled_9 rfl))
 (mk_eq (mk_istore_n X dX5_filled_10 rfl (Nat.le_of_ble_eq_true rfl) rfl))))))
 (mk_lt
 (mk_lt
 (mk_lt
 (mk_eq (mk_iload_n X dX5_filled_11 rfl rfl))
 (mk_eq (mk_ldc X dX5_filled_12 q741 rfl)))
 (mk_lt
 (mk_eq (mk_iceq X dX5_filled_14 rfl rfl))
 (mk_eq (mk_iload_n X dX5_filled_17 rfl rfl))))
 (mk_lt
 (mk_lt
 (mk_eq (mk_ri X dX5_filled_18))
 (mk_eq (mk_lconst X dX5_filled_19 rfl rfl)))
 (mk_lt
 (mk_eq (mk_lstore X dX5_filled_20 (Nat.le_of_ble_eq_true rfl) rfl))
 (mk_lt
 (mk_eq (mk_iconst X dX5_filled_22 rfl rfl))
 (mk_eq (mk_istore X dX5_filled_23 (Nat.le_of_ble_eq_true rfl) rfl)))))))
 (mk_lt
 (mk_lt
 (mk_lt
 (mk_lt
 (mk_eq (mk_iconst X dX5_filled_25 rfl rfl))
 (mk_eq (mk_istore X dX5_filled_26 (Nat.le_of_ble_eq_true rfl) rfl)))
 (mk_lt
 (mk_eq (mk_iload X dX5_filled_28 rfl))
 (mk_eq (mk_iconst X dX5_filled_30 rfl rfl))))
 (mk_lt
 (mk_lt
 (mk_eq (mk_icge X dX5_filled_31 rfl rfl))
 (mk_eq (mk_aload_n X dX5_filled_34 rfl rfl)))
 (mk_lt
 (mk_eq (mk_iload_n X dX5_filled_35 rfl rfl))
 (mk_lt
 (mk_eq (mk_iload X dX5_filled_36 rfl))
 (mk_eq (mk_V3 X h_X5_next (ci := 5) rfl (lw_V q1006 q1008 qs44 q66 q1009) ⟨rfl, by decide, by decide, rfl⟩ ⟨(Nat.le_of_ble_eq_true rfl), (Nat.le_of_ble_eq_true rfl)⟩ dX5_filled_38 rfl))))))
 (mk_lt
 (mk_lt
 (mk_lt
 (mk_eq (mk_istore X dX5_filled_41 (Nat.le_of_ble_eq_true rfl) rfl))
 (mk_eq (mk_iload X dX5_filled_43 rfl)))
 (mk_lt
 (mk_eq (mk_ifge X dX5_filled_45 rfl rfl))
 (mk_lt
 (mk_eq (mk_aload_n X dX5_filled_48 rfl rfl))
 (mk_eq (mk_get X (ci := 5) (j := 4) rfl in_X5 (Nat.le_of_ble_eq_true rfl) q751 dX5_filled_49 rfl)))))
 (mk_lt
 (mk_lt
 (mk_eq (mk_iload_n X dX5_filled_52 rfl rfl))
 (mk_eq (mk_iar X dX5_filled_53 rfl)))
 (mk_lt
 (mk_eq (mk_goto X dX5_filled_54 rfl))
 (mk_lt
 (mk_eq (mk_aload_n X dX5_filled_57 rfl rfl))
 (mk_eq (mk_get X (ci := 5) (j := 18) rfl in_X5 (Nat.le_of_ble_eq_true rfl) q765 dX5_filled_58 rfl))))))))
 (mk_lt
 (mk_lt
 (mk_lt
 (mk_lt
 (mk_lt
 (mk_eq (mk_iconst X dX5_filled_61 rfl rfl))
 (mk_eq (mk_iload X dX5_filled_62 rfl)))
 (mk_lt
 (mk_eq (mk_imul X dX5_filled_64 rfl))
 (mk_eq (mk_iload_n X dX5_filled_65 rfl rfl))))
 (mk_lt
 (mk_lt
 (mk_eq (mk_iadd X dX5_filled_66 rfl))
 (mk_eq (mk_iar X dX5_filled_67 rfl)))
 (mk_lt
 (mk_eq (mk_istore X dX5_filled_68 (Nat.le_of_ble_eq_true rfl) rfl))
 (mk_lt
 (mk_eq (mk_lload X dX5_filled_70 rfl))
 (mk_eq (mk_iload X dX5_filled_72 rfl))))))
 (mk_lt
 (mk_lt
 (mk_lt
 (mk_eq (mk_ldc X dX5_filled_74 q741 rfl))
 (mk_eq (mk_icne X dX5_filled_76 rfl rfl)))
 (mk_lt
 (mk_eq (mk_lconst X dX5_filled_79 rfl rfl))
 (mk_eq (mk_goto X dX5_filled_80 rfl))))
 (mk_lt
 (mk_lt
 (mk_eq (mk_iload X dX5_filled_83 rfl))
 (mk_eq (mk_i2l X dX5_filled_85 rfl)))
 (mk_lt
 (mk_eq (mk_ladd X dX5_filled_86 rfl))
 (mk_lt
 (mk_eq (mk_lstore X dX5_filled_87 (Nat.le_of_ble_eq_true rfl) rfl))
 (mk_eq (mk_iload X dX5_filled_89 rfl)))))))
 (mk_lt
 (mk_lt
 (mk_lt
 (mk_lt
 (mk_eq (mk_iload X dX5_filled_91 rfl))
 (mk_eq (mk_ldc X dX5_filled_93 q741 rfl)))
 (mk_lt
 (mk_eq (mk_icne X dX5_filled_95 rfl rfl))
 (mk_eq (mk_iconst X dX5_filled_98 rfl rfl))))
 (mk_lt
 (mk_lt
 (mk_eq (mk_goto X dX5_filled_99 rfl))
 (mk_eq (mk_iconst X dX5_filled_102 rfl rfl)))
 (mk_lt
 (mk_eq (mk_iadd X dX5_filled_103 rfl))
 (mk_lt
 (mk_eq (mk_istore X dX5_filled_104 (Nat.le_of_ble_eq_true rfl) rfl))
 (mk_eq (mk_iinc X dX5_filled_106 rfl (Nat.le_of_ble_eq_true rfl) rfl))))))
 (mk_lt
 (mk_lt
 (mk_lt
 (mk_eq (mk_goto X dX5_filled_109 rfl))
 (mk_eq (mk_iload X dX5_filled_112 rfl)))
 (mk_lt
 (mk_eq (mk_ifne X dX5_filled_114 rfl rfl))
 (mk_lt
 (mk_eq (mk_iconst X dX5_filled_117 rfl rfl))
 (mk_eq (mk_goto X dX5_filled_118 rfl)))))
 (mk_lt
 (mk_lt
 (mk_eq (mk_lload X dX5_filled_121 rfl))
 (mk_eq (mk_iload X dX5_filled_123 rfl)))
 (mk_lt
 (mk_eq (mk_i2l X dX5_filled_125 rfl))
 (mk_lt
 (mk_eq (mk_S2 X h_X5_down (lw_S q1010 q1011 q66 q1012) ⟨by decide, by decide, rfl⟩ ⟨(Nat.le_of_ble_eq_true rfl), (Nat.le_of_ble_eq_true rfl)⟩ dX5_filled_126 rfl))
 (mk_eq (mk_ri X dX5_filled_129)))))))))
theorem sd_X5_filled {l : Launch} {w : ma_Wd} {NC : Nat} {A : Nat → Prop} {S_X5_next S_X5_down : ma_Cs} (hw : ma_Wo w YM NC A) (h_X5_next : ma_Sd l w YM NC A yX5_next cX5_next 5 (some .int) rm_X5_next S_X5_next) (h_X5_down : ma_Sd l w YM NC A yX5_down cX5_down 4 (some .int) rm_X5_down S_X5_down) : ma_Sd l w YM NC A yX5_filled cX5_filled 10 (some .int) rm_X5_filled (ma_rn (tb_X5_filled S_X5_next S_X5_down) 10) := ma_of hw (by decide) ⟨rfl, rfl⟩ (fun X => tk_X5_filled h_X5_next h_X5_down X)
theorem dX5_next_0 : decode cX5_next 0 = .ok (.iload_n 1, 1) := by decide +kernel
theorem dX5_next_1 : decode cX5_next 1 = .ok (.aload_n 0, 1) := by decide +kernel
theorem dX5_next_2 : decode cX5_next 2 = .ok (.getfield 211, 3) := by decide +kernel
theorem dX5_next_5 : decode cX5_next 5 = .ok (.irem, 1) := by decide +kernel
theorem dX5_next_6 : decode cX5_next 6 = .ok (.iload_n 2, 1) := by decide +kernel
theorem dX5_next_7 : decode cX5_next 7 = .ok (.iconst 2, 1) := by decide +kernel
theorem dX5_next_8 : decode cX5_next 8 = .ok (.if_icmp .ne 7, 3) := by decide +kernel
theorem dX5_next_11 : decode cX5_next 11 = .ok (.iconst 1, 1) := by decide +kernel
theorem dX5_next_12 : decode cX5_next 12 = .ok (.goto 13, 3) := by decide +kernel
theorem dX5_next_15 : decode cX5_next 15 = .ok (.iload_n 2, 1) := by decide +kernel
theorem dX5_next_16 : decode cX5_next 16 = .ok (.iconst 4, 1) := by decide +kernel
theorem dX5_next_17 : decode cX5_next 17 = .ok (.if_icmp .ne 7, 3) := by decide +kernel
theorem dX5_next_20 : decode cX5_next 20 = .ok (.iconst (-1), 1) := by decide +kernel
theorem dX5_next_21 : decode cX5_next 21 = .ok (.goto 4, 3) := by decide +kernel
theorem dX5_next_24 : decode cX5_next 24 = .ok (.iconst 0, 1) := by decide +kernel
theorem dX5_next_25 : decode cX5_next 25 = .ok (.iadd, 1) := by decide +kernel
theorem dX5_next_26 : decode cX5_next 26 = .ok (.istore_n 3, 1) := by decide +kernel
theorem dX5_next_27 : decode cX5_next 27 = .ok (.iload_n 1, 1) := by decide +kernel
theorem dX5_next_28 : decode cX5_next 28 = .ok (.aload_n 0, 1) := by decide +kernel
theorem dX5_next_29 : decode cX5_next 29 = .ok (.getfield 211, 3) := by decide +kernel
theorem dX5_next_32 : decode cX5_next 32 = .ok (.idiv, 1) := by decide +kernel
theorem dX5_next_33 : decode cX5_next 33 = .ok (.iload_n 2, 1) := by decide +kernel
theorem dX5_next_34 : decode cX5_next 34 = .ok (.iconst 3, 1) := by decide +kernel
theorem dX5_next_35 : decode cX5_next 35 = .ok (.if_icmp .ne 7, 3) := by decide +kernel
theorem dX5_next_38 : decode cX5_next 38 = .ok (.iconst 1, 1) := by decide +kernel
theorem dX5_next_39 : decode cX5_next 39 = .ok (.goto 13, 3) := by decide +kernel
theorem dX5_next_42 : decode cX5_next 42 = .ok (.iload_n 2, 1) := by decide +kernel
theorem dX5_next_43 : decode cX5_next 43 = .ok (.iconst 1, 1) := by decide +kernel
theorem dX5_next_44 : decode cX5_next 44 = .ok (.if_icmp .ne 7, 3) := by decide +kernel
theorem dX5_next_47 : decode cX5_next 47 = .ok (.iconst (-1), 1) := by decide +kernel
theorem dX5_next_48 : decode cX5_next 48 = .ok (.goto 4, 3) := by decide +kernel
theorem dX5_next_51 : decode cX5_next 51 = .ok (.iconst 0, 1) := by decide +kernel
theorem dX5_next_52 : decode cX5_next 52 = .ok (.iadd, 1) := by decide +kernel
theorem dX5_next_53 : decode cX5_next 53 = .ok (.istore 4, 2) := by decide +kernel
theorem dX5_next_55 : decode cX5_next 55 = .ok (.iload_n 3, 1) := by decide +kernel
theorem dX5_next_56 : decode cX5_next 56 = .ok (.i2l, 1) := by decide +kernel
theorem dX5_next_57 : decode cX5_next 57 = .ok (.lconst 0, 1) := by decide +kernel
theorem dX5_next_58 : decode cX5_next 58 = .ok (.aload_n 0, 1) := by decide +kernel
theorem dX5_next_59 : decode cX5_next 59 = .ok (.getfield 211, 3) := by decide +kernel
theorem dX5_next_62 : decode cX5_next 62 = .ok (.iconst 1, 1) := by decide +kernel
theorem dX5_next_63 : decode cX5_next 63 = .ok (.isub, 1) := by decide +kernel
theorem dX5_next_64 : decode cX5_next 64 = .ok (.i2l, 1) := by decide +kernel
theorem dX5_next_65 : decode cX5_next 65 = .ok (.invokestatic 128, 3) := by decide +kernel
theorem dX5_next_68 : decode cX5_next 68 = .ok (.ifCond .eq 30, 3) := by decide +kernel
theorem dX5_next_71 : decode cX5_next 71 = .ok (.iload 4, 2) := by decide +kernel
theorem dX5_next_73 : decode cX5_next 73 = .ok (.i2l, 1) := by decide +kernel
theorem dX5_next_74 : decode cX5_next 74 = .ok (.lconst 0, 1) := by decide +kernel
theorem dX5_next_75 : decode cX5_next 75 = .ok (.aload_n 0, 1) := by decide +kernel
theorem dX5_next_76 : decode cX5_next 76 = .ok (.getfield 214, 3) := by decide +kernel
theorem dX5_next_79 : decode cX5_next 79 = .ok (.iconst 1, 1) := by decide +kernel
theorem dX5_next_80 : decode cX5_next 80 = .ok (.isub, 1) := by decide +kernel
theorem dX5_next_81 : decode cX5_next 81 = .ok (.i2l, 1) := by decide +kernel
theorem dX5_next_82 : decode cX5_next 82 = .ok (.invokestatic 128, 3) := by decide +kernel
theorem dX5_next_85 : decode cX5_next 85 = .ok (.ifCond .eq 13, 3) := by decide +kernel
theorem dX5_next_88 : decode cX5_next 88 = .ok (.aload_n 0, 1) := by decide +kernel
theorem dX5_next_89 : decode cX5_next 89 = .ok (.getfield 211, 3) := by decide +kernel
theorem dX5_next_92 : decode cX5_next 92 = .ok (.iload 4, 2) := by decide +kernel
theorem dX5_next_94 : decode cX5_next 94 = .ok (.imul, 1) := by decide +kernel
theorem dX5_next_95 : decode cX5_next 95 = .ok (.iload_n 3, 1) := by decide +kernel
theorem dX5_next_96 : decode cX5_next 96 = .ok (.iadd, 1) := by decide +kernel
theorem dX5_next_97 : decode cX5_next 97 = .ok (.ireturn, 1) := by decide +kernel
theorem dX5_next_98 : decode cX5_next 98 = .ok (.aload_n 0, 1) := by decide +kernel
theorem dX5_next_99 : decode cX5_next 99 = .ok (.getfield 143, 3) := by decide +kernel
theorem dX5_next_102 : decode cX5_next 102 = .ok (.ifCond .ne 33, 3) := by decide +kernel
theorem dX5_next_105 : decode cX5_next 105 = .ok (.aload_n 0, 1) := by decide +kernel
theorem dX5_next_106 : decode cX5_next 106 = .ok (.getfield 211, 3) := by decide +kernel
theorem dX5_next_109 : decode cX5_next 109 = .ok (.iload 4, 2) := by decide +kernel
theorem dX5_next_111 : decode cX5_next 111 = .ok (.aload_n 0, 1) := by decide +kernel
theorem dX5_next_112 : decode cX5_next 112 = .ok (.getfield 214, 3) := by decide +kernel
theorem dX5_next_115 : decode cX5_next 115 = .ok (.iadd, 1) := by decide +kernel
theorem dX5_next_116 : decode cX5_next 116 = .ok (.aload_n 0, 1) := by decide +kernel
theorem dX5_next_117 : decode cX5_next 117 = .ok (.getfield 214, 3) := by decide +kernel
theorem dX5_next_120 : decode cX5_next 120 = .ok (.irem, 1) := by decide +kernel
theorem dX5_next_121 : decode cX5_next 121 = .ok (.imul, 1) := by decide +kernel
theorem dX5_next_122 : decode cX5_next 122 = .ok (.iload_n 3, 1) := by decide +kernel
theorem dX5_next_123 : decode cX5_next 123 = .ok (.aload_n 0, 1) := by decide +kernel
theorem dX5_next_124 : decode cX5_next 124 = .ok (.getfield 211, 3) := by decide +kernel
theorem dX5_next_127 : decode cX5_next 127 = .ok (.iadd, 1) := by decide +kernel
theorem dX5_next_128 : decode cX5_next 128 = .ok (.aload_n 0, 1) := by decide +kernel
theorem dX5_next_129 : decode cX5_next 129 = .ok (.getfield 211, 3) := by decide +kernel
theorem dX5_next_132 : decode cX5_next 132 = .ok (.irem, 1) := by decide +kernel
theorem dX5_next_133 : decode cX5_next 133 = .ok (.iadd, 1) := by decide +kernel
theorem dX5_next_134 : decode cX5_next 134 = .ok (.ireturn, 1) := by decide +kernel
theorem dX5_next_135 : decode cX5_next 135 = .ok (.aload_n 0, 1) := by decide +kernel
theorem dX5_next_136 : decode cX5_next 136 = .ok (.getfield 143, 3) := by decide +kernel
theorem dX5_next_139 : decode cX5_next 139 = .ok (.iconst 1, 1) := by decide +kernel
theorem dX5_next_140 : decode cX5_next 140 = .ok (.if_icmp .ne 7, 3) := by decide +kernel
theorem dX5_next_143 : decode cX5_next 143 = .ok (.iload_n 1, 1) := by decide +kernel
theorem dX5_next_144 : decode cX5_next 144 = .ok (.goto 4, 3) := by decide +kernel
theorem dX5_next_147 : decode cX5_next 147 = .ok (.iconst (-1), 1) := by decide +kernel
theorem dX5_next_148 : decode cX5_next 148 = .ok (.ireturn, 1) := by decide +kernel
def tb_X5_next (S_X5_in : ma_Cs) : Nat → ma_In := fun pc =>
 (if pc < 73 then
 (if pc < 34 then
 (if pc < 17 then
 (if pc < 7 then
 (if pc < 2 then
 (if pc < 1 then
 (if pc = 0 then in_ild 1 1 else in_no) else
 (if pc = 1 then in_ald 0 2 else in_no)) else
 (if pc < 5 then
 (if pc = 2 then in_get YM 5 35 5 else in_no) else
 (if pc < 6 then
 (if pc = 5 then in_idv (fun x y => x - x / y * y) 6 else in_no) else
 (if pc = 6 then in_ild 2 7 else in_no)))) else
 (if pc < 12 then
 (if pc < 8 then
 (if pc = 7 then in_push (.int 2) 8 else in_no) else
 (if pc < 11 then
 (if pc = 8 then in_if2 (fun x y => x = y) 11 15 else in_no) else
 (if pc = 11 then in_push (.int 1) 12 else in_no))) else
 (if pc < 15 then
 (if pc = 12 then in_go 25 else in_no) else
 (if pc < 16 then
 (if pc = 15 then in_ild 2 16 else in_no) else
 (if pc = 16 then in_push (.int 4) 17 else in_no))))) else
 (if pc < 26 then
 (if pc < 21 then
 (if pc < 20 then
 (if pc = 17 then in_if2 (fun x y => x = y) 20 24 else in_no) else
 (if pc = 20 then in_push (.int (-1)) 21 else in_no)) else
 (if pc < 24 then
 (if pc = 21 then in_go 25 else in_no) else
 (if pc < 25 then
 (if pc = 24 then in_push (.int 0) 25 else in_no) else
 (if pc = 25 then in_iii (fun x y => x + y) 26 else in_no)))) else
 (if pc < 29 then
 (if pc < 27 then
 (if pc = 26 then in_ist 3 27 else in_no) else
 (if pc < 28 then
 (if pc = 27 then in_ild 1 28 else in_no) else
 (if pc = 28 then in_ald 0 29 else in_no))) else
 (if pc < 32 then
 (if pc = 29 then in_get YM 5 35 32 else in_no) else
 (if pc < 33 then
 (if pc = 32 then in_idv (fun x y => x / y) 33 else in_no) else
 (if pc = 33 then in_ild 2 34 else in_no)))))) else
 (if pc < 53 then
 (if pc < 43 then
 (if pc < 38 then
 (if pc < 35 then
 (if pc = 34 then in_push (.int 3) 35 else in_no) else
 (if pc = 35 then in_if2 (fun x y => x = y) 38 42 else in_no)) else
 (if pc < 39 then
 (if pc = 38 then in_push (.int 1) 39 else in_no) else
 (if pc < 42 then
 (if pc = 39 then in_go 52 else in_no) else
 (if pc = 42 then in_ild 2 43 else in_no)))) else
 (if pc < 48 then
 (if pc < 44 then
 (if pc = 43 then in_push (.int 1) 44 else in_no) else
 (if pc < 47 then
 (if pc = 44 then in_if2 (fun x y => x = y) 47 51 else in_no) else
 (if pc = 47 then in_push (.int (-1)) 48 else in_no))) else
 (if pc < 51 then
 (if pc = 48 then in_go 52 else in_no) else
 (if pc < 52 then
 (if pc = 51 then in_push (.int 0) 52 else in_no) else
 (if pc = 52 then in_iii (fun x y => x + y) 53 else in_no))))) else
 (if pc < 62 then
 (if pc < 57 then
 (if pc < 55 then
 (if pc = 53 then in_ist 4 55 else in_no) else
 (if pc < 56 then
 (if pc = 55 then in_ild 3 56 else in_no) else
 (if pc = 56 then in_il (fun x => x.toInt64) 57 else in_no))) else
 (if pc < 58 then
 (if pc = 57 then in_push (.long 0) 58 else in_no) else
 (if pc < 59 then
 (if pc = 58 then in_ald 0 59 else in_no) else
 (if pc = 59 then in_get YM 5 35 62 else in_no)))) else
 (if pc < 65 then
 (if pc < 63 then
 (if pc = 62 then in_push (.int 1) 63 else in_no) else
 (if pc < 64 then
 (if pc = 63 then in_iii (fun x y => x - y) 64 else in_no) else
 (if pc = 64 then in_il (fun x => x.toInt64) 65 else in_no))) else
 (if pc < 68 then
 (if pc = 65 then in_s3 S_X5_in 68 else in_no) else
 (if pc < 71 then
 (if pc = 68 then in_if1 (fun x => x = 0) 98 71 else in_no) else
 (if pc = 71 then in_ild 4 73 else in_no))))))) else
 (if pc < 112 then
 (if pc < 92 then
 (if pc < 80 then
 (if pc < 75 then
 (if pc < 74 then
 (if pc = 73 then in_il (fun x => x.toInt64) 74 else in_no) else
 (if pc = 74 then in_push (.long 0) 75 else in_no)) else
 (if pc < 76 then
 (if pc = 75 then in_ald 0 76 else in_no) else
 (if pc < 79 then
 (if pc = 76 then in_get YM 5 36 79 else in_no) else
 (if pc = 79 then in_push (.int 1) 80 else in_no)))) else
 (if pc < 85 then
 (if pc < 81 then
 (if pc = 80 then in_iii (fun x y => x - y) 81 else in_no) else
 (if pc < 82 then
 (if pc = 81 then in_il (fun x => x.toInt64) 82 else in_no) else
 (if pc = 82 then in_s3 S_X5_in 85 else in_no))) else
 (if pc < 88 then
 (if pc = 85 then in_if1 (fun x => x = 0) 98 88 else in_no) else
 (if pc < 89 then
 (if pc = 88 then in_ald 0 89 else in_no) else
 (if pc = 89 then in_get YM 5 35 92 else in_no))))) else
 (if pc < 99 then
 (if pc < 96 then
 (if pc < 94 then
 (if pc = 92 then in_ild 4 94 else in_no) else
 (if pc < 95 then
 (if pc = 94 then in_iii (fun x y => x * y) 95 else in_no) else
 (if pc = 95 then in_ild 3 96 else in_no))) else
 (if pc < 97 then
 (if pc = 96 then in_iii (fun x y => x + y) 97 else in_no) else
 (if pc < 98 then
 (if pc = 97 then in_ri else in_no) else
 (if pc = 98 then in_ald 0 99 else in_no)))) else
 (if pc < 106 then
 (if pc < 102 then
 (if pc = 99 then in_get YM 5 2 102 else in_no) else
 (if pc < 105 then
 (if pc = 102 then in_if1 (fun x => x = 0) 105 135 else in_no) else
 (if pc = 105 then in_ald 0 106 else in_no))) else
 (if pc < 109 then
 (if pc = 106 then in_get YM 5 35 109 else in_no) else
 (if pc < 111 then
 (if pc = 109 then in_ild 4 111 else in_no) else
 (if pc = 111 then in_ald 0 112 else in_no)))))) else
 (if pc < 129 then
 (if pc < 121 then
 (if pc < 116 then
 (if pc < 115 then
 (if pc = 112 then in_get YM 5 36 115 else in_no) else
 (if pc = 115 then in_iii (fun x y => x + y) 116 else in_no)) else
 (if pc < 117 then
 (if pc = 116 then in_ald 0 117 else in_no) else
 (if pc < 120 then
 (if pc = 117 then in_get YM 5 36 120 else in_no) else
 (if pc = 120 then in_idv (fun x y => x - x / y * y) 121 else in_no)))) else
 (if pc < 124 then
 (if pc < 122 then
 (if pc = 121 then in_iii (fun x y => x * y) 122 else in_no) else
 (if pc < 123 then
 (if pc = 122 then in_ild 3 123 else in_no) else
 (if pc = 123 then in_ald 0 124 else in_no))) else
 (if pc < 127 then
 (if pc = 124 then in_get YM 5 35 127 else in_no) else
 (if pc < 128 then
 (if pc = 127 then in_iii (fun x y => x + y) 128 else in_no) else
 (if pc = 128 then in_ald 0 129 else in_no))))) else
 (if pc < 139 then
 (if pc < 134 then
 (if pc < 132 then
 (if pc = 129 then in_get YM 5 35 132 else in_no) else
 (if pc < 133 then
 (if pc = 132 then in_idv (fun x y => x - x / y * y) 133 else in_no) else
 (if pc = 133 then in_iii (fun x y => x + y) 134 else in_no))) else
 (if pc < 135 then
 (if pc = 134 then in_ri else in_no) else
 (if pc < 136 then
 (if pc = 135 then in_ald 0 136 else in_no) else
 (if pc = 136 then in_get YM 5 2 139 else in_no)))) else
 (if pc < 144 then
 (if pc < 140 then
 (if pc = 139 then in_push (.int 1) 140 else in_no) else
 (if pc < 143 then
 (if pc = 140 then in_if2 (fun x y => x = y) 143 147 else in_no) else
 (if pc = 143 then in_ild 1 144 else in_no))) else
 (if pc < 147 then
 (if pc = 144 then in_go 148 else in_no) else
 (if pc < 148 then
 (if pc = 147 then in_push (.int (-1)) 148 else in_no) else
 (if pc = 148 then in_ri else in_no))))))))
theorem tk_X5_next {l : Launch} {w : ma_Wd} {NC : Nat} {A : Nat → Prop} {S_X5_in : ma_Cs} (h_X5_in : ma_Sd l w YM NC A yX5_in cX5_in 6 (some .boolean) rm_X5_in S_X5_in) {p : Program} {e : Env} {s : State} {m : MethodId} {args : Array Value} {below : List Frame} {meth : Method} {c : Code} (X : ma_Cx p s m args meth c w YM NC A yX5_next.cls cX5_next 5 (some .int)) : ∀ pc, ma_Ok p l e rm_X5_next s m args below meth c w YM NC A 5 pc (tb_X5_next S_X5_in pc) := fun pc =>
 (mk_lt
 (mk_lt
 (mk_lt
 (mk_lt
 (mk_lt
 (mk_lt
 (mk_eq (mk_iload_n X dX5_next_0 rfl rfl))
 (mk_eq (mk_aload_n X dX5_next_1 rfl rfl)))
 (mk_lt
 (mk_eq (mk_get X (ci := 5) (j := 35) rfl in_X5 (Nat.le_of_ble_eq_true rfl) q782 dX5_next_2 rfl))
 (mk_lt
 (mk_eq (mk_irem X dX5_next_5 rfl))
 (mk_eq (mk_iload_n X dX5_next_6 rfl rfl)))))
 (mk_lt
 (mk_lt
 (mk_eq (mk_iconst X dX5_next_7 rfl rfl))
 (mk_lt
 (mk_eq (mk_icne X dX5_next_8 rfl rfl))
 (mk_eq (mk_iconst X dX5_next_11 rfl rfl))))
 (mk_lt
 (mk_eq (mk_goto X dX5_next_12 rfl))
 (mk_lt
 (mk_eq (mk_iload_n X dX5_next_15 rfl rfl))
 (mk_eq (mk_iconst X dX5_next_16 rfl rfl))))))
 (mk_lt
 (mk_lt
 (mk_lt
 (mk_eq (mk_icne X dX5_next_17 rfl rfl))
 (mk_eq (mk_iconst X dX5_next_20 rfl rfl)))
 (mk_lt
 (mk_eq (mk_goto X dX5_next_21 rfl))
 (mk_lt
 (mk_eq (mk_iconst X dX5_next_24 rfl rfl))
 (mk_eq (mk_iadd X dX5_next_25 rfl)))))
 (mk_lt
 (mk_lt
 (mk_eq (mk_istore_n X dX5_next_26 rfl (Nat.le_of_ble_eq_true rfl) rfl))
 (mk_lt
 (mk_eq (mk_iload_n X dX5_next_27 rfl rfl))
 (mk_eq (mk_aload_n X dX5_next_28 rfl rfl))))
 (mk_lt
 (mk_eq (mk_get X (ci := 5) (j := 35) rfl in_X5 (Nat.le_of_ble_eq_true rfl) q782 dX5_next_29 rfl))
 (mk_lt
 (mk_eq (mk_idiv X dX5_next_32 rfl))
 (mk_eq (mk_iload_n X dX5_next_33 rfl rfl)))))))
 (mk_lt
 (mk_lt
 (mk_lt
 (mk_lt
 (mk_eq (mk_iconst X dX5_next_34 rfl rfl))
 (mk_eq (mk_icne X dX5_next_35 rfl rfl)))
 (mk_lt
 (mk_eq (mk_iconst X dX5_next_38 rfl rfl))
 (mk_lt
 (mk_eq (mk_goto X dX5_next_39 rfl))
 (mk_eq (mk_iload_n X dX5_next_42 rfl rfl)))))
 (mk_lt
 (mk_lt
 (mk_eq (mk_iconst X dX5_next_43 rfl rfl))
 (mk_lt
 (mk_eq (mk_icne X dX5_next_44 rfl rfl))
 (mk_eq (mk_iconst X dX5_next_47 rfl rfl))))
 (mk_lt
 (mk_eq (mk_goto X dX5_next_48 rfl))
 (mk_lt
 (mk_eq (mk_iconst X dX5_next_51 rfl rfl))
 (mk_eq (mk_iadd X dX5_next_52 rfl))))))
 (mk_lt
 (mk_lt
 (mk_lt
 (mk_eq (mk_istore X dX5_next_53 (Nat.le_of_ble_eq_true rfl) rfl))
 (mk_lt
 (mk_eq (mk_iload_n X dX5_next_55 rfl rfl))
 (mk_eq (mk_i2l X dX5_next_56 rfl))))
 (mk_lt
 (mk_eq (mk_lconst X dX5_next_57 rfl rfl))
 (mk_lt
 (mk_eq (mk_aload_n X dX5_next_58 rfl rfl))
 (mk_eq (mk_get X (ci := 5) (j := 35) rfl in_X5 (Nat.le_of_ble_eq_true rfl) q782 dX5_next_59 rfl)))))
 (mk_lt
 (mk_lt
 (mk_eq (mk_iconst X dX5_next_62 rfl rfl))
 (mk_lt
 (mk_eq (mk_isub X dX5_next_63 rfl))
 (mk_eq (mk_i2l X dX5_next_64 rfl))))
 (mk_lt
 (mk_eq (mk_S3 X h_X5_in (lw_S q892 q893 q66 q894) ⟨by decide, by decide, rfl⟩ ⟨(Nat.le_of_ble_eq_true rfl), (Nat.le_of_ble_eq_true rfl)⟩ dX5_next_65 rfl))
 (mk_lt
 (mk_eq (mk_ifeq X dX5_next_68 rfl rfl))
 (mk_eq (mk_iload X dX5_next_71 rfl))))))))
 (mk_lt
 (mk_lt
 (mk_lt
 (mk_lt
 (mk_lt
 (mk_eq (mk_i2l X dX5_next_73 rfl))
 (mk_eq (mk_lconst X dX5_next_74 rfl rfl)))
 (mk_lt
 (mk_eq (mk_aload_n X dX5_next_75 rfl rfl))
 (mk_lt
 (mk_eq (mk_get X (ci := 5) (j := 36) rfl in_X5 (Nat.le_of_ble_eq_true rfl) q783 dX5_next_76 rfl))
 (mk_eq (mk_iconst X dX5_next_79 rfl rfl)))))
 (mk_lt
 (mk_lt
 (mk_eq (mk_isub X dX5_next_80 rfl))
 (mk_lt
 (mk_eq (mk_i2l X dX5_next_81 rfl))
 (mk_eq (mk_S3 X h_X5_in (lw_S q892 q893 q66 q894) ⟨by decide, by decide, rfl⟩ ⟨(Nat.le_of_ble_eq_true rfl), (Nat.le_of_ble_eq_true rfl)⟩ dX5_next_82 rfl))))
 (mk_lt
 (mk_eq (mk_ifeq X dX5_next_85 rfl rfl))
 (mk_lt
 (mk_eq (mk_aload_n X dX5_next_88 rfl rfl))
 (mk_eq (mk_get X (ci := 5) (j := 35) rfl in_X5 (Nat.le_of_ble_eq_true rfl) q782 dX5_next_89 rfl))))))
 (mk_lt
 (mk_lt
 (mk_lt
 (mk_eq (mk_iload X dX5_next_92 rfl))
 (mk_lt
 (mk_eq (mk_imul X dX5_next_94 rfl))
 (mk_eq (mk_iload_n X dX5_next_95 rfl rfl))))
 (mk_lt
 (mk_eq (mk_iadd X dX5_next_96 rfl))
 (mk_lt
 (mk_eq (mk_ri X dX5_next_97))
 (mk_eq (mk_aload_n X dX5_next_98 rfl rfl)))))
 (mk_lt
 (mk_lt
 (mk_eq (mk_get X (ci := 5) (j := 2) rfl in_X5 (Nat.le_of_ble_eq_true rfl) q749 dX5_next_99 rfl))
 (mk_lt
 (mk_eq (mk_ifne X dX5_next_102 rfl rfl))
 (mk_eq (mk_aload_n X dX5_next_105 rfl rfl))))
 (mk_lt
 (mk_eq (mk_get X (ci := 5) (j := 35) rfl in_X5 (Nat.le_of_ble_eq_true rfl) q782 dX5_next_106 rfl))
 (mk_lt
 (mk_eq (mk_iload X dX5_next_109 rfl))
 (mk_eq (mk_aload_n X dX5_next_111 rfl rfl)))))))
 (mk_lt
 (mk_lt
 (mk_lt
 (mk_lt
 (mk_eq (mk_get X (ci := 5) (j := 36) rfl in_X5 (Nat.le_of_ble_eq_true rfl) q783 dX5_next_112 rfl))
 (mk_eq (mk_iadd X dX5_next_115 rfl)))
 (mk_lt
 (mk_eq (mk_aload_n X dX5_next_116 rfl rfl))
 (mk_lt
 (mk_eq (mk_get X (ci := 5) (j := 36) rfl in_X5 (Nat.le_of_ble_eq_true rfl) q783 dX5_next_117 rfl))
 (mk_eq (mk_irem X dX5_next_120 rfl)))))
 (mk_lt
 (mk_lt
 (mk_eq (mk_imul X dX5_next_121 rfl))
 (mk_lt
 (mk_eq (mk_iload_n X dX5_next_122 rfl rfl))
 (mk_eq (mk_aload_n X dX5_next_123 rfl rfl))))
 (mk_lt
 (mk_eq (mk_get X (ci := 5) (j := 35) rfl in_X5 (Nat.le_of_ble_eq_true rfl) q782 dX5_next_124 rfl))
 (mk_lt
 (mk_eq (mk_iadd X dX5_next_127 rfl))
 (mk_eq (mk_aload_n X dX5_next_128 rfl rfl))))))
 (mk_lt
 (mk_lt
 (mk_lt
 (mk_eq (mk_get X (ci := 5) (j := 35) rfl in_X5 (Nat.le_of_ble_eq_true rfl) q782 dX5_next_129 rfl))
 (mk_lt
 (mk_eq (mk_irem X dX5_next_132 rfl))
 (mk_eq (mk_iadd X dX5_next_133 rfl))))
 (mk_lt
 (mk_eq (mk_ri X dX5_next_134))
 (mk_lt
 (mk_eq (mk_aload_n X dX5_next_135 rfl rfl))
 (mk_eq (mk_get X (ci := 5) (j := 2) rfl in_X5 (Nat.le_of_ble_eq_true rfl) q749 dX5_next_136 rfl)))))
 (mk_lt
 (mk_lt
 (mk_eq (mk_iconst X dX5_next_139 rfl rfl))
 (mk_lt
 (mk_eq (mk_icne X dX5_next_140 rfl rfl))
 (mk_eq (mk_iload_n X dX5_next_143 rfl rfl))))
 (mk_lt
 (mk_eq (mk_goto X dX5_next_144 rfl))
 (mk_lt
 (mk_eq (mk_iconst X dX5_next_147 rfl rfl))
 (mk_eq (mk_ri X dX5_next_148)))))))))
theorem sd_X5_next {l : Launch} {w : ma_Wd} {NC : Nat} {A : Nat → Prop} {S_X5_in : ma_Cs} (hw : ma_Wo w YM NC A) (h_X5_in : ma_Sd l w YM NC A yX5_in cX5_in 6 (some .boolean) rm_X5_in S_X5_in) : ma_Sd l w YM NC A yX5_next cX5_next 5 (some .int) rm_X5_next (ma_rn (tb_X5_next S_X5_in) 5) := ma_of hw (by decide) ⟨rfl, rfl⟩ (fun X => tk_X5_next h_X5_in X)
theorem dX5_down_0 : decode cX5_down 0 = .ok (.lload_n 0, 1) := by decide +kernel
theorem dX5_down_1 : decode cX5_down 1 = .ok (.lconst 0, 1) := by decide +kernel
theorem dX5_down_2 : decode cX5_down 2 = .ok (.lcmp, 1) := by decide +kernel
theorem dX5_down_3 : decode cX5_down 3 = .ok (.ifCond .lt 9, 3) := by decide +kernel
theorem dX5_down_6 : decode cX5_down 6 = .ok (.lload_n 0, 1) := by decide +kernel
theorem dX5_down_7 : decode cX5_down 7 = .ok (.lload_n 2, 1) := by decide +kernel
theorem dX5_down_8 : decode cX5_down 8 = .ok (.ldiv, 1) := by decide +kernel
theorem dX5_down_9 : decode cX5_down 9 = .ok (.goto 11, 3) := by decide +kernel
theorem dX5_down_12 : decode cX5_down 12 = .ok (.lload_n 2, 1) := by decide +kernel
theorem dX5_down_13 : decode cX5_down 13 = .ok (.lconst 1, 1) := by decide +kernel
theorem dX5_down_14 : decode cX5_down 14 = .ok (.lsub, 1) := by decide +kernel
theorem dX5_down_15 : decode cX5_down 15 = .ok (.lload_n 0, 1) := by decide +kernel
theorem dX5_down_16 : decode cX5_down 16 = .ok (.lsub, 1) := by decide +kernel
theorem dX5_down_17 : decode cX5_down 17 = .ok (.lload_n 2, 1) := by decide +kernel
theorem dX5_down_18 : decode cX5_down 18 = .ok (.ldiv, 1) := by decide +kernel
theorem dX5_down_19 : decode cX5_down 19 = .ok (.lneg, 1) := by decide +kernel
theorem dX5_down_20 : decode cX5_down 20 = .ok (.l2i, 1) := by decide +kernel
theorem dX5_down_21 : decode cX5_down 21 = .ok (.ireturn, 1) := by decide +kernel
def tb_X5_down : Nat → ma_In := fun pc =>
 (if pc < 13 then
 (if pc < 6 then
 (if pc < 2 then
 (if pc < 1 then
 (if pc = 0 then in_lld 0 1 else in_no) else
 (if pc = 1 then in_push (.long 0) 2 else in_no)) else
 (if pc < 3 then
 (if pc = 2 then in_lli lg_cmp 3 else in_no) else
 (if pc = 3 then in_if1 (fun x => x < 0) 12 6 else in_no))) else
 (if pc < 8 then
 (if pc < 7 then
 (if pc = 6 then in_lld 0 7 else in_no) else
 (if pc = 7 then in_lld 2 8 else in_no)) else
 (if pc < 9 then
 (if pc = 8 then in_ldv (fun x y => x / y) 9 else in_no) else
 (if pc < 12 then
 (if pc = 9 then in_go 20 else in_no) else
 (if pc = 12 then in_lld 2 13 else in_no))))) else
 (if pc < 17 then
 (if pc < 15 then
 (if pc < 14 then
 (if pc = 13 then in_push (.long 1) 14 else in_no) else
 (if pc = 14 then in_lll (fun x y => x - y) 15 else in_no)) else
 (if pc < 16 then
 (if pc = 15 then in_lld 0 16 else in_no) else
 (if pc = 16 then in_lll (fun x y => x - y) 17 else in_no))) else
 (if pc < 19 then
 (if pc < 18 then
 (if pc = 17 then in_lld 2 18 else in_no) else
 (if pc = 18 then in_ldv (fun x y => x / y) 19 else in_no)) else
 (if pc < 20 then
 (if pc = 19 then in_ll (fun x => -x) 20 else in_no) else
 (if pc < 21 then
 (if pc = 20 then in_li (fun x => x.toInt32) 21 else in_no) else
 (if pc = 21 then in_ri else in_no))))))
theorem tk_X5_down {l : Launch} {w : ma_Wd} {NC : Nat} {A : Nat → Prop} {p : Program} {e : Env} {s : State} {m : MethodId} {args : Array Value} {below : List Frame} {meth : Method} {c : Code} (X : ma_Cx p s m args meth c w YM NC A yX5_down.cls cX5_down 4 (some .int)) : ∀ pc, ma_Ok p l e rm_X5_down s m args below meth c w YM NC A 4 pc (tb_X5_down pc) := fun pc =>
 (mk_lt
 (mk_lt
 (mk_lt
 (mk_lt
 (mk_eq (mk_lload_n X dX5_down_0 rfl rfl))
 (mk_eq (mk_lconst X dX5_down_1 rfl rfl)))
 (mk_lt
 (mk_eq (mk_lcmp X dX5_down_2 rfl))
 (mk_eq (mk_iflt X dX5_down_3 rfl rfl))))
 (mk_lt
 (mk_lt
 (mk_eq (mk_lload_n X dX5_down_6 rfl rfl))
 (mk_eq (mk_lload_n X dX5_down_7 rfl rfl)))
 (mk_lt
 (mk_eq (mk_ldiv X dX5_down_8 rfl))
 (mk_lt
 (mk_eq (mk_goto X dX5_down_9 rfl))
 (mk_eq (mk_lload_n X dX5_down_12 rfl rfl))))))
 (mk_lt
 (mk_lt
 (mk_lt
 (mk_eq (mk_lconst X dX5_down_13 rfl rfl))
 (mk_eq (mk_lsub X dX5_down_14 rfl)))
 (mk_lt
 (mk_eq (mk_lload_n X dX5_down_15 rfl rfl))
 (mk_eq (mk_lsub X dX5_down_16 rfl))))
 (mk_lt
 (mk_lt
 (mk_eq (mk_lload_n X dX5_down_17 rfl rfl))
 (mk_eq (mk_ldiv X dX5_down_18 rfl)))
 (mk_lt
 (mk_eq (mk_lneg X dX5_down_19 rfl))
 (mk_lt
 (mk_eq (mk_l2i X dX5_down_20 rfl))
 (mk_eq (mk_ri X dX5_down_21)))))))
theorem sd_X5_down {l : Launch} {w : ma_Wd} {NC : Nat} {A : Nat → Prop} (hw : ma_Wo w YM NC A) : ma_Sd l w YM NC A yX5_down cX5_down 4 (some .int) rm_X5_down (ma_rn (tb_X5_down) 4) := ma_of hw (by decide) ⟨rfl, rfl⟩ (fun X => tk_X5_down  X)
