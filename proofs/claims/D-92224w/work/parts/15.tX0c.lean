/-! tables: X0_layEnds X0_lastOf X0_slowest X0_given X0_known X0_coarse X0_keep X0_back X0_count -/
set_option maxRecDepth 100000
set_option maxHeartbeats 4000000
theorem dX0_layEnds_0 : decode cX0_layEnds 0 = .ok (.aload_n 0, 1) := by decide +kernel
theorem dX0_layEnds_1 : decode cX0_layEnds 1 = .ok (.getfield 67, 3) := by decide +kernel
theorem dX0_layEnds_4 : decode cX0_layEnds 4 = .ok (.aload_n 0, 1) := by decide +kernel
theorem dX0_layEnds_5 : decode cX0_layEnds 5 = .ok (.getfield 38, 3) := by decide +kernel
theorem dX0_layEnds_8 : decode cX0_layEnds 8 = .ok (.putfield 281, 3) := by decide +kernel
theorem dX0_layEnds_11 : decode cX0_layEnds 11 = .ok (.aload_n 0, 1) := by decide +kernel
theorem dX0_layEnds_12 : decode cX0_layEnds 12 = .ok (.getfield 67, 3) := by decide +kernel
theorem dX0_layEnds_15 : decode cX0_layEnds 15 = .ok (.aload_n 0, 1) := by decide +kernel
theorem dX0_layEnds_16 : decode cX0_layEnds 16 = .ok (.getfield 42, 3) := by decide +kernel
theorem dX0_layEnds_19 : decode cX0_layEnds 19 = .ok (.putfield 284, 3) := by decide +kernel
theorem dX0_layEnds_22 : decode cX0_layEnds 22 = .ok (.iconst 0, 1) := by decide +kernel
theorem dX0_layEnds_23 : decode cX0_layEnds 23 = .ok (.istore_n 3, 1) := by decide +kernel
theorem dX0_layEnds_24 : decode cX0_layEnds 24 = .ok (.iload_n 3, 1) := by decide +kernel
theorem dX0_layEnds_25 : decode cX0_layEnds 25 = .ok (.bipush 6, 2) := by decide +kernel
theorem dX0_layEnds_27 : decode cX0_layEnds 27 = .ok (.if_icmp .ge 16, 3) := by decide +kernel
theorem dX0_layEnds_30 : decode cX0_layEnds 30 = .ok (.aload_n 0, 1) := by decide +kernel
theorem dX0_layEnds_31 : decode cX0_layEnds 31 = .ok (.getfield 105, 3) := by decide +kernel
theorem dX0_layEnds_34 : decode cX0_layEnds 34 = .ok (.iload_n 3, 1) := by decide +kernel
theorem dX0_layEnds_35 : decode cX0_layEnds 35 = .ok (.iconst 0, 1) := by decide +kernel
theorem dX0_layEnds_36 : decode cX0_layEnds 36 = .ok (.iastore, 1) := by decide +kernel
theorem dX0_layEnds_37 : decode cX0_layEnds 37 = .ok (.iinc 3 1, 3) := by decide +kernel
theorem dX0_layEnds_40 : decode cX0_layEnds 40 = .ok (.goto (-16), 3) := by decide +kernel
theorem dX0_layEnds_43 : decode cX0_layEnds 43 = .ok (.iconst 0, 1) := by decide +kernel
theorem dX0_layEnds_44 : decode cX0_layEnds 44 = .ok (.istore_n 3, 1) := by decide +kernel
theorem dX0_layEnds_45 : decode cX0_layEnds 45 = .ok (.iload_n 3, 1) := by decide +kernel
theorem dX0_layEnds_46 : decode cX0_layEnds 46 = .ok (.bipush 36, 2) := by decide +kernel
theorem dX0_layEnds_48 : decode cX0_layEnds 48 = .ok (.if_icmp .ge 16, 3) := by decide +kernel
theorem dX0_layEnds_51 : decode cX0_layEnds 51 = .ok (.aload_n 0, 1) := by decide +kernel
theorem dX0_layEnds_52 : decode cX0_layEnds 52 = .ok (.getfield 102, 3) := by decide +kernel
theorem dX0_layEnds_55 : decode cX0_layEnds 55 = .ok (.iload_n 3, 1) := by decide +kernel
theorem dX0_layEnds_56 : decode cX0_layEnds 56 = .ok (.iconst 0, 1) := by decide +kernel
theorem dX0_layEnds_57 : decode cX0_layEnds 57 = .ok (.iastore, 1) := by decide +kernel
theorem dX0_layEnds_58 : decode cX0_layEnds 58 = .ok (.iinc 3 1, 3) := by decide +kernel
theorem dX0_layEnds_61 : decode cX0_layEnds 61 = .ok (.goto (-16), 3) := by decide +kernel
theorem dX0_layEnds_64 : decode cX0_layEnds 64 = .ok (.iconst 1, 1) := by decide +kernel
theorem dX0_layEnds_65 : decode cX0_layEnds 65 = .ok (.istore_n 3, 1) := by decide +kernel
theorem dX0_layEnds_66 : decode cX0_layEnds 66 = .ok (.iload_n 3, 1) := by decide +kernel
theorem dX0_layEnds_67 : decode cX0_layEnds 67 = .ok (.iload_n 2, 1) := by decide +kernel
theorem dX0_layEnds_68 : decode cX0_layEnds 68 = .ok (.if_icmp .gt 168, 3) := by decide +kernel
theorem dX0_layEnds_71 : decode cX0_layEnds 71 = .ok (.iconst 0, 1) := by decide +kernel
theorem dX0_layEnds_72 : decode cX0_layEnds 72 = .ok (.istore 4, 2) := by decide +kernel
theorem dX0_layEnds_74 : decode cX0_layEnds 74 = .ok (.iload 4, 2) := by decide +kernel
theorem dX0_layEnds_76 : decode cX0_layEnds 76 = .ok (.aload_n 0, 1) := by decide +kernel
theorem dX0_layEnds_77 : decode cX0_layEnds 77 = .ok (.invokevirtual 121, 3) := by decide +kernel
theorem dX0_layEnds_80 : decode cX0_layEnds 80 = .ok (.if_icmp .ge 150, 3) := by decide +kernel
theorem dX0_layEnds_83 : decode cX0_layEnds 83 = .ok (.aload_n 0, 1) := by decide +kernel
theorem dX0_layEnds_84 : decode cX0_layEnds 84 = .ok (.getfield 105, 3) := by decide +kernel
theorem dX0_layEnds_87 : decode cX0_layEnds 87 = .ok (.aload_n 1, 1) := by decide +kernel
theorem dX0_layEnds_88 : decode cX0_layEnds 88 = .ok (.iload 4, 2) := by decide +kernel
theorem dX0_layEnds_90 : decode cX0_layEnds 90 = .ok (.iaload, 1) := by decide +kernel
theorem dX0_layEnds_91 : decode cX0_layEnds 91 = .ok (.iaload, 1) := by decide +kernel
theorem dX0_layEnds_92 : decode cX0_layEnds 92 = .ok (.istore 5, 2) := by decide +kernel
theorem dX0_layEnds_94 : decode cX0_layEnds 94 = .ok (.iconst 1, 1) := by decide +kernel
theorem dX0_layEnds_95 : decode cX0_layEnds 95 = .ok (.istore 6, 2) := by decide +kernel
theorem dX0_layEnds_97 : decode cX0_layEnds 97 = .ok (.iload 6, 2) := by decide +kernel
theorem dX0_layEnds_99 : decode cX0_layEnds 99 = .ok (.iconst 4, 1) := by decide +kernel
theorem dX0_layEnds_100 : decode cX0_layEnds 100 = .ok (.if_icmp .gt 79, 3) := by decide +kernel
theorem dX0_layEnds_103 : decode cX0_layEnds 103 = .ok (.aload_n 0, 1) := by decide +kernel
theorem dX0_layEnds_104 : decode cX0_layEnds 104 = .ok (.getfield 67, 3) := by decide +kernel
theorem dX0_layEnds_107 : decode cX0_layEnds 107 = .ok (.iload 4, 2) := by decide +kernel
theorem dX0_layEnds_109 : decode cX0_layEnds 109 = .ok (.iload 6, 2) := by decide +kernel
theorem dX0_layEnds_111 : decode cX0_layEnds 111 = .ok (.invokevirtual 287, 3) := by decide +kernel
theorem dX0_layEnds_114 : decode cX0_layEnds 114 = .ok (.istore 7, 2) := by decide +kernel
theorem dX0_layEnds_116 : decode cX0_layEnds 116 = .ok (.iload 7, 2) := by decide +kernel
theorem dX0_layEnds_118 : decode cX0_layEnds 118 = .ok (.bipush (-4), 2) := by decide +kernel
theorem dX0_layEnds_120 : decode cX0_layEnds 120 = .ok (.if_icmp .eq 53, 3) := by decide +kernel
theorem dX0_layEnds_123 : decode cX0_layEnds 123 = .ok (.iload 5, 2) := by decide +kernel
theorem dX0_layEnds_125 : decode cX0_layEnds 125 = .ok (.iload_n 3, 1) := by decide +kernel
theorem dX0_layEnds_126 : decode cX0_layEnds 126 = .ok (.iconst 1, 1) := by decide +kernel
theorem dX0_layEnds_127 : decode cX0_layEnds 127 = .ok (.if_icmp .ne 7, 3) := by decide +kernel
theorem dX0_layEnds_130 : decode cX0_layEnds 130 = .ok (.iconst 0, 1) := by decide +kernel
theorem dX0_layEnds_131 : decode cX0_layEnds 131 = .ok (.goto 37, 3) := by decide +kernel
theorem dX0_layEnds_134 : decode cX0_layEnds 134 = .ok (.aload_n 0, 1) := by decide +kernel
theorem dX0_layEnds_135 : decode cX0_layEnds 135 = .ok (.getfield 102, 3) := by decide +kernel
theorem dX0_layEnds_138 : decode cX0_layEnds 138 = .ok (.iload_n 3, 1) := by decide +kernel
theorem dX0_layEnds_139 : decode cX0_layEnds 139 = .ok (.iconst 1, 1) := by decide +kernel
theorem dX0_layEnds_140 : decode cX0_layEnds 140 = .ok (.isub, 1) := by decide +kernel
theorem dX0_layEnds_141 : decode cX0_layEnds 141 = .ok (.bipush 36, 2) := by decide +kernel
theorem dX0_layEnds_143 : decode cX0_layEnds 143 = .ok (.imul, 1) := by decide +kernel
theorem dX0_layEnds_144 : decode cX0_layEnds 144 = .ok (.iload 7, 2) := by decide +kernel
theorem dX0_layEnds_146 : decode cX0_layEnds 146 = .ok (.iadd, 1) := by decide +kernel
theorem dX0_layEnds_147 : decode cX0_layEnds 147 = .ok (.iaload, 1) := by decide +kernel
theorem dX0_layEnds_148 : decode cX0_layEnds 148 = .ok (.aload_n 1, 1) := by decide +kernel
theorem dX0_layEnds_149 : decode cX0_layEnds 149 = .ok (.iload 7, 2) := by decide +kernel
theorem dX0_layEnds_151 : decode cX0_layEnds 151 = .ok (.iaload, 1) := by decide +kernel
theorem dX0_layEnds_152 : decode cX0_layEnds 152 = .ok (.aload_n 1, 1) := by decide +kernel
theorem dX0_layEnds_153 : decode cX0_layEnds 153 = .ok (.iload 4, 2) := by decide +kernel
theorem dX0_layEnds_155 : decode cX0_layEnds 155 = .ok (.iaload, 1) := by decide +kernel
theorem dX0_layEnds_156 : decode cX0_layEnds 156 = .ok (.if_icmp .ne 7, 3) := by decide +kernel
theorem dX0_layEnds_159 : decode cX0_layEnds 159 = .ok (.iconst 0, 1) := by decide +kernel
theorem dX0_layEnds_160 : decode cX0_layEnds 160 = .ok (.goto 7, 3) := by decide +kernel
theorem dX0_layEnds_163 : decode cX0_layEnds 163 = .ok (.aload_n 0, 1) := by decide +kernel
theorem dX0_layEnds_164 : decode cX0_layEnds 164 = .ok (.getfield 90, 3) := by decide +kernel
theorem dX0_layEnds_167 : decode cX0_layEnds 167 = .ok (.iadd, 1) := by decide +kernel
theorem dX0_layEnds_168 : decode cX0_layEnds 168 = .ok (.invokestatic 291, 3) := by decide +kernel
theorem dX0_layEnds_171 : decode cX0_layEnds 171 = .ok (.istore 5, 2) := by decide +kernel
theorem dX0_layEnds_173 : decode cX0_layEnds 173 = .ok (.iinc 6 1, 3) := by decide +kernel
theorem dX0_layEnds_176 : decode cX0_layEnds 176 = .ok (.goto (-79), 3) := by decide +kernel
theorem dX0_layEnds_179 : decode cX0_layEnds 179 = .ok (.aload_n 0, 1) := by decide +kernel
theorem dX0_layEnds_180 : decode cX0_layEnds 180 = .ok (.getfield 102, 3) := by decide +kernel
theorem dX0_layEnds_183 : decode cX0_layEnds 183 = .ok (.iload_n 3, 1) := by decide +kernel
theorem dX0_layEnds_184 : decode cX0_layEnds 184 = .ok (.bipush 36, 2) := by decide +kernel
theorem dX0_layEnds_186 : decode cX0_layEnds 186 = .ok (.imul, 1) := by decide +kernel
theorem dX0_layEnds_187 : decode cX0_layEnds 187 = .ok (.iload 4, 2) := by decide +kernel
theorem dX0_layEnds_189 : decode cX0_layEnds 189 = .ok (.iadd, 1) := by decide +kernel
theorem dX0_layEnds_190 : decode cX0_layEnds 190 = .ok (.iload 5, 2) := by decide +kernel
theorem dX0_layEnds_192 : decode cX0_layEnds 192 = .ok (.aload_n 0, 1) := by decide +kernel
theorem dX0_layEnds_193 : decode cX0_layEnds 193 = .ok (.getfield 93, 3) := by decide +kernel
theorem dX0_layEnds_196 : decode cX0_layEnds 196 = .ok (.aload_n 1, 1) := by decide +kernel
theorem dX0_layEnds_197 : decode cX0_layEnds 197 = .ok (.iload 4, 2) := by decide +kernel
theorem dX0_layEnds_199 : decode cX0_layEnds 199 = .ok (.iaload, 1) := by decide +kernel
theorem dX0_layEnds_200 : decode cX0_layEnds 200 = .ok (.iaload, 1) := by decide +kernel
theorem dX0_layEnds_201 : decode cX0_layEnds 201 = .ok (.iadd, 1) := by decide +kernel
theorem dX0_layEnds_202 : decode cX0_layEnds 202 = .ok (.iastore, 1) := by decide +kernel
theorem dX0_layEnds_203 : decode cX0_layEnds 203 = .ok (.aload_n 0, 1) := by decide +kernel
theorem dX0_layEnds_204 : decode cX0_layEnds 204 = .ok (.getfield 105, 3) := by decide +kernel
theorem dX0_layEnds_207 : decode cX0_layEnds 207 = .ok (.aload_n 1, 1) := by decide +kernel
theorem dX0_layEnds_208 : decode cX0_layEnds 208 = .ok (.iload 4, 2) := by decide +kernel
theorem dX0_layEnds_210 : decode cX0_layEnds 210 = .ok (.iaload, 1) := by decide +kernel
theorem dX0_layEnds_211 : decode cX0_layEnds 211 = .ok (.aload_n 0, 1) := by decide +kernel
theorem dX0_layEnds_212 : decode cX0_layEnds 212 = .ok (.getfield 102, 3) := by decide +kernel
theorem dX0_layEnds_215 : decode cX0_layEnds 215 = .ok (.iload_n 3, 1) := by decide +kernel
theorem dX0_layEnds_216 : decode cX0_layEnds 216 = .ok (.bipush 36, 2) := by decide +kernel
theorem dX0_layEnds_218 : decode cX0_layEnds 218 = .ok (.imul, 1) := by decide +kernel
theorem dX0_layEnds_219 : decode cX0_layEnds 219 = .ok (.iload 4, 2) := by decide +kernel
theorem dX0_layEnds_221 : decode cX0_layEnds 221 = .ok (.iadd, 1) := by decide +kernel
theorem dX0_layEnds_222 : decode cX0_layEnds 222 = .ok (.iaload, 1) := by decide +kernel
theorem dX0_layEnds_223 : decode cX0_layEnds 223 = .ok (.iastore, 1) := by decide +kernel
theorem dX0_layEnds_224 : decode cX0_layEnds 224 = .ok (.iinc 4 1, 3) := by decide +kernel
theorem dX0_layEnds_227 : decode cX0_layEnds 227 = .ok (.goto (-153), 3) := by decide +kernel
theorem dX0_layEnds_230 : decode cX0_layEnds 230 = .ok (.iinc 3 1, 3) := by decide +kernel
theorem dX0_layEnds_233 : decode cX0_layEnds 233 = .ok (.goto (-167), 3) := by decide +kernel
theorem dX0_layEnds_236 : decode cX0_layEnds 236 = .ok (.return_, 1) := by decide +kernel
def tb_X0_layEnds (S_X0_cells S_X3_neighbour S_J0_max : ma_Cs) : Nat → ma_In := fun pc =>
 (if pc < 123 then
 (if pc < 61 then
 (if pc < 31 then
 (if pc < 16 then
 (if pc < 8 then
 (if pc < 4 then
 (if pc < 1 then
 (if pc = 0 then in_ald 0 1 else in_no) else
 (if pc = 1 then in_get YX 0 16 4 else in_no)) else
 (if pc < 5 then
 (if pc = 4 then in_ald 0 5 else in_no) else
 (if pc = 5 then in_get YX 0 5 8 else in_no))) else
 (if pc < 12 then
 (if pc < 11 then
 (if pc = 8 then in_put YX 3 0 11 else in_no) else
 (if pc = 11 then in_ald 0 12 else in_no)) else
 (if pc < 15 then
 (if pc = 12 then in_get YX 0 16 15 else in_no) else
 (if pc = 15 then in_ald 0 16 else in_no)))) else
 (if pc < 24 then
 (if pc < 22 then
 (if pc < 19 then
 (if pc = 16 then in_get YX 0 6 19 else in_no) else
 (if pc = 19 then in_put YX 3 1 22 else in_no)) else
 (if pc < 23 then
 (if pc = 22 then in_push (.int 0) 23 else in_no) else
 (if pc = 23 then in_ist 3 24 else in_no))) else
 (if pc < 27 then
 (if pc < 25 then
 (if pc = 24 then in_ild 3 25 else in_no) else
 (if pc = 25 then in_push (.int 6) 27 else in_no)) else
 (if pc < 30 then
 (if pc = 27 then in_if2 (fun x y => y ≤ x) 43 30 else in_no) else
 (if pc = 30 then in_ald 0 31 else in_no))))) else
 (if pc < 45 then
 (if pc < 37 then
 (if pc < 35 then
 (if pc < 34 then
 (if pc = 31 then in_get YX 0 30 34 else in_no) else
 (if pc = 34 then in_ild 3 35 else in_no)) else
 (if pc < 36 then
 (if pc = 35 then in_push (.int 0) 36 else in_no) else
 (if pc = 36 then in_iaw YX 37 else in_no))) else
 (if pc < 43 then
 (if pc < 40 then
 (if pc = 37 then in_inc 3 1 40 else in_no) else
 (if pc = 40 then in_go 24 else in_no)) else
 (if pc < 44 then
 (if pc = 43 then in_push (.int 0) 44 else in_no) else
 (if pc = 44 then in_ist 3 45 else in_no)))) else
 (if pc < 52 then
 (if pc < 48 then
 (if pc < 46 then
 (if pc = 45 then in_ild 3 46 else in_no) else
 (if pc = 46 then in_push (.int 36) 48 else in_no)) else
 (if pc < 51 then
 (if pc = 48 then in_if2 (fun x y => y ≤ x) 64 51 else in_no) else
 (if pc = 51 then in_ald 0 52 else in_no))) else
 (if pc < 56 then
 (if pc < 55 then
 (if pc = 52 then in_get YX 0 29 55 else in_no) else
 (if pc = 55 then in_ild 3 56 else in_no)) else
 (if pc < 57 then
 (if pc = 56 then in_push (.int 0) 57 else in_no) else
 (if pc < 58 then
 (if pc = 57 then in_iaw YX 58 else in_no) else
 (if pc = 58 then in_inc 3 1 61 else in_no))))))) else
 (if pc < 90 then
 (if pc < 74 then
 (if pc < 67 then
 (if pc < 65 then
 (if pc < 64 then
 (if pc = 61 then in_go 45 else in_no) else
 (if pc = 64 then in_push (.int 1) 65 else in_no)) else
 (if pc < 66 then
 (if pc = 65 then in_ist 3 66 else in_no) else
 (if pc = 66 then in_ild 3 67 else in_no))) else
 (if pc < 71 then
 (if pc < 68 then
 (if pc = 67 then in_ild 2 68 else in_no) else
 (if pc = 68 then in_if2 (fun x y => y < x) 236 71 else in_no)) else
 (if pc < 72 then
 (if pc = 71 then in_push (.int 0) 72 else in_no) else
 (if pc = 72 then in_ist 4 74 else in_no)))) else
 (if pc < 83 then
 (if pc < 77 then
 (if pc < 76 then
 (if pc = 74 then in_ild 4 76 else in_no) else
 (if pc = 76 then in_ald 0 77 else in_no)) else
 (if pc < 80 then
 (if pc = 77 then in_v1 YX 0 S_X0_cells 80 else in_no) else
 (if pc = 80 then in_if2 (fun x y => y ≤ x) 230 83 else in_no))) else
 (if pc < 87 then
 (if pc < 84 then
 (if pc = 83 then in_ald 0 84 else in_no) else
 (if pc = 84 then in_get YX 0 30 87 else in_no)) else
 (if pc < 88 then
 (if pc = 87 then in_ald 1 88 else in_no) else
 (if pc = 88 then in_ild 4 90 else in_no))))) else
 (if pc < 103 then
 (if pc < 95 then
 (if pc < 92 then
 (if pc < 91 then
 (if pc = 90 then in_iar YX 91 else in_no) else
 (if pc = 91 then in_iar YX 92 else in_no)) else
 (if pc < 94 then
 (if pc = 92 then in_ist 5 94 else in_no) else
 (if pc = 94 then in_push (.int 1) 95 else in_no))) else
 (if pc < 99 then
 (if pc < 97 then
 (if pc = 95 then in_ist 6 97 else in_no) else
 (if pc = 97 then in_ild 6 99 else in_no)) else
 (if pc < 100 then
 (if pc = 99 then in_push (.int 4) 100 else in_no) else
 (if pc = 100 then in_if2 (fun x y => y < x) 179 103 else in_no)))) else
 (if pc < 111 then
 (if pc < 107 then
 (if pc < 104 then
 (if pc = 103 then in_ald 0 104 else in_no) else
 (if pc = 104 then in_get YX 0 16 107 else in_no)) else
 (if pc < 109 then
 (if pc = 107 then in_ild 4 109 else in_no) else
 (if pc = 109 then in_ild 6 111 else in_no))) else
 (if pc < 116 then
 (if pc < 114 then
 (if pc = 111 then in_v3 YX 3 S_X3_neighbour 114 else in_no) else
 (if pc = 114 then in_ist 7 116 else in_no)) else
 (if pc < 118 then
 (if pc = 116 then in_ild 7 118 else in_no) else
 (if pc < 120 then
 (if pc = 118 then in_push (.int (-4)) 120 else in_no) else
 (if pc = 120 then in_if2 (fun x y => x = y) 173 123 else in_no)))))))) else
 (if pc < 180 then
 (if pc < 148 then
 (if pc < 138 then
 (if pc < 130 then
 (if pc < 126 then
 (if pc < 125 then
 (if pc = 123 then in_ild 5 125 else in_no) else
 (if pc = 125 then in_ild 3 126 else in_no)) else
 (if pc < 127 then
 (if pc = 126 then in_push (.int 1) 127 else in_no) else
 (if pc = 127 then in_if2 (fun x y => x = y) 130 134 else in_no))) else
 (if pc < 134 then
 (if pc < 131 then
 (if pc = 130 then in_push (.int 0) 131 else in_no) else
 (if pc = 131 then in_go 168 else in_no)) else
 (if pc < 135 then
 (if pc = 134 then in_ald 0 135 else in_no) else
 (if pc = 135 then in_get YX 0 29 138 else in_no)))) else
 (if pc < 143 then
 (if pc < 140 then
 (if pc < 139 then
 (if pc = 138 then in_ild 3 139 else in_no) else
 (if pc = 139 then in_push (.int 1) 140 else in_no)) else
 (if pc < 141 then
 (if pc = 140 then in_iii (fun x y => x - y) 141 else in_no) else
 (if pc = 141 then in_push (.int 36) 143 else in_no))) else
 (if pc < 146 then
 (if pc < 144 then
 (if pc = 143 then in_iii (fun x y => x * y) 144 else in_no) else
 (if pc = 144 then in_ild 7 146 else in_no)) else
 (if pc < 147 then
 (if pc = 146 then in_iii (fun x y => x + y) 147 else in_no) else
 (if pc = 147 then in_iar YX 148 else in_no))))) else
 (if pc < 160 then
 (if pc < 153 then
 (if pc < 151 then
 (if pc < 149 then
 (if pc = 148 then in_ald 1 149 else in_no) else
 (if pc = 149 then in_ild 7 151 else in_no)) else
 (if pc < 152 then
 (if pc = 151 then in_iar YX 152 else in_no) else
 (if pc = 152 then in_ald 1 153 else in_no))) else
 (if pc < 156 then
 (if pc < 155 then
 (if pc = 153 then in_ild 4 155 else in_no) else
 (if pc = 155 then in_iar YX 156 else in_no)) else
 (if pc < 159 then
 (if pc = 156 then in_if2 (fun x y => x = y) 159 163 else in_no) else
 (if pc = 159 then in_push (.int 0) 160 else in_no)))) else
 (if pc < 168 then
 (if pc < 164 then
 (if pc < 163 then
 (if pc = 160 then in_go 167 else in_no) else
 (if pc = 163 then in_ald 0 164 else in_no)) else
 (if pc < 167 then
 (if pc = 164 then in_get YX 0 25 167 else in_no) else
 (if pc = 167 then in_iii (fun x y => x + y) 168 else in_no))) else
 (if pc < 173 then
 (if pc < 171 then
 (if pc = 168 then in_s2 S_J0_max 171 else in_no) else
 (if pc = 171 then in_ist 5 173 else in_no)) else
 (if pc < 176 then
 (if pc = 173 then in_inc 6 1 176 else in_no) else
 (if pc < 179 then
 (if pc = 176 then in_go 97 else in_no) else
 (if pc = 179 then in_ald 0 180 else in_no))))))) else
 (if pc < 207 then
 (if pc < 193 then
 (if pc < 187 then
 (if pc < 184 then
 (if pc < 183 then
 (if pc = 180 then in_get YX 0 29 183 else in_no) else
 (if pc = 183 then in_ild 3 184 else in_no)) else
 (if pc < 186 then
 (if pc = 184 then in_push (.int 36) 186 else in_no) else
 (if pc = 186 then in_iii (fun x y => x * y) 187 else in_no))) else
 (if pc < 190 then
 (if pc < 189 then
 (if pc = 187 then in_ild 4 189 else in_no) else
 (if pc = 189 then in_iii (fun x y => x + y) 190 else in_no)) else
 (if pc < 192 then
 (if pc = 190 then in_ild 5 192 else in_no) else
 (if pc = 192 then in_ald 0 193 else in_no)))) else
 (if pc < 200 then
 (if pc < 197 then
 (if pc < 196 then
 (if pc = 193 then in_get YX 0 26 196 else in_no) else
 (if pc = 196 then in_ald 1 197 else in_no)) else
 (if pc < 199 then
 (if pc = 197 then in_ild 4 199 else in_no) else
 (if pc = 199 then in_iar YX 200 else in_no))) else
 (if pc < 202 then
 (if pc < 201 then
 (if pc = 200 then in_iar YX 201 else in_no) else
 (if pc = 201 then in_iii (fun x y => x + y) 202 else in_no)) else
 (if pc < 203 then
 (if pc = 202 then in_iaw YX 203 else in_no) else
 (if pc < 204 then
 (if pc = 203 then in_ald 0 204 else in_no) else
 (if pc = 204 then in_get YX 0 30 207 else in_no)))))) else
 (if pc < 219 then
 (if pc < 212 then
 (if pc < 210 then
 (if pc < 208 then
 (if pc = 207 then in_ald 1 208 else in_no) else
 (if pc = 208 then in_ild 4 210 else in_no)) else
 (if pc < 211 then
 (if pc = 210 then in_iar YX 211 else in_no) else
 (if pc = 211 then in_ald 0 212 else in_no))) else
 (if pc < 216 then
 (if pc < 215 then
 (if pc = 212 then in_get YX 0 29 215 else in_no) else
 (if pc = 215 then in_ild 3 216 else in_no)) else
 (if pc < 218 then
 (if pc = 216 then in_push (.int 36) 218 else in_no) else
 (if pc = 218 then in_iii (fun x y => x * y) 219 else in_no)))) else
 (if pc < 224 then
 (if pc < 222 then
 (if pc < 221 then
 (if pc = 219 then in_ild 4 221 else in_no) else
 (if pc = 221 then in_iii (fun x y => x + y) 222 else in_no)) else
 (if pc < 223 then
 (if pc = 222 then in_iar YX 223 else in_no) else
 (if pc = 223 then in_iaw YX 224 else in_no))) else
 (if pc < 230 then
 (if pc < 227 then
 (if pc = 224 then in_inc 4 1 227 else in_no) else
 (if pc = 227 then in_go 74 else in_no)) else
 (if pc < 233 then
 (if pc = 230 then in_inc 3 1 233 else in_no) else
 (if pc < 236 then
 (if pc = 233 then in_go 66 else in_no) else
 (if pc = 236 then in_rv else in_no)))))))))
theorem tk_X0_layEnds {l : Launch} {w : ma_Wd} {NC : Nat} {A : Nat → Prop} {S_X0_cells S_X3_neighbour S_J0_max : ma_Cs} (h_X0_cells : ma_Sd l w YX NC A yX0_cells cX0_cells 1 (some .int) rm_X0_cells S_X0_cells) (h_X3_neighbour : ma_Sd l w YX NC A yX3_neighbour cX3_neighbour 5 (some .int) rm_X3_neighbour S_X3_neighbour) (h_J0_max : ma_Sd l w YX NC A yJ0_max cJ0_max 2 (some .int) rm_J0_max S_J0_max) {p : Program} {e : Env} {s : State} {m : MethodId} {args : Array Value} {below : List Frame} {meth : Method} {c : Code} (X : ma_Cx p s m args meth c w YX NC A yX0_layEnds.cls cX0_layEnds 8 none) : ∀ pc, ma_Ok p l e rm_X0_layEnds s m args below meth c w YX NC A 8 pc (tb_X0_layEnds S_X0_cells S_X3_neighbour S_J0_max pc) := fun pc =>
 (mk_lt
 (mk_lt
 (mk_lt
 (mk_lt
 (mk_lt
 (mk_lt
 (mk_lt
 (mk_eq (mk_aload_n X dX0_layEnds_0 rfl rfl))
 (mk_eq (mk_get X (ci := 0) (j := 16) rfl in_X0 (Nat.le_of_ble_eq_true rfl) q262 dX0_layEnds_1 rfl)))
 (mk_lt
 (mk_eq (mk_aload_n X dX0_layEnds_4 rfl rfl))
 (mk_eq (mk_get X (ci := 0) (j := 5) rfl in_X0 (Nat.le_of_ble_eq_true rfl) q232 dX0_layEnds_5 rfl))))
 (mk_lt
 (mk_lt
 (mk_eq (mk_putN X (ci := 3) (j := 0) rfl in_X3 tyX3_ok nmX3 (Nat.le_of_ble_eq_true rfl) rfl rfl (List.mem_of_getElem? (i := 4) rfl) dX0_layEnds_8 rfl))
 (mk_eq (mk_aload_n X dX0_layEnds_11 rfl rfl)))
 (mk_lt
 (mk_eq (mk_get X (ci := 0) (j := 16) rfl in_X0 (Nat.le_of_ble_eq_true rfl) q262 dX0_layEnds_12 rfl))
 (mk_eq (mk_aload_n X dX0_layEnds_15 rfl rfl)))))
 (mk_lt
 (mk_lt
 (mk_lt
 (mk_eq (mk_get X (ci := 0) (j := 6) rfl in_X0 (Nat.le_of_ble_eq_true rfl) q234 dX0_layEnds_16 rfl))
 (mk_eq (mk_putN X (ci := 3) (j := 1) rfl in_X3 tyX3_ok nmX3 (Nat.le_of_ble_eq_true rfl) rfl rfl (List.mem_of_getElem? (i := 5) rfl) dX0_layEnds_19 rfl)))
 (mk_lt
 (mk_eq (mk_iconst X dX0_layEnds_22 rfl rfl))
 (mk_eq (mk_istore_n X dX0_layEnds_23 rfl (Nat.le_of_ble_eq_true rfl) rfl))))
 (mk_lt
 (mk_lt
 (mk_eq (mk_iload_n X dX0_layEnds_24 rfl rfl))
 (mk_eq (mk_bipush X dX0_layEnds_25 rfl rfl)))
 (mk_lt
 (mk_eq (mk_icge X dX0_layEnds_27 rfl rfl))
 (mk_eq (mk_aload_n X dX0_layEnds_30 rfl rfl))))))
 (mk_lt
 (mk_lt
 (mk_lt
 (mk_lt
 (mk_eq (mk_get X (ci := 0) (j := 30) rfl in_X0 (Nat.le_of_ble_eq_true rfl) q276 dX0_layEnds_31 rfl))
 (mk_eq (mk_iload_n X dX0_layEnds_34 rfl rfl)))
 (mk_lt
 (mk_eq (mk_iconst X dX0_layEnds_35 rfl rfl))
 (mk_eq (mk_iaw X dX0_layEnds_36 rfl))))
 (mk_lt
 (mk_lt
 (mk_eq (mk_iinc X dX0_layEnds_37 rfl (Nat.le_of_ble_eq_true rfl) rfl))
 (mk_eq (mk_goto X dX0_layEnds_40 rfl)))
 (mk_lt
 (mk_eq (mk_iconst X dX0_layEnds_43 rfl rfl))
 (mk_eq (mk_istore_n X dX0_layEnds_44 rfl (Nat.le_of_ble_eq_true rfl) rfl)))))
 (mk_lt
 (mk_lt
 (mk_lt
 (mk_eq (mk_iload_n X dX0_layEnds_45 rfl rfl))
 (mk_eq (mk_bipush X dX0_layEnds_46 rfl rfl)))
 (mk_lt
 (mk_eq (mk_icge X dX0_layEnds_48 rfl rfl))
 (mk_eq (mk_aload_n X dX0_layEnds_51 rfl rfl))))
 (mk_lt
 (mk_lt
 (mk_eq (mk_get X (ci := 0) (j := 29) rfl in_X0 (Nat.le_of_ble_eq_true rfl) q275 dX0_layEnds_52 rfl))
 (mk_eq (mk_iload_n X dX0_layEnds_55 rfl rfl)))
 (mk_lt
 (mk_eq (mk_iconst X dX0_layEnds_56 rfl rfl))
 (mk_lt
 (mk_eq (mk_iaw X dX0_layEnds_57 rfl))
 (mk_eq (mk_iinc X dX0_layEnds_58 rfl (Nat.le_of_ble_eq_true rfl) rfl))))))))
 (mk_lt
 (mk_lt
 (mk_lt
 (mk_lt
 (mk_lt
 (mk_eq (mk_goto X dX0_layEnds_61 rfl))
 (mk_eq (mk_iconst X dX0_layEnds_64 rfl rfl)))
 (mk_lt
 (mk_eq (mk_istore_n X dX0_layEnds_65 rfl (Nat.le_of_ble_eq_true rfl) rfl))
 (mk_eq (mk_iload_n X dX0_layEnds_66 rfl rfl))))
 (mk_lt
 (mk_lt
 (mk_eq (mk_iload_n X dX0_layEnds_67 rfl rfl))
 (mk_eq (mk_icgt X dX0_layEnds_68 rfl rfl)))
 (mk_lt
 (mk_eq (mk_iconst X dX0_layEnds_71 rfl rfl))
 (mk_eq (mk_istore X dX0_layEnds_72 (Nat.le_of_ble_eq_true rfl) rfl)))))
 (mk_lt
 (mk_lt
 (mk_lt
 (mk_eq (mk_iload X dX0_layEnds_74 rfl))
 (mk_eq (mk_aload_n X dX0_layEnds_76 rfl rfl)))
 (mk_lt
 (mk_eq (mk_V1 X h_X0_cells (ci := 0) rfl (lw_V q358 q360 qs2 q61 q361) ⟨rfl, by decide, by decide, rfl⟩ ⟨(Nat.le_of_ble_eq_true rfl), (Nat.le_of_ble_eq_true rfl)⟩ dX0_layEnds_77 rfl))
 (mk_eq (mk_icge X dX0_layEnds_80 rfl rfl))))
 (mk_lt
 (mk_lt
 (mk_eq (mk_aload_n X dX0_layEnds_83 rfl rfl))
 (mk_eq (mk_get X (ci := 0) (j := 30) rfl in_X0 (Nat.le_of_ble_eq_true rfl) q276 dX0_layEnds_84 rfl)))
 (mk_lt
 (mk_eq (mk_aload_n X dX0_layEnds_87 rfl rfl))
 (mk_eq (mk_iload X dX0_layEnds_88 rfl))))))
 (mk_lt
 (mk_lt
 (mk_lt
 (mk_lt
 (mk_eq (mk_iar X dX0_layEnds_90 rfl))
 (mk_eq (mk_iar X dX0_layEnds_91 rfl)))
 (mk_lt
 (mk_eq (mk_istore X dX0_layEnds_92 (Nat.le_of_ble_eq_true rfl) rfl))
 (mk_eq (mk_iconst X dX0_layEnds_94 rfl rfl))))
 (mk_lt
 (mk_lt
 (mk_eq (mk_istore X dX0_layEnds_95 (Nat.le_of_ble_eq_true rfl) rfl))
 (mk_eq (mk_iload X dX0_layEnds_97 rfl)))
 (mk_lt
 (mk_eq (mk_iconst X dX0_layEnds_99 rfl rfl))
 (mk_eq (mk_icgt X dX0_layEnds_100 rfl rfl)))))
 (mk_lt
 (mk_lt
 (mk_lt
 (mk_eq (mk_aload_n X dX0_layEnds_103 rfl rfl))
 (mk_eq (mk_get X (ci := 0) (j := 16) rfl in_X0 (Nat.le_of_ble_eq_true rfl) q262 dX0_layEnds_104 rfl)))
 (mk_lt
 (mk_eq (mk_iload X dX0_layEnds_107 rfl))
 (mk_eq (mk_iload X dX0_layEnds_109 rfl))))
 (mk_lt
 (mk_lt
 (mk_eq (mk_V3 X h_X3_neighbour (ci := 3) rfl (lw_V q671 q496 q497 q64 q498) ⟨rfl, by decide, by decide, rfl⟩ ⟨(Nat.le_of_ble_eq_true rfl), (Nat.le_of_ble_eq_true rfl)⟩ dX0_layEnds_111 rfl))
 (mk_eq (mk_istore X dX0_layEnds_114 (Nat.le_of_ble_eq_true rfl) rfl)))
 (mk_lt
 (mk_eq (mk_iload X dX0_layEnds_116 rfl))
 (mk_lt
 (mk_eq (mk_bipush X dX0_layEnds_118 rfl rfl))
 (mk_eq (mk_iceq X dX0_layEnds_120 rfl rfl)))))))))
 (mk_lt
 (mk_lt
 (mk_lt
 (mk_lt
 (mk_lt
 (mk_lt
 (mk_eq (mk_iload X dX0_layEnds_123 rfl))
 (mk_eq (mk_iload_n X dX0_layEnds_125 rfl rfl)))
 (mk_lt
 (mk_eq (mk_iconst X dX0_layEnds_126 rfl rfl))
 (mk_eq (mk_icne X dX0_layEnds_127 rfl rfl))))
 (mk_lt
 (mk_lt
 (mk_eq (mk_iconst X dX0_layEnds_130 rfl rfl))
 (mk_eq (mk_goto X dX0_layEnds_131 rfl)))
 (mk_lt
 (mk_eq (mk_aload_n X dX0_layEnds_134 rfl rfl))
 (mk_eq (mk_get X (ci := 0) (j := 29) rfl in_X0 (Nat.le_of_ble_eq_true rfl) q275 dX0_layEnds_135 rfl)))))
 (mk_lt
 (mk_lt
 (mk_lt
 (mk_eq (mk_iload_n X dX0_layEnds_138 rfl rfl))
 (mk_eq (mk_iconst X dX0_layEnds_139 rfl rfl)))
 (mk_lt
 (mk_eq (mk_isub X dX0_layEnds_140 rfl))
 (mk_eq (mk_bipush X dX0_layEnds_141 rfl rfl))))
 (mk_lt
 (mk_lt
 (mk_eq (mk_imul X dX0_layEnds_143 rfl))
 (mk_eq (mk_iload X dX0_layEnds_144 rfl)))
 (mk_lt
 (mk_eq (mk_iadd X dX0_layEnds_146 rfl))
 (mk_eq (mk_iar X dX0_layEnds_147 rfl))))))
 (mk_lt
 (mk_lt
 (mk_lt
 (mk_lt
 (mk_eq (mk_aload_n X dX0_layEnds_148 rfl rfl))
 (mk_eq (mk_iload X dX0_layEnds_149 rfl)))
 (mk_lt
 (mk_eq (mk_iar X dX0_layEnds_151 rfl))
 (mk_eq (mk_aload_n X dX0_layEnds_152 rfl rfl))))
 (mk_lt
 (mk_lt
 (mk_eq (mk_iload X dX0_layEnds_153 rfl))
 (mk_eq (mk_iar X dX0_layEnds_155 rfl)))
 (mk_lt
 (mk_eq (mk_icne X dX0_layEnds_156 rfl rfl))
 (mk_eq (mk_iconst X dX0_layEnds_159 rfl rfl)))))
 (mk_lt
 (mk_lt
 (mk_lt
 (mk_eq (mk_goto X dX0_layEnds_160 rfl))
 (mk_eq (mk_aload_n X dX0_layEnds_163 rfl rfl)))
 (mk_lt
 (mk_eq (mk_get X (ci := 0) (j := 25) rfl in_X0 (Nat.le_of_ble_eq_true rfl) q271 dX0_layEnds_164 rfl))
 (mk_eq (mk_iadd X dX0_layEnds_167 rfl))))
 (mk_lt
 (mk_lt
 (mk_eq (mk_S2 X h_J0_max (lw_S q672 q673 q67 q674) ⟨by decide, by decide, rfl⟩ ⟨(Nat.le_of_ble_eq_true rfl), (Nat.le_of_ble_eq_true rfl)⟩ dX0_layEnds_168 rfl))
 (mk_eq (mk_istore X dX0_layEnds_171 (Nat.le_of_ble_eq_true rfl) rfl)))
 (mk_lt
 (mk_eq (mk_iinc X dX0_layEnds_173 rfl (Nat.le_of_ble_eq_true rfl) rfl))
 (mk_lt
 (mk_eq (mk_goto X dX0_layEnds_176 rfl))
 (mk_eq (mk_aload_n X dX0_layEnds_179 rfl rfl))))))))
 (mk_lt
 (mk_lt
 (mk_lt
 (mk_lt
 (mk_lt
 (mk_eq (mk_get X (ci := 0) (j := 29) rfl in_X0 (Nat.le_of_ble_eq_true rfl) q275 dX0_layEnds_180 rfl))
 (mk_eq (mk_iload_n X dX0_layEnds_183 rfl rfl)))
 (mk_lt
 (mk_eq (mk_bipush X dX0_layEnds_184 rfl rfl))
 (mk_eq (mk_imul X dX0_layEnds_186 rfl))))
 (mk_lt
 (mk_lt
 (mk_eq (mk_iload X dX0_layEnds_187 rfl))
 (mk_eq (mk_iadd X dX0_layEnds_189 rfl)))
 (mk_lt
 (mk_eq (mk_iload X dX0_layEnds_190 rfl))
 (mk_eq (mk_aload_n X dX0_layEnds_192 rfl rfl)))))
 (mk_lt
 (mk_lt
 (mk_lt
 (mk_eq (mk_get X (ci := 0) (j := 26) rfl in_X0 (Nat.le_of_ble_eq_true rfl) q272 dX0_layEnds_193 rfl))
 (mk_eq (mk_aload_n X dX0_layEnds_196 rfl rfl)))
 (mk_lt
 (mk_eq (mk_iload X dX0_layEnds_197 rfl))
 (mk_eq (mk_iar X dX0_layEnds_199 rfl))))
 (mk_lt
 (mk_lt
 (mk_eq (mk_iar X dX0_layEnds_200 rfl))
 (mk_eq (mk_iadd X dX0_layEnds_201 rfl)))
 (mk_lt
 (mk_eq (mk_iaw X dX0_layEnds_202 rfl))
 (mk_lt
 (mk_eq (mk_aload_n X dX0_layEnds_203 rfl rfl))
 (mk_eq (mk_get X (ci := 0) (j := 30) rfl in_X0 (Nat.le_of_ble_eq_true rfl) q276 dX0_layEnds_204 rfl)))))))
 (mk_lt
 (mk_lt
 (mk_lt
 (mk_lt
 (mk_eq (mk_aload_n X dX0_layEnds_207 rfl rfl))
 (mk_eq (mk_iload X dX0_layEnds_208 rfl)))
 (mk_lt
 (mk_eq (mk_iar X dX0_layEnds_210 rfl))
 (mk_eq (mk_aload_n X dX0_layEnds_211 rfl rfl))))
 (mk_lt
 (mk_lt
 (mk_eq (mk_get X (ci := 0) (j := 29) rfl in_X0 (Nat.le_of_ble_eq_true rfl) q275 dX0_layEnds_212 rfl))
 (mk_eq (mk_iload_n X dX0_layEnds_215 rfl rfl)))
 (mk_lt
 (mk_eq (mk_bipush X dX0_layEnds_216 rfl rfl))
 (mk_eq (mk_imul X dX0_layEnds_218 rfl)))))
 (mk_lt
 (mk_lt
 (mk_lt
 (mk_eq (mk_iload X dX0_layEnds_219 rfl))
 (mk_eq (mk_iadd X dX0_layEnds_221 rfl)))
 (mk_lt
 (mk_eq (mk_iar X dX0_layEnds_222 rfl))
 (mk_eq (mk_iaw X dX0_layEnds_223 rfl))))
 (mk_lt
 (mk_lt
 (mk_eq (mk_iinc X dX0_layEnds_224 rfl (Nat.le_of_ble_eq_true rfl) rfl))
 (mk_eq (mk_goto X dX0_layEnds_227 rfl)))
 (mk_lt
 (mk_eq (mk_iinc X dX0_layEnds_230 rfl (Nat.le_of_ble_eq_true rfl) rfl))
 (mk_lt
 (mk_eq (mk_goto X dX0_layEnds_233 rfl))
 (mk_eq (mk_rv X dX0_layEnds_236))))))))))
theorem sd_X0_layEnds {l : Launch} {w : ma_Wd} {NC : Nat} {A : Nat → Prop} {S_X0_cells S_X3_neighbour S_J0_max : ma_Cs} (hw : ma_Wo w YX NC A) (h_X0_cells : ma_Sd l w YX NC A yX0_cells cX0_cells 1 (some .int) rm_X0_cells S_X0_cells) (h_X3_neighbour : ma_Sd l w YX NC A yX3_neighbour cX3_neighbour 5 (some .int) rm_X3_neighbour S_X3_neighbour) (h_J0_max : ma_Sd l w YX NC A yJ0_max cJ0_max 2 (some .int) rm_J0_max S_J0_max) : ma_Sd l w YX NC A yX0_layEnds cX0_layEnds 8 none rm_X0_layEnds (ma_rn (tb_X0_layEnds S_X0_cells S_X3_neighbour S_J0_max) 8) := ma_of hw (by decide) ⟨rfl, rfl⟩ (fun X => tk_X0_layEnds h_X0_cells h_X3_neighbour h_J0_max X)
theorem dX0_lastOf_0 : decode cX0_lastOf 0 = .ok (.iconst 0, 1) := by decide +kernel
theorem dX0_lastOf_1 : decode cX0_lastOf 1 = .ok (.istore_n 2, 1) := by decide +kernel
theorem dX0_lastOf_2 : decode cX0_lastOf 2 = .ok (.iconst 1, 1) := by decide +kernel
theorem dX0_lastOf_3 : decode cX0_lastOf 3 = .ok (.istore_n 3, 1) := by decide +kernel
theorem dX0_lastOf_4 : decode cX0_lastOf 4 = .ok (.iload_n 3, 1) := by decide +kernel
theorem dX0_lastOf_5 : decode cX0_lastOf 5 = .ok (.aload_n 0, 1) := by decide +kernel
theorem dX0_lastOf_6 : decode cX0_lastOf 6 = .ok (.invokevirtual 121, 3) := by decide +kernel
theorem dX0_lastOf_9 : decode cX0_lastOf 9 = .ok (.if_icmp .ge 40, 3) := by decide +kernel
theorem dX0_lastOf_12 : decode cX0_lastOf 12 = .ok (.aload_n 0, 1) := by decide +kernel
theorem dX0_lastOf_13 : decode cX0_lastOf 13 = .ok (.getfield 102, 3) := by decide +kernel
theorem dX0_lastOf_16 : decode cX0_lastOf 16 = .ok (.iload_n 1, 1) := by decide +kernel
theorem dX0_lastOf_17 : decode cX0_lastOf 17 = .ok (.bipush 36, 2) := by decide +kernel
theorem dX0_lastOf_19 : decode cX0_lastOf 19 = .ok (.imul, 1) := by decide +kernel
theorem dX0_lastOf_20 : decode cX0_lastOf 20 = .ok (.iload_n 3, 1) := by decide +kernel
theorem dX0_lastOf_21 : decode cX0_lastOf 21 = .ok (.iadd, 1) := by decide +kernel
theorem dX0_lastOf_22 : decode cX0_lastOf 22 = .ok (.iaload, 1) := by decide +kernel
theorem dX0_lastOf_23 : decode cX0_lastOf 23 = .ok (.aload_n 0, 1) := by decide +kernel
theorem dX0_lastOf_24 : decode cX0_lastOf 24 = .ok (.getfield 102, 3) := by decide +kernel
theorem dX0_lastOf_27 : decode cX0_lastOf 27 = .ok (.iload_n 1, 1) := by decide +kernel
theorem dX0_lastOf_28 : decode cX0_lastOf 28 = .ok (.bipush 36, 2) := by decide +kernel
theorem dX0_lastOf_30 : decode cX0_lastOf 30 = .ok (.imul, 1) := by decide +kernel
theorem dX0_lastOf_31 : decode cX0_lastOf 31 = .ok (.iload_n 2, 1) := by decide +kernel
theorem dX0_lastOf_32 : decode cX0_lastOf 32 = .ok (.iadd, 1) := by decide +kernel
theorem dX0_lastOf_33 : decode cX0_lastOf 33 = .ok (.iaload, 1) := by decide +kernel
theorem dX0_lastOf_34 : decode cX0_lastOf 34 = .ok (.if_icmp .le 7, 3) := by decide +kernel
theorem dX0_lastOf_37 : decode cX0_lastOf 37 = .ok (.iload_n 3, 1) := by decide +kernel
theorem dX0_lastOf_38 : decode cX0_lastOf 38 = .ok (.goto 4, 3) := by decide +kernel
theorem dX0_lastOf_41 : decode cX0_lastOf 41 = .ok (.iload_n 2, 1) := by decide +kernel
theorem dX0_lastOf_42 : decode cX0_lastOf 42 = .ok (.istore_n 2, 1) := by decide +kernel
theorem dX0_lastOf_43 : decode cX0_lastOf 43 = .ok (.iinc 3 1, 3) := by decide +kernel
theorem dX0_lastOf_46 : decode cX0_lastOf 46 = .ok (.goto (-42), 3) := by decide +kernel
theorem dX0_lastOf_49 : decode cX0_lastOf 49 = .ok (.iload_n 2, 1) := by decide +kernel
theorem dX0_lastOf_50 : decode cX0_lastOf 50 = .ok (.ireturn, 1) := by decide +kernel
def tb_X0_lastOf (S_X0_cells : ma_Cs) : Nat → ma_In := fun pc =>
 (if pc < 23 then
 (if pc < 12 then
 (if pc < 4 then
 (if pc < 2 then
 (if pc < 1 then
 (if pc = 0 then in_push (.int 0) 1 else in_no) else
 (if pc = 1 then in_ist 2 2 else in_no)) else
 (if pc < 3 then
 (if pc = 2 then in_push (.int 1) 3 else in_no) else
 (if pc = 3 then in_ist 3 4 else in_no))) else
 (if pc < 6 then
 (if pc < 5 then
 (if pc = 4 then in_ild 3 5 else in_no) else
 (if pc = 5 then in_ald 0 6 else in_no)) else
 (if pc < 9 then
 (if pc = 6 then in_v1 YX 0 S_X0_cells 9 else in_no) else
 (if pc = 9 then in_if2 (fun x y => y ≤ x) 49 12 else in_no)))) else
 (if pc < 19 then
 (if pc < 16 then
 (if pc < 13 then
 (if pc = 12 then in_ald 0 13 else in_no) else
 (if pc = 13 then in_get YX 0 29 16 else in_no)) else
 (if pc < 17 then
 (if pc = 16 then in_ild 1 17 else in_no) else
 (if pc = 17 then in_push (.int 36) 19 else in_no))) else
 (if pc < 21 then
 (if pc < 20 then
 (if pc = 19 then in_iii (fun x y => x * y) 20 else in_no) else
 (if pc = 20 then in_ild 3 21 else in_no)) else
 (if pc < 22 then
 (if pc = 21 then in_iii (fun x y => x + y) 22 else in_no) else
 (if pc = 22 then in_iar YX 23 else in_no))))) else
 (if pc < 34 then
 (if pc < 30 then
 (if pc < 27 then
 (if pc < 24 then
 (if pc = 23 then in_ald 0 24 else in_no) else
 (if pc = 24 then in_get YX 0 29 27 else in_no)) else
 (if pc < 28 then
 (if pc = 27 then in_ild 1 28 else in_no) else
 (if pc = 28 then in_push (.int 36) 30 else in_no))) else
 (if pc < 32 then
 (if pc < 31 then
 (if pc = 30 then in_iii (fun x y => x * y) 31 else in_no) else
 (if pc = 31 then in_ild 2 32 else in_no)) else
 (if pc < 33 then
 (if pc = 32 then in_iii (fun x y => x + y) 33 else in_no) else
 (if pc = 33 then in_iar YX 34 else in_no)))) else
 (if pc < 42 then
 (if pc < 38 then
 (if pc < 37 then
 (if pc = 34 then in_if2 (fun x y => x ≤ y) 41 37 else in_no) else
 (if pc = 37 then in_ild 3 38 else in_no)) else
 (if pc < 41 then
 (if pc = 38 then in_go 42 else in_no) else
 (if pc = 41 then in_ild 2 42 else in_no))) else
 (if pc < 46 then
 (if pc < 43 then
 (if pc = 42 then in_ist 2 43 else in_no) else
 (if pc = 43 then in_inc 3 1 46 else in_no)) else
 (if pc < 49 then
 (if pc = 46 then in_go 4 else in_no) else
 (if pc < 50 then
 (if pc = 49 then in_ild 2 50 else in_no) else
 (if pc = 50 then in_ri else in_no)))))))
theorem tk_X0_lastOf {l : Launch} {w : ma_Wd} {NC : Nat} {A : Nat → Prop} {S_X0_cells : ma_Cs} (h_X0_cells : ma_Sd l w YX NC A yX0_cells cX0_cells 1 (some .int) rm_X0_cells S_X0_cells) {p : Program} {e : Env} {s : State} {m : MethodId} {args : Array Value} {below : List Frame} {meth : Method} {c : Code} (X : ma_Cx p s m args meth c w YX NC A yX0_lastOf.cls cX0_lastOf 4 (some .int)) : ∀ pc, ma_Ok p l e rm_X0_lastOf s m args below meth c w YX NC A 4 pc (tb_X0_lastOf S_X0_cells pc) := fun pc =>
 (mk_lt
 (mk_lt
 (mk_lt
 (mk_lt
 (mk_lt
 (mk_eq (mk_iconst X dX0_lastOf_0 rfl rfl))
 (mk_eq (mk_istore_n X dX0_lastOf_1 rfl (Nat.le_of_ble_eq_true rfl) rfl)))
 (mk_lt
 (mk_eq (mk_iconst X dX0_lastOf_2 rfl rfl))
 (mk_eq (mk_istore_n X dX0_lastOf_3 rfl (Nat.le_of_ble_eq_true rfl) rfl))))
 (mk_lt
 (mk_lt
 (mk_eq (mk_iload_n X dX0_lastOf_4 rfl rfl))
 (mk_eq (mk_aload_n X dX0_lastOf_5 rfl rfl)))
 (mk_lt
 (mk_eq (mk_V1 X h_X0_cells (ci := 0) rfl (lw_V q358 q360 qs2 q61 q361) ⟨rfl, by decide, by decide, rfl⟩ ⟨(Nat.le_of_ble_eq_true rfl), (Nat.le_of_ble_eq_true rfl)⟩ dX0_lastOf_6 rfl))
 (mk_eq (mk_icge X dX0_lastOf_9 rfl rfl)))))
 (mk_lt
 (mk_lt
 (mk_lt
 (mk_eq (mk_aload_n X dX0_lastOf_12 rfl rfl))
 (mk_eq (mk_get X (ci := 0) (j := 29) rfl in_X0 (Nat.le_of_ble_eq_true rfl) q275 dX0_lastOf_13 rfl)))
 (mk_lt
 (mk_eq (mk_iload_n X dX0_lastOf_16 rfl rfl))
 (mk_eq (mk_bipush X dX0_lastOf_17 rfl rfl))))
 (mk_lt
 (mk_lt
 (mk_eq (mk_imul X dX0_lastOf_19 rfl))
 (mk_eq (mk_iload_n X dX0_lastOf_20 rfl rfl)))
 (mk_lt
 (mk_eq (mk_iadd X dX0_lastOf_21 rfl))
 (mk_eq (mk_iar X dX0_lastOf_22 rfl))))))
 (mk_lt
 (mk_lt
 (mk_lt
 (mk_lt
 (mk_eq (mk_aload_n X dX0_lastOf_23 rfl rfl))
 (mk_eq (mk_get X (ci := 0) (j := 29) rfl in_X0 (Nat.le_of_ble_eq_true rfl) q275 dX0_lastOf_24 rfl)))
 (mk_lt
 (mk_eq (mk_iload_n X dX0_lastOf_27 rfl rfl))
 (mk_eq (mk_bipush X dX0_lastOf_28 rfl rfl))))
 (mk_lt
 (mk_lt
 (mk_eq (mk_imul X dX0_lastOf_30 rfl))
 (mk_eq (mk_iload_n X dX0_lastOf_31 rfl rfl)))
 (mk_lt
 (mk_eq (mk_iadd X dX0_lastOf_32 rfl))
 (mk_eq (mk_iar X dX0_lastOf_33 rfl)))))
 (mk_lt
 (mk_lt
 (mk_lt
 (mk_eq (mk_icle X dX0_lastOf_34 rfl rfl))
 (mk_eq (mk_iload_n X dX0_lastOf_37 rfl rfl)))
 (mk_lt
 (mk_eq (mk_goto X dX0_lastOf_38 rfl))
 (mk_eq (mk_iload_n X dX0_lastOf_41 rfl rfl))))
 (mk_lt
 (mk_lt
 (mk_eq (mk_istore_n X dX0_lastOf_42 rfl (Nat.le_of_ble_eq_true rfl) rfl))
 (mk_eq (mk_iinc X dX0_lastOf_43 rfl (Nat.le_of_ble_eq_true rfl) rfl)))
 (mk_lt
 (mk_eq (mk_goto X dX0_lastOf_46 rfl))
 (mk_lt
 (mk_eq (mk_iload_n X dX0_lastOf_49 rfl rfl))
 (mk_eq (mk_ri X dX0_lastOf_50))))))))
theorem sd_X0_lastOf {l : Launch} {w : ma_Wd} {NC : Nat} {A : Nat → Prop} {S_X0_cells : ma_Cs} (hw : ma_Wo w YX NC A) (h_X0_cells : ma_Sd l w YX NC A yX0_cells cX0_cells 1 (some .int) rm_X0_cells S_X0_cells) : ma_Sd l w YX NC A yX0_lastOf cX0_lastOf 4 (some .int) rm_X0_lastOf (ma_rn (tb_X0_lastOf S_X0_cells) 4) := ma_of hw (by decide) ⟨rfl, rfl⟩ (fun X => tk_X0_lastOf h_X0_cells X)
theorem dX0_slowest_0 : decode cX0_slowest 0 = .ok (.iload_n 1, 1) := by decide +kernel
theorem dX0_slowest_1 : decode cX0_slowest 1 = .ok (.i2l, 1) := by decide +kernel
theorem dX0_slowest_2 : decode cX0_slowest 2 = .ok (.lconst 1, 1) := by decide +kernel
theorem dX0_slowest_3 : decode cX0_slowest 3 = .ok (.ldc2_w 125, 3) := by decide +kernel
theorem dX0_slowest_6 : decode cX0_slowest 6 = .ok (.invokestatic 5, 3) := by decide +kernel
theorem dX0_slowest_9 : decode cX0_slowest 9 = .ok (.ifCond .ne 5, 3) := by decide +kernel
theorem dX0_slowest_12 : decode cX0_slowest 12 = .ok (.iconst (-1), 1) := by decide +kernel
theorem dX0_slowest_13 : decode cX0_slowest 13 = .ok (.ireturn, 1) := by decide +kernel
theorem dX0_slowest_14 : decode cX0_slowest 14 = .ok (.aload_n 0, 1) := by decide +kernel
theorem dX0_slowest_15 : decode cX0_slowest 15 = .ok (.aload_n 0, 1) := by decide +kernel
theorem dX0_slowest_16 : decode cX0_slowest 16 = .ok (.getfield 96, 3) := by decide +kernel
theorem dX0_slowest_19 : decode cX0_slowest 19 = .ok (.iload_n 1, 1) := by decide +kernel
theorem dX0_slowest_20 : decode cX0_slowest 20 = .ok (.invokevirtual 296, 3) := by decide +kernel
theorem dX0_slowest_23 : decode cX0_slowest 23 = .ok (.aload_n 0, 1) := by decide +kernel
theorem dX0_slowest_24 : decode cX0_slowest 24 = .ok (.iload_n 1, 1) := by decide +kernel
theorem dX0_slowest_25 : decode cX0_slowest 25 = .ok (.invokevirtual 300, 3) := by decide +kernel
theorem dX0_slowest_28 : decode cX0_slowest 28 = .ok (.ireturn, 1) := by decide +kernel
def tb_X0_slowest (S_X0_isIn S_X0_layEnds S_X0_lastOf : ma_Cs) : Nat → ma_In := fun pc =>
 (if pc < 14 then
 (if pc < 6 then
 (if pc < 2 then
 (if pc < 1 then
 (if pc = 0 then in_ild 1 1 else in_no) else
 (if pc = 1 then in_il (fun x => x.toInt64) 2 else in_no)) else
 (if pc < 3 then
 (if pc = 2 then in_push (.long 1) 3 else in_no) else
 (if pc = 3 then in_push (.long 12) 6 else in_no))) else
 (if pc < 12 then
 (if pc < 9 then
 (if pc = 6 then in_s3 S_X0_isIn 9 else in_no) else
 (if pc = 9 then in_if1 (fun x => x = 0) 12 14 else in_no)) else
 (if pc < 13 then
 (if pc = 12 then in_push (.int (-1)) 13 else in_no) else
 (if pc = 13 then in_ri else in_no)))) else
 (if pc < 20 then
 (if pc < 16 then
 (if pc < 15 then
 (if pc = 14 then in_ald 0 15 else in_no) else
 (if pc = 15 then in_ald 0 16 else in_no)) else
 (if pc < 19 then
 (if pc = 16 then in_get YX 0 27 19 else in_no) else
 (if pc = 19 then in_ild 1 20 else in_no))) else
 (if pc < 24 then
 (if pc < 23 then
 (if pc = 20 then in_v3 YX 0 S_X0_layEnds 23 else in_no) else
 (if pc = 23 then in_ald 0 24 else in_no)) else
 (if pc < 25 then
 (if pc = 24 then in_ild 1 25 else in_no) else
 (if pc < 28 then
 (if pc = 25 then in_v2 YX 0 S_X0_lastOf 28 else in_no) else
 (if pc = 28 then in_ri else in_no))))))
theorem tk_X0_slowest {l : Launch} {w : ma_Wd} {NC : Nat} {A : Nat → Prop} {S_X0_isIn S_X0_layEnds S_X0_lastOf : ma_Cs} (h_X0_isIn : ma_Sd l w YX NC A yX0_isIn cX0_isIn 6 (some .boolean) rm_X0_isIn S_X0_isIn) (h_X0_layEnds : ma_Sd l w YX NC A yX0_layEnds cX0_layEnds 8 none rm_X0_layEnds S_X0_layEnds) (h_X0_lastOf : ma_Sd l w YX NC A yX0_lastOf cX0_lastOf 4 (some .int) rm_X0_lastOf S_X0_lastOf) {p : Program} {e : Env} {s : State} {m : MethodId} {args : Array Value} {below : List Frame} {meth : Method} {c : Code} (X : ma_Cx p s m args meth c w YX NC A yX0_slowest.cls cX0_slowest 2 (some .int)) : ∀ pc, ma_Ok p l e rm_X0_slowest s m args below meth c w YX NC A 2 pc (tb_X0_slowest S_X0_isIn S_X0_layEnds S_X0_lastOf pc) := fun pc =>
 (mk_lt
 (mk_lt
 (mk_lt
 (mk_lt
 (mk_eq (mk_iload_n X dX0_slowest_0 rfl rfl))
 (mk_eq (mk_i2l X dX0_slowest_1 rfl)))
 (mk_lt
 (mk_eq (mk_lconst X dX0_slowest_2 rfl rfl))
 (mk_eq (mk_ldc2 X dX0_slowest_3 q479 rfl))))
 (mk_lt
 (mk_lt
 (mk_eq (mk_S3 X h_X0_isIn (lw_S q355 q356 q61 q357) ⟨by decide, by decide, rfl⟩ ⟨(Nat.le_of_ble_eq_true rfl), (Nat.le_of_ble_eq_true rfl)⟩ dX0_slowest_6 rfl))
 (mk_eq (mk_ifne X dX0_slowest_9 rfl rfl)))
 (mk_lt
 (mk_eq (mk_iconst X dX0_slowest_12 rfl rfl))
 (mk_eq (mk_ri X dX0_slowest_13)))))
 (mk_lt
 (mk_lt
 (mk_lt
 (mk_eq (mk_aload_n X dX0_slowest_14 rfl rfl))
 (mk_eq (mk_aload_n X dX0_slowest_15 rfl rfl)))
 (mk_lt
 (mk_eq (mk_get X (ci := 0) (j := 27) rfl in_X0 (Nat.le_of_ble_eq_true rfl) q273 dX0_slowest_16 rfl))
 (mk_eq (mk_iload_n X dX0_slowest_19 rfl rfl))))
 (mk_lt
 (mk_lt
 (mk_eq (mk_V3 X h_X0_layEnds (ci := 0) rfl (lw_V q667 q669 qs25 q61 q670) ⟨rfl, by decide, by decide, rfl⟩ ⟨(Nat.le_of_ble_eq_true rfl), (Nat.le_of_ble_eq_true rfl)⟩ dX0_slowest_20 rfl))
 (mk_eq (mk_aload_n X dX0_slowest_23 rfl rfl)))
 (mk_lt
 (mk_eq (mk_iload_n X dX0_slowest_24 rfl rfl))
 (mk_lt
 (mk_eq (mk_V2 X h_X0_lastOf (ci := 0) rfl (lw_V q675 q677 qs26 q61 q678) ⟨rfl, by decide, by decide, rfl⟩ ⟨(Nat.le_of_ble_eq_true rfl), (Nat.le_of_ble_eq_true rfl)⟩ dX0_slowest_25 rfl))
 (mk_eq (mk_ri X dX0_slowest_28)))))))
theorem sd_X0_slowest {l : Launch} {w : ma_Wd} {NC : Nat} {A : Nat → Prop} {S_X0_isIn S_X0_layEnds S_X0_lastOf : ma_Cs} (hw : ma_Wo w YX NC A) (h_X0_isIn : ma_Sd l w YX NC A yX0_isIn cX0_isIn 6 (some .boolean) rm_X0_isIn S_X0_isIn) (h_X0_layEnds : ma_Sd l w YX NC A yX0_layEnds cX0_layEnds 8 none rm_X0_layEnds S_X0_layEnds) (h_X0_lastOf : ma_Sd l w YX NC A yX0_lastOf cX0_lastOf 4 (some .int) rm_X0_lastOf S_X0_lastOf) : ma_Sd l w YX NC A yX0_slowest cX0_slowest 2 (some .int) rm_X0_slowest (ma_rn (tb_X0_slowest S_X0_isIn S_X0_layEnds S_X0_lastOf) 2) := ma_of hw (by decide) ⟨rfl, rfl⟩ (fun X => tk_X0_slowest h_X0_isIn h_X0_layEnds h_X0_lastOf X)
theorem dX0_given_0 : decode cX0_given 0 = .ok (.iload_n 1, 1) := by decide +kernel
theorem dX0_given_1 : decode cX0_given 1 = .ok (.i2l, 1) := by decide +kernel
theorem dX0_given_2 : decode cX0_given 2 = .ok (.lconst 1, 1) := by decide +kernel
theorem dX0_given_3 : decode cX0_given 3 = .ok (.ldc2_w 3, 3) := by decide +kernel
theorem dX0_given_6 : decode cX0_given 6 = .ok (.invokestatic 5, 3) := by decide +kernel
theorem dX0_given_9 : decode cX0_given 9 = .ok (.ifCond .eq 28, 3) := by decide +kernel
theorem dX0_given_12 : decode cX0_given 12 = .ok (.iload_n 2, 1) := by decide +kernel
theorem dX0_given_13 : decode cX0_given 13 = .ok (.i2l, 1) := by decide +kernel
theorem dX0_given_14 : decode cX0_given 14 = .ok (.lconst 1, 1) := by decide +kernel
theorem dX0_given_15 : decode cX0_given 15 = .ok (.ldc2_w 125, 3) := by decide +kernel
theorem dX0_given_18 : decode cX0_given 18 = .ok (.invokestatic 5, 3) := by decide +kernel
theorem dX0_given_21 : decode cX0_given 21 = .ok (.ifCond .eq 16, 3) := by decide +kernel
theorem dX0_given_24 : decode cX0_given 24 = .ok (.iload_n 3, 1) := by decide +kernel
theorem dX0_given_25 : decode cX0_given 25 = .ok (.iconst (-1), 1) := by decide +kernel
theorem dX0_given_26 : decode cX0_given 26 = .ok (.if_icmp .eq 13, 3) := by decide +kernel
theorem dX0_given_29 : decode cX0_given 29 = .ok (.aload_n 0, 1) := by decide +kernel
theorem dX0_given_30 : decode cX0_given 30 = .ok (.iload_n 3, 1) := by decide +kernel
theorem dX0_given_31 : decode cX0_given 31 = .ok (.invokevirtual 200, 3) := by decide +kernel
theorem dX0_given_34 : decode cX0_given 34 = .ok (.ifCond .ne 5, 3) := by decide +kernel
theorem dX0_given_37 : decode cX0_given 37 = .ok (.iconst (-1), 1) := by decide +kernel
theorem dX0_given_38 : decode cX0_given 38 = .ok (.ireturn, 1) := by decide +kernel
theorem dX0_given_39 : decode cX0_given 39 = .ok (.aload_n 0, 1) := by decide +kernel
theorem dX0_given_40 : decode cX0_given 40 = .ok (.invokevirtual 121, 3) := by decide +kernel
theorem dX0_given_43 : decode cX0_given 43 = .ok (.bipush 9, 2) := by decide +kernel
theorem dX0_given_45 : decode cX0_given 45 = .ok (.if_icmp .le 6, 3) := by decide +kernel
theorem dX0_given_48 : decode cX0_given 48 = .ok (.bipush (-2), 2) := by decide +kernel
theorem dX0_given_50 : decode cX0_given 50 = .ok (.ireturn, 1) := by decide +kernel
theorem dX0_given_51 : decode cX0_given 51 = .ok (.iconst 1, 1) := by decide +kernel
theorem dX0_given_52 : decode cX0_given 52 = .ok (.istore 4, 2) := by decide +kernel
theorem dX0_given_54 : decode cX0_given 54 = .ok (.iconst 0, 1) := by decide +kernel
theorem dX0_given_55 : decode cX0_given 55 = .ok (.istore 5, 2) := by decide +kernel
theorem dX0_given_57 : decode cX0_given 57 = .ok (.iload 5, 2) := by decide +kernel
theorem dX0_given_59 : decode cX0_given 59 = .ok (.aload_n 0, 1) := by decide +kernel
theorem dX0_given_60 : decode cX0_given 60 = .ok (.invokevirtual 121, 3) := by decide +kernel
theorem dX0_given_63 : decode cX0_given 63 = .ok (.if_icmp .ge 15, 3) := by decide +kernel
theorem dX0_given_66 : decode cX0_given 66 = .ok (.iload 4, 2) := by decide +kernel
theorem dX0_given_68 : decode cX0_given 68 = .ok (.iload_n 1, 1) := by decide +kernel
theorem dX0_given_69 : decode cX0_given 69 = .ok (.imul, 1) := by decide +kernel
theorem dX0_given_70 : decode cX0_given 70 = .ok (.istore 4, 2) := by decide +kernel
theorem dX0_given_72 : decode cX0_given 72 = .ok (.iinc 5 1, 3) := by decide +kernel
theorem dX0_given_75 : decode cX0_given 75 = .ok (.goto (-18), 3) := by decide +kernel
theorem dX0_given_78 : decode cX0_given 78 = .ok (.ldc_w 303, 3) := by decide +kernel
theorem dX0_given_81 : decode cX0_given 81 = .ok (.istore 5, 2) := by decide +kernel
theorem dX0_given_83 : decode cX0_given 83 = .ok (.iconst 0, 1) := by decide +kernel
theorem dX0_given_84 : decode cX0_given 84 = .ok (.istore 6, 2) := by decide +kernel
theorem dX0_given_86 : decode cX0_given 86 = .ok (.iload 6, 2) := by decide +kernel
theorem dX0_given_88 : decode cX0_given 88 = .ok (.iload 4, 2) := by decide +kernel
theorem dX0_given_90 : decode cX0_given 90 = .ok (.if_icmp .ge 101, 3) := by decide +kernel
theorem dX0_given_93 : decode cX0_given 93 = .ok (.iload 6, 2) := by decide +kernel
theorem dX0_given_95 : decode cX0_given 95 = .ok (.istore 7, 2) := by decide +kernel
theorem dX0_given_97 : decode cX0_given 97 = .ok (.aload_n 0, 1) := by decide +kernel
theorem dX0_given_98 : decode cX0_given 98 = .ok (.invokevirtual 121, 3) := by decide +kernel
theorem dX0_given_101 : decode cX0_given 101 = .ok (.iconst 1, 1) := by decide +kernel
theorem dX0_given_102 : decode cX0_given 102 = .ok (.isub, 1) := by decide +kernel
theorem dX0_given_103 : decode cX0_given 103 = .ok (.istore 8, 2) := by decide +kernel
theorem dX0_given_105 : decode cX0_given 105 = .ok (.iload 8, 2) := by decide +kernel
theorem dX0_given_107 : decode cX0_given 107 = .ok (.ifCond .lt 26, 3) := by decide +kernel
theorem dX0_given_110 : decode cX0_given 110 = .ok (.aload_n 0, 1) := by decide +kernel
theorem dX0_given_111 : decode cX0_given 111 = .ok (.getfield 99, 3) := by decide +kernel
theorem dX0_given_114 : decode cX0_given 114 = .ok (.iload 8, 2) := by decide +kernel
theorem dX0_given_116 : decode cX0_given 116 = .ok (.iload 7, 2) := by decide +kernel
theorem dX0_given_118 : decode cX0_given 118 = .ok (.iload_n 1, 1) := by decide +kernel
theorem dX0_given_119 : decode cX0_given 119 = .ok (.irem, 1) := by decide +kernel
theorem dX0_given_120 : decode cX0_given 120 = .ok (.iastore, 1) := by decide +kernel
theorem dX0_given_121 : decode cX0_given 121 = .ok (.iload 7, 2) := by decide +kernel
theorem dX0_given_123 : decode cX0_given 123 = .ok (.iload_n 1, 1) := by decide +kernel
theorem dX0_given_124 : decode cX0_given 124 = .ok (.idiv, 1) := by decide +kernel
theorem dX0_given_125 : decode cX0_given 125 = .ok (.istore 7, 2) := by decide +kernel
theorem dX0_given_127 : decode cX0_given 127 = .ok (.iinc 8 (-1), 3) := by decide +kernel
theorem dX0_given_130 : decode cX0_given 130 = .ok (.goto (-25), 3) := by decide +kernel
theorem dX0_given_133 : decode cX0_given 133 = .ok (.aload_n 0, 1) := by decide +kernel
theorem dX0_given_134 : decode cX0_given 134 = .ok (.aload_n 0, 1) := by decide +kernel
theorem dX0_given_135 : decode cX0_given 135 = .ok (.getfield 99, 3) := by decide +kernel
theorem dX0_given_138 : decode cX0_given 138 = .ok (.iload_n 2, 1) := by decide +kernel
theorem dX0_given_139 : decode cX0_given 139 = .ok (.invokevirtual 296, 3) := by decide +kernel
theorem dX0_given_142 : decode cX0_given 142 = .ok (.aload_n 0, 1) := by decide +kernel
theorem dX0_given_143 : decode cX0_given 143 = .ok (.getfield 102, 3) := by decide +kernel
theorem dX0_given_146 : decode cX0_given 146 = .ok (.iload_n 2, 1) := by decide +kernel
theorem dX0_given_147 : decode cX0_given 147 = .ok (.bipush 36, 2) := by decide +kernel
theorem dX0_given_149 : decode cX0_given 149 = .ok (.imul, 1) := by decide +kernel
theorem dX0_given_150 : decode cX0_given 150 = .ok (.aload_n 0, 1) := by decide +kernel
theorem dX0_given_151 : decode cX0_given 151 = .ok (.iload_n 2, 1) := by decide +kernel
theorem dX0_given_152 : decode cX0_given 152 = .ok (.invokevirtual 300, 3) := by decide +kernel
theorem dX0_given_155 : decode cX0_given 155 = .ok (.iadd, 1) := by decide +kernel
theorem dX0_given_156 : decode cX0_given 156 = .ok (.iaload, 1) := by decide +kernel
theorem dX0_given_157 : decode cX0_given 157 = .ok (.istore 8, 2) := by decide +kernel
theorem dX0_given_159 : decode cX0_given 159 = .ok (.iload 8, 2) := by decide +kernel
theorem dX0_given_161 : decode cX0_given 161 = .ok (.iload 5, 2) := by decide +kernel
theorem dX0_given_163 : decode cX0_given 163 = .ok (.if_icmp .ge 22, 3) := by decide +kernel
theorem dX0_given_166 : decode cX0_given 166 = .ok (.iload 8, 2) := by decide +kernel
theorem dX0_given_168 : decode cX0_given 168 = .ok (.istore 5, 2) := by decide +kernel
theorem dX0_given_170 : decode cX0_given 170 = .ok (.aload_n 0, 1) := by decide +kernel
theorem dX0_given_171 : decode cX0_given 171 = .ok (.getfield 99, 3) := by decide +kernel
theorem dX0_given_174 : decode cX0_given 174 = .ok (.iconst 0, 1) := by decide +kernel
theorem dX0_given_175 : decode cX0_given 175 = .ok (.aload_n 0, 1) := by decide +kernel
theorem dX0_given_176 : decode cX0_given 176 = .ok (.getfield 108, 3) := by decide +kernel
theorem dX0_given_179 : decode cX0_given 179 = .ok (.iconst 0, 1) := by decide +kernel
theorem dX0_given_180 : decode cX0_given 180 = .ok (.bipush 36, 2) := by decide +kernel
theorem dX0_given_182 : decode cX0_given 182 = .ok (.invokestatic 304, 3) := by decide +kernel
theorem dX0_given_185 : decode cX0_given 185 = .ok (.iinc 6 1, 3) := by decide +kernel
theorem dX0_given_188 : decode cX0_given 188 = .ok (.goto (-102), 3) := by decide +kernel
theorem dX0_given_191 : decode cX0_given 191 = .ok (.iload_n 3, 1) := by decide +kernel
theorem dX0_given_192 : decode cX0_given 192 = .ok (.ifCond .ge 8, 3) := by decide +kernel
theorem dX0_given_195 : decode cX0_given 195 = .ok (.iload 5, 2) := by decide +kernel
theorem dX0_given_197 : decode cX0_given 197 = .ok (.goto 9, 3) := by decide +kernel
theorem dX0_given_200 : decode cX0_given 200 = .ok (.aload_n 0, 1) := by decide +kernel
theorem dX0_given_201 : decode cX0_given 201 = .ok (.getfield 108, 3) := by decide +kernel
theorem dX0_given_204 : decode cX0_given 204 = .ok (.iload_n 3, 1) := by decide +kernel
theorem dX0_given_205 : decode cX0_given 205 = .ok (.iaload, 1) := by decide +kernel
theorem dX0_given_206 : decode cX0_given 206 = .ok (.ireturn, 1) := by decide +kernel
def tb_X0_given (S_X0_isIn S_X0_isCell S_X0_cells S_X0_layEnds S_X0_lastOf : ma_Cs) : Nat → ma_In := fun pc =>
 (if pc < 105 then
 (if pc < 51 then
 (if pc < 25 then
 (if pc < 12 then
 (if pc < 3 then
 (if pc < 1 then
 (if pc = 0 then in_ild 1 1 else in_no) else
 (if pc < 2 then
 (if pc = 1 then in_il (fun x => x.toInt64) 2 else in_no) else
 (if pc = 2 then in_push (.long 1) 3 else in_no))) else
 (if pc < 6 then
 (if pc = 3 then in_push (.long 3) 6 else in_no) else
 (if pc < 9 then
 (if pc = 6 then in_s3 S_X0_isIn 9 else in_no) else
 (if pc = 9 then in_if1 (fun x => x = 0) 37 12 else in_no)))) else
 (if pc < 15 then
 (if pc < 13 then
 (if pc = 12 then in_ild 2 13 else in_no) else
 (if pc < 14 then
 (if pc = 13 then in_il (fun x => x.toInt64) 14 else in_no) else
 (if pc = 14 then in_push (.long 1) 15 else in_no))) else
 (if pc < 21 then
 (if pc < 18 then
 (if pc = 15 then in_push (.long 12) 18 else in_no) else
 (if pc = 18 then in_s3 S_X0_isIn 21 else in_no)) else
 (if pc < 24 then
 (if pc = 21 then in_if1 (fun x => x = 0) 37 24 else in_no) else
 (if pc = 24 then in_ild 3 25 else in_no))))) else
 (if pc < 38 then
 (if pc < 30 then
 (if pc < 26 then
 (if pc = 25 then in_push (.int (-1)) 26 else in_no) else
 (if pc < 29 then
 (if pc = 26 then in_if2 (fun x y => x = y) 39 29 else in_no) else
 (if pc = 29 then in_ald 0 30 else in_no))) else
 (if pc < 34 then
 (if pc < 31 then
 (if pc = 30 then in_ild 3 31 else in_no) else
 (if pc = 31 then in_v2 YX 0 S_X0_isCell 34 else in_no)) else
 (if pc < 37 then
 (if pc = 34 then in_if1 (fun x => x = 0) 37 39 else in_no) else
 (if pc = 37 then in_push (.int (-1)) 38 else in_no)))) else
 (if pc < 43 then
 (if pc < 39 then
 (if pc = 38 then in_ri else in_no) else
 (if pc < 40 then
 (if pc = 39 then in_ald 0 40 else in_no) else
 (if pc = 40 then in_v1 YX 0 S_X0_cells 43 else in_no))) else
 (if pc < 48 then
 (if pc < 45 then
 (if pc = 43 then in_push (.int 9) 45 else in_no) else
 (if pc = 45 then in_if2 (fun x y => x ≤ y) 51 48 else in_no)) else
 (if pc < 50 then
 (if pc = 48 then in_push (.int (-2)) 50 else in_no) else
 (if pc = 50 then in_ri else in_no)))))) else
 (if pc < 78 then
 (if pc < 63 then
 (if pc < 55 then
 (if pc < 52 then
 (if pc = 51 then in_push (.int 1) 52 else in_no) else
 (if pc < 54 then
 (if pc = 52 then in_ist 4 54 else in_no) else
 (if pc = 54 then in_push (.int 0) 55 else in_no))) else
 (if pc < 59 then
 (if pc < 57 then
 (if pc = 55 then in_ist 5 57 else in_no) else
 (if pc = 57 then in_ild 5 59 else in_no)) else
 (if pc < 60 then
 (if pc = 59 then in_ald 0 60 else in_no) else
 (if pc = 60 then in_v1 YX 0 S_X0_cells 63 else in_no)))) else
 (if pc < 69 then
 (if pc < 66 then
 (if pc = 63 then in_if2 (fun x y => y ≤ x) 78 66 else in_no) else
 (if pc < 68 then
 (if pc = 66 then in_ild 4 68 else in_no) else
 (if pc = 68 then in_ild 1 69 else in_no))) else
 (if pc < 72 then
 (if pc < 70 then
 (if pc = 69 then in_iii (fun x y => x * y) 70 else in_no) else
 (if pc = 70 then in_ist 4 72 else in_no)) else
 (if pc < 75 then
 (if pc = 72 then in_inc 5 1 75 else in_no) else
 (if pc = 75 then in_go 57 else in_no))))) else
 (if pc < 93 then
 (if pc < 84 then
 (if pc < 81 then
 (if pc = 78 then in_push (.int 2147483647) 81 else in_no) else
 (if pc < 83 then
 (if pc = 81 then in_ist 5 83 else in_no) else
 (if pc = 83 then in_push (.int 0) 84 else in_no))) else
 (if pc < 88 then
 (if pc < 86 then
 (if pc = 84 then in_ist 6 86 else in_no) else
 (if pc = 86 then in_ild 6 88 else in_no)) else
 (if pc < 90 then
 (if pc = 88 then in_ild 4 90 else in_no) else
 (if pc = 90 then in_if2 (fun x y => y ≤ x) 191 93 else in_no)))) else
 (if pc < 98 then
 (if pc < 95 then
 (if pc = 93 then in_ild 6 95 else in_no) else
 (if pc < 97 then
 (if pc = 95 then in_ist 7 97 else in_no) else
 (if pc = 97 then in_ald 0 98 else in_no))) else
 (if pc < 102 then
 (if pc < 101 then
 (if pc = 98 then in_v1 YX 0 S_X0_cells 101 else in_no) else
 (if pc = 101 then in_push (.int 1) 102 else in_no)) else
 (if pc < 103 then
 (if pc = 102 then in_iii (fun x y => x - y) 103 else in_no) else
 (if pc = 103 then in_ist 8 105 else in_no))))))) else
 (if pc < 152 then
 (if pc < 127 then
 (if pc < 118 then
 (if pc < 111 then
 (if pc < 107 then
 (if pc = 105 then in_ild 8 107 else in_no) else
 (if pc < 110 then
 (if pc = 107 then in_if1 (fun x => x < 0) 133 110 else in_no) else
 (if pc = 110 then in_ald 0 111 else in_no))) else
 (if pc < 114 then
 (if pc = 111 then in_get YX 0 28 114 else in_no) else
 (if pc < 116 then
 (if pc = 114 then in_ild 8 116 else in_no) else
 (if pc = 116 then in_ild 7 118 else in_no)))) else
 (if pc < 121 then
 (if pc < 119 then
 (if pc = 118 then in_ild 1 119 else in_no) else
 (if pc < 120 then
 (if pc = 119 then in_idv (fun x y => x - x / y * y) 120 else in_no) else
 (if pc = 120 then in_iaw YX 121 else in_no))) else
 (if pc < 124 then
 (if pc < 123 then
 (if pc = 121 then in_ild 7 123 else in_no) else
 (if pc = 123 then in_ild 1 124 else in_no)) else
 (if pc < 125 then
 (if pc = 124 then in_idv (fun x y => x / y) 125 else in_no) else
 (if pc = 125 then in_ist 7 127 else in_no))))) else
 (if pc < 142 then
 (if pc < 134 then
 (if pc < 130 then
 (if pc = 127 then in_inc 8 (-1) 130 else in_no) else
 (if pc < 133 then
 (if pc = 130 then in_go 105 else in_no) else
 (if pc = 133 then in_ald 0 134 else in_no))) else
 (if pc < 138 then
 (if pc < 135 then
 (if pc = 134 then in_ald 0 135 else in_no) else
 (if pc = 135 then in_get YX 0 28 138 else in_no)) else
 (if pc < 139 then
 (if pc = 138 then in_ild 2 139 else in_no) else
 (if pc = 139 then in_v3 YX 0 S_X0_layEnds 142 else in_no)))) else
 (if pc < 147 then
 (if pc < 143 then
 (if pc = 142 then in_ald 0 143 else in_no) else
 (if pc < 146 then
 (if pc = 143 then in_get YX 0 29 146 else in_no) else
 (if pc = 146 then in_ild 2 147 else in_no))) else
 (if pc < 150 then
 (if pc < 149 then
 (if pc = 147 then in_push (.int 36) 149 else in_no) else
 (if pc = 149 then in_iii (fun x y => x * y) 150 else in_no)) else
 (if pc < 151 then
 (if pc = 150 then in_ald 0 151 else in_no) else
 (if pc = 151 then in_ild 2 152 else in_no)))))) else
 (if pc < 179 then
 (if pc < 166 then
 (if pc < 157 then
 (if pc < 155 then
 (if pc = 152 then in_v2 YX 0 S_X0_lastOf 155 else in_no) else
 (if pc < 156 then
 (if pc = 155 then in_iii (fun x y => x + y) 156 else in_no) else
 (if pc = 156 then in_iar YX 157 else in_no))) else
 (if pc < 161 then
 (if pc < 159 then
 (if pc = 157 then in_ist 8 159 else in_no) else
 (if pc = 159 then in_ild 8 161 else in_no)) else
 (if pc < 163 then
 (if pc = 161 then in_ild 5 163 else in_no) else
 (if pc = 163 then in_if2 (fun x y => y ≤ x) 185 166 else in_no)))) else
 (if pc < 171 then
 (if pc < 168 then
 (if pc = 166 then in_ild 8 168 else in_no) else
 (if pc < 170 then
 (if pc = 168 then in_ist 5 170 else in_no) else
 (if pc = 170 then in_ald 0 171 else in_no))) else
 (if pc < 175 then
 (if pc < 174 then
 (if pc = 171 then in_get YX 0 28 174 else in_no) else
 (if pc = 174 then in_push (.int 0) 175 else in_no)) else
 (if pc < 176 then
 (if pc = 175 then in_ald 0 176 else in_no) else
 (if pc = 176 then in_get YX 0 31 179 else in_no))))) else
 (if pc < 195 then
 (if pc < 185 then
 (if pc < 180 then
 (if pc = 179 then in_push (.int 0) 180 else in_no) else
 (if pc < 182 then
 (if pc = 180 then in_push (.int 36) 182 else in_no) else
 (if pc = 182 then in_cpy YX 185 else in_no))) else
 (if pc < 191 then
 (if pc < 188 then
 (if pc = 185 then in_inc 6 1 188 else in_no) else
 (if pc = 188 then in_go 86 else in_no)) else
 (if pc < 192 then
 (if pc = 191 then in_ild 3 192 else in_no) else
 (if pc = 192 then in_if1 (fun x => 0 ≤ x) 200 195 else in_no)))) else
 (if pc < 201 then
 (if pc < 197 then
 (if pc = 195 then in_ild 5 197 else in_no) else
 (if pc < 200 then
 (if pc = 197 then in_go 206 else in_no) else
 (if pc = 200 then in_ald 0 201 else in_no))) else
 (if pc < 205 then
 (if pc < 204 then
 (if pc = 201 then in_get YX 0 31 204 else in_no) else
 (if pc = 204 then in_ild 3 205 else in_no)) else
 (if pc < 206 then
 (if pc = 205 then in_iar YX 206 else in_no) else
 (if pc = 206 then in_ri else in_no))))))))
theorem tk_X0_given {l : Launch} {w : ma_Wd} {NC : Nat} {A : Nat → Prop} {S_X0_isIn S_X0_isCell S_X0_cells S_X0_layEnds S_X0_lastOf : ma_Cs} (h_X0_isIn : ma_Sd l w YX NC A yX0_isIn cX0_isIn 6 (some .boolean) rm_X0_isIn S_X0_isIn) (h_X0_isCell : ma_Sd l w YX NC A yX0_isCell cX0_isCell 2 (some .boolean) rm_X0_isCell S_X0_isCell) (h_X0_cells : ma_Sd l w YX NC A yX0_cells cX0_cells 1 (some .int) rm_X0_cells S_X0_cells) (h_X0_layEnds : ma_Sd l w YX NC A yX0_layEnds cX0_layEnds 8 none rm_X0_layEnds S_X0_layEnds) (h_X0_lastOf : ma_Sd l w YX NC A yX0_lastOf cX0_lastOf 4 (some .int) rm_X0_lastOf S_X0_lastOf) {p : Program} {e : Env} {s : State} {m : MethodId} {args : Array Value} {below : List Frame} {meth : Method} {c : Code} (X : ma_Cx p s m args meth c w YX NC A yX0_given.cls cX0_given 9 (some .int)) : ∀ pc, ma_Ok p l e rm_X0_given s m args below meth c w YX NC A 9 pc (tb_X0_given S_X0_isIn S_X0_isCell S_X0_cells S_X0_layEnds S_X0_lastOf pc) := fun pc =>
 (mk_lt
 (mk_lt
 (mk_lt
 (mk_lt
 (mk_lt
 (mk_lt
 (mk_eq (mk_iload_n X dX0_given_0 rfl rfl))
 (mk_lt
 (mk_eq (mk_i2l X dX0_given_1 rfl))
 (mk_eq (mk_lconst X dX0_given_2 rfl rfl))))
 (mk_lt
 (mk_eq (mk_ldc2 X dX0_given_3 q374 rfl))
 (mk_lt
 (mk_eq (mk_S3 X h_X0_isIn (lw_S q355 q356 q61 q357) ⟨by decide, by decide, rfl⟩ ⟨(Nat.le_of_ble_eq_true rfl), (Nat.le_of_ble_eq_true rfl)⟩ dX0_given_6 rfl))
 (mk_eq (mk_ifeq X dX0_given_9 rfl rfl)))))
 (mk_lt
 (mk_lt
 (mk_eq (mk_iload_n X dX0_given_12 rfl rfl))
 (mk_lt
 (mk_eq (mk_i2l X dX0_given_13 rfl))
 (mk_eq (mk_lconst X dX0_given_14 rfl rfl))))
 (mk_lt
 (mk_lt
 (mk_eq (mk_ldc2 X dX0_given_15 q479 rfl))
 (mk_eq (mk_S3 X h_X0_isIn (lw_S q355 q356 q61 q357) ⟨by decide, by decide, rfl⟩ ⟨(Nat.le_of_ble_eq_true rfl), (Nat.le_of_ble_eq_true rfl)⟩ dX0_given_18 rfl)))
 (mk_lt
 (mk_eq (mk_ifeq X dX0_given_21 rfl rfl))
 (mk_eq (mk_iload_n X dX0_given_24 rfl rfl))))))
 (mk_lt
 (mk_lt
 (mk_lt
 (mk_eq (mk_iconst X dX0_given_25 rfl rfl))
 (mk_lt
 (mk_eq (mk_iceq X dX0_given_26 rfl rfl))
 (mk_eq (mk_aload_n X dX0_given_29 rfl rfl))))
 (mk_lt
 (mk_lt
 (mk_eq (mk_iload_n X dX0_given_30 rfl rfl))
 (mk_eq (mk_V2 X h_X0_isCell (ci := 0) rfl (lw_V q464 q466 qs11 q61 q467) ⟨rfl, by decide, by decide, rfl⟩ ⟨(Nat.le_of_ble_eq_true rfl), (Nat.le_of_ble_eq_true rfl)⟩ dX0_given_31 rfl)))
 (mk_lt
 (mk_eq (mk_ifne X dX0_given_34 rfl rfl))
 (mk_eq (mk_iconst X dX0_given_37 rfl rfl)))))
 (mk_lt
 (mk_lt
 (mk_eq (mk_ri X dX0_given_38))
 (mk_lt
 (mk_eq (mk_aload_n X dX0_given_39 rfl rfl))
 (mk_eq (mk_V1 X h_X0_cells (ci := 0) rfl (lw_V q358 q360 qs2 q61 q361) ⟨rfl, by decide, by decide, rfl⟩ ⟨(Nat.le_of_ble_eq_true rfl), (Nat.le_of_ble_eq_true rfl)⟩ dX0_given_40 rfl))))
 (mk_lt
 (mk_lt
 (mk_eq (mk_bipush X dX0_given_43 rfl rfl))
 (mk_eq (mk_icle X dX0_given_45 rfl rfl)))
 (mk_lt
 (mk_eq (mk_bipush X dX0_given_48 rfl rfl))
 (mk_eq (mk_ri X dX0_given_50)))))))
 (mk_lt
 (mk_lt
 (mk_lt
 (mk_lt
 (mk_eq (mk_iconst X dX0_given_51 rfl rfl))
 (mk_lt
 (mk_eq (mk_istore X dX0_given_52 (Nat.le_of_ble_eq_true rfl) rfl))
 (mk_eq (mk_iconst X dX0_given_54 rfl rfl))))
 (mk_lt
 (mk_lt
 (mk_eq (mk_istore X dX0_given_55 (Nat.le_of_ble_eq_true rfl) rfl))
 (mk_eq (mk_iload X dX0_given_57 rfl)))
 (mk_lt
 (mk_eq (mk_aload_n X dX0_given_59 rfl rfl))
 (mk_eq (mk_V1 X h_X0_cells (ci := 0) rfl (lw_V q358 q360 qs2 q61 q361) ⟨rfl, by decide, by decide, rfl⟩ ⟨(Nat.le_of_ble_eq_true rfl), (Nat.le_of_ble_eq_true rfl)⟩ dX0_given_60 rfl)))))
 (mk_lt
 (mk_lt
 (mk_eq (mk_icge X dX0_given_63 rfl rfl))
 (mk_lt
 (mk_eq (mk_iload X dX0_given_66 rfl))
 (mk_eq (mk_iload_n X dX0_given_68 rfl rfl))))
 (mk_lt
 (mk_lt
 (mk_eq (mk_imul X dX0_given_69 rfl))
 (mk_eq (mk_istore X dX0_given_70 (Nat.le_of_ble_eq_true rfl) rfl)))
 (mk_lt
 (mk_eq (mk_iinc X dX0_given_72 rfl (Nat.le_of_ble_eq_true rfl) rfl))
 (mk_eq (mk_goto X dX0_given_75 rfl))))))
 (mk_lt
 (mk_lt
 (mk_lt
 (mk_eq (mk_ldcw X dX0_given_78 q687 rfl))
 (mk_lt
 (mk_eq (mk_istore X dX0_given_81 (Nat.le_of_ble_eq_true rfl) rfl))
 (mk_eq (mk_iconst X dX0_given_83 rfl rfl))))
 (mk_lt
 (mk_lt
 (mk_eq (mk_istore X dX0_given_84 (Nat.le_of_ble_eq_true rfl) rfl))
 (mk_eq (mk_iload X dX0_given_86 rfl)))
 (mk_lt
 (mk_eq (mk_iload X dX0_given_88 rfl))
 (mk_eq (mk_icge X dX0_given_90 rfl rfl)))))
 (mk_lt
 (mk_lt
 (mk_eq (mk_iload X dX0_given_93 rfl))
 (mk_lt
 (mk_eq (mk_istore X dX0_given_95 (Nat.le_of_ble_eq_true rfl) rfl))
 (mk_eq (mk_aload_n X dX0_given_97 rfl rfl))))
 (mk_lt
 (mk_lt
 (mk_eq (mk_V1 X h_X0_cells (ci := 0) rfl (lw_V q358 q360 qs2 q61 q361) ⟨rfl, by decide, by decide, rfl⟩ ⟨(Nat.le_of_ble_eq_true rfl), (Nat.le_of_ble_eq_true rfl)⟩ dX0_given_98 rfl))
 (mk_eq (mk_iconst X dX0_given_101 rfl rfl)))
 (mk_lt
 (mk_eq (mk_isub X dX0_given_102 rfl))
 (mk_eq (mk_istore X dX0_given_103 (Nat.le_of_ble_eq_true rfl) rfl))))))))
 (mk_lt
 (mk_lt
 (mk_lt
 (mk_lt
 (mk_lt
 (mk_eq (mk_iload X dX0_given_105 rfl))
 (mk_lt
 (mk_eq (mk_iflt X dX0_given_107 rfl rfl))
 (mk_eq (mk_aload_n X dX0_given_110 rfl rfl))))
 (mk_lt
 (mk_eq (mk_get X (ci := 0) (j := 28) rfl in_X0 (Nat.le_of_ble_eq_true rfl) q274 dX0_given_111 rfl))
 (mk_lt
 (mk_eq (mk_iload X dX0_given_114 rfl))
 (mk_eq (mk_iload X dX0_given_116 rfl)))))
 (mk_lt
 (mk_lt
 (mk_eq (mk_iload_n X dX0_given_118 rfl rfl))
 (mk_lt
 (mk_eq (mk_irem X dX0_given_119 rfl))
 (mk_eq (mk_iaw X dX0_given_120 rfl))))
 (mk_lt
 (mk_lt
 (mk_eq (mk_iload X dX0_given_121 rfl))
 (mk_eq (mk_iload_n X dX0_given_123 rfl rfl)))
 (mk_lt
 (mk_eq (mk_idiv X dX0_given_124 rfl))
 (mk_eq (mk_istore X dX0_given_125 (Nat.le_of_ble_eq_true rfl) rfl))))))
 (mk_lt
 (mk_lt
 (mk_lt
 (mk_eq (mk_iinc X dX0_given_127 rfl (Nat.le_of_ble_eq_true rfl) rfl))
 (mk_lt
 (mk_eq (mk_goto X dX0_given_130 rfl))
 (mk_eq (mk_aload_n X dX0_given_133 rfl rfl))))
 (mk_lt
 (mk_lt
 (mk_eq (mk_aload_n X dX0_given_134 rfl rfl))
 (mk_eq (mk_get X (ci := 0) (j := 28) rfl in_X0 (Nat.le_of_ble_eq_true rfl) q274 dX0_given_135 rfl)))
 (mk_lt
 (mk_eq (mk_iload_n X dX0_given_138 rfl rfl))
 (mk_eq (mk_V3 X h_X0_layEnds (ci := 0) rfl (lw_V q667 q669 qs25 q61 q670) ⟨rfl, by decide, by decide, rfl⟩ ⟨(Nat.le_of_ble_eq_true rfl), (Nat.le_of_ble_eq_true rfl)⟩ dX0_given_139 rfl)))))
 (mk_lt
 (mk_lt
 (mk_eq (mk_aload_n X dX0_given_142 rfl rfl))
 (mk_lt
 (mk_eq (mk_get X (ci := 0) (j := 29) rfl in_X0 (Nat.le_of_ble_eq_true rfl) q275 dX0_given_143 rfl))
 (mk_eq (mk_iload_n X dX0_given_146 rfl rfl))))
 (mk_lt
 (mk_lt
 (mk_eq (mk_bipush X dX0_given_147 rfl rfl))
 (mk_eq (mk_imul X dX0_given_149 rfl)))
 (mk_lt
 (mk_eq (mk_aload_n X dX0_given_150 rfl rfl))
 (mk_eq (mk_iload_n X dX0_given_151 rfl rfl)))))))
 (mk_lt
 (mk_lt
 (mk_lt
 (mk_lt
 (mk_eq (mk_V2 X h_X0_lastOf (ci := 0) rfl (lw_V q675 q677 qs26 q61 q678) ⟨rfl, by decide, by decide, rfl⟩ ⟨(Nat.le_of_ble_eq_true rfl), (Nat.le_of_ble_eq_true rfl)⟩ dX0_given_152 rfl))
 (mk_lt
 (mk_eq (mk_iadd X dX0_given_155 rfl))
 (mk_eq (mk_iar X dX0_given_156 rfl))))
 (mk_lt
 (mk_lt
 (mk_eq (mk_istore X dX0_given_157 (Nat.le_of_ble_eq_true rfl) rfl))
 (mk_eq (mk_iload X dX0_given_159 rfl)))
 (mk_lt
 (mk_eq (mk_iload X dX0_given_161 rfl))
 (mk_eq (mk_icge X dX0_given_163 rfl rfl)))))
 (mk_lt
 (mk_lt
 (mk_eq (mk_iload X dX0_given_166 rfl))
 (mk_lt
 (mk_eq (mk_istore X dX0_given_168 (Nat.le_of_ble_eq_true rfl) rfl))
 (mk_eq (mk_aload_n X dX0_given_170 rfl rfl))))
 (mk_lt
 (mk_lt
 (mk_eq (mk_get X (ci := 0) (j := 28) rfl in_X0 (Nat.le_of_ble_eq_true rfl) q274 dX0_given_171 rfl))
 (mk_eq (mk_iconst X dX0_given_174 rfl rfl)))
 (mk_lt
 (mk_eq (mk_aload_n X dX0_given_175 rfl rfl))
 (mk_eq (mk_get X (ci := 0) (j := 31) rfl in_X0 (Nat.le_of_ble_eq_true rfl) q277 dX0_given_176 rfl))))))
 (mk_lt
 (mk_lt
 (mk_lt
 (mk_eq (mk_iconst X dX0_given_179 rfl rfl))
 (mk_lt
 (mk_eq (mk_bipush X dX0_given_180 rfl rfl))
 (mk_eq (mk_cpy X q688 q449 q448 q68 ⟨(Nat.le_of_ble_eq_true rfl), (Nat.le_of_ble_eq_true rfl)⟩ dX0_given_182 rfl))))
 (mk_lt
 (mk_lt
 (mk_eq (mk_iinc X dX0_given_185 rfl (Nat.le_of_ble_eq_true rfl) rfl))
 (mk_eq (mk_goto X dX0_given_188 rfl)))
 (mk_lt
 (mk_eq (mk_iload_n X dX0_given_191 rfl rfl))
 (mk_eq (mk_ifge X dX0_given_192 rfl rfl)))))
 (mk_lt
 (mk_lt
 (mk_eq (mk_iload X dX0_given_195 rfl))
 (mk_lt
 (mk_eq (mk_goto X dX0_given_197 rfl))
 (mk_eq (mk_aload_n X dX0_given_200 rfl rfl))))
 (mk_lt
 (mk_lt
 (mk_eq (mk_get X (ci := 0) (j := 31) rfl in_X0 (Nat.le_of_ble_eq_true rfl) q277 dX0_given_201 rfl))
 (mk_eq (mk_iload_n X dX0_given_204 rfl rfl)))
 (mk_lt
 (mk_eq (mk_iar X dX0_given_205 rfl))
 (mk_eq (mk_ri X dX0_given_206)))))))))
theorem sd_X0_given {l : Launch} {w : ma_Wd} {NC : Nat} {A : Nat → Prop} {S_X0_isIn S_X0_isCell S_X0_cells S_X0_layEnds S_X0_lastOf : ma_Cs} (hw : ma_Wo w YX NC A) (h_X0_isIn : ma_Sd l w YX NC A yX0_isIn cX0_isIn 6 (some .boolean) rm_X0_isIn S_X0_isIn) (h_X0_isCell : ma_Sd l w YX NC A yX0_isCell cX0_isCell 2 (some .boolean) rm_X0_isCell S_X0_isCell) (h_X0_cells : ma_Sd l w YX NC A yX0_cells cX0_cells 1 (some .int) rm_X0_cells S_X0_cells) (h_X0_layEnds : ma_Sd l w YX NC A yX0_layEnds cX0_layEnds 8 none rm_X0_layEnds S_X0_layEnds) (h_X0_lastOf : ma_Sd l w YX NC A yX0_lastOf cX0_lastOf 4 (some .int) rm_X0_lastOf S_X0_lastOf) : ma_Sd l w YX NC A yX0_given cX0_given 9 (some .int) rm_X0_given (ma_rn (tb_X0_given S_X0_isIn S_X0_isCell S_X0_cells S_X0_layEnds S_X0_lastOf) 9) := ma_of hw (by decide) ⟨rfl, rfl⟩ (fun X => tk_X0_given h_X0_isIn h_X0_isCell h_X0_cells h_X0_layEnds h_X0_lastOf X)
theorem dX0_known_0 : decode cX0_known 0 = .ok (.aload_n 0, 1) := by decide +kernel
theorem dX0_known_1 : decode cX0_known 1 = .ok (.iload_n 1, 1) := by decide +kernel
theorem dX0_known_2 : decode cX0_known 2 = .ok (.invokevirtual 200, 3) := by decide +kernel
theorem dX0_known_5 : decode cX0_known 5 = .ok (.ifCond .eq 15, 3) := by decide +kernel
theorem dX0_known_8 : decode cX0_known 8 = .ok (.iload_n 2, 1) := by decide +kernel
theorem dX0_known_9 : decode cX0_known 9 = .ok (.i2l, 1) := by decide +kernel
theorem dX0_known_10 : decode cX0_known 10 = .ok (.lconst 0, 1) := by decide +kernel
theorem dX0_known_11 : decode cX0_known 11 = .ok (.ldc2_w 310, 3) := by decide +kernel
theorem dX0_known_14 : decode cX0_known 14 = .ok (.invokestatic 5, 3) := by decide +kernel
theorem dX0_known_17 : decode cX0_known 17 = .ok (.ifCond .ne 5, 3) := by decide +kernel
theorem dX0_known_20 : decode cX0_known 20 = .ok (.iconst (-1), 1) := by decide +kernel
theorem dX0_known_21 : decode cX0_known 21 = .ok (.ireturn, 1) := by decide +kernel
theorem dX0_known_22 : decode cX0_known 22 = .ok (.aload_n 0, 1) := by decide +kernel
theorem dX0_known_23 : decode cX0_known 23 = .ok (.aload_n 0, 1) := by decide +kernel
theorem dX0_known_24 : decode cX0_known 24 = .ok (.getfield 96, 3) := by decide +kernel
theorem dX0_known_27 : decode cX0_known 27 = .ok (.bipush 12, 2) := by decide +kernel
theorem dX0_known_29 : decode cX0_known 29 = .ok (.invokevirtual 296, 3) := by decide +kernel
theorem dX0_known_32 : decode cX0_known 32 = .ok (.iconst 0, 1) := by decide +kernel
theorem dX0_known_33 : decode cX0_known 33 = .ok (.istore_n 3, 1) := by decide +kernel
theorem dX0_known_34 : decode cX0_known 34 = .ok (.iload_n 3, 1) := by decide +kernel
theorem dX0_known_35 : decode cX0_known 35 = .ok (.bipush 12, 2) := by decide +kernel
theorem dX0_known_37 : decode cX0_known 37 = .ok (.if_icmp .ge 26, 3) := by decide +kernel
theorem dX0_known_40 : decode cX0_known 40 = .ok (.aload_n 0, 1) := by decide +kernel
theorem dX0_known_41 : decode cX0_known 41 = .ok (.getfield 102, 3) := by decide +kernel
theorem dX0_known_44 : decode cX0_known 44 = .ok (.iload_n 3, 1) := by decide +kernel
theorem dX0_known_45 : decode cX0_known 45 = .ok (.iconst 1, 1) := by decide +kernel
theorem dX0_known_46 : decode cX0_known 46 = .ok (.iadd, 1) := by decide +kernel
theorem dX0_known_47 : decode cX0_known 47 = .ok (.bipush 36, 2) := by decide +kernel
theorem dX0_known_49 : decode cX0_known 49 = .ok (.imul, 1) := by decide +kernel
theorem dX0_known_50 : decode cX0_known 50 = .ok (.iload_n 1, 1) := by decide +kernel
theorem dX0_known_51 : decode cX0_known 51 = .ok (.iadd, 1) := by decide +kernel
theorem dX0_known_52 : decode cX0_known 52 = .ok (.iaload, 1) := by decide +kernel
theorem dX0_known_53 : decode cX0_known 53 = .ok (.iload_n 2, 1) := by decide +kernel
theorem dX0_known_54 : decode cX0_known 54 = .ok (.if_icmp .gt 9, 3) := by decide +kernel
theorem dX0_known_57 : decode cX0_known 57 = .ok (.iinc 3 1, 3) := by decide +kernel
theorem dX0_known_60 : decode cX0_known 60 = .ok (.goto (-26), 3) := by decide +kernel
theorem dX0_known_63 : decode cX0_known 63 = .ok (.iload_n 3, 1) := by decide +kernel
theorem dX0_known_64 : decode cX0_known 64 = .ok (.ireturn, 1) := by decide +kernel
def tb_X0_known (S_X0_isCell S_X0_isIn S_X0_layEnds : ma_Cs) : Nat → ma_In := fun pc =>
 (if pc < 34 then
 (if pc < 17 then
 (if pc < 8 then
 (if pc < 2 then
 (if pc < 1 then
 (if pc = 0 then in_ald 0 1 else in_no) else
 (if pc = 1 then in_ild 1 2 else in_no)) else
 (if pc < 5 then
 (if pc = 2 then in_v2 YX 0 S_X0_isCell 5 else in_no) else
 (if pc = 5 then in_if1 (fun x => x = 0) 20 8 else in_no))) else
 (if pc < 10 then
 (if pc < 9 then
 (if pc = 8 then in_ild 2 9 else in_no) else
 (if pc = 9 then in_il (fun x => x.toInt64) 10 else in_no)) else
 (if pc < 11 then
 (if pc = 10 then in_push (.long 0) 11 else in_no) else
 (if pc < 14 then
 (if pc = 11 then in_push (.long 100000) 14 else in_no) else
 (if pc = 14 then in_s3 S_X0_isIn 17 else in_no))))) else
 (if pc < 24 then
 (if pc < 21 then
 (if pc < 20 then
 (if pc = 17 then in_if1 (fun x => x = 0) 20 22 else in_no) else
 (if pc = 20 then in_push (.int (-1)) 21 else in_no)) else
 (if pc < 22 then
 (if pc = 21 then in_ri else in_no) else
 (if pc < 23 then
 (if pc = 22 then in_ald 0 23 else in_no) else
 (if pc = 23 then in_ald 0 24 else in_no)))) else
 (if pc < 29 then
 (if pc < 27 then
 (if pc = 24 then in_get YX 0 27 27 else in_no) else
 (if pc = 27 then in_push (.int 12) 29 else in_no)) else
 (if pc < 32 then
 (if pc = 29 then in_v3 YX 0 S_X0_layEnds 32 else in_no) else
 (if pc < 33 then
 (if pc = 32 then in_push (.int 0) 33 else in_no) else
 (if pc = 33 then in_ist 3 34 else in_no)))))) else
 (if pc < 49 then
 (if pc < 41 then
 (if pc < 37 then
 (if pc < 35 then
 (if pc = 34 then in_ild 3 35 else in_no) else
 (if pc = 35 then in_push (.int 12) 37 else in_no)) else
 (if pc < 40 then
 (if pc = 37 then in_if2 (fun x y => y ≤ x) 63 40 else in_no) else
 (if pc = 40 then in_ald 0 41 else in_no))) else
 (if pc < 45 then
 (if pc < 44 then
 (if pc = 41 then in_get YX 0 29 44 else in_no) else
 (if pc = 44 then in_ild 3 45 else in_no)) else
 (if pc < 46 then
 (if pc = 45 then in_push (.int 1) 46 else in_no) else
 (if pc < 47 then
 (if pc = 46 then in_iii (fun x y => x + y) 47 else in_no) else
 (if pc = 47 then in_push (.int 36) 49 else in_no))))) else
 (if pc < 54 then
 (if pc < 51 then
 (if pc < 50 then
 (if pc = 49 then in_iii (fun x y => x * y) 50 else in_no) else
 (if pc = 50 then in_ild 1 51 else in_no)) else
 (if pc < 52 then
 (if pc = 51 then in_iii (fun x y => x + y) 52 else in_no) else
 (if pc < 53 then
 (if pc = 52 then in_iar YX 53 else in_no) else
 (if pc = 53 then in_ild 2 54 else in_no)))) else
 (if pc < 60 then
 (if pc < 57 then
 (if pc = 54 then in_if2 (fun x y => y < x) 63 57 else in_no) else
 (if pc = 57 then in_inc 3 1 60 else in_no)) else
 (if pc < 63 then
 (if pc = 60 then in_go 34 else in_no) else
 (if pc < 64 then
 (if pc = 63 then in_ild 3 64 else in_no) else
 (if pc = 64 then in_ri else in_no)))))))
theorem tk_X0_known {l : Launch} {w : ma_Wd} {NC : Nat} {A : Nat → Prop} {S_X0_isCell S_X0_isIn S_X0_layEnds : ma_Cs} (h_X0_isCell : ma_Sd l w YX NC A yX0_isCell cX0_isCell 2 (some .boolean) rm_X0_isCell S_X0_isCell) (h_X0_isIn : ma_Sd l w YX NC A yX0_isIn cX0_isIn 6 (some .boolean) rm_X0_isIn S_X0_isIn) (h_X0_layEnds : ma_Sd l w YX NC A yX0_layEnds cX0_layEnds 8 none rm_X0_layEnds S_X0_layEnds) {p : Program} {e : Env} {s : State} {m : MethodId} {args : Array Value} {below : List Frame} {meth : Method} {c : Code} (X : ma_Cx p s m args meth c w YX NC A yX0_known.cls cX0_known 4 (some .int)) : ∀ pc, ma_Ok p l e rm_X0_known s m args below meth c w YX NC A 4 pc (tb_X0_known S_X0_isCell S_X0_isIn S_X0_layEnds pc) := fun pc =>
 (mk_lt
 (mk_lt
 (mk_lt
 (mk_lt
 (mk_lt
 (mk_eq (mk_aload_n X dX0_known_0 rfl rfl))
 (mk_eq (mk_iload_n X dX0_known_1 rfl rfl)))
 (mk_lt
 (mk_eq (mk_V2 X h_X0_isCell (ci := 0) rfl (lw_V q464 q466 qs11 q61 q467) ⟨rfl, by decide, by decide, rfl⟩ ⟨(Nat.le_of_ble_eq_true rfl), (Nat.le_of_ble_eq_true rfl)⟩ dX0_known_2 rfl))
 (mk_eq (mk_ifeq X dX0_known_5 rfl rfl))))
 (mk_lt
 (mk_lt
 (mk_eq (mk_iload_n X dX0_known_8 rfl rfl))
 (mk_eq (mk_i2l X dX0_known_9 rfl)))
 (mk_lt
 (mk_eq (mk_lconst X dX0_known_10 rfl rfl))
 (mk_lt
 (mk_eq (mk_ldc2 X dX0_known_11 q693 rfl))
 (mk_eq (mk_S3 X h_X0_isIn (lw_S q355 q356 q61 q357) ⟨by decide, by decide, rfl⟩ ⟨(Nat.le_of_ble_eq_true rfl), (Nat.le_of_ble_eq_true rfl)⟩ dX0_known_14 rfl))))))
 (mk_lt
 (mk_lt
 (mk_lt
 (mk_eq (mk_ifne X dX0_known_17 rfl rfl))
 (mk_eq (mk_iconst X dX0_known_20 rfl rfl)))
 (mk_lt
 (mk_eq (mk_ri X dX0_known_21))
 (mk_lt
 (mk_eq (mk_aload_n X dX0_known_22 rfl rfl))
 (mk_eq (mk_aload_n X dX0_known_23 rfl rfl)))))
 (mk_lt
 (mk_lt
 (mk_eq (mk_get X (ci := 0) (j := 27) rfl in_X0 (Nat.le_of_ble_eq_true rfl) q273 dX0_known_24 rfl))
 (mk_eq (mk_bipush X dX0_known_27 rfl rfl)))
 (mk_lt
 (mk_eq (mk_V3 X h_X0_layEnds (ci := 0) rfl (lw_V q667 q669 qs25 q61 q670) ⟨rfl, by decide, by decide, rfl⟩ ⟨(Nat.le_of_ble_eq_true rfl), (Nat.le_of_ble_eq_true rfl)⟩ dX0_known_29 rfl))
 (mk_lt
 (mk_eq (mk_iconst X dX0_known_32 rfl rfl))
 (mk_eq (mk_istore_n X dX0_known_33 rfl (Nat.le_of_ble_eq_true rfl) rfl)))))))
 (mk_lt
 (mk_lt
 (mk_lt
 (mk_lt
 (mk_eq (mk_iload_n X dX0_known_34 rfl rfl))
 (mk_eq (mk_bipush X dX0_known_35 rfl rfl)))
 (mk_lt
 (mk_eq (mk_icge X dX0_known_37 rfl rfl))
 (mk_eq (mk_aload_n X dX0_known_40 rfl rfl))))
 (mk_lt
 (mk_lt
 (mk_eq (mk_get X (ci := 0) (j := 29) rfl in_X0 (Nat.le_of_ble_eq_true rfl) q275 dX0_known_41 rfl))
 (mk_eq (mk_iload_n X dX0_known_44 rfl rfl)))
 (mk_lt
 (mk_eq (mk_iconst X dX0_known_45 rfl rfl))
 (mk_lt
 (mk_eq (mk_iadd X dX0_known_46 rfl))
 (mk_eq (mk_bipush X dX0_known_47 rfl rfl))))))
 (mk_lt
 (mk_lt
 (mk_lt
 (mk_eq (mk_imul X dX0_known_49 rfl))
 (mk_eq (mk_iload_n X dX0_known_50 rfl rfl)))
 (mk_lt
 (mk_eq (mk_iadd X dX0_known_51 rfl))
 (mk_lt
 (mk_eq (mk_iar X dX0_known_52 rfl))
 (mk_eq (mk_iload_n X dX0_known_53 rfl rfl)))))
 (mk_lt
 (mk_lt
 (mk_eq (mk_icgt X dX0_known_54 rfl rfl))
 (mk_eq (mk_iinc X dX0_known_57 rfl (Nat.le_of_ble_eq_true rfl) rfl)))
 (mk_lt
 (mk_eq (mk_goto X dX0_known_60 rfl))
 (mk_lt
 (mk_eq (mk_iload_n X dX0_known_63 rfl rfl))
 (mk_eq (mk_ri X dX0_known_64))))))))
theorem sd_X0_known {l : Launch} {w : ma_Wd} {NC : Nat} {A : Nat → Prop} {S_X0_isCell S_X0_isIn S_X0_layEnds : ma_Cs} (hw : ma_Wo w YX NC A) (h_X0_isCell : ma_Sd l w YX NC A yX0_isCell cX0_isCell 2 (some .boolean) rm_X0_isCell S_X0_isCell) (h_X0_isIn : ma_Sd l w YX NC A yX0_isIn cX0_isIn 6 (some .boolean) rm_X0_isIn S_X0_isIn) (h_X0_layEnds : ma_Sd l w YX NC A yX0_layEnds cX0_layEnds 8 none rm_X0_layEnds S_X0_layEnds) : ma_Sd l w YX NC A yX0_known cX0_known 4 (some .int) rm_X0_known (ma_rn (tb_X0_known S_X0_isCell S_X0_isIn S_X0_layEnds) 4) := ma_of hw (by decide) ⟨rfl, rfl⟩ (fun X => tk_X0_known h_X0_isCell h_X0_isIn h_X0_layEnds X)
theorem dX0_coarse_0 : decode cX0_coarse 0 = .ok (.iload_n 1, 1) := by decide +kernel
theorem dX0_coarse_1 : decode cX0_coarse 1 = .ok (.i2l, 1) := by decide +kernel
theorem dX0_coarse_2 : decode cX0_coarse 2 = .ok (.lconst 1, 1) := by decide +kernel
theorem dX0_coarse_3 : decode cX0_coarse 3 = .ok (.ldc2_w 125, 3) := by decide +kernel
theorem dX0_coarse_6 : decode cX0_coarse 6 = .ok (.invokestatic 5, 3) := by decide +kernel
theorem dX0_coarse_9 : decode cX0_coarse 9 = .ok (.ifCond .eq 22, 3) := by decide +kernel
theorem dX0_coarse_12 : decode cX0_coarse 12 = .ok (.iload_n 2, 1) := by decide +kernel
theorem dX0_coarse_13 : decode cX0_coarse 13 = .ok (.invokestatic 150, 3) := by decide +kernel
theorem dX0_coarse_16 : decode cX0_coarse 16 = .ok (.ifCond .eq 15, 3) := by decide +kernel
theorem dX0_coarse_19 : decode cX0_coarse 19 = .ok (.iload_n 3, 1) := by decide +kernel
theorem dX0_coarse_20 : decode cX0_coarse 20 = .ok (.i2l, 1) := by decide +kernel
theorem dX0_coarse_21 : decode cX0_coarse 21 = .ok (.lconst 0, 1) := by decide +kernel
theorem dX0_coarse_22 : decode cX0_coarse 22 = .ok (.ldc2_w 156, 3) := by decide +kernel
theorem dX0_coarse_25 : decode cX0_coarse 25 = .ok (.invokestatic 5, 3) := by decide +kernel
theorem dX0_coarse_28 : decode cX0_coarse 28 = .ok (.ifCond .ne 5, 3) := by decide +kernel
theorem dX0_coarse_31 : decode cX0_coarse 31 = .ok (.iconst (-1), 1) := by decide +kernel
theorem dX0_coarse_32 : decode cX0_coarse 32 = .ok (.ireturn, 1) := by decide +kernel
theorem dX0_coarse_33 : decode cX0_coarse 33 = .ok (.aload_n 0, 1) := by decide +kernel
theorem dX0_coarse_34 : decode cX0_coarse 34 = .ok (.getfield 38, 3) := by decide +kernel
theorem dX0_coarse_37 : decode cX0_coarse 37 = .ok (.iconst 2, 1) := by decide +kernel
theorem dX0_coarse_38 : decode cX0_coarse 38 = .ok (.irem, 1) := by decide +kernel
theorem dX0_coarse_39 : decode cX0_coarse 39 = .ok (.iconst 1, 1) := by decide +kernel
theorem dX0_coarse_40 : decode cX0_coarse 40 = .ok (.if_icmp .eq 13, 3) := by decide +kernel
theorem dX0_coarse_43 : decode cX0_coarse 43 = .ok (.aload_n 0, 1) := by decide +kernel
theorem dX0_coarse_44 : decode cX0_coarse 44 = .ok (.getfield 42, 3) := by decide +kernel
theorem dX0_coarse_47 : decode cX0_coarse 47 = .ok (.iconst 2, 1) := by decide +kernel
theorem dX0_coarse_48 : decode cX0_coarse 48 = .ok (.irem, 1) := by decide +kernel
theorem dX0_coarse_49 : decode cX0_coarse 49 = .ok (.iconst 1, 1) := by decide +kernel
theorem dX0_coarse_50 : decode cX0_coarse 50 = .ok (.if_icmp .ne 6, 3) := by decide +kernel
theorem dX0_coarse_53 : decode cX0_coarse 53 = .ok (.bipush (-2), 2) := by decide +kernel
theorem dX0_coarse_55 : decode cX0_coarse 55 = .ok (.ireturn, 1) := by decide +kernel
theorem dX0_coarse_56 : decode cX0_coarse 56 = .ok (.aload_n 0, 1) := by decide +kernel
theorem dX0_coarse_57 : decode cX0_coarse 57 = .ok (.invokevirtual 211, 3) := by decide +kernel
theorem dX0_coarse_60 : decode cX0_coarse 60 = .ok (.aload_n 0, 1) := by decide +kernel
theorem dX0_coarse_61 : decode cX0_coarse 61 = .ok (.getfield 74, 3) := by decide +kernel
theorem dX0_coarse_64 : decode cX0_coarse 64 = .ok (.aload_n 0, 1) := by decide +kernel
theorem dX0_coarse_65 : decode cX0_coarse 65 = .ok (.getfield 67, 3) := by decide +kernel
theorem dX0_coarse_68 : decode cX0_coarse 68 = .ok (.invokevirtual 312, 3) := by decide +kernel
theorem dX0_coarse_71 : decode cX0_coarse 71 = .ok (.aload_n 0, 1) := by decide +kernel
theorem dX0_coarse_72 : decode cX0_coarse 72 = .ok (.getfield 74, 3) := by decide +kernel
theorem dX0_coarse_75 : decode cX0_coarse 75 = .ok (.iload_n 1, 1) := by decide +kernel
theorem dX0_coarse_76 : decode cX0_coarse 76 = .ok (.bipush (-5), 2) := by decide +kernel
theorem dX0_coarse_78 : decode cX0_coarse 78 = .ok (.invokevirtual 196, 3) := by decide +kernel
theorem dX0_coarse_81 : decode cX0_coarse 81 = .ok (.iconst 0, 1) := by decide +kernel
theorem dX0_coarse_82 : decode cX0_coarse 82 = .ok (.istore 4, 2) := by decide +kernel
theorem dX0_coarse_84 : decode cX0_coarse 84 = .ok (.iconst 0, 1) := by decide +kernel
theorem dX0_coarse_85 : decode cX0_coarse 85 = .ok (.istore 5, 2) := by decide +kernel
theorem dX0_coarse_87 : decode cX0_coarse 87 = .ok (.iload 5, 2) := by decide +kernel
theorem dX0_coarse_89 : decode cX0_coarse 89 = .ok (.aload_n 0, 1) := by decide +kernel
theorem dX0_coarse_90 : decode cX0_coarse 90 = .ok (.getfield 74, 3) := by decide +kernel
theorem dX0_coarse_93 : decode cX0_coarse 93 = .ok (.getfield 281, 3) := by decide +kernel
theorem dX0_coarse_96 : decode cX0_coarse 96 = .ok (.aload_n 0, 1) := by decide +kernel
theorem dX0_coarse_97 : decode cX0_coarse 97 = .ok (.getfield 74, 3) := by decide +kernel
theorem dX0_coarse_100 : decode cX0_coarse 100 = .ok (.getfield 284, 3) := by decide +kernel
theorem dX0_coarse_103 : decode cX0_coarse 103 = .ok (.imul, 1) := by decide +kernel
theorem dX0_coarse_104 : decode cX0_coarse 104 = .ok (.if_icmp .ge 79, 3) := by decide +kernel
theorem dX0_coarse_107 : decode cX0_coarse 107 = .ok (.aload_n 0, 1) := by decide +kernel
theorem dX0_coarse_108 : decode cX0_coarse 108 = .ok (.getfield 74, 3) := by decide +kernel
theorem dX0_coarse_111 : decode cX0_coarse 111 = .ok (.aload_n 0, 1) := by decide +kernel
theorem dX0_coarse_112 : decode cX0_coarse 112 = .ok (.getfield 67, 3) := by decide +kernel
theorem dX0_coarse_115 : decode cX0_coarse 115 = .ok (.iload_n 1, 1) := by decide +kernel
theorem dX0_coarse_116 : decode cX0_coarse 116 = .ok (.iload 5, 2) := by decide +kernel
theorem dX0_coarse_118 : decode cX0_coarse 118 = .ok (.iload_n 2, 1) := by decide +kernel
theorem dX0_coarse_119 : decode cX0_coarse 119 = .ok (.invokevirtual 316, 3) := by decide +kernel
theorem dX0_coarse_122 : decode cX0_coarse 122 = .ok (.istore 6, 2) := by decide +kernel
theorem dX0_coarse_124 : decode cX0_coarse 124 = .ok (.aload_n 0, 1) := by decide +kernel
theorem dX0_coarse_125 : decode cX0_coarse 125 = .ok (.getfield 74, 3) := by decide +kernel
theorem dX0_coarse_128 : decode cX0_coarse 128 = .ok (.iload_n 1, 1) := by decide +kernel
theorem dX0_coarse_129 : decode cX0_coarse 129 = .ok (.iload 5, 2) := by decide +kernel
theorem dX0_coarse_131 : decode cX0_coarse 131 = .ok (.iload_n 2, 1) := by decide +kernel
theorem dX0_coarse_132 : decode cX0_coarse 132 = .ok (.invokevirtual 214, 3) := by decide +kernel
theorem dX0_coarse_135 : decode cX0_coarse 135 = .ok (.istore 7, 2) := by decide +kernel
theorem dX0_coarse_137 : decode cX0_coarse 137 = .ok (.iload 4, 2) := by decide +kernel
theorem dX0_coarse_139 : decode cX0_coarse 139 = .ok (.iload 6, 2) := by decide +kernel
theorem dX0_coarse_141 : decode cX0_coarse 141 = .ok (.ldc 224, 2) := by decide +kernel
theorem dX0_coarse_143 : decode cX0_coarse 143 = .ok (.if_icmp .eq 26, 3) := by decide +kernel
theorem dX0_coarse_146 : decode cX0_coarse 146 = .ok (.iload 7, 2) := by decide +kernel
theorem dX0_coarse_148 : decode cX0_coarse 148 = .ok (.ldc 224, 2) := by decide +kernel
theorem dX0_coarse_150 : decode cX0_coarse 150 = .ok (.if_icmp .eq 19, 3) := by decide +kernel
theorem dX0_coarse_153 : decode cX0_coarse 153 = .ok (.iload 6, 2) := by decide +kernel
theorem dX0_coarse_155 : decode cX0_coarse 155 = .ok (.i2l, 1) := by decide +kernel
theorem dX0_coarse_156 : decode cX0_coarse 156 = .ok (.iload 7, 2) := by decide +kernel
theorem dX0_coarse_158 : decode cX0_coarse 158 = .ok (.i2l, 1) := by decide +kernel
theorem dX0_coarse_159 : decode cX0_coarse 159 = .ok (.lsub, 1) := by decide +kernel
theorem dX0_coarse_160 : decode cX0_coarse 160 = .ok (.invokestatic 320, 3) := by decide +kernel
theorem dX0_coarse_163 : decode cX0_coarse 163 = .ok (.iload_n 3, 1) := by decide +kernel
theorem dX0_coarse_164 : decode cX0_coarse 164 = .ok (.i2l, 1) := by decide +kernel
theorem dX0_coarse_165 : decode cX0_coarse 165 = .ok (.lcmp, 1) := by decide +kernel
theorem dX0_coarse_166 : decode cX0_coarse 166 = .ok (.ifCond .le 7, 3) := by decide +kernel
theorem dX0_coarse_169 : decode cX0_coarse 169 = .ok (.iconst 1, 1) := by decide +kernel
theorem dX0_coarse_170 : decode cX0_coarse 170 = .ok (.goto 4, 3) := by decide +kernel
theorem dX0_coarse_173 : decode cX0_coarse 173 = .ok (.iconst 0, 1) := by decide +kernel
theorem dX0_coarse_174 : decode cX0_coarse 174 = .ok (.iadd, 1) := by decide +kernel
theorem dX0_coarse_175 : decode cX0_coarse 175 = .ok (.istore 4, 2) := by decide +kernel
theorem dX0_coarse_177 : decode cX0_coarse 177 = .ok (.iinc 5 1, 3) := by decide +kernel
theorem dX0_coarse_180 : decode cX0_coarse 180 = .ok (.goto (-93), 3) := by decide +kernel
theorem dX0_coarse_183 : decode cX0_coarse 183 = .ok (.iload 4, 2) := by decide +kernel
theorem dX0_coarse_185 : decode cX0_coarse 185 = .ok (.ireturn, 1) := by decide +kernel
def tb_X0_coarse (S_X0_isIn S_X0_isLetter S_X0_refresh S_X3_beginCoarse S_X3_run S_X3_meanOf S_X3_at S_J0_abs : ma_Cs) : Nat → ma_In := fun pc =>
 (if pc < 90 then
 (if pc < 44 then
 (if pc < 22 then
 (if pc < 12 then
 (if pc < 3 then
 (if pc < 1 then
 (if pc = 0 then in_ild 1 1 else in_no) else
 (if pc < 2 then
 (if pc = 1 then in_il (fun x => x.toInt64) 2 else in_no) else
 (if pc = 2 then in_push (.long 1) 3 else in_no))) else
 (if pc < 6 then
 (if pc = 3 then in_push (.long 12) 6 else in_no) else
 (if pc < 9 then
 (if pc = 6 then in_s3 S_X0_isIn 9 else in_no) else
 (if pc = 9 then in_if1 (fun x => x = 0) 31 12 else in_no)))) else
 (if pc < 19 then
 (if pc < 13 then
 (if pc = 12 then in_ild 2 13 else in_no) else
 (if pc < 16 then
 (if pc = 13 then in_s1 S_X0_isLetter 16 else in_no) else
 (if pc = 16 then in_if1 (fun x => x = 0) 31 19 else in_no))) else
 (if pc < 20 then
 (if pc = 19 then in_ild 3 20 else in_no) else
 (if pc < 21 then
 (if pc = 20 then in_il (fun x => x.toInt64) 21 else in_no) else
 (if pc = 21 then in_push (.long 0) 22 else in_no))))) else
 (if pc < 34 then
 (if pc < 31 then
 (if pc < 25 then
 (if pc = 22 then in_push (.long 1000000) 25 else in_no) else
 (if pc < 28 then
 (if pc = 25 then in_s3 S_X0_isIn 28 else in_no) else
 (if pc = 28 then in_if1 (fun x => x = 0) 31 33 else in_no))) else
 (if pc < 32 then
 (if pc = 31 then in_push (.int (-1)) 32 else in_no) else
 (if pc < 33 then
 (if pc = 32 then in_ri else in_no) else
 (if pc = 33 then in_ald 0 34 else in_no)))) else
 (if pc < 39 then
 (if pc < 37 then
 (if pc = 34 then in_get YX 0 5 37 else in_no) else
 (if pc < 38 then
 (if pc = 37 then in_push (.int 2) 38 else in_no) else
 (if pc = 38 then in_idv (fun x y => x - x / y * y) 39 else in_no))) else
 (if pc < 40 then
 (if pc = 39 then in_push (.int 1) 40 else in_no) else
 (if pc < 43 then
 (if pc = 40 then in_if2 (fun x y => x = y) 53 43 else in_no) else
 (if pc = 43 then in_ald 0 44 else in_no)))))) else
 (if pc < 65 then
 (if pc < 55 then
 (if pc < 49 then
 (if pc < 47 then
 (if pc = 44 then in_get YX 0 6 47 else in_no) else
 (if pc < 48 then
 (if pc = 47 then in_push (.int 2) 48 else in_no) else
 (if pc = 48 then in_idv (fun x y => x - x / y * y) 49 else in_no))) else
 (if pc < 50 then
 (if pc = 49 then in_push (.int 1) 50 else in_no) else
 (if pc < 53 then
 (if pc = 50 then in_if2 (fun x y => x = y) 53 56 else in_no) else
 (if pc = 53 then in_push (.int (-2)) 55 else in_no)))) else
 (if pc < 60 then
 (if pc < 56 then
 (if pc = 55 then in_ri else in_no) else
 (if pc < 57 then
 (if pc = 56 then in_ald 0 57 else in_no) else
 (if pc = 57 then in_v1 YX 0 S_X0_refresh 60 else in_no))) else
 (if pc < 61 then
 (if pc = 60 then in_ald 0 61 else in_no) else
 (if pc < 64 then
 (if pc = 61 then in_get YX 0 18 64 else in_no) else
 (if pc = 64 then in_ald 0 65 else in_no))))) else
 (if pc < 78 then
 (if pc < 72 then
 (if pc < 68 then
 (if pc = 65 then in_get YX 0 16 68 else in_no) else
 (if pc < 71 then
 (if pc = 68 then in_v2 YX 3 S_X3_beginCoarse 71 else in_no) else
 (if pc = 71 then in_ald 0 72 else in_no))) else
 (if pc < 75 then
 (if pc = 72 then in_get YX 0 18 75 else in_no) else
 (if pc < 76 then
 (if pc = 75 then in_ild 1 76 else in_no) else
 (if pc = 76 then in_push (.int (-5)) 78 else in_no)))) else
 (if pc < 84 then
 (if pc < 81 then
 (if pc = 78 then in_v3 YX 3 S_X3_run 81 else in_no) else
 (if pc < 82 then
 (if pc = 81 then in_push (.int 0) 82 else in_no) else
 (if pc = 82 then in_ist 4 84 else in_no))) else
 (if pc < 87 then
 (if pc < 85 then
 (if pc = 84 then in_push (.int 0) 85 else in_no) else
 (if pc = 85 then in_ist 5 87 else in_no)) else
 (if pc < 89 then
 (if pc = 87 then in_ild 5 89 else in_no) else
 (if pc = 89 then in_ald 0 90 else in_no))))))) else
 (if pc < 139 then
 (if pc < 116 then
 (if pc < 104 then
 (if pc < 97 then
 (if pc < 93 then
 (if pc = 90 then in_get YX 0 18 93 else in_no) else
 (if pc < 96 then
 (if pc = 93 then in_get YX 3 0 96 else in_no) else
 (if pc = 96 then in_ald 0 97 else in_no))) else
 (if pc < 100 then
 (if pc = 97 then in_get YX 0 18 100 else in_no) else
 (if pc < 103 then
 (if pc = 100 then in_get YX 3 1 103 else in_no) else
 (if pc = 103 then in_iii (fun x y => x * y) 104 else in_no)))) else
 (if pc < 111 then
 (if pc < 107 then
 (if pc = 104 then in_if2 (fun x y => y ≤ x) 183 107 else in_no) else
 (if pc < 108 then
 (if pc = 107 then in_ald 0 108 else in_no) else
 (if pc = 108 then in_get YX 0 18 111 else in_no))) else
 (if pc < 112 then
 (if pc = 111 then in_ald 0 112 else in_no) else
 (if pc < 115 then
 (if pc = 112 then in_get YX 0 16 115 else in_no) else
 (if pc = 115 then in_ild 1 116 else in_no))))) else
 (if pc < 128 then
 (if pc < 122 then
 (if pc < 118 then
 (if pc = 116 then in_ild 5 118 else in_no) else
 (if pc < 119 then
 (if pc = 118 then in_ild 2 119 else in_no) else
 (if pc = 119 then in_v5 YX 3 S_X3_meanOf 122 else in_no))) else
 (if pc < 124 then
 (if pc = 122 then in_ist 6 124 else in_no) else
 (if pc < 125 then
 (if pc = 124 then in_ald 0 125 else in_no) else
 (if pc = 125 then in_get YX 0 18 128 else in_no)))) else
 (if pc < 132 then
 (if pc < 129 then
 (if pc = 128 then in_ild 1 129 else in_no) else
 (if pc < 131 then
 (if pc = 129 then in_ild 5 131 else in_no) else
 (if pc = 131 then in_ild 2 132 else in_no))) else
 (if pc < 135 then
 (if pc = 132 then in_v4 YX 3 S_X3_at 135 else in_no) else
 (if pc < 137 then
 (if pc = 135 then in_ist 7 137 else in_no) else
 (if pc = 137 then in_ild 4 139 else in_no)))))) else
 (if pc < 163 then
 (if pc < 153 then
 (if pc < 146 then
 (if pc < 141 then
 (if pc = 139 then in_ild 6 141 else in_no) else
 (if pc < 143 then
 (if pc = 141 then in_push (.int 2000000000) 143 else in_no) else
 (if pc = 143 then in_if2 (fun x y => x = y) 169 146 else in_no))) else
 (if pc < 148 then
 (if pc = 146 then in_ild 7 148 else in_no) else
 (if pc < 150 then
 (if pc = 148 then in_push (.int 2000000000) 150 else in_no) else
 (if pc = 150 then in_if2 (fun x y => x = y) 169 153 else in_no)))) else
 (if pc < 158 then
 (if pc < 155 then
 (if pc = 153 then in_ild 6 155 else in_no) else
 (if pc < 156 then
 (if pc = 155 then in_il (fun x => x.toInt64) 156 else in_no) else
 (if pc = 156 then in_ild 7 158 else in_no))) else
 (if pc < 159 then
 (if pc = 158 then in_il (fun x => x.toInt64) 159 else in_no) else
 (if pc < 160 then
 (if pc = 159 then in_lll (fun x y => x - y) 160 else in_no) else
 (if pc = 160 then in_s1 S_J0_abs 163 else in_no))))) else
 (if pc < 173 then
 (if pc < 166 then
 (if pc < 164 then
 (if pc = 163 then in_ild 3 164 else in_no) else
 (if pc < 165 then
 (if pc = 164 then in_il (fun x => x.toInt64) 165 else in_no) else
 (if pc = 165 then in_lli lg_cmp 166 else in_no))) else
 (if pc < 169 then
 (if pc = 166 then in_if1 (fun x => x ≤ 0) 173 169 else in_no) else
 (if pc < 170 then
 (if pc = 169 then in_push (.int 1) 170 else in_no) else
 (if pc = 170 then in_go 174 else in_no)))) else
 (if pc < 177 then
 (if pc < 174 then
 (if pc = 173 then in_push (.int 0) 174 else in_no) else
 (if pc < 175 then
 (if pc = 174 then in_iii (fun x y => x + y) 175 else in_no) else
 (if pc = 175 then in_ist 4 177 else in_no))) else
 (if pc < 183 then
 (if pc < 180 then
 (if pc = 177 then in_inc 5 1 180 else in_no) else
 (if pc = 180 then in_go 87 else in_no)) else
 (if pc < 185 then
 (if pc = 183 then in_ild 4 185 else in_no) else
 (if pc = 185 then in_ri else in_no))))))))
theorem tk_X0_coarse {l : Launch} {w : ma_Wd} {NC : Nat} {A : Nat → Prop} {S_X0_isIn S_X0_isLetter S_X0_refresh S_X3_beginCoarse S_X3_run S_X3_meanOf S_X3_at S_J0_abs : ma_Cs} (h_X0_isIn : ma_Sd l w YX NC A yX0_isIn cX0_isIn 6 (some .boolean) rm_X0_isIn S_X0_isIn) (h_X0_isLetter : ma_Sd l w YX NC A yX0_isLetter cX0_isLetter 1 (some .boolean) rm_X0_isLetter S_X0_isLetter) (h_X0_refresh : ma_Sd l w YX NC A yX0_refresh cX0_refresh 1 none rm_X0_refresh S_X0_refresh) (h_X3_beginCoarse : ma_Sd l w YX NC A yX3_beginCoarse cX3_beginCoarse 4 none rm_X3_beginCoarse S_X3_beginCoarse) (h_X3_run : ma_Sd l w YX NC A yX3_run cX3_run 8 none rm_X3_run S_X3_run) (h_X3_meanOf : ma_Sd l w YX NC A yX3_meanOf cX3_meanOf 11 (some .int) rm_X3_meanOf S_X3_meanOf) (h_X3_at : ma_Sd l w YX NC A yX3_at cX3_at 4 (some .int) rm_X3_at S_X3_at) (h_J0_abs : ma_Sd l w YX NC A yJ0_abs cJ0_abs 2 (some .long) rm_J0_abs S_J0_abs) {p : Program} {e : Env} {s : State} {m : MethodId} {args : Array Value} {below : List Frame} {meth : Method} {c : Code} (X : ma_Cx p s m args meth c w YX NC A yX0_coarse.cls cX0_coarse 8 (some .int)) : ∀ pc, ma_Ok p l e rm_X0_coarse s m args below meth c w YX NC A 8 pc (tb_X0_coarse S_X0_isIn S_X0_isLetter S_X0_refresh S_X3_beginCoarse S_X3_run S_X3_meanOf S_X3_at S_J0_abs pc) := fun pc =>
 (mk_lt
 (mk_lt
 (mk_lt
 (mk_lt
 (mk_lt
 (mk_lt
 (mk_eq (mk_iload_n X dX0_coarse_0 rfl rfl))
 (mk_lt
 (mk_eq (mk_i2l X dX0_coarse_1 rfl))
 (mk_eq (mk_lconst X dX0_coarse_2 rfl rfl))))
 (mk_lt
 (mk_eq (mk_ldc2 X dX0_coarse_3 q479 rfl))
 (mk_lt
 (mk_eq (mk_S3 X h_X0_isIn (lw_S q355 q356 q61 q357) ⟨by decide, by decide, rfl⟩ ⟨(Nat.le_of_ble_eq_true rfl), (Nat.le_of_ble_eq_true rfl)⟩ dX0_coarse_6 rfl))
 (mk_eq (mk_ifeq X dX0_coarse_9 rfl rfl)))))
 (mk_lt
 (mk_lt
 (mk_eq (mk_iload_n X dX0_coarse_12 rfl rfl))
 (mk_lt
 (mk_eq (mk_S1 X h_X0_isLetter (lw_S q371 q372 q61 q373) ⟨by decide, by decide, rfl⟩ ⟨(Nat.le_of_ble_eq_true rfl), (Nat.le_of_ble_eq_true rfl)⟩ dX0_coarse_13 rfl))
 (mk_eq (mk_ifeq X dX0_coarse_16 rfl rfl))))
 (mk_lt
 (mk_eq (mk_iload_n X dX0_coarse_19 rfl rfl))
 (mk_lt
 (mk_eq (mk_i2l X dX0_coarse_20 rfl))
 (mk_eq (mk_lconst X dX0_coarse_21 rfl rfl))))))
 (mk_lt
 (mk_lt
 (mk_lt
 (mk_eq (mk_ldc2 X dX0_coarse_22 q376 rfl))
 (mk_lt
 (mk_eq (mk_S3 X h_X0_isIn (lw_S q355 q356 q61 q357) ⟨by decide, by decide, rfl⟩ ⟨(Nat.le_of_ble_eq_true rfl), (Nat.le_of_ble_eq_true rfl)⟩ dX0_coarse_25 rfl))
 (mk_eq (mk_ifne X dX0_coarse_28 rfl rfl))))
 (mk_lt
 (mk_eq (mk_iconst X dX0_coarse_31 rfl rfl))
 (mk_lt
 (mk_eq (mk_ri X dX0_coarse_32))
 (mk_eq (mk_aload_n X dX0_coarse_33 rfl rfl)))))
 (mk_lt
 (mk_lt
 (mk_eq (mk_get X (ci := 0) (j := 5) rfl in_X0 (Nat.le_of_ble_eq_true rfl) q232 dX0_coarse_34 rfl))
 (mk_lt
 (mk_eq (mk_iconst X dX0_coarse_37 rfl rfl))
 (mk_eq (mk_irem X dX0_coarse_38 rfl))))
 (mk_lt
 (mk_eq (mk_iconst X dX0_coarse_39 rfl rfl))
 (mk_lt
 (mk_eq (mk_iceq X dX0_coarse_40 rfl rfl))
 (mk_eq (mk_aload_n X dX0_coarse_43 rfl rfl)))))))
 (mk_lt
 (mk_lt
 (mk_lt
 (mk_lt
 (mk_eq (mk_get X (ci := 0) (j := 6) rfl in_X0 (Nat.le_of_ble_eq_true rfl) q234 dX0_coarse_44 rfl))
 (mk_lt
 (mk_eq (mk_iconst X dX0_coarse_47 rfl rfl))
 (mk_eq (mk_irem X dX0_coarse_48 rfl))))
 (mk_lt
 (mk_eq (mk_iconst X dX0_coarse_49 rfl rfl))
 (mk_lt
 (mk_eq (mk_icne X dX0_coarse_50 rfl rfl))
 (mk_eq (mk_bipush X dX0_coarse_53 rfl rfl)))))
 (mk_lt
 (mk_lt
 (mk_eq (mk_ri X dX0_coarse_55))
 (mk_lt
 (mk_eq (mk_aload_n X dX0_coarse_56 rfl rfl))
 (mk_eq (mk_V1 X h_X0_refresh (ci := 0) rfl (lw_V q481 q483 qs13 q61 q484) ⟨rfl, by decide, by decide, rfl⟩ ⟨(Nat.le_of_ble_eq_true rfl), (Nat.le_of_ble_eq_true rfl)⟩ dX0_coarse_57 rfl))))
 (mk_lt
 (mk_eq (mk_aload_n X dX0_coarse_60 rfl rfl))
 (mk_lt
 (mk_eq (mk_get X (ci := 0) (j := 18) rfl in_X0 (Nat.le_of_ble_eq_true rfl) q264 dX0_coarse_61 rfl))
 (mk_eq (mk_aload_n X dX0_coarse_64 rfl rfl))))))
 (mk_lt
 (mk_lt
 (mk_lt
 (mk_eq (mk_get X (ci := 0) (j := 16) rfl in_X0 (Nat.le_of_ble_eq_true rfl) q262 dX0_coarse_65 rfl))
 (mk_lt
 (mk_eq (mk_V2 X h_X3_beginCoarse (ci := 3) rfl (lw_V q698 q699 q700 q64 q701) ⟨rfl, by decide, by decide, rfl⟩ ⟨(Nat.le_of_ble_eq_true rfl), (Nat.le_of_ble_eq_true rfl)⟩ dX0_coarse_68 rfl))
 (mk_eq (mk_aload_n X dX0_coarse_71 rfl rfl))))
 (mk_lt
 (mk_eq (mk_get X (ci := 0) (j := 18) rfl in_X0 (Nat.le_of_ble_eq_true rfl) q264 dX0_coarse_72 rfl))
 (mk_lt
 (mk_eq (mk_iload_n X dX0_coarse_75 rfl rfl))
 (mk_eq (mk_bipush X dX0_coarse_76 rfl rfl)))))
 (mk_lt
 (mk_lt
 (mk_eq (mk_V3 X h_X3_run (ci := 3) rfl (lw_V q510 q511 q512 q64 q513) ⟨rfl, by decide, by decide, rfl⟩ ⟨(Nat.le_of_ble_eq_true rfl), (Nat.le_of_ble_eq_true rfl)⟩ dX0_coarse_78 rfl))
 (mk_lt
 (mk_eq (mk_iconst X dX0_coarse_81 rfl rfl))
 (mk_eq (mk_istore X dX0_coarse_82 (Nat.le_of_ble_eq_true rfl) rfl))))
 (mk_lt
 (mk_lt
 (mk_eq (mk_iconst X dX0_coarse_84 rfl rfl))
 (mk_eq (mk_istore X dX0_coarse_85 (Nat.le_of_ble_eq_true rfl) rfl)))
 (mk_lt
 (mk_eq (mk_iload X dX0_coarse_87 rfl))
 (mk_eq (mk_aload_n X dX0_coarse_89 rfl rfl))))))))
 (mk_lt
 (mk_lt
 (mk_lt
 (mk_lt
 (mk_lt
 (mk_eq (mk_get X (ci := 0) (j := 18) rfl in_X0 (Nat.le_of_ble_eq_true rfl) q264 dX0_coarse_90 rfl))
 (mk_lt
 (mk_eq (mk_getN X (ci := 3) (j := 0) rfl in_X3 (Nat.le_of_ble_eq_true rfl) (List.mem_of_getElem? (i := 4) rfl) dX0_coarse_93 rfl))
 (mk_eq (mk_aload_n X dX0_coarse_96 rfl rfl))))
 (mk_lt
 (mk_eq (mk_get X (ci := 0) (j := 18) rfl in_X0 (Nat.le_of_ble_eq_true rfl) q264 dX0_coarse_97 rfl))
 (mk_lt
 (mk_eq (mk_getN X (ci := 3) (j := 1) rfl in_X3 (Nat.le_of_ble_eq_true rfl) (List.mem_of_getElem? (i := 5) rfl) dX0_coarse_100 rfl))
 (mk_eq (mk_imul X dX0_coarse_103 rfl)))))
 (mk_lt
 (mk_lt
 (mk_eq (mk_icge X dX0_coarse_104 rfl rfl))
 (mk_lt
 (mk_eq (mk_aload_n X dX0_coarse_107 rfl rfl))
 (mk_eq (mk_get X (ci := 0) (j := 18) rfl in_X0 (Nat.le_of_ble_eq_true rfl) q264 dX0_coarse_108 rfl))))
 (mk_lt
 (mk_eq (mk_aload_n X dX0_coarse_111 rfl rfl))
 (mk_lt
 (mk_eq (mk_get X (ci := 0) (j := 16) rfl in_X0 (Nat.le_of_ble_eq_true rfl) q262 dX0_coarse_112 rfl))
 (mk_eq (mk_iload_n X dX0_coarse_115 rfl rfl))))))
 (mk_lt
 (mk_lt
 (mk_lt
 (mk_eq (mk_iload X dX0_coarse_116 rfl))
 (mk_lt
 (mk_eq (mk_iload_n X dX0_coarse_118 rfl rfl))
 (mk_eq (mk_VN5 X h_X3_meanOf (ci := 3) rfl (lw_meth q705) (List.mem_of_getElem? (i := 4) rfl) q64 q704 qs27 ⟨by decide, by decide, rfl⟩ ⟨(Nat.le_of_ble_eq_true rfl), (Nat.le_of_ble_eq_true rfl)⟩ dX0_coarse_119 rfl))))
 (mk_lt
 (mk_eq (mk_istore X dX0_coarse_122 (Nat.le_of_ble_eq_true rfl) rfl))
 (mk_lt
 (mk_eq (mk_aload_n X dX0_coarse_124 rfl rfl))
 (mk_eq (mk_get X (ci := 0) (j := 18) rfl in_X0 (Nat.le_of_ble_eq_true rfl) q264 dX0_coarse_125 rfl)))))
 (mk_lt
 (mk_lt
 (mk_eq (mk_iload_n X dX0_coarse_128 rfl rfl))
 (mk_lt
 (mk_eq (mk_iload X dX0_coarse_129 rfl))
 (mk_eq (mk_iload_n X dX0_coarse_131 rfl rfl))))
 (mk_lt
 (mk_eq (mk_V4 X h_X3_at (ci := 3) rfl (lw_V q553 q516 q517 q64 q518) ⟨rfl, by decide, by decide, rfl⟩ ⟨(Nat.le_of_ble_eq_true rfl), (Nat.le_of_ble_eq_true rfl)⟩ dX0_coarse_132 rfl))
 (mk_lt
 (mk_eq (mk_istore X dX0_coarse_135 (Nat.le_of_ble_eq_true rfl) rfl))
 (mk_eq (mk_iload X dX0_coarse_137 rfl)))))))
 (mk_lt
 (mk_lt
 (mk_lt
 (mk_lt
 (mk_eq (mk_iload X dX0_coarse_139 rfl))
 (mk_lt
 (mk_eq (mk_ldc X dX0_coarse_141 q567 rfl))
 (mk_eq (mk_iceq X dX0_coarse_143 rfl rfl))))
 (mk_lt
 (mk_eq (mk_iload X dX0_coarse_146 rfl))
 (mk_lt
 (mk_eq (mk_ldc X dX0_coarse_148 q567 rfl))
 (mk_eq (mk_iceq X dX0_coarse_150 rfl rfl)))))
 (mk_lt
 (mk_lt
 (mk_eq (mk_iload X dX0_coarse_153 rfl))
 (mk_lt
 (mk_eq (mk_i2l X dX0_coarse_155 rfl))
 (mk_eq (mk_iload X dX0_coarse_156 rfl))))
 (mk_lt
 (mk_eq (mk_i2l X dX0_coarse_158 rfl))
 (mk_lt
 (mk_eq (mk_lsub X dX0_coarse_159 rfl))
 (mk_eq (mk_S1 X h_J0_abs (lw_S q708 q525 q67 q526) ⟨by decide, by decide, rfl⟩ ⟨(Nat.le_of_ble_eq_true rfl), (Nat.le_of_ble_eq_true rfl)⟩ dX0_coarse_160 rfl))))))
 (mk_lt
 (mk_lt
 (mk_lt
 (mk_eq (mk_iload_n X dX0_coarse_163 rfl rfl))
 (mk_lt
 (mk_eq (mk_i2l X dX0_coarse_164 rfl))
 (mk_eq (mk_lcmp X dX0_coarse_165 rfl))))
 (mk_lt
 (mk_eq (mk_ifle X dX0_coarse_166 rfl rfl))
 (mk_lt
 (mk_eq (mk_iconst X dX0_coarse_169 rfl rfl))
 (mk_eq (mk_goto X dX0_coarse_170 rfl)))))
 (mk_lt
 (mk_lt
 (mk_eq (mk_iconst X dX0_coarse_173 rfl rfl))
 (mk_lt
 (mk_eq (mk_iadd X dX0_coarse_174 rfl))
 (mk_eq (mk_istore X dX0_coarse_175 (Nat.le_of_ble_eq_true rfl) rfl))))
 (mk_lt
 (mk_lt
 (mk_eq (mk_iinc X dX0_coarse_177 rfl (Nat.le_of_ble_eq_true rfl) rfl))
 (mk_eq (mk_goto X dX0_coarse_180 rfl)))
 (mk_lt
 (mk_eq (mk_iload X dX0_coarse_183 rfl))
 (mk_eq (mk_ri X dX0_coarse_185)))))))))
theorem sd_X0_coarse {l : Launch} {w : ma_Wd} {NC : Nat} {A : Nat → Prop} {S_X0_isIn S_X0_isLetter S_X0_refresh S_X3_beginCoarse S_X3_run S_X3_meanOf S_X3_at S_J0_abs : ma_Cs} (hw : ma_Wo w YX NC A) (h_X0_isIn : ma_Sd l w YX NC A yX0_isIn cX0_isIn 6 (some .boolean) rm_X0_isIn S_X0_isIn) (h_X0_isLetter : ma_Sd l w YX NC A yX0_isLetter cX0_isLetter 1 (some .boolean) rm_X0_isLetter S_X0_isLetter) (h_X0_refresh : ma_Sd l w YX NC A yX0_refresh cX0_refresh 1 none rm_X0_refresh S_X0_refresh) (h_X3_beginCoarse : ma_Sd l w YX NC A yX3_beginCoarse cX3_beginCoarse 4 none rm_X3_beginCoarse S_X3_beginCoarse) (h_X3_run : ma_Sd l w YX NC A yX3_run cX3_run 8 none rm_X3_run S_X3_run) (h_X3_meanOf : ma_Sd l w YX NC A yX3_meanOf cX3_meanOf 11 (some .int) rm_X3_meanOf S_X3_meanOf) (h_X3_at : ma_Sd l w YX NC A yX3_at cX3_at 4 (some .int) rm_X3_at S_X3_at) (h_J0_abs : ma_Sd l w YX NC A yJ0_abs cJ0_abs 2 (some .long) rm_J0_abs S_J0_abs) : ma_Sd l w YX NC A yX0_coarse cX0_coarse 8 (some .int) rm_X0_coarse (ma_rn (tb_X0_coarse S_X0_isIn S_X0_isLetter S_X0_refresh S_X3_beginCoarse S_X3_run S_X3_meanOf S_X3_at S_J0_abs) 8) := ma_of hw (by decide) ⟨rfl, rfl⟩ (fun X => tk_X0_coarse h_X0_isIn h_X0_isLetter h_X0_refresh h_X3_beginCoarse h_X3_run h_X3_meanOf h_X3_at h_J0_abs X)
theorem dX0_keep_0 : decode cX0_keep 0 = .ok (.aload_n 0, 1) := by decide +kernel
theorem dX0_keep_1 : decode cX0_keep 1 = .ok (.getfield 131, 3) := by decide +kernel
theorem dX0_keep_4 : decode cX0_keep 4 = .ok (.iconst 2, 1) := by decide +kernel
theorem dX0_keep_5 : decode cX0_keep 5 = .ok (.if_icmp .ne 6, 3) := by decide +kernel
theorem dX0_keep_8 : decode cX0_keep 8 = .ok (.bipush (-3), 2) := by decide +kernel
theorem dX0_keep_10 : decode cX0_keep 10 = .ok (.ireturn, 1) := by decide +kernel
theorem dX0_keep_11 : decode cX0_keep 11 = .ok (.aload_n 0, 1) := by decide +kernel
theorem dX0_keep_12 : decode cX0_keep 12 = .ok (.getfield 113, 3) := by decide +kernel
theorem dX0_keep_15 : decode cX0_keep 15 = .ok (.aload_n 0, 1) := by decide +kernel
theorem dX0_keep_16 : decode cX0_keep 16 = .ok (.getfield 131, 3) := by decide +kernel
theorem dX0_keep_19 : decode cX0_keep 19 = .ok (.aaload, 1) := by decide +kernel
theorem dX0_keep_20 : decode cX0_keep 20 = .ok (.aload_n 0, 1) := by decide +kernel
theorem dX0_keep_21 : decode cX0_keep 21 = .ok (.invokevirtual 324, 3) := by decide +kernel
theorem dX0_keep_24 : decode cX0_keep 24 = .ok (.aload_n 0, 1) := by decide +kernel
theorem dX0_keep_25 : decode cX0_keep 25 = .ok (.dup, 1) := by decide +kernel
theorem dX0_keep_26 : decode cX0_keep 26 = .ok (.getfield 131, 3) := by decide +kernel
theorem dX0_keep_29 : decode cX0_keep 29 = .ok (.iconst 1, 1) := by decide +kernel
theorem dX0_keep_30 : decode cX0_keep 30 = .ok (.iadd, 1) := by decide +kernel
theorem dX0_keep_31 : decode cX0_keep 31 = .ok (.putfield 131, 3) := by decide +kernel
theorem dX0_keep_34 : decode cX0_keep 34 = .ok (.aload_n 0, 1) := by decide +kernel
theorem dX0_keep_35 : decode cX0_keep 35 = .ok (.getfield 131, 3) := by decide +kernel
theorem dX0_keep_38 : decode cX0_keep 38 = .ok (.ireturn, 1) := by decide +kernel
def tb_X0_keep (S_X4_keep : ma_Cs) : Nat → ma_In := fun pc =>
 (if pc < 20 then
 (if pc < 10 then
 (if pc < 4 then
 (if pc < 1 then
 (if pc = 0 then in_ald 0 1 else in_no) else
 (if pc = 1 then in_get YX 0 33 4 else in_no)) else
 (if pc < 5 then
 (if pc = 4 then in_push (.int 2) 5 else in_no) else
 (if pc < 8 then
 (if pc = 5 then in_if2 (fun x y => x = y) 8 11 else in_no) else
 (if pc = 8 then in_push (.int (-3)) 10 else in_no)))) else
 (if pc < 15 then
 (if pc < 11 then
 (if pc = 10 then in_ri else in_no) else
 (if pc < 12 then
 (if pc = 11 then in_ald 0 12 else in_no) else
 (if pc = 12 then in_get YX 0 32 15 else in_no))) else
 (if pc < 16 then
 (if pc = 15 then in_ald 0 16 else in_no) else
 (if pc < 19 then
 (if pc = 16 then in_get YX 0 33 19 else in_no) else
 (if pc = 19 then in_aar YX 20 else in_no))))) else
 (if pc < 29 then
 (if pc < 24 then
 (if pc < 21 then
 (if pc = 20 then in_ald 0 21 else in_no) else
 (if pc = 21 then in_v2 YX 4 S_X4_keep 24 else in_no)) else
 (if pc < 25 then
 (if pc = 24 then in_ald 0 25 else in_no) else
 (if pc < 26 then
 (if pc = 25 then in_dup 26 else in_no) else
 (if pc = 26 then in_get YX 0 33 29 else in_no)))) else
 (if pc < 34 then
 (if pc < 30 then
 (if pc = 29 then in_push (.int 1) 30 else in_no) else
 (if pc < 31 then
 (if pc = 30 then in_iii (fun x y => x + y) 31 else in_no) else
 (if pc = 31 then in_put YX 0 33 34 else in_no))) else
 (if pc < 35 then
 (if pc = 34 then in_ald 0 35 else in_no) else
 (if pc < 38 then
 (if pc = 35 then in_get YX 0 33 38 else in_no) else
 (if pc = 38 then in_ri else in_no))))))
theorem tk_X0_keep {l : Launch} {w : ma_Wd} {NC : Nat} {A : Nat → Prop} {S_X4_keep : ma_Cs} (h_X4_keep : ma_Sd l w YX NC A yX4_keep cX4_keep 2 none rm_X4_keep S_X4_keep) {p : Program} {e : Env} {s : State} {m : MethodId} {args : Array Value} {below : List Frame} {meth : Method} {c : Code} (X : ma_Cx p s m args meth c w YX NC A yX0_keep.cls cX0_keep 1 (some .int)) : ∀ pc, ma_Ok p l e rm_X0_keep s m args below meth c w YX NC A 1 pc (tb_X0_keep S_X4_keep pc) := fun pc =>
 (mk_lt
 (mk_lt
 (mk_lt
 (mk_lt
 (mk_eq (mk_aload_n X dX0_keep_0 rfl rfl))
 (mk_eq (mk_get X (ci := 0) (j := 33) rfl in_X0 (Nat.le_of_ble_eq_true rfl) q279 dX0_keep_1 rfl)))
 (mk_lt
 (mk_eq (mk_iconst X dX0_keep_4 rfl rfl))
 (mk_lt
 (mk_eq (mk_icne X dX0_keep_5 rfl rfl))
 (mk_eq (mk_bipush X dX0_keep_8 rfl rfl)))))
 (mk_lt
 (mk_lt
 (mk_eq (mk_ri X dX0_keep_10))
 (mk_lt
 (mk_eq (mk_aload_n X dX0_keep_11 rfl rfl))
 (mk_eq (mk_get X (ci := 0) (j := 32) rfl in_X0 (Nat.le_of_ble_eq_true rfl) q278 dX0_keep_12 rfl))))
 (mk_lt
 (mk_eq (mk_aload_n X dX0_keep_15 rfl rfl))
 (mk_lt
 (mk_eq (mk_get X (ci := 0) (j := 33) rfl in_X0 (Nat.le_of_ble_eq_true rfl) q279 dX0_keep_16 rfl))
 (mk_eq (mk_aar X dX0_keep_19 rfl))))))
 (mk_lt
 (mk_lt
 (mk_lt
 (mk_eq (mk_aload_n X dX0_keep_20 rfl rfl))
 (mk_eq (mk_V2 X h_X4_keep (ci := 4) rfl (lw_V q713 q714 q715 q65 q716) ⟨rfl, by decide, by decide, rfl⟩ ⟨(Nat.le_of_ble_eq_true rfl), (Nat.le_of_ble_eq_true rfl)⟩ dX0_keep_21 rfl)))
 (mk_lt
 (mk_eq (mk_aload_n X dX0_keep_24 rfl rfl))
 (mk_lt
 (mk_eq (mk_dup X dX0_keep_25 rfl))
 (mk_eq (mk_get X (ci := 0) (j := 33) rfl in_X0 (Nat.le_of_ble_eq_true rfl) q279 dX0_keep_26 rfl)))))
 (mk_lt
 (mk_lt
 (mk_eq (mk_iconst X dX0_keep_29 rfl rfl))
 (mk_lt
 (mk_eq (mk_iadd X dX0_keep_30 rfl))
 (mk_eq (mk_put X (ci := 0) (j := 33) rfl in_X0 tyX0_ok nmX0 (Nat.le_of_ble_eq_true rfl) rfl rfl q279 dX0_keep_31 rfl))))
 (mk_lt
 (mk_eq (mk_aload_n X dX0_keep_34 rfl rfl))
 (mk_lt
 (mk_eq (mk_get X (ci := 0) (j := 33) rfl in_X0 (Nat.le_of_ble_eq_true rfl) q279 dX0_keep_35 rfl))
 (mk_eq (mk_ri X dX0_keep_38)))))))
theorem sd_X0_keep {l : Launch} {w : ma_Wd} {NC : Nat} {A : Nat → Prop} {S_X4_keep : ma_Cs} (hw : ma_Wo w YX NC A) (h_X4_keep : ma_Sd l w YX NC A yX4_keep cX4_keep 2 none rm_X4_keep S_X4_keep) : ma_Sd l w YX NC A yX0_keep cX0_keep 1 (some .int) rm_X0_keep (ma_rn (tb_X0_keep S_X4_keep) 1) := ma_of hw (by decide) ⟨rfl, rfl⟩ (fun X => tk_X0_keep h_X4_keep X)
theorem dX0_back_0 : decode cX0_back 0 = .ok (.aload_n 0, 1) := by decide +kernel
theorem dX0_back_1 : decode cX0_back 1 = .ok (.getfield 131, 3) := by decide +kernel
theorem dX0_back_4 : decode cX0_back 4 = .ok (.ifCond .ne 6, 3) := by decide +kernel
theorem dX0_back_7 : decode cX0_back 7 = .ok (.bipush (-2), 2) := by decide +kernel
theorem dX0_back_9 : decode cX0_back 9 = .ok (.ireturn, 1) := by decide +kernel
theorem dX0_back_10 : decode cX0_back 10 = .ok (.aload_n 0, 1) := by decide +kernel
theorem dX0_back_11 : decode cX0_back 11 = .ok (.dup, 1) := by decide +kernel
theorem dX0_back_12 : decode cX0_back 12 = .ok (.getfield 131, 3) := by decide +kernel
theorem dX0_back_15 : decode cX0_back 15 = .ok (.iconst 1, 1) := by decide +kernel
theorem dX0_back_16 : decode cX0_back 16 = .ok (.isub, 1) := by decide +kernel
theorem dX0_back_17 : decode cX0_back 17 = .ok (.putfield 131, 3) := by decide +kernel
theorem dX0_back_20 : decode cX0_back 20 = .ok (.aload_n 0, 1) := by decide +kernel
theorem dX0_back_21 : decode cX0_back 21 = .ok (.getfield 113, 3) := by decide +kernel
theorem dX0_back_24 : decode cX0_back 24 = .ok (.aload_n 0, 1) := by decide +kernel
theorem dX0_back_25 : decode cX0_back 25 = .ok (.getfield 131, 3) := by decide +kernel
theorem dX0_back_28 : decode cX0_back 28 = .ok (.aaload, 1) := by decide +kernel
theorem dX0_back_29 : decode cX0_back 29 = .ok (.aload_n 0, 1) := by decide +kernel
theorem dX0_back_30 : decode cX0_back 30 = .ok (.invokevirtual 327, 3) := by decide +kernel
theorem dX0_back_33 : decode cX0_back 33 = .ok (.aload_n 0, 1) := by decide +kernel
theorem dX0_back_34 : decode cX0_back 34 = .ok (.getfield 131, 3) := by decide +kernel
theorem dX0_back_37 : decode cX0_back 37 = .ok (.ireturn, 1) := by decide +kernel
def tb_X0_back (S_X4_back : ma_Cs) : Nat → ma_In := fun pc =>
 (if pc < 17 then
 (if pc < 10 then
 (if pc < 4 then
 (if pc < 1 then
 (if pc = 0 then in_ald 0 1 else in_no) else
 (if pc = 1 then in_get YX 0 33 4 else in_no)) else
 (if pc < 7 then
 (if pc = 4 then in_if1 (fun x => x = 0) 7 10 else in_no) else
 (if pc < 9 then
 (if pc = 7 then in_push (.int (-2)) 9 else in_no) else
 (if pc = 9 then in_ri else in_no)))) else
 (if pc < 12 then
 (if pc < 11 then
 (if pc = 10 then in_ald 0 11 else in_no) else
 (if pc = 11 then in_dup 12 else in_no)) else
 (if pc < 15 then
 (if pc = 12 then in_get YX 0 33 15 else in_no) else
 (if pc < 16 then
 (if pc = 15 then in_push (.int 1) 16 else in_no) else
 (if pc = 16 then in_iii (fun x y => x - y) 17 else in_no))))) else
 (if pc < 28 then
 (if pc < 21 then
 (if pc < 20 then
 (if pc = 17 then in_put YX 0 33 20 else in_no) else
 (if pc = 20 then in_ald 0 21 else in_no)) else
 (if pc < 24 then
 (if pc = 21 then in_get YX 0 32 24 else in_no) else
 (if pc < 25 then
 (if pc = 24 then in_ald 0 25 else in_no) else
 (if pc = 25 then in_get YX 0 33 28 else in_no)))) else
 (if pc < 33 then
 (if pc < 29 then
 (if pc = 28 then in_aar YX 29 else in_no) else
 (if pc < 30 then
 (if pc = 29 then in_ald 0 30 else in_no) else
 (if pc = 30 then in_v2 YX 4 S_X4_back 33 else in_no))) else
 (if pc < 34 then
 (if pc = 33 then in_ald 0 34 else in_no) else
 (if pc < 37 then
 (if pc = 34 then in_get YX 0 33 37 else in_no) else
 (if pc = 37 then in_ri else in_no))))))
theorem tk_X0_back {l : Launch} {w : ma_Wd} {NC : Nat} {A : Nat → Prop} {S_X4_back : ma_Cs} (h_X4_back : ma_Sd l w YX NC A yX4_back cX4_back 2 none rm_X4_back S_X4_back) {p : Program} {e : Env} {s : State} {m : MethodId} {args : Array Value} {below : List Frame} {meth : Method} {c : Code} (X : ma_Cx p s m args meth c w YX NC A yX0_back.cls cX0_back 1 (some .int)) : ∀ pc, ma_Ok p l e rm_X0_back s m args below meth c w YX NC A 1 pc (tb_X0_back S_X4_back pc) := fun pc =>
 (mk_lt
 (mk_lt
 (mk_lt
 (mk_lt
 (mk_eq (mk_aload_n X dX0_back_0 rfl rfl))
 (mk_eq (mk_get X (ci := 0) (j := 33) rfl in_X0 (Nat.le_of_ble_eq_true rfl) q279 dX0_back_1 rfl)))
 (mk_lt
 (mk_eq (mk_ifne X dX0_back_4 rfl rfl))
 (mk_lt
 (mk_eq (mk_bipush X dX0_back_7 rfl rfl))
 (mk_eq (mk_ri X dX0_back_9)))))
 (mk_lt
 (mk_lt
 (mk_eq (mk_aload_n X dX0_back_10 rfl rfl))
 (mk_eq (mk_dup X dX0_back_11 rfl)))
 (mk_lt
 (mk_eq (mk_get X (ci := 0) (j := 33) rfl in_X0 (Nat.le_of_ble_eq_true rfl) q279 dX0_back_12 rfl))
 (mk_lt
 (mk_eq (mk_iconst X dX0_back_15 rfl rfl))
 (mk_eq (mk_isub X dX0_back_16 rfl))))))
 (mk_lt
 (mk_lt
 (mk_lt
 (mk_eq (mk_put X (ci := 0) (j := 33) rfl in_X0 tyX0_ok nmX0 (Nat.le_of_ble_eq_true rfl) rfl rfl q279 dX0_back_17 rfl))
 (mk_eq (mk_aload_n X dX0_back_20 rfl rfl)))
 (mk_lt
 (mk_eq (mk_get X (ci := 0) (j := 32) rfl in_X0 (Nat.le_of_ble_eq_true rfl) q278 dX0_back_21 rfl))
 (mk_lt
 (mk_eq (mk_aload_n X dX0_back_24 rfl rfl))
 (mk_eq (mk_get X (ci := 0) (j := 33) rfl in_X0 (Nat.le_of_ble_eq_true rfl) q279 dX0_back_25 rfl)))))
 (mk_lt
 (mk_lt
 (mk_eq (mk_aar X dX0_back_28 rfl))
 (mk_lt
 (mk_eq (mk_aload_n X dX0_back_29 rfl rfl))
 (mk_eq (mk_V2 X h_X4_back (ci := 4) rfl (lw_V q723 q724 q725 q65 q726) ⟨rfl, by decide, by decide, rfl⟩ ⟨(Nat.le_of_ble_eq_true rfl), (Nat.le_of_ble_eq_true rfl)⟩ dX0_back_30 rfl))))
 (mk_lt
 (mk_eq (mk_aload_n X dX0_back_33 rfl rfl))
 (mk_lt
 (mk_eq (mk_get X (ci := 0) (j := 33) rfl in_X0 (Nat.le_of_ble_eq_true rfl) q279 dX0_back_34 rfl))
 (mk_eq (mk_ri X dX0_back_37)))))))
theorem sd_X0_back {l : Launch} {w : ma_Wd} {NC : Nat} {A : Nat → Prop} {S_X4_back : ma_Cs} (hw : ma_Wo w YX NC A) (h_X4_back : ma_Sd l w YX NC A yX4_back cX4_back 2 none rm_X4_back S_X4_back) : ma_Sd l w YX NC A yX0_back cX0_back 1 (some .int) rm_X0_back (ma_rn (tb_X0_back S_X4_back) 1) := ma_of hw (by decide) ⟨rfl, rfl⟩ (fun X => tk_X0_back h_X4_back X)
theorem dX0_count_0 : decode cX0_count 0 = .ok (.iconst 0, 1) := by decide +kernel
theorem dX0_count_1 : decode cX0_count 1 = .ok (.istore_n 2, 1) := by decide +kernel
theorem dX0_count_2 : decode cX0_count 2 = .ok (.iload_n 1, 1) := by decide +kernel
theorem dX0_count_3 : decode cX0_count 3 = .ok (.tableswitch 113 0 6 #[41, 46, 51, 59, 98, 103, 108], 41) := by decide +kernel
theorem dX0_count_44 : decode cX0_count 44 = .ok (.aload_n 0, 1) := by decide +kernel
theorem dX0_count_45 : decode cX0_count 45 = .ok (.invokevirtual 121, 3) := by decide +kernel
theorem dX0_count_48 : decode cX0_count 48 = .ok (.ireturn, 1) := by decide +kernel
theorem dX0_count_49 : decode cX0_count 49 = .ok (.aload_n 0, 1) := by decide +kernel
theorem dX0_count_50 : decode cX0_count 50 = .ok (.getfield 161, 3) := by decide +kernel
theorem dX0_count_53 : decode cX0_count 53 = .ok (.ireturn, 1) := by decide +kernel
theorem dX0_count_54 : decode cX0_count 54 = .ok (.aload_n 0, 1) := by decide +kernel
theorem dX0_count_55 : decode cX0_count 55 = .ok (.getfield 35, 3) := by decide +kernel
theorem dX0_count_58 : decode cX0_count 58 = .ok (.getfield 171, 3) := by decide +kernel
theorem dX0_count_61 : decode cX0_count 61 = .ok (.ireturn, 1) := by decide +kernel
theorem dX0_count_62 : decode cX0_count 62 = .ok (.iconst 0, 1) := by decide +kernel
theorem dX0_count_63 : decode cX0_count 63 = .ok (.istore_n 3, 1) := by decide +kernel
theorem dX0_count_64 : decode cX0_count 64 = .ok (.iload_n 3, 1) := by decide +kernel
theorem dX0_count_65 : decode cX0_count 65 = .ok (.aload_n 0, 1) := by decide +kernel
theorem dX0_count_66 : decode cX0_count 66 = .ok (.invokevirtual 121, 3) := by decide +kernel
theorem dX0_count_69 : decode cX0_count 69 = .ok (.iconst 4, 1) := by decide +kernel
theorem dX0_count_70 : decode cX0_count 70 = .ok (.imul, 1) := by decide +kernel
theorem dX0_count_71 : decode cX0_count 71 = .ok (.if_icmp .ge 28, 3) := by decide +kernel
theorem dX0_count_74 : decode cX0_count 74 = .ok (.iload_n 2, 1) := by decide +kernel
theorem dX0_count_75 : decode cX0_count 75 = .ok (.aload_n 0, 1) := by decide +kernel
theorem dX0_count_76 : decode cX0_count 76 = .ok (.getfield 49, 3) := by decide +kernel
theorem dX0_count_79 : decode cX0_count 79 = .ok (.iload_n 3, 1) := by decide +kernel
theorem dX0_count_80 : decode cX0_count 80 = .ok (.iaload, 1) := by decide +kernel
theorem dX0_count_81 : decode cX0_count 81 = .ok (.ldc 127, 2) := by decide +kernel
theorem dX0_count_83 : decode cX0_count 83 = .ok (.if_icmp .ne 7, 3) := by decide +kernel
theorem dX0_count_86 : decode cX0_count 86 = .ok (.iconst 1, 1) := by decide +kernel
theorem dX0_count_87 : decode cX0_count 87 = .ok (.goto 4, 3) := by decide +kernel
theorem dX0_count_90 : decode cX0_count 90 = .ok (.iconst 0, 1) := by decide +kernel
theorem dX0_count_91 : decode cX0_count 91 = .ok (.iadd, 1) := by decide +kernel
theorem dX0_count_92 : decode cX0_count 92 = .ok (.istore_n 2, 1) := by decide +kernel
theorem dX0_count_93 : decode cX0_count 93 = .ok (.iinc 3 1, 3) := by decide +kernel
theorem dX0_count_96 : decode cX0_count 96 = .ok (.goto (-32), 3) := by decide +kernel
theorem dX0_count_99 : decode cX0_count 99 = .ok (.iload_n 2, 1) := by decide +kernel
theorem dX0_count_100 : decode cX0_count 100 = .ok (.ireturn, 1) := by decide +kernel
theorem dX0_count_101 : decode cX0_count 101 = .ok (.aload_n 0, 1) := by decide +kernel
theorem dX0_count_102 : decode cX0_count 102 = .ok (.getfield 128, 3) := by decide +kernel
theorem dX0_count_105 : decode cX0_count 105 = .ok (.ireturn, 1) := by decide +kernel
theorem dX0_count_106 : decode cX0_count 106 = .ok (.aload_n 0, 1) := by decide +kernel
theorem dX0_count_107 : decode cX0_count 107 = .ok (.getfield 131, 3) := by decide +kernel
theorem dX0_count_110 : decode cX0_count 110 = .ok (.ireturn, 1) := by decide +kernel
theorem dX0_count_111 : decode cX0_count 111 = .ok (.aload_n 0, 1) := by decide +kernel
theorem dX0_count_112 : decode cX0_count 112 = .ok (.invokevirtual 250, 3) := by decide +kernel
theorem dX0_count_115 : decode cX0_count 115 = .ok (.ireturn, 1) := by decide +kernel
theorem dX0_count_116 : decode cX0_count 116 = .ok (.iconst (-1), 1) := by decide +kernel
theorem dX0_count_117 : decode cX0_count 117 = .ok (.ireturn, 1) := by decide +kernel
def tb_X0_count (S_X0_cells S_X0_toldMany : ma_Cs) : Nat → ma_In := fun pc =>
 (if pc < 76 then
 (if pc < 58 then
 (if pc < 48 then
 (if pc < 3 then
 (if pc < 1 then
 (if pc = 0 then in_push (.int 0) 1 else in_no) else
 (if pc < 2 then
 (if pc = 1 then in_ist 2 2 else in_no) else
 (if pc = 2 then in_ild 1 3 else in_no))) else
 (if pc < 44 then
 (if pc = 3 then in_sw [44, 49, 54, 62, 101, 106, 111] 116 else in_no) else
 (if pc < 45 then
 (if pc = 44 then in_ald 0 45 else in_no) else
 (if pc = 45 then in_v1 YX 0 S_X0_cells 48 else in_no)))) else
 (if pc < 53 then
 (if pc < 49 then
 (if pc = 48 then in_ri else in_no) else
 (if pc < 50 then
 (if pc = 49 then in_ald 0 50 else in_no) else
 (if pc = 50 then in_get YX 0 0 53 else in_no))) else
 (if pc < 54 then
 (if pc = 53 then in_ri else in_no) else
 (if pc < 55 then
 (if pc = 54 then in_ald 0 55 else in_no) else
 (if pc = 55 then in_get YX 0 4 58 else in_no))))) else
 (if pc < 66 then
 (if pc < 63 then
 (if pc < 61 then
 (if pc = 58 then in_get YX 2 0 61 else in_no) else
 (if pc < 62 then
 (if pc = 61 then in_ri else in_no) else
 (if pc = 62 then in_push (.int 0) 63 else in_no))) else
 (if pc < 64 then
 (if pc = 63 then in_ist 3 64 else in_no) else
 (if pc < 65 then
 (if pc = 64 then in_ild 3 65 else in_no) else
 (if pc = 65 then in_ald 0 66 else in_no)))) else
 (if pc < 71 then
 (if pc < 69 then
 (if pc = 66 then in_v1 YX 0 S_X0_cells 69 else in_no) else
 (if pc < 70 then
 (if pc = 69 then in_push (.int 4) 70 else in_no) else
 (if pc = 70 then in_iii (fun x y => x * y) 71 else in_no))) else
 (if pc < 74 then
 (if pc = 71 then in_if2 (fun x y => y ≤ x) 99 74 else in_no) else
 (if pc < 75 then
 (if pc = 74 then in_ild 2 75 else in_no) else
 (if pc = 75 then in_ald 0 76 else in_no)))))) else
 (if pc < 99 then
 (if pc < 87 then
 (if pc < 81 then
 (if pc < 79 then
 (if pc = 76 then in_get YX 0 9 79 else in_no) else
 (if pc < 80 then
 (if pc = 79 then in_ild 3 80 else in_no) else
 (if pc = 80 then in_iar YX 81 else in_no))) else
 (if pc < 83 then
 (if pc = 81 then in_push (.int 2000000) 83 else in_no) else
 (if pc < 86 then
 (if pc = 83 then in_if2 (fun x y => x = y) 86 90 else in_no) else
 (if pc = 86 then in_push (.int 1) 87 else in_no)))) else
 (if pc < 92 then
 (if pc < 90 then
 (if pc = 87 then in_go 91 else in_no) else
 (if pc < 91 then
 (if pc = 90 then in_push (.int 0) 91 else in_no) else
 (if pc = 91 then in_iii (fun x y => x + y) 92 else in_no))) else
 (if pc < 93 then
 (if pc = 92 then in_ist 2 93 else in_no) else
 (if pc < 96 then
 (if pc = 93 then in_inc 3 1 96 else in_no) else
 (if pc = 96 then in_go 64 else in_no))))) else
 (if pc < 107 then
 (if pc < 102 then
 (if pc < 100 then
 (if pc = 99 then in_ild 2 100 else in_no) else
 (if pc < 101 then
 (if pc = 100 then in_ri else in_no) else
 (if pc = 101 then in_ald 0 102 else in_no))) else
 (if pc < 105 then
 (if pc = 102 then in_get YX 0 10 105 else in_no) else
 (if pc < 106 then
 (if pc = 105 then in_ri else in_no) else
 (if pc = 106 then in_ald 0 107 else in_no)))) else
 (if pc < 112 then
 (if pc < 110 then
 (if pc = 107 then in_get YX 0 33 110 else in_no) else
 (if pc < 111 then
 (if pc = 110 then in_ri else in_no) else
 (if pc = 111 then in_ald 0 112 else in_no))) else
 (if pc < 116 then
 (if pc < 115 then
 (if pc = 112 then in_v1 YX 0 S_X0_toldMany 115 else in_no) else
 (if pc = 115 then in_ri else in_no)) else
 (if pc < 117 then
 (if pc = 116 then in_push (.int (-1)) 117 else in_no) else
 (if pc = 117 then in_ri else in_no)))))))
theorem tk_X0_count {l : Launch} {w : ma_Wd} {NC : Nat} {A : Nat → Prop} {S_X0_cells S_X0_toldMany : ma_Cs} (h_X0_cells : ma_Sd l w YX NC A yX0_cells cX0_cells 1 (some .int) rm_X0_cells S_X0_cells) (h_X0_toldMany : ma_Sd l w YX NC A yX0_toldMany cX0_toldMany 7 (some .int) rm_X0_toldMany S_X0_toldMany) {p : Program} {e : Env} {s : State} {m : MethodId} {args : Array Value} {below : List Frame} {meth : Method} {c : Code} (X : ma_Cx p s m args meth c w YX NC A yX0_count.cls cX0_count 4 (some .int)) : ∀ pc, ma_Ok p l e rm_X0_count s m args below meth c w YX NC A 4 pc (tb_X0_count S_X0_cells S_X0_toldMany pc) := fun pc =>
 (mk_lt
 (mk_lt
 (mk_lt
 (mk_lt
 (mk_lt
 (mk_eq (mk_iconst X dX0_count_0 rfl rfl))
 (mk_lt
 (mk_eq (mk_istore_n X dX0_count_1 rfl (Nat.le_of_ble_eq_true rfl) rfl))
 (mk_eq (mk_iload_n X dX0_count_2 rfl rfl))))
 (mk_lt
 (mk_eq (mk_sw X dX0_count_3 rfl rfl (Nat.le_of_ble_eq_true rfl) rfl))
 (mk_lt
 (mk_eq (mk_aload_n X dX0_count_44 rfl rfl))
 (mk_eq (mk_V1 X h_X0_cells (ci := 0) rfl (lw_V q358 q360 qs2 q61 q361) ⟨rfl, by decide, by decide, rfl⟩ ⟨(Nat.le_of_ble_eq_true rfl), (Nat.le_of_ble_eq_true rfl)⟩ dX0_count_45 rfl)))))
 (mk_lt
 (mk_lt
 (mk_eq (mk_ri X dX0_count_48))
 (mk_lt
 (mk_eq (mk_aload_n X dX0_count_49 rfl rfl))
 (mk_eq (mk_get X (ci := 0) (j := 0) rfl in_X0 (Nat.le_of_ble_eq_true rfl) q223 dX0_count_50 rfl))))
 (mk_lt
 (mk_eq (mk_ri X dX0_count_53))
 (mk_lt
 (mk_eq (mk_aload_n X dX0_count_54 rfl rfl))
 (mk_eq (mk_get X (ci := 0) (j := 4) rfl in_X0 (Nat.le_of_ble_eq_true rfl) q230 dX0_count_55 rfl))))))
 (mk_lt
 (mk_lt
 (mk_lt
 (mk_eq (mk_getN X (ci := 2) (j := 0) rfl in_X2 (Nat.le_of_ble_eq_true rfl) (List.mem_of_getElem? (i := 0) rfl) dX0_count_58 rfl))
 (mk_lt
 (mk_eq (mk_ri X dX0_count_61))
 (mk_eq (mk_iconst X dX0_count_62 rfl rfl))))
 (mk_lt
 (mk_eq (mk_istore_n X dX0_count_63 rfl (Nat.le_of_ble_eq_true rfl) rfl))
 (mk_lt
 (mk_eq (mk_iload_n X dX0_count_64 rfl rfl))
 (mk_eq (mk_aload_n X dX0_count_65 rfl rfl)))))
 (mk_lt
 (mk_lt
 (mk_eq (mk_V1 X h_X0_cells (ci := 0) rfl (lw_V q358 q360 qs2 q61 q361) ⟨rfl, by decide, by decide, rfl⟩ ⟨(Nat.le_of_ble_eq_true rfl), (Nat.le_of_ble_eq_true rfl)⟩ dX0_count_66 rfl))
 (mk_lt
 (mk_eq (mk_iconst X dX0_count_69 rfl rfl))
 (mk_eq (mk_imul X dX0_count_70 rfl))))
 (mk_lt
 (mk_eq (mk_icge X dX0_count_71 rfl rfl))
 (mk_lt
 (mk_eq (mk_iload_n X dX0_count_74 rfl rfl))
 (mk_eq (mk_aload_n X dX0_count_75 rfl rfl)))))))
 (mk_lt
 (mk_lt
 (mk_lt
 (mk_lt
 (mk_eq (mk_get X (ci := 0) (j := 9) rfl in_X0 (Nat.le_of_ble_eq_true rfl) q243 dX0_count_76 rfl))
 (mk_lt
 (mk_eq (mk_iload_n X dX0_count_79 rfl rfl))
 (mk_eq (mk_iar X dX0_count_80 rfl))))
 (mk_lt
 (mk_eq (mk_ldc X dX0_count_81 q216 rfl))
 (mk_lt
 (mk_eq (mk_icne X dX0_count_83 rfl rfl))
 (mk_eq (mk_iconst X dX0_count_86 rfl rfl)))))
 (mk_lt
 (mk_lt
 (mk_eq (mk_goto X dX0_count_87 rfl))
 (mk_lt
 (mk_eq (mk_iconst X dX0_count_90 rfl rfl))
 (mk_eq (mk_iadd X dX0_count_91 rfl))))
 (mk_lt
 (mk_eq (mk_istore_n X dX0_count_92 rfl (Nat.le_of_ble_eq_true rfl) rfl))
 (mk_lt
 (mk_eq (mk_iinc X dX0_count_93 rfl (Nat.le_of_ble_eq_true rfl) rfl))
 (mk_eq (mk_goto X dX0_count_96 rfl))))))
 (mk_lt
 (mk_lt
 (mk_lt
 (mk_eq (mk_iload_n X dX0_count_99 rfl rfl))
 (mk_lt
 (mk_eq (mk_ri X dX0_count_100))
 (mk_eq (mk_aload_n X dX0_count_101 rfl rfl))))
 (mk_lt
 (mk_eq (mk_get X (ci := 0) (j := 10) rfl in_X0 (Nat.le_of_ble_eq_true rfl) q246 dX0_count_102 rfl))
 (mk_lt
 (mk_eq (mk_ri X dX0_count_105))
 (mk_eq (mk_aload_n X dX0_count_106 rfl rfl)))))
 (mk_lt
 (mk_lt
 (mk_eq (mk_get X (ci := 0) (j := 33) rfl in_X0 (Nat.le_of_ble_eq_true rfl) q279 dX0_count_107 rfl))
 (mk_lt
 (mk_eq (mk_ri X dX0_count_110))
 (mk_eq (mk_aload_n X dX0_count_111 rfl rfl))))
 (mk_lt
 (mk_lt
 (mk_eq (mk_V1 X h_X0_toldMany (ci := 0) rfl (lw_V q609 q611 qs21 q61 q612) ⟨rfl, by decide, by decide, rfl⟩ ⟨(Nat.le_of_ble_eq_true rfl), (Nat.le_of_ble_eq_true rfl)⟩ dX0_count_112 rfl))
 (mk_eq (mk_ri X dX0_count_115)))
 (mk_lt
 (mk_eq (mk_iconst X dX0_count_116 rfl rfl))
 (mk_eq (mk_ri X dX0_count_117))))))))
theorem sd_X0_count {l : Launch} {w : ma_Wd} {NC : Nat} {A : Nat → Prop} {S_X0_cells S_X0_toldMany : ma_Cs} (hw : ma_Wo w YX NC A) (h_X0_cells : ma_Sd l w YX NC A yX0_cells cX0_cells 1 (some .int) rm_X0_cells S_X0_cells) (h_X0_toldMany : ma_Sd l w YX NC A yX0_toldMany cX0_toldMany 7 (some .int) rm_X0_toldMany S_X0_toldMany) : ma_Sd l w YX NC A yX0_count cX0_count 4 (some .int) rm_X0_count (ma_rn (tb_X0_count S_X0_cells S_X0_toldMany) 4) := ma_of hw (by decide) ⟨rfl, rfl⟩ (fun X => tk_X0_count h_X0_cells h_X0_toldMany X)
