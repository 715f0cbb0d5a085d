/-! the tables are monotone -/
set_option maxRecDepth 100000
set_option maxHeartbeats 4000000
theorem mo_J0_min : ∀ pc, ma_mo (tb_J0_min  pc) := fun pc =>
 (mo_lt
 (mo_lt
 (mo_eq mo_ild)
 (mo_lt
 (mo_eq mo_ild)
 (mo_eq mo_if2)))
 (mo_lt
 (mo_lt
 (mo_eq mo_ild)
 (mo_eq mo_go))
 (mo_lt
 (mo_eq mo_ild)
 (mo_eq mo_ri))))
theorem mo_J0_floorDiv : ∀ pc, ma_mo (tb_J0_floorDiv  pc) := fun pc =>
 (mo_lt
 (mo_lt
 (mo_lt
 (mo_lt
 (mo_eq mo_ild)
 (mo_eq mo_ild))
 (mo_lt
 (mo_eq mo_idv)
 (mo_eq mo_ist)))
 (mo_lt
 (mo_lt
 (mo_eq mo_ild)
 (mo_eq mo_ild))
 (mo_lt
 (mo_eq mo_iii)
 (mo_lt
 (mo_eq mo_if1)
 (mo_eq mo_ild)))))
 (mo_lt
 (mo_lt
 (mo_lt
 (mo_eq mo_ild)
 (mo_eq mo_iii))
 (mo_lt
 (mo_eq mo_ild)
 (mo_lt
 (mo_eq mo_if2)
 (mo_eq mo_ild))))
 (mo_lt
 (mo_lt
 (mo_eq mo_push)
 (mo_eq mo_iii))
 (mo_lt
 (mo_eq mo_ri)
 (mo_lt
 (mo_eq mo_ild)
 (mo_eq mo_ri))))))
theorem mo_J0_abs : ∀ pc, ma_mo (tb_J0_abs  pc) := fun pc =>
 (mo_lt
 (mo_lt
 (mo_lt
 (mo_eq mo_lld)
 (mo_eq mo_push))
 (mo_lt
 (mo_eq mo_lli)
 (mo_eq mo_if1)))
 (mo_lt
 (mo_lt
 (mo_eq mo_lld)
 (mo_eq mo_ll))
 (mo_lt
 (mo_eq mo_go)
 (mo_lt
 (mo_eq mo_lld)
 (mo_eq mo_rl)))))
theorem mo_J0_floorDiv_2 : ∀ pc, ma_mo (tb_J0_floorDiv_2  pc) := fun pc =>
 (mo_lt
 (mo_lt
 (mo_lt
 (mo_lt
 (mo_eq mo_lld)
 (mo_eq mo_lld))
 (mo_lt
 (mo_eq mo_ldv)
 (mo_lt
 (mo_eq mo_lst)
 (mo_eq mo_lld))))
 (mo_lt
 (mo_lt
 (mo_eq mo_lld)
 (mo_lt
 (mo_eq mo_lll)
 (mo_eq mo_push)))
 (mo_lt
 (mo_eq mo_lli)
 (mo_lt
 (mo_eq mo_if1)
 (mo_eq mo_lld)))))
 (mo_lt
 (mo_lt
 (mo_lt
 (mo_eq mo_lld)
 (mo_eq mo_lll))
 (mo_lt
 (mo_eq mo_lld)
 (mo_lt
 (mo_eq mo_lli)
 (mo_eq mo_if1))))
 (mo_lt
 (mo_lt
 (mo_eq mo_lld)
 (mo_lt
 (mo_eq mo_push)
 (mo_eq mo_lll)))
 (mo_lt
 (mo_eq mo_rl)
 (mo_lt
 (mo_eq mo_lld)
 (mo_eq mo_rl))))))
theorem mo_J0_abs_2 : ∀ pc, ma_mo (tb_J0_abs_2  pc) := fun pc =>
 (mo_lt
 (mo_lt
 (mo_eq mo_ild)
 (mo_lt
 (mo_eq mo_if1)
 (mo_eq mo_ild)))
 (mo_lt
 (mo_lt
 (mo_eq mo_ii)
 (mo_eq mo_go))
 (mo_lt
 (mo_eq mo_ild)
 (mo_eq mo_ri))))
theorem mo_J0_max : ∀ pc, ma_mo (tb_J0_max  pc) := fun pc =>
 (mo_lt
 (mo_lt
 (mo_eq mo_ild)
 (mo_lt
 (mo_eq mo_ild)
 (mo_eq mo_if2)))
 (mo_lt
 (mo_lt
 (mo_eq mo_ild)
 (mo_eq mo_go))
 (mo_lt
 (mo_eq mo_ild)
 (mo_eq mo_ri))))
theorem mo_J1_bitCount : ∀ pc, ma_mo (tb_J1_bitCount  pc) := fun pc =>
 (mo_lt
 (mo_lt
 (mo_lt
 (mo_lt
 (mo_lt
 (mo_eq mo_ild)
 (mo_eq mo_ild))
 (mo_lt
 (mo_eq mo_push)
 (mo_lt
 (mo_eq mo_iii)
 (mo_eq mo_push))))
 (mo_lt
 (mo_lt
 (mo_eq mo_iii)
 (mo_eq mo_iii))
 (mo_lt
 (mo_eq mo_ist)
 (mo_lt
 (mo_eq mo_ild)
 (mo_eq mo_push)))))
 (mo_lt
 (mo_lt
 (mo_lt
 (mo_eq mo_iii)
 (mo_eq mo_ild))
 (mo_lt
 (mo_eq mo_push)
 (mo_lt
 (mo_eq mo_iii)
 (mo_eq mo_push))))
 (mo_lt
 (mo_lt
 (mo_eq mo_iii)
 (mo_lt
 (mo_eq mo_iii)
 (mo_eq mo_ist)))
 (mo_lt
 (mo_eq mo_ild)
 (mo_lt
 (mo_eq mo_ild)
 (mo_eq mo_push))))))
 (mo_lt
 (mo_lt
 (mo_lt
 (mo_lt
 (mo_eq mo_iii)
 (mo_eq mo_iii))
 (mo_lt
 (mo_eq mo_push)
 (mo_lt
 (mo_eq mo_iii)
 (mo_eq mo_ist))))
 (mo_lt
 (mo_lt
 (mo_eq mo_ild)
 (mo_eq mo_ild))
 (mo_lt
 (mo_eq mo_push)
 (mo_lt
 (mo_eq mo_iii)
 (mo_eq mo_iii)))))
 (mo_lt
 (mo_lt
 (mo_lt
 (mo_eq mo_ist)
 (mo_eq mo_ild))
 (mo_lt
 (mo_eq mo_ild)
 (mo_lt
 (mo_eq mo_push)
 (mo_eq mo_iii))))
 (mo_lt
 (mo_lt
 (mo_eq mo_iii)
 (mo_lt
 (mo_eq mo_ist)
 (mo_eq mo_ild)))
 (mo_lt
 (mo_eq mo_push)
 (mo_lt
 (mo_eq mo_iii)
 (mo_eq mo_ri)))))))
theorem mo_X2_lineOf : ∀ pc, ma_mo (tb_X2_lineOf  pc) := fun pc =>
 (mo_lt
 (mo_lt
 (mo_lt
 (mo_lt
 (mo_eq mo_push)
 (mo_eq mo_ist))
 (mo_lt
 (mo_eq mo_ild)
 (mo_eq mo_ald)))
 (mo_lt
 (mo_lt
 (mo_eq mo_get)
 (mo_eq mo_if2))
 (mo_lt
 (mo_eq mo_ald)
 (mo_lt
 (mo_eq mo_get)
 (mo_eq mo_ild)))))
 (mo_lt
 (mo_lt
 (mo_lt
 (mo_eq mo_iar)
 (mo_eq mo_ild))
 (mo_lt
 (mo_eq mo_if2)
 (mo_eq mo_ild)))
 (mo_lt
 (mo_lt
 (mo_eq mo_ri)
 (mo_eq mo_inc))
 (mo_lt
 (mo_eq mo_go)
 (mo_lt
 (mo_eq mo_push)
 (mo_eq mo_ri))))))
theorem mo_X2_copy : ∀ pc, ma_mo (tb_X2_copy  pc) := fun pc =>
 (mo_lt
 (mo_lt
 (mo_lt
 (mo_lt
 (mo_lt
 (mo_lt
 (mo_eq mo_ald)
 (mo_eq mo_ald))
 (mo_lt
 (mo_eq mo_get)
 (mo_eq mo_put)))
 (mo_lt
 (mo_lt
 (mo_eq mo_ald)
 (mo_eq mo_ald))
 (mo_lt
 (mo_eq mo_get)
 (mo_eq mo_put))))
 (mo_lt
 (mo_lt
 (mo_lt
 (mo_eq mo_ald)
 (mo_eq mo_get))
 (mo_lt
 (mo_eq mo_push)
 (mo_eq mo_ald)))
 (mo_lt
 (mo_lt
 (mo_eq mo_get)
 (mo_eq mo_push))
 (mo_lt
 (mo_eq mo_push)
 (mo_eq mo_cpy)))))
 (mo_lt
 (mo_lt
 (mo_lt
 (mo_lt
 (mo_eq mo_ald)
 (mo_eq mo_get))
 (mo_lt
 (mo_eq mo_push)
 (mo_eq mo_ald)))
 (mo_lt
 (mo_lt
 (mo_eq mo_get)
 (mo_eq mo_push))
 (mo_lt
 (mo_eq mo_push)
 (mo_eq mo_cpy))))
 (mo_lt
 (mo_lt
 (mo_lt
 (mo_eq mo_ald)
 (mo_eq mo_get))
 (mo_lt
 (mo_eq mo_push)
 (mo_eq mo_ald)))
 (mo_lt
 (mo_lt
 (mo_eq mo_get)
 (mo_eq mo_push))
 (mo_lt
 (mo_eq mo_push)
 (mo_eq mo_cpy))))))
 (mo_lt
 (mo_lt
 (mo_lt
 (mo_lt
 (mo_lt
 (mo_eq mo_ald)
 (mo_eq mo_get))
 (mo_lt
 (mo_eq mo_push)
 (mo_eq mo_ald)))
 (mo_lt
 (mo_lt
 (mo_eq mo_get)
 (mo_eq mo_push))
 (mo_lt
 (mo_eq mo_push)
 (mo_eq mo_cpy))))
 (mo_lt
 (mo_lt
 (mo_lt
 (mo_eq mo_ald)
 (mo_eq mo_get))
 (mo_lt
 (mo_eq mo_push)
 (mo_eq mo_ald)))
 (mo_lt
 (mo_lt
 (mo_eq mo_get)
 (mo_eq mo_push))
 (mo_lt
 (mo_eq mo_push)
 (mo_eq mo_cpy)))))
 (mo_lt
 (mo_lt
 (mo_lt
 (mo_lt
 (mo_eq mo_ald)
 (mo_eq mo_get))
 (mo_lt
 (mo_eq mo_push)
 (mo_eq mo_ald)))
 (mo_lt
 (mo_lt
 (mo_eq mo_get)
 (mo_eq mo_push))
 (mo_lt
 (mo_eq mo_push)
 (mo_eq mo_cpy))))
 (mo_lt
 (mo_lt
 (mo_lt
 (mo_eq mo_ald)
 (mo_eq mo_get))
 (mo_lt
 (mo_eq mo_push)
 (mo_eq mo_ald)))
 (mo_lt
 (mo_lt
 (mo_eq mo_get)
 (mo_eq mo_push))
 (mo_lt
 (mo_eq mo_push)
 (mo_lt
 (mo_eq mo_cpy)
 (mo_eq mo_rv))))))))
theorem mo_X2_hasProduct : ∀ pc, ma_mo (tb_X2_hasProduct  pc) := fun pc =>
 (mo_lt
 (mo_lt
 (mo_lt
 (mo_lt
 (mo_eq mo_push)
 (mo_lt
 (mo_eq mo_ist)
 (mo_eq mo_ald)))
 (mo_lt
 (mo_lt
 (mo_eq mo_get)
 (mo_eq mo_ild))
 (mo_lt
 (mo_eq mo_iar)
 (mo_eq mo_ist))))
 (mo_lt
 (mo_lt
 (mo_lt
 (mo_eq mo_ild)
 (mo_eq mo_ald))
 (mo_lt
 (mo_eq mo_get)
 (mo_eq mo_ild)))
 (mo_lt
 (mo_lt
 (mo_eq mo_push)
 (mo_eq mo_iii))
 (mo_lt
 (mo_eq mo_iar)
 (mo_eq mo_if2)))))
 (mo_lt
 (mo_lt
 (mo_lt
 (mo_lt
 (mo_eq mo_ild)
 (mo_eq mo_ald))
 (mo_lt
 (mo_eq mo_get)
 (mo_eq mo_ild)))
 (mo_lt
 (mo_lt
 (mo_eq mo_iar)
 (mo_eq mo_push))
 (mo_lt
 (mo_eq mo_if2)
 (mo_eq mo_push))))
 (mo_lt
 (mo_lt
 (mo_lt
 (mo_eq mo_go)
 (mo_eq mo_push))
 (mo_lt
 (mo_eq mo_iii)
 (mo_eq mo_ist)))
 (mo_lt
 (mo_lt
 (mo_eq mo_inc)
 (mo_eq mo_go))
 (mo_lt
 (mo_eq mo_ild)
 (mo_eq mo_rz))))))
theorem mo_X2_isOwn : ∀ pc, ma_mo (tb_X2_isOwn  pc) := fun pc =>
 (mo_lt
 (mo_lt
 (mo_lt
 (mo_lt
 (mo_lt
 (mo_eq mo_push)
 (mo_eq mo_ist))
 (mo_lt
 (mo_eq mo_ald)
 (mo_lt
 (mo_eq mo_get)
 (mo_eq mo_ild))))
 (mo_lt
 (mo_lt
 (mo_eq mo_iar)
 (mo_eq mo_ist))
 (mo_lt
 (mo_eq mo_ild)
 (mo_lt
 (mo_eq mo_ald)
 (mo_eq mo_get)))))
 (mo_lt
 (mo_lt
 (mo_lt
 (mo_eq mo_ild)
 (mo_eq mo_push))
 (mo_lt
 (mo_eq mo_iii)
 (mo_lt
 (mo_eq mo_iar)
 (mo_eq mo_if2))))
 (mo_lt
 (mo_lt
 (mo_eq mo_ild)
 (mo_lt
 (mo_eq mo_ald)
 (mo_eq mo_get)))
 (mo_lt
 (mo_eq mo_ild)
 (mo_lt
 (mo_eq mo_iar)
 (mo_eq mo_push))))))
 (mo_lt
 (mo_lt
 (mo_lt
 (mo_lt
 (mo_eq mo_idv)
 (mo_eq mo_ald))
 (mo_lt
 (mo_eq mo_get)
 (mo_lt
 (mo_eq mo_ild)
 (mo_eq mo_iar))))
 (mo_lt
 (mo_lt
 (mo_eq mo_if2)
 (mo_lt
 (mo_eq mo_ald)
 (mo_eq mo_get)))
 (mo_lt
 (mo_eq mo_ild)
 (mo_lt
 (mo_eq mo_iar)
 (mo_eq mo_push)))))
 (mo_lt
 (mo_lt
 (mo_lt
 (mo_eq mo_idv)
 (mo_eq mo_if1))
 (mo_lt
 (mo_eq mo_push)
 (mo_lt
 (mo_eq mo_go)
 (mo_eq mo_push))))
 (mo_lt
 (mo_lt
 (mo_eq mo_iii)
 (mo_lt
 (mo_eq mo_ist)
 (mo_eq mo_inc)))
 (mo_lt
 (mo_eq mo_go)
 (mo_lt
 (mo_eq mo_ild)
 (mo_eq mo_rz)))))))
theorem mo_X2_factors {S_J0_abs_2 : ma_Cs} (hS_J0_abs_2 : ma_ms S_J0_abs_2) : ∀ pc, ma_mo (tb_X2_factors S_J0_abs_2 pc) := fun pc =>
 (mo_lt
 (mo_lt
 (mo_lt
 (mo_lt
 (mo_lt
 (mo_eq mo_push)
 (mo_eq mo_ist))
 (mo_lt
 (mo_eq mo_ald)
 (mo_eq mo_get)))
 (mo_lt
 (mo_lt
 (mo_eq mo_ild)
 (mo_eq mo_iar))
 (mo_lt
 (mo_eq mo_ist)
 (mo_eq mo_ild))))
 (mo_lt
 (mo_lt
 (mo_lt
 (mo_eq mo_ald)
 (mo_eq mo_get))
 (mo_lt
 (mo_eq mo_ild)
 (mo_eq mo_push)))
 (mo_lt
 (mo_lt
 (mo_eq mo_iii)
 (mo_eq mo_iar))
 (mo_lt
 (mo_eq mo_if2)
 (mo_lt
 (mo_eq mo_ild)
 (mo_eq mo_ild))))))
 (mo_lt
 (mo_lt
 (mo_lt
 (mo_lt
 (mo_eq mo_if1)
 (mo_eq mo_ald))
 (mo_lt
 (mo_eq mo_get)
 (mo_eq mo_ild)))
 (mo_lt
 (mo_lt
 (mo_eq mo_iar)
 (mo_eq (mo_s1 hS_J0_abs_2)))
 (mo_lt
 (mo_eq mo_go)
 (mo_eq mo_ald))))
 (mo_lt
 (mo_lt
 (mo_lt
 (mo_eq mo_get)
 (mo_eq mo_ild))
 (mo_lt
 (mo_eq mo_iar)
 (mo_eq mo_iii)))
 (mo_lt
 (mo_lt
 (mo_eq mo_ist)
 (mo_eq mo_inc))
 (mo_lt
 (mo_eq mo_go)
 (mo_lt
 (mo_eq mo_ild)
 (mo_eq mo_ri)))))))
theorem mo_X4_keep {S_X2_copy : ma_Cs} (hS_X2_copy : ma_ms S_X2_copy) : ∀ pc, ma_mo (tb_X4_keep S_X2_copy pc) := fun pc =>
 (mo_lt
 (mo_lt
 (mo_lt
 (mo_lt
 (mo_lt
 (mo_eq mo_ald)
 (mo_lt
 (mo_eq mo_get)
 (mo_eq mo_ald)))
 (mo_lt
 (mo_lt
 (mo_eq mo_get)
 (mo_eq (mo_v2 hS_X2_copy)))
 (mo_lt
 (mo_eq mo_ald)
 (mo_eq mo_get))))
 (mo_lt
 (mo_lt
 (mo_lt
 (mo_eq mo_push)
 (mo_eq mo_ald))
 (mo_lt
 (mo_eq mo_get)
 (mo_eq mo_push)))
 (mo_lt
 (mo_lt
 (mo_eq mo_push)
 (mo_eq mo_cpy))
 (mo_lt
 (mo_eq mo_ald)
 (mo_eq mo_get)))))
 (mo_lt
 (mo_lt
 (mo_lt
 (mo_lt
 (mo_eq mo_push)
 (mo_eq mo_ald))
 (mo_lt
 (mo_eq mo_get)
 (mo_eq mo_push)))
 (mo_lt
 (mo_lt
 (mo_eq mo_push)
 (mo_eq mo_cpy))
 (mo_lt
 (mo_eq mo_ald)
 (mo_eq mo_ald))))
 (mo_lt
 (mo_lt
 (mo_lt
 (mo_eq mo_get)
 (mo_eq mo_put))
 (mo_lt
 (mo_eq mo_ald)
 (mo_eq mo_get)))
 (mo_lt
 (mo_lt
 (mo_eq mo_push)
 (mo_eq mo_ald))
 (mo_lt
 (mo_eq mo_get)
 (mo_eq mo_push))))))
 (mo_lt
 (mo_lt
 (mo_lt
 (mo_lt
 (mo_eq mo_push)
 (mo_lt
 (mo_eq mo_cpy)
 (mo_eq mo_ald)))
 (mo_lt
 (mo_lt
 (mo_eq mo_get)
 (mo_eq mo_push))
 (mo_lt
 (mo_eq mo_ald)
 (mo_eq mo_get))))
 (mo_lt
 (mo_lt
 (mo_lt
 (mo_eq mo_push)
 (mo_eq mo_push))
 (mo_lt
 (mo_eq mo_cpy)
 (mo_eq mo_ald)))
 (mo_lt
 (mo_lt
 (mo_eq mo_get)
 (mo_eq mo_push))
 (mo_lt
 (mo_eq mo_ald)
 (mo_eq mo_get)))))
 (mo_lt
 (mo_lt
 (mo_lt
 (mo_lt
 (mo_eq mo_push)
 (mo_eq mo_push))
 (mo_lt
 (mo_eq mo_cpy)
 (mo_eq mo_ald)))
 (mo_lt
 (mo_lt
 (mo_eq mo_get)
 (mo_eq mo_push))
 (mo_lt
 (mo_eq mo_ald)
 (mo_eq mo_get))))
 (mo_lt
 (mo_lt
 (mo_lt
 (mo_eq mo_push)
 (mo_eq mo_push))
 (mo_lt
 (mo_eq mo_cpy)
 (mo_eq mo_ald)))
 (mo_lt
 (mo_lt
 (mo_eq mo_ald)
 (mo_eq mo_get))
 (mo_lt
 (mo_eq mo_put)
 (mo_eq mo_rv)))))))
theorem mo_X4_back {S_X2_copy : ma_Cs} (hS_X2_copy : ma_ms S_X2_copy) : ∀ pc, ma_mo (tb_X4_back S_X2_copy pc) := fun pc =>
 (mo_lt
 (mo_lt
 (mo_lt
 (mo_lt
 (mo_lt
 (mo_lt
 (mo_eq mo_ald)
 (mo_eq mo_get))
 (mo_lt
 (mo_eq mo_ald)
 (mo_eq mo_get)))
 (mo_lt
 (mo_lt
 (mo_eq (mo_v2 hS_X2_copy))
 (mo_eq mo_ald))
 (mo_lt
 (mo_eq mo_get)
 (mo_eq mo_push))))
 (mo_lt
 (mo_lt
 (mo_lt
 (mo_eq mo_ald)
 (mo_eq mo_get))
 (mo_lt
 (mo_eq mo_push)
 (mo_eq mo_push)))
 (mo_lt
 (mo_lt
 (mo_eq mo_cpy)
 (mo_eq mo_ald))
 (mo_lt
 (mo_eq mo_get)
 (mo_eq mo_push)))))
 (mo_lt
 (mo_lt
 (mo_lt
 (mo_lt
 (mo_eq mo_ald)
 (mo_eq mo_get))
 (mo_lt
 (mo_eq mo_push)
 (mo_eq mo_push)))
 (mo_lt
 (mo_lt
 (mo_eq mo_cpy)
 (mo_eq mo_ald))
 (mo_lt
 (mo_eq mo_ald)
 (mo_eq mo_get))))
 (mo_lt
 (mo_lt
 (mo_lt
 (mo_eq mo_put)
 (mo_eq mo_ald))
 (mo_lt
 (mo_eq mo_get)
 (mo_eq mo_push)))
 (mo_lt
 (mo_lt
 (mo_eq mo_ald)
 (mo_eq mo_get))
 (mo_lt
 (mo_eq mo_push)
 (mo_eq mo_push))))))
 (mo_lt
 (mo_lt
 (mo_lt
 (mo_lt
 (mo_lt
 (mo_eq mo_cpy)
 (mo_eq mo_ald))
 (mo_lt
 (mo_eq mo_get)
 (mo_eq mo_push)))
 (mo_lt
 (mo_lt
 (mo_eq mo_ald)
 (mo_eq mo_get))
 (mo_lt
 (mo_eq mo_push)
 (mo_eq mo_push))))
 (mo_lt
 (mo_lt
 (mo_lt
 (mo_eq mo_cpy)
 (mo_eq mo_ald))
 (mo_lt
 (mo_eq mo_get)
 (mo_eq mo_push)))
 (mo_lt
 (mo_lt
 (mo_eq mo_ald)
 (mo_eq mo_get))
 (mo_lt
 (mo_eq mo_push)
 (mo_eq mo_push)))))
 (mo_lt
 (mo_lt
 (mo_lt
 (mo_lt
 (mo_eq mo_cpy)
 (mo_eq mo_ald))
 (mo_lt
 (mo_eq mo_get)
 (mo_eq mo_push)))
 (mo_lt
 (mo_lt
 (mo_eq mo_ald)
 (mo_eq mo_get))
 (mo_lt
 (mo_eq mo_push)
 (mo_eq mo_push))))
 (mo_lt
 (mo_lt
 (mo_lt
 (mo_eq mo_cpy)
 (mo_eq mo_ald))
 (mo_lt
 (mo_eq mo_ald)
 (mo_eq mo_get)))
 (mo_lt
 (mo_lt
 (mo_eq mo_put)
 (mo_eq mo_ald))
 (mo_lt
 (mo_eq mo_push)
 (mo_lt
 (mo_eq mo_puz)
 (mo_eq mo_rv))))))))
theorem mo_X1_reads {S_X1_line : ma_Cs} (hS_X1_line : ma_ms S_X1_line) : ∀ pc, ma_mo (tb_X1_reads S_X1_line pc) := fun pc =>
 (mo_lt
 (mo_lt
 (mo_lt
 (mo_lt
 (mo_eq mo_ald)
 (mo_lt
 (mo_eq mo_push)
 (mo_eq mo_put)))
 (mo_lt
 (mo_eq mo_ald)
 (mo_lt
 (mo_eq mo_get)
 (mo_eq mo_get))))
 (mo_lt
 (mo_lt
 (mo_eq mo_push)
 (mo_lt
 (mo_eq mo_put)
 (mo_eq mo_ald)))
 (mo_lt
 (mo_lt
 (mo_eq mo_get)
 (mo_eq mo_get))
 (mo_lt
 (mo_eq mo_push)
 (mo_eq mo_put)))))
 (mo_lt
 (mo_lt
 (mo_lt
 (mo_eq mo_ald)
 (mo_lt
 (mo_eq mo_get)
 (mo_eq mo_ald)))
 (mo_lt
 (mo_lt
 (mo_eq mo_get)
 (mo_eq mo_get))
 (mo_lt
 (mo_eq mo_if2)
 (mo_eq mo_ald))))
 (mo_lt
 (mo_lt
 (mo_eq (mo_v1 hS_X1_line))
 (mo_lt
 (mo_eq mo_if1)
 (mo_eq mo_ald)))
 (mo_lt
 (mo_lt
 (mo_eq mo_get)
 (mo_eq mo_ri))
 (mo_lt
 (mo_eq mo_push)
 (mo_eq mo_ri))))))
theorem mo_X1_line {S_X1_here S_X0_isLetter S_X2_lineOf S_X1_fails S_X1_eats S_X1_term S_X1_number : ma_Cs} (hS_X1_here : ma_ms S_X1_here) (hS_X0_isLetter : ma_ms S_X0_isLetter) (hS_X2_lineOf : ma_ms S_X2_lineOf) (hS_X1_fails : ma_ms S_X1_fails) (hS_X1_eats : ma_ms S_X1_eats) (hS_X1_term : ma_ms S_X1_term) (hS_X1_number : ma_ms S_X1_number) : ∀ pc, ma_mo (tb_X1_line S_X1_here S_X0_isLetter S_X2_lineOf S_X1_fails S_X1_eats S_X1_term S_X1_number pc) := fun pc =>
 (mo_lt
 (mo_lt
 (mo_lt
 (mo_lt
 (mo_lt
 (mo_lt
 (mo_lt
 (mo_eq mo_ald)
 (mo_eq (mo_v1 hS_X1_here)))
 (mo_lt
 (mo_eq mo_push)
 (mo_eq mo_iii)))
 (mo_lt
 (mo_lt
 (mo_eq mo_ist)
 (mo_eq mo_ild))
 (mo_lt
 (mo_eq (mo_s1 hS_X0_isLetter))
 (mo_eq mo_if1))))
 (mo_lt
 (mo_lt
 (mo_lt
 (mo_eq mo_ald)
 (mo_eq mo_get))
 (mo_lt
 (mo_eq mo_get)
 (mo_eq mo_ild)))
 (mo_lt
 (mo_lt
 (mo_eq (mo_v2 hS_X2_lineOf))
 (mo_eq mo_push))
 (mo_lt
 (mo_eq mo_if2)
 (mo_lt
 (mo_eq mo_ald)
 (mo_eq mo_ald))))))
 (mo_lt
 (mo_lt
 (mo_lt
 (mo_lt
 (mo_eq mo_get)
 (mo_eq (mo_v2 hS_X1_fails)))
 (mo_lt
 (mo_eq mo_rz)
 (mo_eq mo_ald)))
 (mo_lt
 (mo_lt
 (mo_eq mo_dup)
 (mo_eq mo_get))
 (mo_lt
 (mo_eq mo_push)
 (mo_lt
 (mo_eq mo_iii)
 (mo_eq mo_put)))))
 (mo_lt
 (mo_lt
 (mo_lt
 (mo_eq mo_ald)
 (mo_eq mo_push))
 (mo_lt
 (mo_eq (mo_v2 hS_X1_eats))
 (mo_eq mo_if1)))
 (mo_lt
 (mo_lt
 (mo_eq mo_ald)
 (mo_eq mo_ald))
 (mo_lt
 (mo_eq mo_get)
 (mo_lt
 (mo_eq (mo_v2 hS_X1_fails))
 (mo_eq mo_rz)))))))
 (mo_lt
 (mo_lt
 (mo_lt
 (mo_lt
 (mo_lt
 (mo_eq mo_ald)
 (mo_eq mo_get))
 (mo_lt
 (mo_eq mo_get)
 (mo_eq mo_get)))
 (mo_lt
 (mo_lt
 (mo_eq mo_ist)
 (mo_eq mo_ald))
 (mo_lt
 (mo_eq mo_get)
 (mo_lt
 (mo_eq mo_get)
 (mo_eq mo_get)))))
 (mo_lt
 (mo_lt
 (mo_lt
 (mo_eq mo_ild)
 (mo_eq mo_ald))
 (mo_lt
 (mo_eq mo_get)
 (mo_eq mo_get)))
 (mo_lt
 (mo_lt
 (mo_eq mo_get)
 (mo_eq mo_iaw))
 (mo_lt
 (mo_eq mo_ald)
 (mo_lt
 (mo_eq mo_push)
 (mo_eq (mo_v2 hS_X1_term)))))))
 (mo_lt
 (mo_lt
 (mo_lt
 (mo_lt
 (mo_eq mo_if1)
 (mo_eq mo_push))
 (mo_lt
 (mo_eq mo_rz)
 (mo_eq mo_ald)))
 (mo_lt
 (mo_lt
 (mo_eq (mo_v1 hS_X1_here))
 (mo_eq mo_push))
 (mo_lt
 (mo_eq mo_if2)
 (mo_lt
 (mo_eq mo_ald)
 (mo_eq (mo_v1 hS_X1_here))))))
 (mo_lt
 (mo_lt
 (mo_lt
 (mo_eq mo_push)
 (mo_eq mo_if2))
 (mo_lt
 (mo_eq mo_ald)
 (mo_eq mo_push)))
 (mo_lt
 (mo_lt
 (mo_eq (mo_v2 hS_X1_term))
 (mo_eq mo_if1))
 (mo_lt
 (mo_eq mo_push)
 (mo_lt
 (mo_eq mo_rz)
 (mo_eq mo_ald))))))))
 (mo_lt
 (mo_lt
 (mo_lt
 (mo_lt
 (mo_lt
 (mo_lt
 (mo_eq mo_get)
 (mo_eq mo_get))
 (mo_lt
 (mo_eq mo_get)
 (mo_eq mo_ild)))
 (mo_lt
 (mo_lt
 (mo_eq mo_push)
 (mo_eq mo_iaw))
 (mo_lt
 (mo_eq mo_ald)
 (mo_lt
 (mo_eq mo_push)
 (mo_eq (mo_v2 hS_X1_eats))))))
 (mo_lt
 (mo_lt
 (mo_lt
 (mo_eq mo_if1)
 (mo_eq mo_ald))
 (mo_lt
 (mo_eq mo_push)
 (mo_eq (mo_v2 hS_X1_number))))
 (mo_lt
 (mo_lt
 (mo_eq mo_if1)
 (mo_eq mo_push))
 (mo_lt
 (mo_eq mo_rz)
 (mo_lt
 (mo_eq mo_ald)
 (mo_eq mo_get))))))
 (mo_lt
 (mo_lt
 (mo_lt
 (mo_lt
 (mo_eq mo_get)
 (mo_eq mo_get))
 (mo_lt
 (mo_eq mo_ild)
 (mo_eq mo_ald)))
 (mo_lt
 (mo_lt
 (mo_eq mo_get)
 (mo_eq mo_iaw))
 (mo_lt
 (mo_eq mo_ald)
 (mo_lt
 (mo_eq mo_get)
 (mo_eq mo_get)))))
 (mo_lt
 (mo_lt
 (mo_lt
 (mo_eq mo_get)
 (mo_eq mo_ild))
 (mo_lt
 (mo_eq mo_ald)
 (mo_eq mo_push)))
 (mo_lt
 (mo_lt
 (mo_eq (mo_v2 hS_X1_eats))
 (mo_eq mo_baw))
 (mo_lt
 (mo_eq mo_ald)
 (mo_lt
 (mo_eq mo_push)
 (mo_eq (mo_v2 hS_X1_eats))))))))
 (mo_lt
 (mo_lt
 (mo_lt
 (mo_lt
 (mo_lt
 (mo_eq mo_if1)
 (mo_eq mo_ald))
 (mo_lt
 (mo_eq mo_ald)
 (mo_eq mo_get)))
 (mo_lt
 (mo_lt
 (mo_eq (mo_v2 hS_X1_fails))
 (mo_eq mo_rz))
 (mo_lt
 (mo_eq mo_ald)
 (mo_lt
 (mo_eq mo_get)
 (mo_eq mo_get)))))
 (mo_lt
 (mo_lt
 (mo_lt
 (mo_eq mo_get)
 (mo_eq mo_ild))
 (mo_lt
 (mo_eq mo_ild)
 (mo_eq mo_iaw)))
 (mo_lt
 (mo_lt
 (mo_eq mo_ald)
 (mo_eq mo_get))
 (mo_lt
 (mo_eq mo_get)
 (mo_lt
 (mo_eq mo_dup)
 (mo_eq mo_get))))))
 (mo_lt
 (mo_lt
 (mo_lt
 (mo_lt
 (mo_eq mo_push)
 (mo_eq mo_iii))
 (mo_lt
 (mo_eq mo_put)
 (mo_eq mo_ald)))
 (mo_lt
 (mo_lt
 (mo_eq mo_get)
 (mo_eq mo_get))
 (mo_lt
 (mo_eq mo_get)
 (mo_lt
 (mo_eq mo_ald)
 (mo_eq mo_get)))))
 (mo_lt
 (mo_lt
 (mo_lt
 (mo_eq mo_get)
 (mo_eq mo_get))
 (mo_lt
 (mo_eq mo_ald)
 (mo_eq mo_get)))
 (mo_lt
 (mo_lt
 (mo_eq mo_get)
 (mo_eq mo_get))
 (mo_lt
 (mo_eq mo_iaw)
 (mo_lt
 (mo_eq mo_push)
 (mo_eq mo_rz)))))))))
theorem mo_X1_here : ∀ pc, ma_mo (tb_X1_here  pc) := fun pc =>
 (mo_lt
 (mo_lt
 (mo_lt
 (mo_eq mo_ald)
 (mo_lt
 (mo_eq mo_get)
 (mo_eq mo_ald)))
 (mo_lt
 (mo_lt
 (mo_eq mo_get)
 (mo_eq mo_get))
 (mo_lt
 (mo_eq mo_if2)
 (mo_eq mo_ald))))
 (mo_lt
 (mo_lt
 (mo_lt
 (mo_eq mo_get)
 (mo_eq mo_get))
 (mo_lt
 (mo_eq mo_ald)
 (mo_eq mo_get)))
 (mo_lt
 (mo_lt
 (mo_eq mo_bar)
 (mo_eq mo_go))
 (mo_lt
 (mo_eq mo_push)
 (mo_eq mo_ri)))))
theorem mo_X1_fails : ∀ pc, ma_mo (tb_X1_fails  pc) := fun pc =>
 (mo_lt
 (mo_lt
 (mo_eq mo_ald)
 (mo_eq mo_ild))
 (mo_lt
 (mo_eq mo_put)
 (mo_lt
 (mo_eq mo_push)
 (mo_eq mo_rz))))
theorem mo_X1_eats {S_X1_here : ma_Cs} (hS_X1_here : ma_ms S_X1_here) : ∀ pc, ma_mo (tb_X1_eats S_X1_here pc) := fun pc =>
 (mo_lt
 (mo_lt
 (mo_lt
 (mo_lt
 (mo_eq mo_ald)
 (mo_eq (mo_v1 hS_X1_here)))
 (mo_lt
 (mo_eq mo_ild)
 (mo_lt
 (mo_eq mo_if2)
 (mo_eq mo_push))))
 (mo_lt
 (mo_lt
 (mo_eq mo_go)
 (mo_eq mo_push))
 (mo_lt
 (mo_eq mo_ist)
 (mo_lt
 (mo_eq mo_ald)
 (mo_eq mo_dup)))))
 (mo_lt
 (mo_lt
 (mo_lt
 (mo_eq mo_get)
 (mo_eq mo_ild))
 (mo_lt
 (mo_eq mo_if1)
 (mo_lt
 (mo_eq mo_push)
 (mo_eq mo_go))))
 (mo_lt
 (mo_lt
 (mo_eq mo_push)
 (mo_eq mo_iii))
 (mo_lt
 (mo_eq mo_put)
 (mo_lt
 (mo_eq mo_ild)
 (mo_eq mo_rz))))))
theorem mo_X1_term {S_X1_eats S_X1_fails S_X1_isFigure S_X1_number S_X1_name : ma_Cs} (hS_X1_eats : ma_ms S_X1_eats) (hS_X1_fails : ma_ms S_X1_fails) (hS_X1_isFigure : ma_ms S_X1_isFigure) (hS_X1_number : ma_ms S_X1_number) (hS_X1_name : ma_ms S_X1_name) : ∀ pc, ma_mo (tb_X1_term S_X1_eats S_X1_fails S_X1_isFigure S_X1_number S_X1_name pc) := fun pc =>
 (mo_lt
 (mo_lt
 (mo_lt
 (mo_lt
 (mo_lt
 (mo_lt
 (mo_eq mo_ald)
 (mo_lt
 (mo_eq mo_push)
 (mo_eq (mo_v2 hS_X1_eats))))
 (mo_lt
 (mo_eq mo_if1)
 (mo_lt
 (mo_eq mo_push)
 (mo_eq mo_go))))
 (mo_lt
 (mo_lt
 (mo_eq mo_ald)
 (mo_lt
 (mo_eq mo_push)
 (mo_eq (mo_v2 hS_X1_eats))))
 (mo_lt
 (mo_eq mo_if1)
 (mo_lt
 (mo_eq mo_ild)
 (mo_eq mo_if1)))))
 (mo_lt
 (mo_lt
 (mo_lt
 (mo_eq mo_push)
 (mo_lt
 (mo_eq mo_go)
 (mo_eq mo_push)))
 (mo_lt
 (mo_eq mo_ist)
 (mo_lt
 (mo_eq mo_ild)
 (mo_eq mo_if1))))
 (mo_lt
 (mo_lt
 (mo_eq mo_ald)
 (mo_lt
 (mo_eq mo_ald)
 (mo_eq mo_get)))
 (mo_lt
 (mo_eq (mo_v2 hS_X1_fails))
 (mo_lt
 (mo_eq mo_rz)
 (mo_eq mo_push))))))
 (mo_lt
 (mo_lt
 (mo_lt
 (mo_lt
 (mo_eq mo_ist)
 (mo_lt
 (mo_eq mo_ald)
 (mo_eq (mo_v1 hS_X1_isFigure))))
 (mo_lt
 (mo_eq mo_if1)
 (mo_lt
 (mo_eq mo_ald)
 (mo_eq mo_push))))
 (mo_lt
 (mo_lt
 (mo_eq (mo_v2 hS_X1_number))
 (mo_lt
 (mo_eq mo_if1)
 (mo_eq mo_push)))
 (mo_lt
 (mo_eq mo_rz)
 (mo_lt
 (mo_eq mo_ald)
 (mo_eq mo_get)))))
 (mo_lt
 (mo_lt
 (mo_lt
 (mo_eq mo_ist)
 (mo_lt
 (mo_eq mo_ald)
 (mo_eq (mo_v1 hS_X1_name))))
 (mo_lt
 (mo_eq mo_if1)
 (mo_lt
 (mo_eq mo_push)
 (mo_eq mo_rz))))
 (mo_lt
 (mo_lt
 (mo_eq mo_ald)
 (mo_lt
 (mo_eq mo_get)
 (mo_eq mo_get)))
 (mo_lt
 (mo_lt
 (mo_eq mo_get)
 (mo_eq mo_ist))
 (mo_lt
 (mo_eq mo_ald)
 (mo_eq mo_get)))))))
 (mo_lt
 (mo_lt
 (mo_lt
 (mo_lt
 (mo_lt
 (mo_eq mo_get)
 (mo_lt
 (mo_eq mo_get)
 (mo_eq mo_ild)))
 (mo_lt
 (mo_eq mo_ild)
 (mo_lt
 (mo_eq mo_ild)
 (mo_eq mo_iii))))
 (mo_lt
 (mo_lt
 (mo_eq mo_iaw)
 (mo_lt
 (mo_eq mo_ald)
 (mo_eq mo_get)))
 (mo_lt
 (mo_eq mo_get)
 (mo_lt
 (mo_eq mo_get)
 (mo_eq mo_ild)))))
 (mo_lt
 (mo_lt
 (mo_lt
 (mo_eq mo_ald)
 (mo_lt
 (mo_eq mo_get)
 (mo_eq mo_iaw)))
 (mo_lt
 (mo_eq mo_ald)
 (mo_lt
 (mo_eq mo_get)
 (mo_eq mo_get))))
 (mo_lt
 (mo_lt
 (mo_eq mo_get)
 (mo_lt
 (mo_eq mo_ild)
 (mo_eq mo_push)))
 (mo_lt
 (mo_eq mo_iaw)
 (mo_lt
 (mo_eq mo_ald)
 (mo_eq mo_push))))))
 (mo_lt
 (mo_lt
 (mo_lt
 (mo_lt
 (mo_eq (mo_v2 hS_X1_eats))
 (mo_lt
 (mo_eq mo_if1)
 (mo_eq mo_ald)))
 (mo_lt
 (mo_eq (mo_v1 hS_X1_name))
 (mo_lt
 (mo_eq mo_if1)
 (mo_eq mo_push))))
 (mo_lt
 (mo_lt
 (mo_eq mo_rz)
 (mo_lt
 (mo_eq mo_ald)
 (mo_eq mo_get)))
 (mo_lt
 (mo_eq mo_get)
 (mo_lt
 (mo_eq mo_get)
 (mo_eq mo_ild)))))
 (mo_lt
 (mo_lt
 (mo_lt
 (mo_eq mo_ald)
 (mo_lt
 (mo_eq mo_get)
 (mo_eq mo_iaw)))
 (mo_lt
 (mo_eq mo_ald)
 (mo_lt
 (mo_eq mo_get)
 (mo_eq mo_get))))
 (mo_lt
 (mo_lt
 (mo_eq mo_dup)
 (mo_lt
 (mo_eq mo_get)
 (mo_eq mo_push)))
 (mo_lt
 (mo_lt
 (mo_eq mo_iii)
 (mo_eq mo_put))
 (mo_lt
 (mo_eq mo_push)
 (mo_eq mo_rz))))))))
theorem mo_X1_isFigure {S_X1_here S_X0_isIn : ma_Cs} (hS_X1_here : ma_ms S_X1_here) (hS_X0_isIn : ma_ms S_X0_isIn) : ∀ pc, ma_mo (tb_X1_isFigure S_X1_here S_X0_isIn pc) := fun pc =>
 (mo_lt
 (mo_lt
 (mo_eq mo_ald)
 (mo_lt
 (mo_eq (mo_v1 hS_X1_here))
 (mo_eq mo_il)))
 (mo_lt
 (mo_lt
 (mo_eq mo_push)
 (mo_eq mo_push))
 (mo_lt
 (mo_eq (mo_s3 hS_X0_isIn))
 (mo_eq mo_rz))))
theorem mo_X1_number {S_X1_here S_X1_isFigure S_J0_min S_X0_isIn S_X1_fails : ma_Cs} (hS_X1_here : ma_ms S_X1_here) (hS_X1_isFigure : ma_ms S_X1_isFigure) (hS_J0_min : ma_ms S_J0_min) (hS_X0_isIn : ma_ms S_X0_isIn) (hS_X1_fails : ma_ms S_X1_fails) : ∀ pc, ma_mo (tb_X1_number S_X1_here S_X1_isFigure S_J0_min S_X0_isIn S_X1_fails pc) := fun pc =>
 (mo_lt
 (mo_lt
 (mo_lt
 (mo_lt
 (mo_lt
 (mo_eq mo_ald)
 (mo_lt
 (mo_eq mo_get)
 (mo_eq mo_ist)))
 (mo_lt
 (mo_lt
 (mo_eq mo_ald)
 (mo_eq mo_push))
 (mo_lt
 (mo_eq mo_put)
 (mo_eq mo_ald))))
 (mo_lt
 (mo_lt
 (mo_eq (mo_v1 hS_X1_here))
 (mo_lt
 (mo_eq mo_push)
 (mo_eq mo_if2)))
 (mo_lt
 (mo_lt
 (mo_eq mo_push)
 (mo_eq mo_go))
 (mo_lt
 (mo_eq mo_push)
 (mo_eq mo_ist)))))
 (mo_lt
 (mo_lt
 (mo_lt
 (mo_eq mo_ald)
 (mo_lt
 (mo_eq (mo_v1 hS_X1_isFigure))
 (mo_eq mo_if1)))
 (mo_lt
 (mo_lt
 (mo_eq mo_ald)
 (mo_eq mo_push))
 (mo_lt
 (mo_eq mo_push)
 (mo_eq mo_ald))))
 (mo_lt
 (mo_lt
 (mo_lt
 (mo_eq mo_get)
 (mo_eq mo_iii))
 (mo_lt
 (mo_eq mo_ald)
 (mo_eq (mo_v1 hS_X1_here))))
 (mo_lt
 (mo_lt
 (mo_eq mo_iii)
 (mo_eq mo_push))
 (mo_lt
 (mo_eq mo_iii)
 (mo_eq (mo_s2 hS_J0_min)))))))
 (mo_lt
 (mo_lt
 (mo_lt
 (mo_lt
 (mo_eq mo_put)
 (mo_lt
 (mo_eq mo_ald)
 (mo_eq mo_dup)))
 (mo_lt
 (mo_lt
 (mo_eq mo_get)
 (mo_eq mo_push))
 (mo_lt
 (mo_eq mo_iii)
 (mo_eq mo_put))))
 (mo_lt
 (mo_lt
 (mo_lt
 (mo_eq mo_go)
 (mo_eq mo_ald))
 (mo_lt
 (mo_eq mo_get)
 (mo_eq mo_ild)))
 (mo_lt
 (mo_lt
 (mo_eq mo_if2)
 (mo_eq mo_ild))
 (mo_lt
 (mo_eq mo_if1)
 (mo_eq mo_ald)))))
 (mo_lt
 (mo_lt
 (mo_lt
 (mo_eq mo_get)
 (mo_lt
 (mo_eq mo_il)
 (mo_eq mo_push)))
 (mo_lt
 (mo_lt
 (mo_eq mo_ild)
 (mo_eq mo_il))
 (mo_lt
 (mo_eq (mo_s3 hS_X0_isIn))
 (mo_eq mo_if1))))
 (mo_lt
 (mo_lt
 (mo_lt
 (mo_eq mo_ald)
 (mo_eq mo_ild))
 (mo_lt
 (mo_eq (mo_v2 hS_X1_fails))
 (mo_eq mo_if1)))
 (mo_lt
 (mo_lt
 (mo_eq mo_push)
 (mo_eq mo_go))
 (mo_lt
 (mo_eq mo_push)
 (mo_eq mo_rz)))))))
theorem mo_X1_name {S_X1_here S_X0_isLetter S_X1_fails S_X1_eats S_X2_lineOf : ma_Cs} (hS_X1_here : ma_ms S_X1_here) (hS_X0_isLetter : ma_ms S_X0_isLetter) (hS_X1_fails : ma_ms S_X1_fails) (hS_X1_eats : ma_ms S_X1_eats) (hS_X2_lineOf : ma_ms S_X2_lineOf) : ∀ pc, ma_mo (tb_X1_name S_X1_here S_X0_isLetter S_X1_fails S_X1_eats S_X2_lineOf pc) := fun pc =>
 (mo_lt
 (mo_lt
 (mo_lt
 (mo_lt
 (mo_lt
 (mo_lt
 (mo_eq mo_ald)
 (mo_eq mo_get))
 (mo_lt
 (mo_eq mo_ist)
 (mo_lt
 (mo_eq mo_ald)
 (mo_eq (mo_v1 hS_X1_here)))))
 (mo_lt
 (mo_lt
 (mo_eq mo_push)
 (mo_eq mo_iii))
 (mo_lt
 (mo_eq mo_ist)
 (mo_lt
 (mo_eq mo_ild)
 (mo_eq (mo_s1 hS_X0_isLetter))))))
 (mo_lt
 (mo_lt
 (mo_lt
 (mo_eq mo_if1)
 (mo_eq mo_ald))
 (mo_lt
 (mo_eq mo_ald)
 (mo_lt
 (mo_eq mo_get)
 (mo_eq (mo_v2 hS_X1_fails)))))
 (mo_lt
 (mo_lt
 (mo_eq mo_rz)
 (mo_lt
 (mo_eq mo_ald)
 (mo_eq mo_dup)))
 (mo_lt
 (mo_eq mo_get)
 (mo_lt
 (mo_eq mo_push)
 (mo_eq mo_iii))))))
 (mo_lt
 (mo_lt
 (mo_lt
 (mo_lt
 (mo_eq mo_put)
 (mo_eq mo_ald))
 (mo_lt
 (mo_eq mo_push)
 (mo_lt
 (mo_eq (mo_v2 hS_X1_eats))
 (mo_eq mo_if1))))
 (mo_lt
 (mo_lt
 (mo_eq mo_push)
 (mo_eq mo_go))
 (mo_lt
 (mo_eq mo_ald)
 (mo_lt
 (mo_eq mo_push)
 (mo_eq (mo_v2 hS_X1_eats))))))
 (mo_lt
 (mo_lt
 (mo_lt
 (mo_eq mo_if1)
 (mo_eq mo_push))
 (mo_lt
 (mo_eq mo_go)
 (mo_lt
 (mo_eq mo_ald)
 (mo_eq mo_push))))
 (mo_lt
 (mo_lt
 (mo_eq (mo_v2 hS_X1_eats))
 (mo_lt
 (mo_eq mo_if1)
 (mo_eq mo_push)))
 (mo_lt
 (mo_eq mo_go)
 (mo_lt
 (mo_eq mo_ald)
 (mo_eq mo_push)))))))
 (mo_lt
 (mo_lt
 (mo_lt
 (mo_lt
 (mo_lt
 (mo_eq (mo_v2 hS_X1_eats))
 (mo_eq mo_if1))
 (mo_lt
 (mo_eq mo_push)
 (mo_lt
 (mo_eq mo_go)
 (mo_eq mo_push))))
 (mo_lt
 (mo_lt
 (mo_eq mo_ist)
 (mo_eq mo_ald))
 (mo_lt
 (mo_eq mo_push)
 (mo_lt
 (mo_eq (mo_v2 hS_X1_eats))
 (mo_eq mo_ist)))))
 (mo_lt
 (mo_lt
 (mo_lt
 (mo_eq mo_ild)
 (mo_eq mo_if1))
 (mo_lt
 (mo_eq mo_ild)
 (mo_lt
 (mo_eq mo_if1)
 (mo_eq mo_ald))))
 (mo_lt
 (mo_lt
 (mo_eq mo_get)
 (mo_lt
 (mo_eq mo_get)
 (mo_eq mo_ild)))
 (mo_lt
 (mo_eq (mo_v2 hS_X2_lineOf))
 (mo_lt
 (mo_eq mo_push)
 (mo_eq mo_if2))))))
 (mo_lt
 (mo_lt
 (mo_lt
 (mo_lt
 (mo_eq mo_ald)
 (mo_eq mo_ild))
 (mo_lt
 (mo_eq (mo_v2 hS_X1_fails))
 (mo_lt
 (mo_eq mo_rz)
 (mo_eq mo_ald))))
 (mo_lt
 (mo_lt
 (mo_eq mo_push)
 (mo_eq mo_ild))
 (mo_lt
 (mo_eq mo_iii)
 (mo_lt
 (mo_eq mo_push)
 (mo_eq mo_ild)))))
 (mo_lt
 (mo_lt
 (mo_lt
 (mo_eq mo_iii)
 (mo_eq mo_iii))
 (mo_lt
 (mo_eq mo_ild)
 (mo_lt
 (mo_eq mo_if1)
 (mo_eq mo_push))))
 (mo_lt
 (mo_lt
 (mo_eq mo_go)
 (mo_lt
 (mo_eq mo_push)
 (mo_eq mo_iii)))
 (mo_lt
 (mo_eq mo_put)
 (mo_lt
 (mo_eq mo_push)
 (mo_eq mo_rz))))))))
theorem mo_X3_begin {S_X0_cells S_X3_filled S_X3_put : ma_Cs} (hS_X0_cells : ma_ms S_X0_cells) (hS_X3_filled : ma_ms S_X3_filled) (hS_X3_put : ma_ms S_X3_put) : ∀ pc, ma_mo (tb_X3_begin S_X0_cells S_X3_filled S_X3_put pc) := fun pc =>
 (mo_lt
 (mo_lt
 (mo_lt
 (mo_lt
 (mo_lt
 (mo_eq mo_ald)
 (mo_lt
 (mo_eq mo_ald)
 (mo_eq mo_get)))
 (mo_lt
 (mo_lt
 (mo_eq mo_get)
 (mo_eq mo_put))
 (mo_lt
 (mo_eq mo_ald)
 (mo_eq mo_ald))))
 (mo_lt
 (mo_lt
 (mo_eq mo_get)
 (mo_lt
 (mo_eq mo_get)
 (mo_eq mo_put)))
 (mo_lt
 (mo_lt
 (mo_eq mo_push)
 (mo_eq mo_ist))
 (mo_lt
 (mo_eq mo_ild)
 (mo_eq mo_ald)))))
 (mo_lt
 (mo_lt
 (mo_lt
 (mo_eq mo_get)
 (mo_lt
 (mo_eq (mo_v1 hS_X0_cells))
 (mo_eq mo_if2)))
 (mo_lt
 (mo_lt
 (mo_eq mo_push)
 (mo_eq mo_ist))
 (mo_lt
 (mo_eq mo_ild)
 (mo_eq mo_push))))
 (mo_lt
 (mo_lt
 (mo_eq mo_if2)
 (mo_lt
 (mo_eq mo_ald)
 (mo_eq mo_get)))
 (mo_lt
 (mo_lt
 (mo_eq mo_get)
 (mo_eq mo_push))
 (mo_lt
 (mo_eq mo_ild)
 (mo_eq mo_iii))))))
 (mo_lt
 (mo_lt
 (mo_lt
 (mo_lt
 (mo_eq mo_ild)
 (mo_lt
 (mo_eq mo_iii)
 (mo_eq mo_iar)))
 (mo_lt
 (mo_lt
 (mo_eq mo_ist)
 (mo_eq mo_ald))
 (mo_lt
 (mo_eq mo_push)
 (mo_eq mo_ild))))
 (mo_lt
 (mo_lt
 (mo_eq mo_ild)
 (mo_lt
 (mo_eq mo_ild)
 (mo_eq mo_push)))
 (mo_lt
 (mo_lt
 (mo_eq mo_if2)
 (mo_eq mo_ald))
 (mo_lt
 (mo_eq mo_ild)
 (mo_eq mo_ild)))))
 (mo_lt
 (mo_lt
 (mo_lt
 (mo_eq (mo_v3 hS_X3_filled))
 (mo_lt
 (mo_eq mo_go)
 (mo_eq mo_ild)))
 (mo_lt
 (mo_lt
 (mo_eq mo_ild)
 (mo_eq mo_push))
 (mo_lt
 (mo_eq mo_if2)
 (mo_eq mo_push))))
 (mo_lt
 (mo_lt
 (mo_lt
 (mo_eq mo_go)
 (mo_eq mo_push))
 (mo_lt
 (mo_eq (mo_v6 hS_X3_put))
 (mo_eq mo_inc)))
 (mo_lt
 (mo_lt
 (mo_eq mo_go)
 (mo_eq mo_inc))
 (mo_lt
 (mo_eq mo_go)
 (mo_eq mo_rv)))))))
theorem mo_X3_filled {S_X3_neighbour S_J0_floorDiv : ma_Cs} (hS_X3_neighbour : ma_ms S_X3_neighbour) (hS_J0_floorDiv : ma_ms S_J0_floorDiv) : ∀ pc, ma_mo (tb_X3_filled S_X3_neighbour S_J0_floorDiv pc) := fun pc =>
 (mo_lt
 (mo_lt
 (mo_lt
 (mo_lt
 (mo_lt
 (mo_eq mo_push)
 (mo_lt
 (mo_eq mo_ist)
 (mo_eq mo_push)))
 (mo_lt
 (mo_eq mo_ist)
 (mo_lt
 (mo_eq mo_push)
 (mo_eq mo_ist))))
 (mo_lt
 (mo_lt
 (mo_eq mo_ild)
 (mo_lt
 (mo_eq mo_push)
 (mo_eq mo_if2)))
 (mo_lt
 (mo_eq mo_ald)
 (mo_lt
 (mo_eq mo_ild)
 (mo_eq mo_ild)))))
 (mo_lt
 (mo_lt
 (mo_lt
 (mo_eq (mo_v3 hS_X3_neighbour))
 (mo_lt
 (mo_eq mo_ist)
 (mo_eq mo_ild)))
 (mo_lt
 (mo_eq mo_push)
 (mo_lt
 (mo_eq mo_if2)
 (mo_eq mo_ald))))
 (mo_lt
 (mo_lt
 (mo_eq mo_get)
 (mo_lt
 (mo_eq mo_get)
 (mo_eq mo_ild)))
 (mo_lt
 (mo_lt
 (mo_eq mo_iar)
 (mo_eq mo_go))
 (mo_lt
 (mo_eq mo_ald)
 (mo_eq mo_get))))))
 (mo_lt
 (mo_lt
 (mo_lt
 (mo_lt
 (mo_eq mo_get)
 (mo_lt
 (mo_eq mo_push)
 (mo_eq mo_ild)))
 (mo_lt
 (mo_eq mo_iii)
 (mo_lt
 (mo_eq mo_ild)
 (mo_eq mo_iii))))
 (mo_lt
 (mo_lt
 (mo_eq mo_iar)
 (mo_lt
 (mo_eq mo_ist)
 (mo_eq mo_ild)))
 (mo_lt
 (mo_lt
 (mo_eq mo_push)
 (mo_eq mo_if2))
 (mo_lt
 (mo_eq mo_ild)
 (mo_eq mo_ild)))))
 (mo_lt
 (mo_lt
 (mo_lt
 (mo_eq mo_iii)
 (mo_lt
 (mo_eq mo_ist)
 (mo_eq mo_inc)))
 (mo_lt
 (mo_eq mo_inc)
 (mo_lt
 (mo_eq mo_go)
 (mo_eq mo_ild))))
 (mo_lt
 (mo_lt
 (mo_eq mo_if1)
 (mo_lt
 (mo_eq mo_push)
 (mo_eq mo_go)))
 (mo_lt
 (mo_lt
 (mo_eq mo_ild)
 (mo_eq mo_ild))
 (mo_lt
 (mo_eq (mo_s2 hS_J0_floorDiv))
 (mo_eq mo_ri)))))))
theorem mo_X3_neighbour : ∀ pc, ma_mo (tb_X3_neighbour  pc) := fun pc =>
 (mo_lt
 (mo_lt
 (mo_lt
 (mo_lt
 (mo_lt
 (mo_lt
 (mo_eq mo_ild)
 (mo_eq mo_ald))
 (mo_lt
 (mo_eq mo_get)
 (mo_lt
 (mo_eq mo_idv)
 (mo_eq mo_ild))))
 (mo_lt
 (mo_lt
 (mo_eq mo_push)
 (mo_eq mo_if2))
 (mo_lt
 (mo_eq mo_push)
 (mo_lt
 (mo_eq mo_go)
 (mo_eq mo_ild)))))
 (mo_lt
 (mo_lt
 (mo_lt
 (mo_eq mo_push)
 (mo_eq mo_if2))
 (mo_lt
 (mo_eq mo_push)
 (mo_lt
 (mo_eq mo_go)
 (mo_eq mo_push))))
 (mo_lt
 (mo_lt
 (mo_eq mo_iii)
 (mo_lt
 (mo_eq mo_ist)
 (mo_eq mo_ild)))
 (mo_lt
 (mo_eq mo_ald)
 (mo_lt
 (mo_eq mo_get)
 (mo_eq mo_idv))))))
 (mo_lt
 (mo_lt
 (mo_lt
 (mo_lt
 (mo_eq mo_ild)
 (mo_eq mo_push))
 (mo_lt
 (mo_eq mo_if2)
 (mo_lt
 (mo_eq mo_push)
 (mo_eq mo_go))))
 (mo_lt
 (mo_lt
 (mo_eq mo_ild)
 (mo_eq mo_push))
 (mo_lt
 (mo_eq mo_if2)
 (mo_lt
 (mo_eq mo_push)
 (mo_eq mo_go)))))
 (mo_lt
 (mo_lt
 (mo_lt
 (mo_eq mo_push)
 (mo_eq mo_iii))
 (mo_lt
 (mo_eq mo_ist)
 (mo_lt
 (mo_eq mo_ild)
 (mo_eq mo_if1))))
 (mo_lt
 (mo_lt
 (mo_eq mo_ild)
 (mo_lt
 (mo_eq mo_ald)
 (mo_eq mo_get)))
 (mo_lt
 (mo_eq mo_if2)
 (mo_lt
 (mo_eq mo_ild)
 (mo_eq mo_if1)))))))
 (mo_lt
 (mo_lt
 (mo_lt
 (mo_lt
 (mo_lt
 (mo_eq mo_ild)
 (mo_eq mo_ald))
 (mo_lt
 (mo_eq mo_get)
 (mo_lt
 (mo_eq mo_if2)
 (mo_eq mo_ald))))
 (mo_lt
 (mo_lt
 (mo_eq mo_get)
 (mo_eq mo_ild))
 (mo_lt
 (mo_eq mo_iii)
 (mo_lt
 (mo_eq mo_ild)
 (mo_eq mo_iii)))))
 (mo_lt
 (mo_lt
 (mo_lt
 (mo_eq mo_ri)
 (mo_eq mo_ald))
 (mo_lt
 (mo_eq mo_get)
 (mo_lt
 (mo_eq mo_get)
 (mo_eq mo_if1))))
 (mo_lt
 (mo_lt
 (mo_eq mo_ald)
 (mo_lt
 (mo_eq mo_get)
 (mo_eq mo_ild)))
 (mo_lt
 (mo_eq mo_ald)
 (mo_lt
 (mo_eq mo_get)
 (mo_eq mo_iii))))))
 (mo_lt
 (mo_lt
 (mo_lt
 (mo_lt
 (mo_eq mo_ald)
 (mo_eq mo_get))
 (mo_lt
 (mo_eq mo_idv)
 (mo_lt
 (mo_eq mo_iii)
 (mo_eq mo_ild))))
 (mo_lt
 (mo_lt
 (mo_eq mo_ald)
 (mo_lt
 (mo_eq mo_get)
 (mo_eq mo_iii)))
 (mo_lt
 (mo_eq mo_ald)
 (mo_lt
 (mo_eq mo_get)
 (mo_eq mo_idv)))))
 (mo_lt
 (mo_lt
 (mo_lt
 (mo_eq mo_iii)
 (mo_eq mo_go))
 (mo_lt
 (mo_eq mo_ald)
 (mo_lt
 (mo_eq mo_get)
 (mo_eq mo_get))))
 (mo_lt
 (mo_lt
 (mo_eq mo_push)
 (mo_lt
 (mo_eq mo_if2)
 (mo_eq mo_ild)))
 (mo_lt
 (mo_eq mo_go)
 (mo_lt
 (mo_eq mo_push)
 (mo_eq mo_ri))))))))
theorem mo_X3_put {S_X3_place : ma_Cs} (hS_X3_place : ma_ms S_X3_place) : ∀ pc, ma_mo (tb_X3_put S_X3_place pc) := fun pc =>
 (mo_lt
 (mo_lt
 (mo_lt
 (mo_lt
 (mo_eq mo_ald)
 (mo_eq mo_get))
 (mo_lt
 (mo_eq mo_ald)
 (mo_eq mo_ild)))
 (mo_lt
 (mo_lt
 (mo_eq mo_ild)
 (mo_eq mo_ild))
 (mo_lt
 (mo_eq (mo_v4 hS_X3_place))
 (mo_lt
 (mo_eq mo_ild)
 (mo_eq mo_iaw)))))
 (mo_lt
 (mo_lt
 (mo_lt
 (mo_eq mo_ald)
 (mo_eq mo_get))
 (mo_lt
 (mo_eq mo_ald)
 (mo_lt
 (mo_eq mo_ild)
 (mo_eq mo_ild))))
 (mo_lt
 (mo_lt
 (mo_eq mo_ild)
 (mo_eq (mo_v4 hS_X3_place)))
 (mo_lt
 (mo_eq mo_ild)
 (mo_lt
 (mo_eq mo_baw)
 (mo_eq mo_rv))))))
theorem mo_X3_place : ∀ pc, ma_mo (tb_X3_place  pc) := fun pc =>
 (mo_lt
 (mo_lt
 (mo_lt
 (mo_eq mo_ild)
 (mo_eq mo_push))
 (mo_lt
 (mo_eq mo_iii)
 (mo_lt
 (mo_eq mo_ild)
 (mo_eq mo_iii))))
 (mo_lt
 (mo_lt
 (mo_eq mo_push)
 (mo_eq mo_iii))
 (mo_lt
 (mo_eq mo_ild)
 (mo_lt
 (mo_eq mo_iii)
 (mo_eq mo_ri)))))
theorem mo_X3_run {S_X2_lineOf S_X3_at S_X3_slipped S_X3_place S_X3_put S_X3_marksOf S_X3_made : ma_Cs} (hS_X2_lineOf : ma_ms S_X2_lineOf) (hS_X3_at : ma_ms S_X3_at) (hS_X3_slipped : ma_ms S_X3_slipped) (hS_X3_place : ma_ms S_X3_place) (hS_X3_put : ma_ms S_X3_put) (hS_X3_marksOf : ma_ms S_X3_marksOf) (hS_X3_made : ma_ms S_X3_made) : ∀ pc, ma_mo (tb_X3_run S_X2_lineOf S_X3_at S_X3_slipped S_X3_place S_X3_put S_X3_marksOf S_X3_made pc) := fun pc =>
 (mo_lt
 (mo_lt
 (mo_lt
 (mo_lt
 (mo_lt
 (mo_lt
 (mo_eq mo_push)
 (mo_lt
 (mo_eq mo_ist)
 (mo_eq mo_ild)))
 (mo_lt
 (mo_eq mo_ild)
 (mo_lt
 (mo_eq mo_if2)
 (mo_eq mo_push))))
 (mo_lt
 (mo_lt
 (mo_eq mo_ist)
 (mo_lt
 (mo_eq mo_ild)
 (mo_eq mo_ald)))
 (mo_lt
 (mo_eq mo_get)
 (mo_lt
 (mo_eq mo_ald)
 (mo_eq mo_get)))))
 (mo_lt
 (mo_lt
 (mo_lt
 (mo_eq mo_iii)
 (mo_lt
 (mo_eq mo_if2)
 (mo_eq mo_push)))
 (mo_lt
 (mo_eq mo_ist)
 (mo_lt
 (mo_eq mo_ild)
 (mo_eq mo_push))))
 (mo_lt
 (mo_lt
 (mo_eq mo_if2)
 (mo_lt
 (mo_eq mo_ald)
 (mo_eq mo_get)))
 (mo_lt
 (mo_lt
 (mo_eq mo_get)
 (mo_eq mo_ild))
 (mo_lt
 (mo_eq (mo_v2 hS_X2_lineOf))
 (mo_eq mo_push))))))
 (mo_lt
 (mo_lt
 (mo_lt
 (mo_lt
 (mo_eq mo_if2)
 (mo_lt
 (mo_eq mo_ald)
 (mo_eq mo_ild)))
 (mo_lt
 (mo_eq mo_ild)
 (mo_lt
 (mo_eq mo_ild)
 (mo_eq mo_ald))))
 (mo_lt
 (mo_lt
 (mo_eq mo_ald)
 (mo_lt
 (mo_eq mo_ild)
 (mo_eq mo_push)))
 (mo_lt
 (mo_eq mo_iii)
 (mo_lt
 (mo_eq mo_ild)
 (mo_eq mo_ild)))))
 (mo_lt
 (mo_lt
 (mo_lt
 (mo_eq (mo_v4 hS_X3_at))
 (mo_lt
 (mo_eq mo_ild)
 (mo_eq mo_ild)))
 (mo_lt
 (mo_eq mo_ild)
 (mo_lt
 (mo_eq mo_ild)
 (mo_eq (mo_v6 hS_X3_slipped)))))
 (mo_lt
 (mo_lt
 (mo_eq mo_ald)
 (mo_lt
 (mo_eq mo_get)
 (mo_eq mo_ald)))
 (mo_lt
 (mo_lt
 (mo_eq mo_ild)
 (mo_eq mo_push))
 (mo_lt
 (mo_eq mo_iii)
 (mo_eq mo_ild)))))))
 (mo_lt
 (mo_lt
 (mo_lt
 (mo_lt
 (mo_lt
 (mo_eq mo_ild)
 (mo_lt
 (mo_eq (mo_v4 hS_X3_place))
 (mo_eq mo_bar)))
 (mo_lt
 (mo_eq (mo_v6 hS_X3_put))
 (mo_lt
 (mo_eq mo_inc)
 (mo_eq mo_go))))
 (mo_lt
 (mo_lt
 (mo_eq mo_push)
 (mo_lt
 (mo_eq mo_ist)
 (mo_eq mo_ild)))
 (mo_lt
 (mo_eq mo_ald)
 (mo_lt
 (mo_eq mo_get)
 (mo_eq mo_get)))))
 (mo_lt
 (mo_lt
 (mo_lt
 (mo_eq mo_get)
 (mo_lt
 (mo_eq mo_if2)
 (mo_eq mo_ald)))
 (mo_lt
 (mo_eq mo_get)
 (mo_lt
 (mo_eq mo_get)
 (mo_eq mo_get))))
 (mo_lt
 (mo_lt
 (mo_eq mo_ild)
 (mo_lt
 (mo_eq mo_iar)
 (mo_eq mo_ist)))
 (mo_lt
 (mo_lt
 (mo_eq mo_ald)
 (mo_eq mo_ild))
 (mo_lt
 (mo_eq mo_ild)
 (mo_eq mo_ild))))))
 (mo_lt
 (mo_lt
 (mo_lt
 (mo_lt
 (mo_eq (mo_v4 hS_X3_marksOf))
 (mo_lt
 (mo_eq mo_ist)
 (mo_eq mo_ald)))
 (mo_lt
 (mo_eq mo_ild)
 (mo_lt
 (mo_eq mo_ild)
 (mo_eq mo_ild))))
 (mo_lt
 (mo_lt
 (mo_eq mo_ald)
 (mo_lt
 (mo_eq mo_ald)
 (mo_eq mo_ild)))
 (mo_lt
 (mo_lt
 (mo_eq mo_ild)
 (mo_eq mo_ild))
 (mo_lt
 (mo_eq (mo_v4 hS_X3_made))
 (mo_eq mo_ild)))))
 (mo_lt
 (mo_lt
 (mo_lt
 (mo_eq mo_ild)
 (mo_lt
 (mo_eq mo_ild)
 (mo_eq mo_ild)))
 (mo_lt
 (mo_eq (mo_v6 hS_X3_slipped))
 (mo_lt
 (mo_eq mo_ild)
 (mo_eq (mo_v6 hS_X3_put)))))
 (mo_lt
 (mo_lt
 (mo_eq mo_inc)
 (mo_lt
 (mo_eq mo_go)
 (mo_eq mo_inc)))
 (mo_lt
 (mo_lt
 (mo_eq mo_go)
 (mo_eq mo_inc))
 (mo_lt
 (mo_eq mo_go)
 (mo_eq mo_rv))))))))
theorem mo_X3_at {S_X3_place : ma_Cs} (hS_X3_place : ma_ms S_X3_place) : ∀ pc, ma_mo (tb_X3_at S_X3_place pc) := fun pc =>
 (mo_lt
 (mo_lt
 (mo_lt
 (mo_eq mo_ald)
 (mo_eq mo_get))
 (mo_lt
 (mo_eq mo_ald)
 (mo_eq mo_ild)))
 (mo_lt
 (mo_lt
 (mo_eq mo_ild)
 (mo_eq mo_ild))
 (mo_lt
 (mo_eq (mo_v4 hS_X3_place))
 (mo_lt
 (mo_eq mo_iar)
 (mo_eq mo_ri)))))
theorem mo_X3_slipped {S_J0_abs : ma_Cs} (hS_J0_abs : ma_ms S_J0_abs) : ∀ pc, ma_mo (tb_X3_slipped S_J0_abs pc) := fun pc =>
 (mo_lt
 (mo_lt
 (mo_lt
 (mo_lt
 (mo_lt
 (mo_lt
 (mo_eq mo_ild)
 (mo_eq mo_ist))
 (mo_lt
 (mo_eq mo_push)
 (mo_eq mo_ist)))
 (mo_lt
 (mo_lt
 (mo_eq mo_ild)
 (mo_eq mo_ald))
 (mo_lt
 (mo_eq mo_get)
 (mo_eq mo_get))))
 (mo_lt
 (mo_lt
 (mo_lt
 (mo_eq mo_if2)
 (mo_eq mo_ild))
 (mo_lt
 (mo_eq mo_push)
 (mo_eq mo_if2)))
 (mo_lt
 (mo_lt
 (mo_eq mo_ild)
 (mo_eq mo_ild))
 (mo_lt
 (mo_eq mo_if2)
 (mo_lt
 (mo_eq mo_ald)
 (mo_eq mo_get))))))
 (mo_lt
 (mo_lt
 (mo_lt
 (mo_lt
 (mo_eq mo_get)
 (mo_eq mo_ild))
 (mo_lt
 (mo_eq mo_iar)
 (mo_eq mo_ild)))
 (mo_lt
 (mo_lt
 (mo_eq mo_if2)
 (mo_eq mo_ald))
 (mo_lt
 (mo_eq mo_get)
 (mo_lt
 (mo_eq mo_get)
 (mo_eq mo_ild)))))
 (mo_lt
 (mo_lt
 (mo_lt
 (mo_eq mo_iar)
 (mo_eq mo_ild))
 (mo_lt
 (mo_eq mo_if2)
 (mo_eq mo_ald)))
 (mo_lt
 (mo_lt
 (mo_eq mo_get)
 (mo_eq mo_get))
 (mo_lt
 (mo_eq mo_ild)
 (mo_lt
 (mo_eq mo_iar)
 (mo_eq mo_ild)))))))
 (mo_lt
 (mo_lt
 (mo_lt
 (mo_lt
 (mo_lt
 (mo_eq mo_if2)
 (mo_eq mo_ild))
 (mo_lt
 (mo_eq mo_push)
 (mo_eq mo_if2)))
 (mo_lt
 (mo_lt
 (mo_eq mo_push)
 (mo_eq mo_go))
 (mo_lt
 (mo_eq mo_push)
 (mo_lt
 (mo_eq mo_ist)
 (mo_eq mo_ild)))))
 (mo_lt
 (mo_lt
 (mo_lt
 (mo_eq mo_il)
 (mo_eq mo_ald))
 (mo_lt
 (mo_eq mo_get)
 (mo_eq mo_get)))
 (mo_lt
 (mo_lt
 (mo_eq mo_ild)
 (mo_eq mo_iar))
 (mo_lt
 (mo_eq mo_il)
 (mo_lt
 (mo_eq mo_lll)
 (mo_eq mo_lst))))))
 (mo_lt
 (mo_lt
 (mo_lt
 (mo_lt
 (mo_eq mo_ild)
 (mo_eq mo_if1))
 (mo_lt
 (mo_eq mo_ild)
 (mo_eq mo_go)))
 (mo_lt
 (mo_lt
 (mo_eq mo_lld)
 (mo_eq (mo_s1 hS_J0_abs)))
 (mo_lt
 (mo_eq mo_push)
 (mo_lt
 (mo_eq mo_lli)
 (mo_eq mo_if1)))))
 (mo_lt
 (mo_lt
 (mo_lt
 (mo_eq mo_push)
 (mo_eq mo_go))
 (mo_lt
 (mo_eq mo_lld)
 (mo_eq mo_li)))
 (mo_lt
 (mo_lt
 (mo_eq mo_ist)
 (mo_eq mo_inc))
 (mo_lt
 (mo_eq mo_go)
 (mo_lt
 (mo_eq mo_ild)
 (mo_eq mo_ri))))))))
theorem mo_X3_marksOf {S_X3_marks : ma_Cs} (hS_X3_marks : ma_ms S_X3_marks) : ∀ pc, ma_mo (tb_X3_marksOf S_X3_marks pc) := fun pc =>
 (mo_lt
 (mo_lt
 (mo_lt
 (mo_lt
 (mo_lt
 (mo_eq mo_push)
 (mo_lt
 (mo_eq mo_ist)
 (mo_eq mo_ald)))
 (mo_lt
 (mo_lt
 (mo_eq mo_get)
 (mo_eq mo_get))
 (mo_lt
 (mo_eq mo_get)
 (mo_eq mo_ild))))
 (mo_lt
 (mo_lt
 (mo_eq mo_iar)
 (mo_lt
 (mo_eq mo_ist)
 (mo_eq mo_ild)))
 (mo_lt
 (mo_lt
 (mo_eq mo_ald)
 (mo_eq mo_get))
 (mo_lt
 (mo_eq mo_get)
 (mo_eq mo_get)))))
 (mo_lt
 (mo_lt
 (mo_lt
 (mo_eq mo_ild)
 (mo_lt
 (mo_eq mo_push)
 (mo_eq mo_iii)))
 (mo_lt
 (mo_lt
 (mo_eq mo_iar)
 (mo_eq mo_if2))
 (mo_lt
 (mo_eq mo_ild)
 (mo_eq mo_ald))))
 (mo_lt
 (mo_lt
 (mo_lt
 (mo_eq mo_ild)
 (mo_eq mo_ild))
 (mo_lt
 (mo_eq mo_ald)
 (mo_eq mo_get)))
 (mo_lt
 (mo_lt
 (mo_eq mo_get)
 (mo_eq mo_get))
 (mo_lt
 (mo_eq mo_ild)
 (mo_eq mo_iar))))))
 (mo_lt
 (mo_lt
 (mo_lt
 (mo_lt
 (mo_eq (mo_v4 hS_X3_marks))
 (mo_lt
 (mo_eq mo_if1)
 (mo_eq mo_ald)))
 (mo_lt
 (mo_lt
 (mo_eq mo_get)
 (mo_eq mo_get))
 (mo_lt
 (mo_eq mo_get)
 (mo_eq mo_ild))))
 (mo_lt
 (mo_lt
 (mo_lt
 (mo_eq mo_iar)
 (mo_eq mo_push))
 (mo_lt
 (mo_eq mo_if2)
 (mo_eq mo_ald)))
 (mo_lt
 (mo_lt
 (mo_eq mo_ild)
 (mo_eq mo_ild))
 (mo_lt
 (mo_eq mo_ald)
 (mo_eq mo_get)))))
 (mo_lt
 (mo_lt
 (mo_lt
 (mo_eq mo_get)
 (mo_lt
 (mo_eq mo_get)
 (mo_eq mo_ild)))
 (mo_lt
 (mo_lt
 (mo_eq mo_iar)
 (mo_eq (mo_v4 hS_X3_marks)))
 (mo_lt
 (mo_eq mo_if1)
 (mo_eq mo_push))))
 (mo_lt
 (mo_lt
 (mo_lt
 (mo_eq mo_go)
 (mo_eq mo_push))
 (mo_lt
 (mo_eq mo_iii)
 (mo_eq mo_ist)))
 (mo_lt
 (mo_lt
 (mo_eq mo_inc)
 (mo_eq mo_go))
 (mo_lt
 (mo_eq mo_ild)
 (mo_eq mo_rz)))))))
theorem mo_X3_marks {S_X3_neighbour S_X3_stepOf S_X3_place : ma_Cs} (hS_X3_neighbour : ma_ms S_X3_neighbour) (hS_X3_stepOf : ma_ms S_X3_stepOf) (hS_X3_place : ma_ms S_X3_place) : ∀ pc, ma_mo (tb_X3_marks S_X3_neighbour S_X3_stepOf S_X3_place pc) := fun pc =>
 (mo_lt
 (mo_lt
 (mo_lt
 (mo_lt
 (mo_eq mo_ald)
 (mo_lt
 (mo_eq mo_ild)
 (mo_eq mo_ild)))
 (mo_lt
 (mo_lt
 (mo_eq mo_push)
 (mo_eq mo_idv))
 (mo_lt
 (mo_eq mo_push)
 (mo_eq mo_idv))))
 (mo_lt
 (mo_lt
 (mo_lt
 (mo_eq (mo_v3 hS_X3_neighbour))
 (mo_eq mo_ist))
 (mo_lt
 (mo_eq mo_ild)
 (mo_eq mo_push)))
 (mo_lt
 (mo_lt
 (mo_eq mo_if2)
 (mo_eq mo_ald))
 (mo_lt
 (mo_eq mo_get)
 (mo_eq mo_ald)))))
 (mo_lt
 (mo_lt
 (mo_lt
 (mo_eq mo_ald)
 (mo_lt
 (mo_eq mo_ild)
 (mo_eq mo_ild)))
 (mo_lt
 (mo_lt
 (mo_eq (mo_v3 hS_X3_stepOf))
 (mo_eq mo_ild))
 (mo_lt
 (mo_eq mo_ild)
 (mo_eq mo_push))))
 (mo_lt
 (mo_lt
 (mo_lt
 (mo_eq mo_idv)
 (mo_eq (mo_v4 hS_X3_place)))
 (mo_lt
 (mo_eq mo_bar)
 (mo_eq mo_if1)))
 (mo_lt
 (mo_lt
 (mo_eq mo_push)
 (mo_eq mo_go))
 (mo_lt
 (mo_eq mo_push)
 (mo_eq mo_rz))))))
theorem mo_X3_stepOf : ∀ pc, ma_mo (tb_X3_stepOf  pc) := fun pc =>
 (mo_lt
 (mo_lt
 (mo_lt
 (mo_eq mo_ild)
 (mo_eq mo_push))
 (mo_lt
 (mo_eq mo_idv)
 (mo_lt
 (mo_eq mo_push)
 (mo_eq mo_if2))))
 (mo_lt
 (mo_lt
 (mo_eq mo_ild)
 (mo_lt
 (mo_eq mo_go)
 (mo_eq mo_ild)))
 (mo_lt
 (mo_eq mo_push)
 (mo_lt
 (mo_eq mo_iii)
 (mo_eq mo_ri)))))
theorem mo_X3_made {S_X3_valueOf S_J0_abs S_J0_floorDiv_2 : ma_Cs} (hS_X3_valueOf : ma_ms S_X3_valueOf) (hS_J0_abs : ma_ms S_J0_abs) (hS_J0_floorDiv_2 : ma_ms S_J0_floorDiv_2) : ∀ pc, ma_mo (tb_X3_made S_X3_valueOf S_J0_abs S_J0_floorDiv_2 pc) := fun pc =>
 (mo_lt
 (mo_lt
 (mo_lt
 (mo_lt
 (mo_lt
 (mo_lt
 (mo_lt
 (mo_eq mo_push)
 (mo_eq mo_lst))
 (mo_lt
 (mo_eq mo_ald)
 (mo_eq mo_get)))
 (mo_lt
 (mo_lt
 (mo_eq mo_get)
 (mo_eq mo_get))
 (mo_lt
 (mo_eq mo_ild)
 (mo_lt
 (mo_eq mo_iar)
 (mo_eq mo_ist)))))
 (mo_lt
 (mo_lt
 (mo_lt
 (mo_eq mo_ild)
 (mo_eq mo_ald))
 (mo_lt
 (mo_eq mo_get)
 (mo_eq mo_get)))
 (mo_lt
 (mo_lt
 (mo_eq mo_get)
 (mo_eq mo_ild))
 (mo_lt
 (mo_eq mo_push)
 (mo_lt
 (mo_eq mo_iii)
 (mo_eq mo_iar))))))
 (mo_lt
 (mo_lt
 (mo_lt
 (mo_lt
 (mo_eq mo_if2)
 (mo_eq mo_ald))
 (mo_lt
 (mo_eq mo_ild)
 (mo_eq mo_ild)))
 (mo_lt
 (mo_lt
 (mo_eq mo_ald)
 (mo_eq mo_get))
 (mo_lt
 (mo_eq mo_get)
 (mo_lt
 (mo_eq mo_get)
 (mo_eq mo_ild)))))
 (mo_lt
 (mo_lt
 (mo_lt
 (mo_eq mo_iar)
 (mo_eq (mo_v4 hS_X3_valueOf)))
 (mo_lt
 (mo_eq mo_ist)
 (mo_eq mo_ald)))
 (mo_lt
 (mo_lt
 (mo_eq mo_get)
 (mo_eq mo_get))
 (mo_lt
 (mo_eq mo_get)
 (mo_lt
 (mo_eq mo_ild)
 (mo_eq mo_iar)))))))
 (mo_lt
 (mo_lt
 (mo_lt
 (mo_lt
 (mo_lt
 (mo_eq mo_push)
 (mo_eq mo_if2))
 (mo_lt
 (mo_eq mo_push)
 (mo_eq mo_go)))
 (mo_lt
 (mo_lt
 (mo_eq mo_ald)
 (mo_eq mo_ild))
 (mo_lt
 (mo_eq mo_ild)
 (mo_lt
 (mo_eq mo_ald)
 (mo_eq mo_get)))))
 (mo_lt
 (mo_lt
 (mo_lt
 (mo_eq mo_get)
 (mo_eq mo_get))
 (mo_lt
 (mo_eq mo_ild)
 (mo_eq mo_iar)))
 (mo_lt
 (mo_lt
 (mo_eq (mo_v4 hS_X3_valueOf))
 (mo_eq mo_ist))
 (mo_lt
 (mo_eq mo_ild)
 (mo_lt
 (mo_eq mo_push)
 (mo_eq mo_if2))))))
 (mo_lt
 (mo_lt
 (mo_lt
 (mo_lt
 (mo_eq mo_ild)
 (mo_eq mo_push))
 (mo_lt
 (mo_eq mo_if2)
 (mo_eq mo_push)))
 (mo_lt
 (mo_lt
 (mo_eq mo_ri)
 (mo_eq mo_ild))
 (mo_lt
 (mo_eq mo_il)
 (mo_lt
 (mo_eq mo_ild)
 (mo_eq mo_il)))))
 (mo_lt
 (mo_lt
 (mo_lt
 (mo_eq mo_lll)
 (mo_eq mo_lst))
 (mo_lt
 (mo_eq mo_lld)
 (mo_eq (mo_s1 hS_J0_abs))))
 (mo_lt
 (mo_lt
 (mo_eq mo_push)
 (mo_eq mo_lli))
 (mo_lt
 (mo_eq mo_if1)
 (mo_lt
 (mo_eq mo_lld)
 (mo_eq mo_ald))))))))
 (mo_lt
 (mo_lt
 (mo_lt
 (mo_lt
 (mo_lt
 (mo_lt
 (mo_eq mo_get)
 (mo_eq mo_get))
 (mo_lt
 (mo_eq mo_get)
 (mo_eq mo_ild)))
 (mo_lt
 (mo_lt
 (mo_eq mo_iar)
 (mo_eq mo_il))
 (mo_lt
 (mo_eq mo_lll)
 (mo_lt
 (mo_eq (mo_s1 hS_J0_abs))
 (mo_eq mo_push)))))
 (mo_lt
 (mo_lt
 (mo_lt
 (mo_eq mo_lli)
 (mo_eq mo_if1))
 (mo_lt
 (mo_eq mo_push)
 (mo_eq mo_ri)))
 (mo_lt
 (mo_lt
 (mo_eq mo_lld)
 (mo_eq mo_lld))
 (mo_lt
 (mo_eq mo_ald)
 (mo_lt
 (mo_eq mo_get)
 (mo_eq mo_get))))))
 (mo_lt
 (mo_lt
 (mo_lt
 (mo_lt
 (mo_eq mo_get)
 (mo_eq mo_ild))
 (mo_lt
 (mo_eq mo_iar)
 (mo_eq mo_il)))
 (mo_lt
 (mo_lt
 (mo_eq mo_lll)
 (mo_eq mo_lll))
 (mo_lt
 (mo_eq mo_lst)
 (mo_lt
 (mo_eq mo_inc)
 (mo_eq mo_go)))))
 (mo_lt
 (mo_lt
 (mo_lt
 (mo_eq mo_lld)
 (mo_eq (mo_s1 hS_J0_abs)))
 (mo_lt
 (mo_eq mo_push)
 (mo_eq mo_lli)))
 (mo_lt
 (mo_lt
 (mo_eq mo_if1)
 (mo_eq mo_push))
 (mo_lt
 (mo_eq mo_ri)
 (mo_lt
 (mo_eq mo_ald)
 (mo_eq mo_get)))))))
 (mo_lt
 (mo_lt
 (mo_lt
 (mo_lt
 (mo_lt
 (mo_eq mo_get)
 (mo_eq mo_get))
 (mo_lt
 (mo_eq mo_ild)
 (mo_eq mo_iar)))
 (mo_lt
 (mo_lt
 (mo_eq mo_il)
 (mo_eq mo_lst))
 (mo_lt
 (mo_eq mo_ald)
 (mo_lt
 (mo_eq mo_get)
 (mo_eq mo_get)))))
 (mo_lt
 (mo_lt
 (mo_lt
 (mo_eq mo_get)
 (mo_eq mo_ild))
 (mo_lt
 (mo_eq mo_bar)
 (mo_eq mo_if1)))
 (mo_lt
 (mo_lt
 (mo_eq mo_push)
 (mo_eq mo_lld))
 (mo_lt
 (mo_eq mo_lll)
 (mo_lt
 (mo_eq mo_lld)
 (mo_eq mo_lll))))))
 (mo_lt
 (mo_lt
 (mo_lt
 (mo_lt
 (mo_eq mo_push)
 (mo_eq mo_lld))
 (mo_lt
 (mo_eq mo_lll)
 (mo_eq (mo_s2 hS_J0_floorDiv_2))))
 (mo_lt
 (mo_lt
 (mo_eq mo_go)
 (mo_eq mo_lld))
 (mo_lt
 (mo_eq mo_lld)
 (mo_lt
 (mo_eq (mo_s2 hS_J0_floorDiv_2))
 (mo_eq mo_lst)))))
 (mo_lt
 (mo_lt
 (mo_lt
 (mo_eq mo_lld)
 (mo_eq (mo_s1 hS_J0_abs)))
 (mo_lt
 (mo_eq mo_push)
 (mo_lt
 (mo_eq mo_lli)
 (mo_eq mo_if1))))
 (mo_lt
 (mo_lt
 (mo_eq mo_push)
 (mo_eq mo_go))
 (mo_lt
 (mo_eq mo_lld)
 (mo_lt
 (mo_eq mo_li)
 (mo_eq mo_ri)))))))))
theorem mo_X3_valueOf {S_X3_neighbour S_X3_stepOf S_X3_at : ma_Cs} (hS_X3_neighbour : ma_ms S_X3_neighbour) (hS_X3_stepOf : ma_ms S_X3_stepOf) (hS_X3_at : ma_ms S_X3_at) : ∀ pc, ma_mo (tb_X3_valueOf S_X3_neighbour S_X3_stepOf S_X3_at pc) := fun pc =>
 (mo_lt
 (mo_lt
 (mo_lt
 (mo_lt
 (mo_eq mo_ald)
 (mo_lt
 (mo_eq mo_ild)
 (mo_eq mo_ild)))
 (mo_lt
 (mo_lt
 (mo_eq mo_push)
 (mo_eq mo_idv))
 (mo_lt
 (mo_eq mo_push)
 (mo_eq mo_idv))))
 (mo_lt
 (mo_lt
 (mo_lt
 (mo_eq (mo_v3 hS_X3_neighbour))
 (mo_eq mo_ist))
 (mo_lt
 (mo_eq mo_ild)
 (mo_eq mo_push)))
 (mo_lt
 (mo_lt
 (mo_eq mo_if2)
 (mo_eq mo_ald))
 (mo_lt
 (mo_eq mo_get)
 (mo_eq mo_get)))))
 (mo_lt
 (mo_lt
 (mo_lt
 (mo_lt
 (mo_eq mo_ild)
 (mo_eq mo_push))
 (mo_lt
 (mo_eq mo_idv)
 (mo_eq mo_iar)))
 (mo_lt
 (mo_lt
 (mo_eq mo_go)
 (mo_eq mo_ald))
 (mo_lt
 (mo_eq mo_ald)
 (mo_eq mo_ild))))
 (mo_lt
 (mo_lt
 (mo_lt
 (mo_eq mo_ild)
 (mo_eq (mo_v3 hS_X3_stepOf)))
 (mo_lt
 (mo_eq mo_ild)
 (mo_eq mo_ild)))
 (mo_lt
 (mo_lt
 (mo_eq mo_push)
 (mo_eq mo_idv))
 (mo_lt
 (mo_eq (mo_v4 hS_X3_at))
 (mo_eq mo_ri))))))
theorem mo_X3_beginCoarse {S_X3_meanOf S_X3_put : ma_Cs} (hS_X3_meanOf : ma_ms S_X3_meanOf) (hS_X3_put : ma_ms S_X3_put) : ∀ pc, ma_mo (tb_X3_beginCoarse S_X3_meanOf S_X3_put pc) := fun pc =>
 (mo_lt
 (mo_lt
 (mo_lt
 (mo_lt
 (mo_lt
 (mo_eq mo_ald)
 (mo_eq mo_ald))
 (mo_lt
 (mo_eq mo_get)
 (mo_lt
 (mo_eq mo_push)
 (mo_eq mo_idv))))
 (mo_lt
 (mo_lt
 (mo_eq mo_put)
 (mo_eq mo_ald))
 (mo_lt
 (mo_eq mo_ald)
 (mo_lt
 (mo_eq mo_get)
 (mo_eq mo_push)))))
 (mo_lt
 (mo_lt
 (mo_lt
 (mo_eq mo_idv)
 (mo_eq mo_put))
 (mo_lt
 (mo_eq mo_push)
 (mo_lt
 (mo_eq mo_ist)
 (mo_eq mo_ild))))
 (mo_lt
 (mo_lt
 (mo_eq mo_ald)
 (mo_lt
 (mo_eq mo_get)
 (mo_eq mo_ald)))
 (mo_lt
 (mo_eq mo_get)
 (mo_lt
 (mo_eq mo_iii)
 (mo_eq mo_if2))))))
 (mo_lt
 (mo_lt
 (mo_lt
 (mo_lt
 (mo_eq mo_push)
 (mo_eq mo_ist))
 (mo_lt
 (mo_eq mo_ild)
 (mo_lt
 (mo_eq mo_push)
 (mo_eq mo_if2))))
 (mo_lt
 (mo_lt
 (mo_eq mo_ald)
 (mo_lt
 (mo_eq mo_push)
 (mo_eq mo_ild)))
 (mo_lt
 (mo_eq mo_ild)
 (mo_lt
 (mo_eq mo_ald)
 (mo_eq mo_ald)))))
 (mo_lt
 (mo_lt
 (mo_lt
 (mo_eq mo_push)
 (mo_eq mo_ild))
 (mo_lt
 (mo_eq mo_ild)
 (mo_lt
 (mo_eq (mo_v5 hS_X3_meanOf))
 (mo_eq mo_push))))
 (mo_lt
 (mo_lt
 (mo_eq (mo_v6 hS_X3_put))
 (mo_lt
 (mo_eq mo_inc)
 (mo_eq mo_go)))
 (mo_lt
 (mo_eq mo_inc)
 (mo_lt
 (mo_eq mo_go)
 (mo_eq mo_rv)))))))
theorem mo_X3_meanOf {S_X3_at S_J0_floorDiv_2 : ma_Cs} (hS_X3_at : ma_ms S_X3_at) (hS_J0_floorDiv_2 : ma_ms S_J0_floorDiv_2) : ∀ pc, ma_mo (tb_X3_meanOf S_X3_at S_J0_floorDiv_2 pc) := fun pc =>
 (mo_lt
 (mo_lt
 (mo_lt
 (mo_lt
 (mo_lt
 (mo_eq mo_ild)
 (mo_lt
 (mo_eq mo_ald)
 (mo_eq mo_get)))
 (mo_lt
 (mo_lt
 (mo_eq mo_idv)
 (mo_eq mo_push))
 (mo_lt
 (mo_eq mo_iii)
 (mo_eq mo_ist))))
 (mo_lt
 (mo_lt
 (mo_eq mo_ild)
 (mo_lt
 (mo_eq mo_ald)
 (mo_eq mo_get)))
 (mo_lt
 (mo_lt
 (mo_eq mo_idv)
 (mo_eq mo_push))
 (mo_lt
 (mo_eq mo_iii)
 (mo_eq mo_ist)))))
 (mo_lt
 (mo_lt
 (mo_lt
 (mo_eq mo_push)
 (mo_lt
 (mo_eq mo_lst)
 (mo_eq mo_push)))
 (mo_lt
 (mo_lt
 (mo_eq mo_ist)
 (mo_eq mo_ild))
 (mo_lt
 (mo_eq mo_push)
 (mo_eq mo_if2))))
 (mo_lt
 (mo_lt
 (mo_eq mo_ald)
 (mo_lt
 (mo_eq mo_ild)
 (mo_eq mo_ald)))
 (mo_lt
 (mo_lt
 (mo_eq mo_get)
 (mo_eq mo_ild))
 (mo_lt
 (mo_eq mo_ild)
 (mo_eq mo_push))))))
 (mo_lt
 (mo_lt
 (mo_lt
 (mo_lt
 (mo_eq mo_idv)
 (mo_lt
 (mo_eq mo_iii)
 (mo_eq mo_iii)))
 (mo_lt
 (mo_lt
 (mo_eq mo_ild)
 (mo_eq mo_iii))
 (mo_lt
 (mo_eq mo_ild)
 (mo_eq mo_push))))
 (mo_lt
 (mo_lt
 (mo_eq mo_idv)
 (mo_lt
 (mo_eq mo_iii)
 (mo_eq mo_ild)))
 (mo_lt
 (mo_lt
 (mo_eq (mo_v4 hS_X3_at))
 (mo_eq mo_ist))
 (mo_lt
 (mo_eq mo_ild)
 (mo_eq mo_push)))))
 (mo_lt
 (mo_lt
 (mo_lt
 (mo_eq mo_if2)
 (mo_lt
 (mo_eq mo_push)
 (mo_eq mo_ri)))
 (mo_lt
 (mo_lt
 (mo_eq mo_lld)
 (mo_eq mo_ild))
 (mo_lt
 (mo_eq mo_il)
 (mo_eq mo_lll))))
 (mo_lt
 (mo_lt
 (mo_lt
 (mo_eq mo_lst)
 (mo_eq mo_inc))
 (mo_lt
 (mo_eq mo_go)
 (mo_eq mo_lld)))
 (mo_lt
 (mo_lt
 (mo_eq mo_push)
 (mo_eq (mo_s2 hS_J0_floorDiv_2)))
 (mo_lt
 (mo_eq mo_li)
 (mo_eq mo_ri)))))))
theorem mo_X0_clearSky {S_X0_clearTold : ma_Cs} (hS_X0_clearTold : ma_ms S_X0_clearTold) : ∀ pc, ma_mo (tb_X0_clearSky S_X0_clearTold pc) := fun pc =>
 (mo_lt
 (mo_lt
 (mo_lt
 (mo_lt
 (mo_lt
 (mo_eq mo_push)
 (mo_eq mo_ist))
 (mo_lt
 (mo_eq mo_ild)
 (mo_eq mo_push)))
 (mo_lt
 (mo_lt
 (mo_eq mo_if2)
 (mo_eq mo_ald))
 (mo_lt
 (mo_eq mo_get)
 (mo_lt
 (mo_eq mo_ild)
 (mo_eq mo_push)))))
 (mo_lt
 (mo_lt
 (mo_lt
 (mo_eq mo_iaw)
 (mo_eq mo_inc))
 (mo_lt
 (mo_eq mo_go)
 (mo_eq mo_push)))
 (mo_lt
 (mo_lt
 (mo_eq mo_ist)
 (mo_eq mo_ild))
 (mo_lt
 (mo_eq mo_push)
 (mo_lt
 (mo_eq mo_if2)
 (mo_eq mo_ald))))))
 (mo_lt
 (mo_lt
 (mo_lt
 (mo_lt
 (mo_eq mo_get)
 (mo_eq mo_ild))
 (mo_lt
 (mo_eq mo_push)
 (mo_eq mo_iaw)))
 (mo_lt
 (mo_lt
 (mo_eq mo_inc)
 (mo_eq mo_go))
 (mo_lt
 (mo_eq mo_ald)
 (mo_lt
 (mo_eq mo_push)
 (mo_eq mo_put)))))
 (mo_lt
 (mo_lt
 (mo_lt
 (mo_eq mo_ald)
 (mo_eq mo_push))
 (mo_lt
 (mo_eq mo_put)
 (mo_eq mo_ald)))
 (mo_lt
 (mo_lt
 (mo_eq (mo_v1 hS_X0_clearTold))
 (mo_eq mo_ald))
 (mo_lt
 (mo_eq mo_push)
 (mo_lt
 (mo_eq mo_puz)
 (mo_eq mo_rv)))))))
theorem mo_X0_clearTold : ∀ pc, ma_mo (tb_X0_clearTold  pc) := fun pc =>
 (mo_lt
 (mo_lt
 (mo_lt
 (mo_eq mo_push)
 (mo_lt
 (mo_eq mo_ist)
 (mo_eq mo_ild)))
 (mo_lt
 (mo_eq mo_push)
 (mo_lt
 (mo_eq mo_if2)
 (mo_eq mo_ald))))
 (mo_lt
 (mo_lt
 (mo_eq mo_get)
 (mo_lt
 (mo_eq mo_ild)
 (mo_eq mo_push)))
 (mo_lt
 (mo_lt
 (mo_eq mo_law)
 (mo_eq mo_inc))
 (mo_lt
 (mo_eq mo_go)
 (mo_eq mo_rv)))))
theorem mo_X0_sky {S_X0_isIn S_X0_clearSky S_X0_cells : ma_Cs} (hS_X0_isIn : ma_ms S_X0_isIn) (hS_X0_clearSky : ma_ms S_X0_clearSky) (hS_X0_cells : ma_ms S_X0_cells) : ∀ pc, ma_mo (tb_X0_sky S_X0_isIn S_X0_clearSky S_X0_cells pc) := fun pc =>
 (mo_lt
 (mo_lt
 (mo_lt
 (mo_lt
 (mo_eq mo_ild)
 (mo_lt
 (mo_eq mo_il)
 (mo_eq mo_push)))
 (mo_lt
 (mo_eq mo_push)
 (mo_lt
 (mo_eq (mo_s3 hS_X0_isIn))
 (mo_eq mo_if1))))
 (mo_lt
 (mo_lt
 (mo_eq mo_ild)
 (mo_lt
 (mo_eq mo_il)
 (mo_eq mo_push)))
 (mo_lt
 (mo_eq mo_push)
 (mo_lt
 (mo_eq (mo_s3 hS_X0_isIn))
 (mo_eq mo_if1)))))
 (mo_lt
 (mo_lt
 (mo_lt
 (mo_eq mo_push)
 (mo_lt
 (mo_eq mo_ri)
 (mo_eq mo_ald)))
 (mo_lt
 (mo_eq mo_ild)
 (mo_lt
 (mo_eq mo_put)
 (mo_eq mo_ald))))
 (mo_lt
 (mo_lt
 (mo_eq mo_ild)
 (mo_lt
 (mo_eq mo_put)
 (mo_eq mo_ald)))
 (mo_lt
 (mo_lt
 (mo_eq (mo_v1 hS_X0_clearSky))
 (mo_eq mo_ald))
 (mo_lt
 (mo_eq (mo_v1 hS_X0_cells))
 (mo_eq mo_ri))))))
theorem mo_X0_isIn : ∀ pc, ma_mo (tb_X0_isIn  pc) := fun pc =>
 (mo_lt
 (mo_lt
 (mo_lt
 (mo_eq mo_lld)
 (mo_lt
 (mo_eq mo_lld)
 (mo_eq mo_lli)))
 (mo_lt
 (mo_eq mo_if1)
 (mo_lt
 (mo_eq mo_lld)
 (mo_eq mo_lld))))
 (mo_lt
 (mo_lt
 (mo_eq mo_lli)
 (mo_lt
 (mo_eq mo_if1)
 (mo_eq mo_push)))
 (mo_lt
 (mo_eq mo_go)
 (mo_lt
 (mo_eq mo_push)
 (mo_eq mo_rz)))))
theorem mo_X0_cells : ∀ pc, ma_mo (tb_X0_cells  pc) := fun pc =>
 (mo_lt
 (mo_lt
 (mo_eq mo_ald)
 (mo_lt
 (mo_eq mo_get)
 (mo_eq mo_ald)))
 (mo_lt
 (mo_eq mo_get)
 (mo_lt
 (mo_eq mo_iii)
 (mo_eq mo_ri))))
theorem mo_X0_rule {S_X0_isIn : ma_Cs} (hS_X0_isIn : ma_ms S_X0_isIn) : ∀ pc, ma_mo (tb_X0_rule S_X0_isIn pc) := fun pc =>
 (mo_lt
 (mo_lt
 (mo_lt
 (mo_lt
 (mo_lt
 (mo_eq mo_ild)
 (mo_lt
 (mo_eq mo_il)
 (mo_eq mo_push)))
 (mo_lt
 (mo_eq mo_push)
 (mo_lt
 (mo_eq (mo_s3 hS_X0_isIn))
 (mo_eq mo_if1))))
 (mo_lt
 (mo_lt
 (mo_eq mo_ild)
 (mo_lt
 (mo_eq mo_il)
 (mo_eq mo_push)))
 (mo_lt
 (mo_eq mo_ild)
 (mo_lt
 (mo_eq mo_if1)
 (mo_eq mo_push)))))
 (mo_lt
 (mo_lt
 (mo_lt
 (mo_eq mo_go)
 (mo_lt
 (mo_eq mo_push)
 (mo_eq (mo_s3 hS_X0_isIn))))
 (mo_lt
 (mo_eq mo_if1)
 (mo_lt
 (mo_eq mo_push)
 (mo_eq mo_ri))))
 (mo_lt
 (mo_lt
 (mo_eq mo_ild)
 (mo_lt
 (mo_eq mo_if1)
 (mo_eq mo_ald)))
 (mo_lt
 (mo_eq mo_get)
 (mo_lt
 (mo_eq mo_go)
 (mo_eq mo_ald))))))
 (mo_lt
 (mo_lt
 (mo_lt
 (mo_lt
 (mo_eq mo_get)
 (mo_lt
 (mo_eq mo_ist)
 (mo_eq mo_ald)))
 (mo_lt
 (mo_eq mo_ild)
 (mo_lt
 (mo_eq mo_if1)
 (mo_eq mo_ild))))
 (mo_lt
 (mo_lt
 (mo_eq mo_go)
 (mo_lt
 (mo_eq mo_ald)
 (mo_eq mo_get)))
 (mo_lt
 (mo_eq mo_put)
 (mo_lt
 (mo_eq mo_ald)
 (mo_eq mo_ild)))))
 (mo_lt
 (mo_lt
 (mo_lt
 (mo_eq mo_push)
 (mo_lt
 (mo_eq mo_if2)
 (mo_eq mo_ild)))
 (mo_lt
 (mo_eq mo_go)
 (mo_lt
 (mo_eq mo_ald)
 (mo_eq mo_get))))
 (mo_lt
 (mo_lt
 (mo_eq mo_put)
 (mo_lt
 (mo_eq mo_ald)
 (mo_eq mo_push)))
 (mo_lt
 (mo_eq mo_puz)
 (mo_lt
 (mo_eq mo_ild)
 (mo_eq mo_ri)))))))
theorem mo_X0_rim {S_X0_isLetter S_X0_isIn : ma_Cs} (hS_X0_isLetter : ma_ms S_X0_isLetter) (hS_X0_isIn : ma_ms S_X0_isIn) : ∀ pc, ma_mo (tb_X0_rim S_X0_isLetter S_X0_isIn pc) := fun pc =>
 (mo_lt
 (mo_lt
 (mo_lt
 (mo_lt
 (mo_eq mo_ild)
 (mo_lt
 (mo_eq (mo_s1 hS_X0_isLetter))
 (mo_eq mo_if1)))
 (mo_lt
 (mo_eq mo_ild)
 (mo_lt
 (mo_eq mo_il)
 (mo_eq mo_push))))
 (mo_lt
 (mo_lt
 (mo_eq mo_push)
 (mo_lt
 (mo_eq (mo_s3 hS_X0_isIn))
 (mo_eq mo_if1)))
 (mo_lt
 (mo_lt
 (mo_eq mo_push)
 (mo_eq mo_ri))
 (mo_lt
 (mo_eq mo_ald)
 (mo_eq mo_get)))))
 (mo_lt
 (mo_lt
 (mo_lt
 (mo_eq mo_ild)
 (mo_lt
 (mo_eq mo_iar)
 (mo_eq mo_ist)))
 (mo_lt
 (mo_eq mo_ald)
 (mo_lt
 (mo_eq mo_get)
 (mo_eq mo_ild))))
 (mo_lt
 (mo_lt
 (mo_eq mo_ild)
 (mo_lt
 (mo_eq mo_iaw)
 (mo_eq mo_ald)))
 (mo_lt
 (mo_lt
 (mo_eq mo_push)
 (mo_eq mo_puz))
 (mo_lt
 (mo_eq mo_ild)
 (mo_eq mo_ri))))))
theorem mo_X0_isLetter {S_X0_isIn : ma_Cs} (hS_X0_isIn : ma_ms S_X0_isIn) : ∀ pc, ma_mo (tb_X0_isLetter S_X0_isIn pc) := fun pc =>
 (mo_lt
 (mo_lt
 (mo_eq mo_ild)
 (mo_lt
 (mo_eq mo_il)
 (mo_eq mo_push)))
 (mo_lt
 (mo_eq mo_push)
 (mo_lt
 (mo_eq (mo_s3 hS_X0_isIn))
 (mo_eq mo_rz))))
theorem mo_X0_write {S_X0_isIn : ma_Cs} (hS_X0_isIn : ma_ms S_X0_isIn) : ∀ pc, ma_mo (tb_X0_write S_X0_isIn pc) := fun pc =>
 (mo_lt
 (mo_lt
 (mo_lt
 (mo_lt
 (mo_lt
 (mo_eq mo_ild)
 (mo_eq mo_il))
 (mo_lt
 (mo_eq mo_push)
 (mo_lt
 (mo_eq mo_push)
 (mo_eq (mo_s3 hS_X0_isIn)))))
 (mo_lt
 (mo_lt
 (mo_eq mo_if1)
 (mo_lt
 (mo_eq mo_push)
 (mo_eq mo_ri)))
 (mo_lt
 (mo_eq mo_ald)
 (mo_lt
 (mo_eq mo_get)
 (mo_eq mo_ild)))))
 (mo_lt
 (mo_lt
 (mo_lt
 (mo_eq mo_iii)
 (mo_eq mo_push))
 (mo_lt
 (mo_eq mo_if2)
 (mo_lt
 (mo_eq mo_push)
 (mo_eq mo_ri))))
 (mo_lt
 (mo_lt
 (mo_eq mo_ild)
 (mo_lt
 (mo_eq mo_push)
 (mo_eq mo_iii)))
 (mo_lt
 (mo_eq mo_ist)
 (mo_lt
 (mo_eq mo_ild)
 (mo_eq mo_if1))))))
 (mo_lt
 (mo_lt
 (mo_lt
 (mo_lt
 (mo_eq mo_ald)
 (mo_eq mo_get))
 (mo_lt
 (mo_eq mo_ald)
 (mo_lt
 (mo_eq mo_get)
 (mo_eq mo_lld))))
 (mo_lt
 (mo_lt
 (mo_eq mo_push)
 (mo_lt
 (mo_eq mo_ild)
 (mo_eq mo_iii)))
 (mo_lt
 (mo_eq mo_lil)
 (mo_lt
 (mo_eq mo_li)
 (mo_eq mo_ii)))))
 (mo_lt
 (mo_lt
 (mo_lt
 (mo_eq mo_baw)
 (mo_lt
 (mo_eq mo_ald)
 (mo_eq mo_dup)))
 (mo_lt
 (mo_eq mo_get)
 (mo_lt
 (mo_eq mo_push)
 (mo_eq mo_iii))))
 (mo_lt
 (mo_lt
 (mo_eq mo_put)
 (mo_lt
 (mo_eq mo_inc)
 (mo_eq mo_go)))
 (mo_lt
 (mo_eq mo_ald)
 (mo_lt
 (mo_eq mo_get)
 (mo_eq mo_ri)))))))
theorem mo_X0_wipe : ∀ pc, ma_mo (tb_X0_wipe  pc) := fun pc =>
 (mo_lt
 (mo_lt
 (mo_lt
 (mo_eq mo_ald)
 (mo_eq mo_get))
 (mo_lt
 (mo_eq mo_ist)
 (mo_eq mo_ald)))
 (mo_lt
 (mo_lt
 (mo_eq mo_push)
 (mo_eq mo_put))
 (mo_lt
 (mo_eq mo_ild)
 (mo_eq mo_ri))))
theorem mo_X0_fault {S_X1_reads : ma_Cs} (hS_X1_reads : ma_ms S_X1_reads) : ∀ pc, ma_mo (tb_X0_fault S_X1_reads pc) := fun pc =>
 (mo_lt
 (mo_lt
 (mo_eq mo_ald)
 (mo_eq mo_get))
 (mo_lt
 (mo_eq (mo_v1 hS_X1_reads))
 (mo_eq mo_ri)))
theorem mo_X0_plan {S_X1_reads S_X2_copy : ma_Cs} (hS_X1_reads : ma_ms S_X1_reads) (hS_X2_copy : ma_ms S_X2_copy) : ∀ pc, ma_mo (tb_X0_plan S_X1_reads S_X2_copy pc) := fun pc =>
 (mo_lt
 (mo_lt
 (mo_lt
 (mo_lt
 (mo_eq mo_ald)
 (mo_eq mo_get))
 (mo_lt
 (mo_eq (mo_v1 hS_X1_reads))
 (mo_eq mo_push)))
 (mo_lt
 (mo_lt
 (mo_eq mo_if2)
 (mo_eq mo_push))
 (mo_lt
 (mo_eq mo_ri)
 (mo_lt
 (mo_eq mo_ald)
 (mo_eq mo_get)))))
 (mo_lt
 (mo_lt
 (mo_lt
 (mo_eq mo_ald)
 (mo_eq mo_get))
 (mo_lt
 (mo_eq (mo_v2 hS_X2_copy))
 (mo_lt
 (mo_eq mo_ald)
 (mo_eq mo_push))))
 (mo_lt
 (mo_lt
 (mo_eq mo_puz)
 (mo_eq mo_ald))
 (mo_lt
 (mo_eq mo_get)
 (mo_lt
 (mo_eq mo_get)
 (mo_eq mo_ri))))))
theorem mo_X0_line {S_X0_isLetter S_X0_isIn S_X2_lineOf S_X2_hasProduct : ma_Cs} (hS_X0_isLetter : ma_ms S_X0_isLetter) (hS_X0_isIn : ma_ms S_X0_isIn) (hS_X2_lineOf : ma_ms S_X2_lineOf) (hS_X2_hasProduct : ma_ms S_X2_hasProduct) : ∀ pc, ma_mo (tb_X0_line S_X0_isLetter S_X0_isIn S_X2_lineOf S_X2_hasProduct pc) := fun pc =>
 (mo_lt
 (mo_lt
 (mo_lt
 (mo_lt
 (mo_lt
 (mo_lt
 (mo_eq mo_ild)
 (mo_eq (mo_s1 hS_X0_isLetter)))
 (mo_lt
 (mo_eq mo_if1)
 (mo_eq mo_ild)))
 (mo_lt
 (mo_lt
 (mo_eq mo_il)
 (mo_eq mo_push))
 (mo_lt
 (mo_eq mo_push)
 (mo_eq (mo_s3 hS_X0_isIn)))))
 (mo_lt
 (mo_lt
 (mo_lt
 (mo_eq mo_if1)
 (mo_eq mo_push))
 (mo_lt
 (mo_eq mo_ri)
 (mo_eq mo_ald)))
 (mo_lt
 (mo_lt
 (mo_eq mo_get)
 (mo_eq mo_ild))
 (mo_lt
 (mo_eq (mo_v2 hS_X2_lineOf))
 (mo_eq mo_ist)))))
 (mo_lt
 (mo_lt
 (mo_lt
 (mo_lt
 (mo_eq mo_ild)
 (mo_eq mo_push))
 (mo_lt
 (mo_eq mo_if2)
 (mo_eq mo_push)))
 (mo_lt
 (mo_lt
 (mo_eq mo_ri)
 (mo_eq mo_ild))
 (mo_lt
 (mo_eq mo_sw)
 (mo_eq mo_ild))))
 (mo_lt
 (mo_lt
 (mo_lt
 (mo_eq mo_ri)
 (mo_eq mo_ald))
 (mo_lt
 (mo_eq mo_get)
 (mo_eq mo_get)))
 (mo_lt
 (mo_lt
 (mo_eq mo_ild)
 (mo_eq mo_push))
 (mo_lt
 (mo_eq mo_iii)
 (mo_eq mo_iar))))))
 (mo_lt
 (mo_lt
 (mo_lt
 (mo_lt
 (mo_lt
 (mo_eq mo_ald)
 (mo_eq mo_get))
 (mo_lt
 (mo_eq mo_get)
 (mo_eq mo_ild)))
 (mo_lt
 (mo_lt
 (mo_eq mo_iar)
 (mo_eq mo_iii))
 (mo_lt
 (mo_eq mo_ri)
 (mo_eq mo_ald))))
 (mo_lt
 (mo_lt
 (mo_lt
 (mo_eq mo_get)
 (mo_eq mo_get))
 (mo_lt
 (mo_eq mo_ild)
 (mo_eq mo_iar)))
 (mo_lt
 (mo_lt
 (mo_eq mo_ri)
 (mo_eq mo_ald))
 (mo_lt
 (mo_eq mo_get)
 (mo_eq mo_get)))))
 (mo_lt
 (mo_lt
 (mo_lt
 (mo_lt
 (mo_eq mo_ild)
 (mo_eq mo_bar))
 (mo_lt
 (mo_eq mo_if1)
 (mo_eq mo_push)))
 (mo_lt
 (mo_lt
 (mo_eq mo_go)
 (mo_eq mo_push))
 (mo_lt
 (mo_eq mo_ri)
 (mo_eq mo_ald))))
 (mo_lt
 (mo_lt
 (mo_lt
 (mo_eq mo_get)
 (mo_eq mo_ild))
 (mo_lt
 (mo_eq (mo_v2 hS_X2_hasProduct))
 (mo_eq mo_if1)))
 (mo_lt
 (mo_lt
 (mo_eq mo_push)
 (mo_eq mo_go))
 (mo_lt
 (mo_eq mo_push)
 (mo_eq mo_ri)))))))
theorem mo_X0_first {S_X0_isCell S_X0_isLetter S_X0_isIn : ma_Cs} (hS_X0_isCell : ma_ms S_X0_isCell) (hS_X0_isLetter : ma_ms S_X0_isLetter) (hS_X0_isIn : ma_ms S_X0_isIn) : ∀ pc, ma_mo (tb_X0_first S_X0_isCell S_X0_isLetter S_X0_isIn pc) := fun pc =>
 (mo_lt
 (mo_lt
 (mo_lt
 (mo_lt
 (mo_lt
 (mo_eq mo_ald)
 (mo_eq mo_ild))
 (mo_lt
 (mo_eq (mo_v2 hS_X0_isCell))
 (mo_lt
 (mo_eq mo_if1)
 (mo_eq mo_ild))))
 (mo_lt
 (mo_lt
 (mo_eq (mo_s1 hS_X0_isLetter))
 (mo_eq mo_if1))
 (mo_lt
 (mo_eq mo_ild)
 (mo_lt
 (mo_eq mo_il)
 (mo_eq mo_push)))))
 (mo_lt
 (mo_lt
 (mo_lt
 (mo_eq mo_push)
 (mo_eq (mo_s3 hS_X0_isIn)))
 (mo_lt
 (mo_eq mo_if1)
 (mo_lt
 (mo_eq mo_ild)
 (mo_eq mo_push))))
 (mo_lt
 (mo_lt
 (mo_eq mo_if2)
 (mo_eq mo_push))
 (mo_lt
 (mo_eq mo_ri)
 (mo_lt
 (mo_eq mo_ald)
 (mo_eq mo_get))))))
 (mo_lt
 (mo_lt
 (mo_lt
 (mo_lt
 (mo_eq mo_push)
 (mo_eq mo_ild))
 (mo_lt
 (mo_eq mo_iii)
 (mo_lt
 (mo_eq mo_ild)
 (mo_eq mo_iii))))
 (mo_lt
 (mo_lt
 (mo_eq mo_iar)
 (mo_eq mo_ist))
 (mo_lt
 (mo_eq mo_ald)
 (mo_lt
 (mo_eq mo_get)
 (mo_eq mo_push)))))
 (mo_lt
 (mo_lt
 (mo_lt
 (mo_eq mo_ild)
 (mo_eq mo_iii))
 (mo_lt
 (mo_eq mo_ild)
 (mo_lt
 (mo_eq mo_iii)
 (mo_eq mo_ild))))
 (mo_lt
 (mo_lt
 (mo_eq mo_iaw)
 (mo_lt
 (mo_eq mo_ald)
 (mo_eq mo_push)))
 (mo_lt
 (mo_eq mo_puz)
 (mo_lt
 (mo_eq mo_ild)
 (mo_eq mo_ri)))))))
theorem mo_X0_isCell {S_X0_cells S_X0_isIn : ma_Cs} (hS_X0_cells : ma_ms S_X0_cells) (hS_X0_isIn : ma_ms S_X0_isIn) : ∀ pc, ma_mo (tb_X0_isCell S_X0_cells S_X0_isIn pc) := fun pc =>
 (mo_lt
 (mo_lt
 (mo_lt
 (mo_eq mo_ild)
 (mo_eq mo_il))
 (mo_lt
 (mo_eq mo_push)
 (mo_lt
 (mo_eq mo_ald)
 (mo_eq (mo_v1 hS_X0_cells)))))
 (mo_lt
 (mo_lt
 (mo_eq mo_push)
 (mo_eq mo_iii))
 (mo_lt
 (mo_eq mo_il)
 (mo_lt
 (mo_eq (mo_s3 hS_X0_isIn))
 (mo_eq mo_rz)))))
theorem mo_X0_at {S_X0_isPlace S_X0_refresh S_X3_at : ma_Cs} (hS_X0_isPlace : ma_ms S_X0_isPlace) (hS_X0_refresh : ma_ms S_X0_refresh) (hS_X3_at : ma_ms S_X3_at) : ∀ pc, ma_mo (tb_X0_at S_X0_isPlace S_X0_refresh S_X3_at pc) := fun pc =>
 (mo_lt
 (mo_lt
 (mo_lt
 (mo_lt
 (mo_eq mo_ald)
 (mo_lt
 (mo_eq mo_ild)
 (mo_eq mo_ild)))
 (mo_lt
 (mo_eq mo_ild)
 (mo_lt
 (mo_eq (mo_v4 hS_X0_isPlace))
 (mo_eq mo_if1))))
 (mo_lt
 (mo_lt
 (mo_eq mo_push)
 (mo_lt
 (mo_eq mo_ri)
 (mo_eq mo_ald)))
 (mo_lt
 (mo_lt
 (mo_eq (mo_v1 hS_X0_refresh))
 (mo_eq mo_ild))
 (mo_lt
 (mo_eq mo_if1)
 (mo_eq mo_ald)))))
 (mo_lt
 (mo_lt
 (mo_lt
 (mo_eq mo_get)
 (mo_lt
 (mo_eq mo_ild)
 (mo_eq mo_ild)))
 (mo_lt
 (mo_eq mo_ild)
 (mo_lt
 (mo_eq (mo_v4 hS_X3_at))
 (mo_eq mo_go))))
 (mo_lt
 (mo_lt
 (mo_eq mo_ald)
 (mo_lt
 (mo_eq mo_get)
 (mo_eq mo_ild)))
 (mo_lt
 (mo_lt
 (mo_eq mo_ild)
 (mo_eq mo_ild))
 (mo_lt
 (mo_eq (mo_v4 hS_X3_at))
 (mo_eq mo_ri))))))
theorem mo_X0_isPlace {S_X0_isStep S_X0_isCell S_X0_isLetter : ma_Cs} (hS_X0_isStep : ma_ms S_X0_isStep) (hS_X0_isCell : ma_ms S_X0_isCell) (hS_X0_isLetter : ma_ms S_X0_isLetter) : ∀ pc, ma_mo (tb_X0_isPlace S_X0_isStep S_X0_isCell S_X0_isLetter pc) := fun pc =>
 (mo_lt
 (mo_lt
 (mo_lt
 (mo_eq mo_ild)
 (mo_lt
 (mo_eq (mo_s1 hS_X0_isStep))
 (mo_eq mo_if1)))
 (mo_lt
 (mo_lt
 (mo_eq mo_ald)
 (mo_eq mo_ild))
 (mo_lt
 (mo_eq (mo_v2 hS_X0_isCell))
 (mo_eq mo_if1))))
 (mo_lt
 (mo_lt
 (mo_eq mo_ild)
 (mo_lt
 (mo_eq (mo_s1 hS_X0_isLetter))
 (mo_eq mo_if1)))
 (mo_lt
 (mo_lt
 (mo_eq mo_push)
 (mo_eq mo_go))
 (mo_lt
 (mo_eq mo_push)
 (mo_eq mo_rz)))))
theorem mo_X0_isStep {S_X0_isIn : ma_Cs} (hS_X0_isIn : ma_ms S_X0_isIn) : ∀ pc, ma_mo (tb_X0_isStep S_X0_isIn pc) := fun pc =>
 (mo_lt
 (mo_lt
 (mo_eq mo_ild)
 (mo_lt
 (mo_eq mo_il)
 (mo_eq mo_push)))
 (mo_lt
 (mo_eq mo_push)
 (mo_lt
 (mo_eq (mo_s3 hS_X0_isIn))
 (mo_eq mo_rz))))
theorem mo_X0_refresh {S_X3_begin S_X3_run : ma_Cs} (hS_X3_begin : ma_ms S_X3_begin) (hS_X3_run : ma_ms S_X3_run) : ∀ pc, ma_mo (tb_X0_refresh S_X3_begin S_X3_run pc) := fun pc =>
 (mo_lt
 (mo_lt
 (mo_lt
 (mo_lt
 (mo_eq mo_ald)
 (mo_eq mo_get))
 (mo_lt
 (mo_eq mo_if1)
 (mo_lt
 (mo_eq mo_ald)
 (mo_eq mo_get))))
 (mo_lt
 (mo_lt
 (mo_eq (mo_v1 hS_X3_begin))
 (mo_lt
 (mo_eq mo_ald)
 (mo_eq mo_get)))
 (mo_lt
 (mo_eq mo_push)
 (mo_lt
 (mo_eq mo_push)
 (mo_eq (mo_v3 hS_X3_run))))))
 (mo_lt
 (mo_lt
 (mo_lt
 (mo_eq mo_ald)
 (mo_lt
 (mo_eq mo_get)
 (mo_eq (mo_v1 hS_X3_begin))))
 (mo_lt
 (mo_eq mo_ald)
 (mo_lt
 (mo_eq mo_get)
 (mo_eq mo_push))))
 (mo_lt
 (mo_lt
 (mo_eq mo_push)
 (mo_lt
 (mo_eq (mo_v3 hS_X3_run))
 (mo_eq mo_ald)))
 (mo_lt
 (mo_eq mo_push)
 (mo_lt
 (mo_eq mo_puz)
 (mo_eq mo_rv))))))
theorem mo_X0_marked {S_X0_isPlace S_X0_refresh S_X3_place : ma_Cs} (hS_X0_isPlace : ma_ms S_X0_isPlace) (hS_X0_refresh : ma_ms S_X0_refresh) (hS_X3_place : ma_ms S_X3_place) : ∀ pc, ma_mo (tb_X0_marked S_X0_isPlace S_X0_refresh S_X3_place pc) := fun pc =>
 (mo_lt
 (mo_lt
 (mo_lt
 (mo_lt
 (mo_eq mo_ald)
 (mo_lt
 (mo_eq mo_ild)
 (mo_eq mo_ild)))
 (mo_lt
 (mo_eq mo_ild)
 (mo_lt
 (mo_eq (mo_v4 hS_X0_isPlace))
 (mo_eq mo_if1))))
 (mo_lt
 (mo_lt
 (mo_eq mo_push)
 (mo_lt
 (mo_eq mo_ri)
 (mo_eq mo_ald)))
 (mo_lt
 (mo_eq (mo_v1 hS_X0_refresh))
 (mo_lt
 (mo_eq mo_ald)
 (mo_eq mo_get)))))
 (mo_lt
 (mo_lt
 (mo_lt
 (mo_eq mo_get)
 (mo_lt
 (mo_eq mo_ald)
 (mo_eq mo_get)))
 (mo_lt
 (mo_eq mo_ild)
 (mo_lt
 (mo_eq mo_ild)
 (mo_eq mo_ild))))
 (mo_lt
 (mo_lt
 (mo_eq (mo_v4 hS_X3_place))
 (mo_lt
 (mo_eq mo_bar)
 (mo_eq mo_if1)))
 (mo_lt
 (mo_lt
 (mo_eq mo_push)
 (mo_eq mo_go))
 (mo_lt
 (mo_eq mo_push)
 (mo_eq mo_ri))))))
theorem mo_X0_sum {S_X0_isStep S_X0_isLetter S_X0_refresh S_X0_cells S_X3_at S_X0_countOf : ma_Cs} (hS_X0_isStep : ma_ms S_X0_isStep) (hS_X0_isLetter : ma_ms S_X0_isLetter) (hS_X0_refresh : ma_ms S_X0_refresh) (hS_X0_cells : ma_ms S_X0_cells) (hS_X3_at : ma_ms S_X3_at) (hS_X0_countOf : ma_ms S_X0_countOf) : ∀ pc, ma_mo (tb_X0_sum S_X0_isStep S_X0_isLetter S_X0_refresh S_X0_cells S_X3_at S_X0_countOf pc) := fun pc =>
 (mo_lt
 (mo_lt
 (mo_lt
 (mo_lt
 (mo_lt
 (mo_eq mo_ild)
 (mo_eq (mo_s1 hS_X0_isStep)))
 (mo_lt
 (mo_eq mo_if1)
 (mo_lt
 (mo_eq mo_ild)
 (mo_eq (mo_s1 hS_X0_isLetter)))))
 (mo_lt
 (mo_lt
 (mo_eq mo_if1)
 (mo_eq mo_push))
 (mo_lt
 (mo_eq mo_rl)
 (mo_lt
 (mo_eq mo_ald)
 (mo_eq (mo_v1 hS_X0_refresh))))))
 (mo_lt
 (mo_lt
 (mo_lt
 (mo_eq mo_push)
 (mo_eq mo_lst))
 (mo_lt
 (mo_eq mo_push)
 (mo_lt
 (mo_eq mo_ist)
 (mo_eq mo_ild))))
 (mo_lt
 (mo_lt
 (mo_eq mo_ald)
 (mo_eq (mo_v1 hS_X0_cells)))
 (mo_lt
 (mo_eq mo_if2)
 (mo_lt
 (mo_eq mo_lld)
 (mo_eq mo_ild))))))
 (mo_lt
 (mo_lt
 (mo_lt
 (mo_lt
 (mo_eq mo_if1)
 (mo_eq mo_ald))
 (mo_lt
 (mo_eq mo_get)
 (mo_lt
 (mo_eq mo_ild)
 (mo_eq mo_ild))))
 (mo_lt
 (mo_lt
 (mo_eq mo_ild)
 (mo_eq (mo_v4 hS_X3_at)))
 (mo_lt
 (mo_eq mo_go)
 (mo_lt
 (mo_eq mo_ald)
 (mo_eq mo_get)))))
 (mo_lt
 (mo_lt
 (mo_lt
 (mo_eq mo_ild)
 (mo_eq mo_ild))
 (mo_lt
 (mo_eq mo_ild)
 (mo_lt
 (mo_eq (mo_v4 hS_X3_at))
 (mo_eq (mo_s1 hS_X0_countOf)))))
 (mo_lt
 (mo_lt
 (mo_eq mo_lll)
 (mo_lt
 (mo_eq mo_lst)
 (mo_eq mo_inc)))
 (mo_lt
 (mo_eq mo_go)
 (mo_lt
 (mo_eq mo_lld)
 (mo_eq mo_rl)))))))
theorem mo_X0_countOf : ∀ pc, ma_mo (tb_X0_countOf  pc) := fun pc =>
 (mo_lt
 (mo_lt
 (mo_lt
 (mo_eq mo_ild)
 (mo_eq mo_push))
 (mo_lt
 (mo_eq mo_if2)
 (mo_eq mo_push)))
 (mo_lt
 (mo_lt
 (mo_eq mo_go)
 (mo_eq mo_ild))
 (mo_lt
 (mo_eq mo_il)
 (mo_eq mo_rl))))
theorem mo_X0_slip {S_X0_isPlace S_X0_isIn : ma_Cs} (hS_X0_isPlace : ma_ms S_X0_isPlace) (hS_X0_isIn : ma_ms S_X0_isIn) : ∀ pc, ma_mo (tb_X0_slip S_X0_isPlace S_X0_isIn pc) := fun pc =>
 (mo_lt
 (mo_lt
 (mo_lt
 (mo_lt
 (mo_lt
 (mo_eq mo_ald)
 (mo_lt
 (mo_eq mo_ild)
 (mo_eq mo_ild)))
 (mo_lt
 (mo_lt
 (mo_eq mo_ild)
 (mo_eq (mo_v4 hS_X0_isPlace)))
 (mo_lt
 (mo_eq mo_if1)
 (mo_eq mo_ild))))
 (mo_lt
 (mo_lt
 (mo_lt
 (mo_eq mo_if1)
 (mo_eq mo_ild))
 (mo_lt
 (mo_eq mo_if1)
 (mo_eq mo_ild)))
 (mo_lt
 (mo_lt
 (mo_eq mo_il)
 (mo_eq mo_push))
 (mo_lt
 (mo_eq mo_push)
 (mo_eq (mo_s3 hS_X0_isIn))))))
 (mo_lt
 (mo_lt
 (mo_lt
 (mo_eq mo_if1)
 (mo_lt
 (mo_eq mo_push)
 (mo_eq mo_ri)))
 (mo_lt
 (mo_lt
 (mo_eq mo_ald)
 (mo_eq mo_get))
 (mo_lt
 (mo_eq mo_push)
 (mo_eq mo_if2))))
 (mo_lt
 (mo_lt
 (mo_lt
 (mo_eq mo_push)
 (mo_eq mo_ri))
 (mo_lt
 (mo_eq mo_ald)
 (mo_eq mo_get)))
 (mo_lt
 (mo_lt
 (mo_eq mo_ald)
 (mo_eq mo_get))
 (mo_lt
 (mo_eq mo_ild)
 (mo_eq mo_iaw))))))
 (mo_lt
 (mo_lt
 (mo_lt
 (mo_lt
 (mo_eq mo_ald)
 (mo_lt
 (mo_eq mo_get)
 (mo_eq mo_ald)))
 (mo_lt
 (mo_lt
 (mo_eq mo_get)
 (mo_eq mo_ild))
 (mo_lt
 (mo_eq mo_iaw)
 (mo_eq mo_ald))))
 (mo_lt
 (mo_lt
 (mo_lt
 (mo_eq mo_get)
 (mo_eq mo_ald))
 (mo_lt
 (mo_eq mo_get)
 (mo_eq mo_ild)))
 (mo_lt
 (mo_lt
 (mo_eq mo_iaw)
 (mo_eq mo_ald))
 (mo_lt
 (mo_eq mo_get)
 (mo_eq mo_ald)))))
 (mo_lt
 (mo_lt
 (mo_lt
 (mo_eq mo_get)
 (mo_lt
 (mo_eq mo_ild)
 (mo_eq mo_iaw)))
 (mo_lt
 (mo_lt
 (mo_eq mo_ald)
 (mo_eq mo_dup))
 (mo_lt
 (mo_eq mo_get)
 (mo_eq mo_push))))
 (mo_lt
 (mo_lt
 (mo_lt
 (mo_eq mo_iii)
 (mo_eq mo_put))
 (mo_lt
 (mo_eq mo_ald)
 (mo_eq mo_push)))
 (mo_lt
 (mo_lt
 (mo_eq mo_puz)
 (mo_eq mo_ald))
 (mo_lt
 (mo_eq mo_get)
 (mo_eq mo_ri)))))))
theorem mo_X0_mend : ∀ pc, ma_mo (tb_X0_mend  pc) := fun pc =>
 (mo_lt
 (mo_lt
 (mo_lt
 (mo_lt
 (mo_eq mo_ald)
 (mo_eq mo_get))
 (mo_lt
 (mo_eq mo_if1)
 (mo_eq mo_push)))
 (mo_lt
 (mo_lt
 (mo_eq mo_ri)
 (mo_eq mo_ald))
 (mo_lt
 (mo_eq mo_dup)
 (mo_eq mo_get))))
 (mo_lt
 (mo_lt
 (mo_lt
 (mo_eq mo_push)
 (mo_eq mo_iii))
 (mo_lt
 (mo_eq mo_put)
 (mo_eq mo_ald)))
 (mo_lt
 (mo_lt
 (mo_eq mo_push)
 (mo_eq mo_puz))
 (mo_lt
 (mo_eq mo_ald)
 (mo_lt
 (mo_eq mo_get)
 (mo_eq mo_ri))))))
theorem mo_X0_spread {S_X0_isIn S_X0_refresh S_X3_begin S_X3_run S_X0_cells S_X3_at : ma_Cs} (hS_X0_isIn : ma_ms S_X0_isIn) (hS_X0_refresh : ma_ms S_X0_refresh) (hS_X3_begin : ma_ms S_X3_begin) (hS_X3_run : ma_ms S_X3_run) (hS_X0_cells : ma_ms S_X0_cells) (hS_X3_at : ma_ms S_X3_at) : ∀ pc, ma_mo (tb_X0_spread S_X0_isIn S_X0_refresh S_X3_begin S_X3_run S_X0_cells S_X3_at pc) := fun pc =>
 (mo_lt
 (mo_lt
 (mo_lt
 (mo_lt
 (mo_lt
 (mo_lt
 (mo_eq mo_ild)
 (mo_lt
 (mo_eq mo_if1)
 (mo_eq mo_ild)))
 (mo_lt
 (mo_eq mo_il)
 (mo_lt
 (mo_eq mo_push)
 (mo_eq mo_push))))
 (mo_lt
 (mo_lt
 (mo_eq (mo_s3 hS_X0_isIn))
 (mo_lt
 (mo_eq mo_if1)
 (mo_eq mo_ild)))
 (mo_lt
 (mo_lt
 (mo_eq mo_il)
 (mo_eq mo_push))
 (mo_lt
 (mo_eq mo_push)
 (mo_eq (mo_s3 hS_X0_isIn))))))
 (mo_lt
 (mo_lt
 (mo_lt
 (mo_eq mo_if1)
 (mo_lt
 (mo_eq mo_push)
 (mo_eq mo_ri)))
 (mo_lt
 (mo_eq mo_ild)
 (mo_lt
 (mo_eq mo_ald)
 (mo_eq mo_get))))
 (mo_lt
 (mo_lt
 (mo_eq mo_if2)
 (mo_lt
 (mo_eq mo_push)
 (mo_eq mo_ri)))
 (mo_lt
 (mo_lt
 (mo_eq mo_ald)
 (mo_eq (mo_v1 hS_X0_refresh)))
 (mo_lt
 (mo_eq mo_ald)
 (mo_eq mo_get))))))
 (mo_lt
 (mo_lt
 (mo_lt
 (mo_lt
 (mo_eq (mo_v1 hS_X3_begin))
 (mo_lt
 (mo_eq mo_ald)
 (mo_eq mo_get)))
 (mo_lt
 (mo_eq mo_ild)
 (mo_lt
 (mo_eq mo_ild)
 (mo_eq (mo_v3 hS_X3_run)))))
 (mo_lt
 (mo_lt
 (mo_eq mo_push)
 (mo_lt
 (mo_eq mo_ist)
 (mo_eq mo_push)))
 (mo_lt
 (mo_lt
 (mo_eq mo_ist)
 (mo_eq mo_push))
 (mo_lt
 (mo_eq mo_ist)
 (mo_eq mo_ild)))))
 (mo_lt
 (mo_lt
 (mo_lt
 (mo_eq mo_ild)
 (mo_lt
 (mo_eq mo_if2)
 (mo_eq mo_push)))
 (mo_lt
 (mo_eq mo_ist)
 (mo_lt
 (mo_eq mo_ild)
 (mo_eq mo_ald))))
 (mo_lt
 (mo_lt
 (mo_eq (mo_v1 hS_X0_cells))
 (mo_lt
 (mo_eq mo_if2)
 (mo_eq mo_push)))
 (mo_lt
 (mo_lt
 (mo_eq mo_ist)
 (mo_eq mo_ild))
 (mo_lt
 (mo_eq mo_push)
 (mo_eq mo_if2)))))))
 (mo_lt
 (mo_lt
 (mo_lt
 (mo_lt
 (mo_lt
 (mo_eq mo_ald)
 (mo_lt
 (mo_eq mo_get)
 (mo_eq mo_ild)))
 (mo_lt
 (mo_eq mo_ild)
 (mo_lt
 (mo_eq mo_ild)
 (mo_eq (mo_v4 hS_X3_at)))))
 (mo_lt
 (mo_lt
 (mo_eq mo_ald)
 (mo_lt
 (mo_eq mo_get)
 (mo_eq mo_ild)))
 (mo_lt
 (mo_lt
 (mo_eq mo_ild)
 (mo_eq mo_ild))
 (mo_lt
 (mo_eq (mo_v4 hS_X3_at))
 (mo_eq mo_if2)))))
 (mo_lt
 (mo_lt
 (mo_lt
 (mo_eq mo_push)
 (mo_lt
 (mo_eq mo_go)
 (mo_eq mo_push)))
 (mo_lt
 (mo_eq mo_ist)
 (mo_lt
 (mo_eq mo_ild)
 (mo_eq mo_ild))))
 (mo_lt
 (mo_lt
 (mo_eq mo_if1)
 (mo_lt
 (mo_eq mo_push)
 (mo_eq mo_go)))
 (mo_lt
 (mo_lt
 (mo_eq mo_push)
 (mo_eq mo_iii))
 (mo_lt
 (mo_eq mo_ist)
 (mo_eq mo_ild))))))
 (mo_lt
 (mo_lt
 (mo_lt
 (mo_lt
 (mo_eq mo_if1)
 (mo_lt
 (mo_eq mo_ild)
 (mo_eq mo_go)))
 (mo_lt
 (mo_eq mo_ild)
 (mo_lt
 (mo_eq mo_ist)
 (mo_eq mo_inc))))
 (mo_lt
 (mo_lt
 (mo_eq mo_go)
 (mo_lt
 (mo_eq mo_inc)
 (mo_eq mo_go)))
 (mo_lt
 (mo_lt
 (mo_eq mo_inc)
 (mo_eq mo_go))
 (mo_lt
 (mo_eq mo_ild)
 (mo_eq mo_if1)))))
 (mo_lt
 (mo_lt
 (mo_lt
 (mo_eq mo_ild)
 (mo_lt
 (mo_eq mo_go)
 (mo_eq mo_ild)))
 (mo_lt
 (mo_lt
 (mo_eq mo_push)
 (mo_eq mo_if2))
 (mo_lt
 (mo_eq mo_ild)
 (mo_eq mo_go))))
 (mo_lt
 (mo_lt
 (mo_eq mo_ild)
 (mo_lt
 (mo_eq mo_ild)
 (mo_eq mo_if2)))
 (mo_lt
 (mo_lt
 (mo_eq mo_push)
 (mo_eq mo_go))
 (mo_lt
 (mo_eq mo_push)
 (mo_eq mo_ri))))))))
theorem mo_X0_kept {S_X0_isLetter S_X2_lineOf S_X2_hasProduct S_X2_isOwn S_X2_factors : ma_Cs} (hS_X0_isLetter : ma_ms S_X0_isLetter) (hS_X2_lineOf : ma_ms S_X2_lineOf) (hS_X2_hasProduct : ma_ms S_X2_hasProduct) (hS_X2_isOwn : ma_ms S_X2_isOwn) (hS_X2_factors : ma_ms S_X2_factors) : ∀ pc, ma_mo (tb_X0_kept S_X0_isLetter S_X2_lineOf S_X2_hasProduct S_X2_isOwn S_X2_factors pc) := fun pc =>
 (mo_lt
 (mo_lt
 (mo_lt
 (mo_lt
 (mo_lt
 (mo_eq mo_ild)
 (mo_lt
 (mo_eq (mo_s1 hS_X0_isLetter))
 (mo_eq mo_if1)))
 (mo_lt
 (mo_eq mo_push)
 (mo_lt
 (mo_eq mo_ri)
 (mo_eq mo_ald))))
 (mo_lt
 (mo_lt
 (mo_eq mo_get)
 (mo_lt
 (mo_eq mo_ild)
 (mo_eq (mo_v2 hS_X2_lineOf))))
 (mo_lt
 (mo_eq mo_ist)
 (mo_lt
 (mo_eq mo_ild)
 (mo_eq mo_push)))))
 (mo_lt
 (mo_lt
 (mo_lt
 (mo_eq mo_if2)
 (mo_lt
 (mo_eq mo_push)
 (mo_eq mo_ri)))
 (mo_lt
 (mo_eq mo_ald)
 (mo_lt
 (mo_eq mo_get)
 (mo_eq mo_if1))))
 (mo_lt
 (mo_lt
 (mo_eq mo_ald)
 (mo_lt
 (mo_eq mo_get)
 (mo_eq mo_ild)))
 (mo_lt
 (mo_eq (mo_v2 hS_X2_hasProduct))
 (mo_lt
 (mo_eq mo_if1)
 (mo_eq mo_ald))))))
 (mo_lt
 (mo_lt
 (mo_lt
 (mo_lt
 (mo_eq mo_get)
 (mo_lt
 (mo_eq mo_ild)
 (mo_eq (mo_v2 hS_X2_isOwn))))
 (mo_lt
 (mo_eq mo_if1)
 (mo_lt
 (mo_eq mo_ald)
 (mo_eq mo_get))))
 (mo_lt
 (mo_lt
 (mo_eq mo_ild)
 (mo_lt
 (mo_eq mo_push)
 (mo_eq (mo_v3 hS_X2_factors))))
 (mo_lt
 (mo_eq mo_ald)
 (mo_lt
 (mo_eq mo_get)
 (mo_eq mo_get)))))
 (mo_lt
 (mo_lt
 (mo_lt
 (mo_eq mo_ild)
 (mo_lt
 (mo_eq mo_iar)
 (mo_eq mo_if2)))
 (mo_lt
 (mo_eq mo_push)
 (mo_lt
 (mo_eq mo_go)
 (mo_eq mo_push))))
 (mo_lt
 (mo_lt
 (mo_eq mo_ist)
 (mo_lt
 (mo_eq mo_ild)
 (mo_eq mo_if1)))
 (mo_lt
 (mo_lt
 (mo_eq mo_push)
 (mo_eq mo_go))
 (mo_lt
 (mo_eq mo_push)
 (mo_eq mo_ri)))))))
theorem mo_X0_grows {S_X2_hasProduct S_X2_factors : ma_Cs} (hS_X2_hasProduct : ma_ms S_X2_hasProduct) (hS_X2_factors : ma_ms S_X2_factors) : ∀ pc, ma_mo (tb_X0_grows S_X2_hasProduct S_X2_factors pc) := fun pc =>
 (mo_lt
 (mo_lt
 (mo_lt
 (mo_lt
 (mo_lt
 (mo_eq mo_push)
 (mo_eq mo_ist))
 (mo_lt
 (mo_eq mo_push)
 (mo_eq mo_ist)))
 (mo_lt
 (mo_lt
 (mo_eq mo_ild)
 (mo_eq mo_ald))
 (mo_lt
 (mo_eq mo_get)
 (mo_lt
 (mo_eq mo_get)
 (mo_eq mo_if2)))))
 (mo_lt
 (mo_lt
 (mo_lt
 (mo_eq mo_ild)
 (mo_eq mo_ald))
 (mo_lt
 (mo_eq mo_get)
 (mo_lt
 (mo_eq mo_ild)
 (mo_eq (mo_v2 hS_X2_hasProduct)))))
 (mo_lt
 (mo_lt
 (mo_eq mo_if1)
 (mo_eq mo_ald))
 (mo_lt
 (mo_eq mo_get)
 (mo_lt
 (mo_eq mo_ild)
 (mo_eq mo_push))))))
 (mo_lt
 (mo_lt
 (mo_lt
 (mo_lt
 (mo_eq (mo_v3 hS_X2_factors))
 (mo_eq mo_ald))
 (mo_lt
 (mo_eq mo_get)
 (mo_lt
 (mo_eq mo_get)
 (mo_eq mo_ild))))
 (mo_lt
 (mo_lt
 (mo_eq mo_iar)
 (mo_eq mo_if2))
 (mo_lt
 (mo_eq mo_push)
 (mo_lt
 (mo_eq mo_go)
 (mo_eq mo_push)))))
 (mo_lt
 (mo_lt
 (mo_lt
 (mo_eq mo_iii)
 (mo_eq mo_ist))
 (mo_lt
 (mo_eq mo_inc)
 (mo_lt
 (mo_eq mo_go)
 (mo_eq mo_ild))))
 (mo_lt
 (mo_lt
 (mo_eq mo_if1)
 (mo_eq mo_push))
 (mo_lt
 (mo_eq mo_go)
 (mo_lt
 (mo_eq mo_push)
 (mo_eq mo_ri)))))))
theorem mo_X0_tell {S_X0_isStep S_X0_isLetter S_X0_isIn S_X0_clearTold : ma_Cs} (hS_X0_isStep : ma_ms S_X0_isStep) (hS_X0_isLetter : ma_ms S_X0_isLetter) (hS_X0_isIn : ma_ms S_X0_isIn) (hS_X0_clearTold : ma_ms S_X0_clearTold) : ∀ pc, ma_mo (tb_X0_tell S_X0_isStep S_X0_isLetter S_X0_isIn S_X0_clearTold pc) := fun pc =>
 (mo_lt
 (mo_lt
 (mo_lt
 (mo_lt
 (mo_lt
 (mo_lt
 (mo_eq mo_ild)
 (mo_eq (mo_s1 hS_X0_isStep)))
 (mo_lt
 (mo_eq mo_if1)
 (mo_eq mo_ild)))
 (mo_lt
 (mo_lt
 (mo_eq (mo_s1 hS_X0_isLetter))
 (mo_eq mo_if1))
 (mo_lt
 (mo_eq mo_ild)
 (mo_eq mo_il))))
 (mo_lt
 (mo_lt
 (mo_lt
 (mo_eq mo_push)
 (mo_eq mo_ild))
 (mo_lt
 (mo_eq mo_if1)
 (mo_eq mo_ald)))
 (mo_lt
 (mo_lt
 (mo_eq mo_get)
 (mo_eq mo_go))
 (mo_lt
 (mo_eq mo_ald)
 (mo_eq mo_get)))))
 (mo_lt
 (mo_lt
 (mo_lt
 (mo_lt
 (mo_eq mo_push)
 (mo_eq mo_iii))
 (mo_lt
 (mo_eq mo_il)
 (mo_eq (mo_s3 hS_X0_isIn))))
 (mo_lt
 (mo_lt
 (mo_eq mo_if1)
 (mo_eq mo_push))
 (mo_lt
 (mo_eq mo_go)
 (mo_eq mo_push))))
 (mo_lt
 (mo_lt
 (mo_lt
 (mo_eq mo_ist)
 (mo_eq mo_ild))
 (mo_lt
 (mo_eq mo_if1)
 (mo_eq mo_lld)))
 (mo_lt
 (mo_lt
 (mo_eq mo_push)
 (mo_eq mo_push))
 (mo_lt
 (mo_eq (mo_s3 hS_X0_isIn))
 (mo_lt
 (mo_eq mo_if1)
 (mo_eq mo_lld)))))))
 (mo_lt
 (mo_lt
 (mo_lt
 (mo_lt
 (mo_lt
 (mo_eq mo_push)
 (mo_eq mo_lli))
 (mo_lt
 (mo_eq mo_if1)
 (mo_eq mo_push)))
 (mo_lt
 (mo_lt
 (mo_eq mo_ri)
 (mo_eq mo_ild))
 (mo_lt
 (mo_eq mo_ald)
 (mo_eq mo_get))))
 (mo_lt
 (mo_lt
 (mo_lt
 (mo_eq mo_if2)
 (mo_eq mo_ild))
 (mo_lt
 (mo_eq mo_ald)
 (mo_eq mo_get)))
 (mo_lt
 (mo_lt
 (mo_eq mo_if2)
 (mo_eq mo_ald))
 (mo_lt
 (mo_eq (mo_v1 hS_X0_clearTold))
 (mo_lt
 (mo_eq mo_ald)
 (mo_eq mo_ild))))))
 (mo_lt
 (mo_lt
 (mo_lt
 (mo_lt
 (mo_eq mo_put)
 (mo_eq mo_ald))
 (mo_lt
 (mo_eq mo_ild)
 (mo_eq mo_put)))
 (mo_lt
 (mo_lt
 (mo_eq mo_ald)
 (mo_eq mo_get))
 (mo_lt
 (mo_eq mo_ild)
 (mo_eq mo_if1))))
 (mo_lt
 (mo_lt
 (mo_lt
 (mo_eq mo_push)
 (mo_eq mo_ild))
 (mo_lt
 (mo_eq mo_iii)
 (mo_eq mo_go)))
 (mo_lt
 (mo_lt
 (mo_eq mo_ild)
 (mo_eq mo_lld))
 (mo_lt
 (mo_eq mo_law)
 (mo_lt
 (mo_eq mo_push)
 (mo_eq mo_ri))))))))
theorem mo_X0_fails {S_X0_toldMany S_X0_refresh S_X0_offOf : ma_Cs} (hS_X0_toldMany : ma_ms S_X0_toldMany) (hS_X0_refresh : ma_ms S_X0_refresh) (hS_X0_offOf : ma_ms S_X0_offOf) : ∀ pc, ma_mo (tb_X0_fails S_X0_toldMany S_X0_refresh S_X0_offOf pc) := fun pc =>
 (mo_lt
 (mo_lt
 (mo_lt
 (mo_lt
 (mo_lt
 (mo_eq mo_ald)
 (mo_eq (mo_v1 hS_X0_toldMany)))
 (mo_lt
 (mo_eq mo_if1)
 (mo_eq mo_push)))
 (mo_lt
 (mo_lt
 (mo_eq mo_ri)
 (mo_eq mo_ald))
 (mo_lt
 (mo_eq (mo_v1 hS_X0_refresh))
 (mo_lt
 (mo_eq mo_push)
 (mo_eq mo_ist)))))
 (mo_lt
 (mo_lt
 (mo_lt
 (mo_eq mo_push)
 (mo_eq mo_ist))
 (mo_lt
 (mo_eq mo_ild)
 (mo_lt
 (mo_eq mo_push)
 (mo_eq mo_if2))))
 (mo_lt
 (mo_lt
 (mo_eq mo_ild)
 (mo_eq mo_ald))
 (mo_lt
 (mo_eq mo_get)
 (mo_lt
 (mo_eq mo_ild)
 (mo_eq mo_lar))))))
 (mo_lt
 (mo_lt
 (mo_lt
 (mo_lt
 (mo_eq mo_push)
 (mo_eq mo_lli))
 (mo_lt
 (mo_eq mo_if1)
 (mo_lt
 (mo_eq mo_ald)
 (mo_eq mo_ild))))
 (mo_lt
 (mo_lt
 (mo_eq (mo_v2 hS_X0_offOf))
 (mo_eq mo_push))
 (mo_lt
 (mo_eq mo_lli)
 (mo_lt
 (mo_eq mo_if1)
 (mo_eq mo_push)))))
 (mo_lt
 (mo_lt
 (mo_lt
 (mo_eq mo_ild)
 (mo_eq mo_iii))
 (mo_lt
 (mo_eq mo_go)
 (mo_lt
 (mo_eq mo_push)
 (mo_eq mo_iii))))
 (mo_lt
 (mo_lt
 (mo_eq mo_ist)
 (mo_eq mo_inc))
 (mo_lt
 (mo_eq mo_go)
 (mo_lt
 (mo_eq mo_ild)
 (mo_eq mo_ri)))))))
theorem mo_X0_toldMany : ∀ pc, ma_mo (tb_X0_toldMany  pc) := fun pc =>
 (mo_lt
 (mo_lt
 (mo_lt
 (mo_lt
 (mo_eq mo_push)
 (mo_lt
 (mo_eq mo_ist)
 (mo_eq mo_ald)))
 (mo_lt
 (mo_lt
 (mo_eq mo_get)
 (mo_eq mo_ast))
 (mo_lt
 (mo_eq mo_ald)
 (mo_eq mo_len))))
 (mo_lt
 (mo_lt
 (mo_lt
 (mo_eq mo_ist)
 (mo_eq mo_push))
 (mo_lt
 (mo_eq mo_ist)
 (mo_eq mo_ild)))
 (mo_lt
 (mo_lt
 (mo_eq mo_ild)
 (mo_eq mo_if2))
 (mo_lt
 (mo_eq mo_ald)
 (mo_eq mo_ild)))))
 (mo_lt
 (mo_lt
 (mo_lt
 (mo_lt
 (mo_eq mo_lar)
 (mo_eq mo_lst))
 (mo_lt
 (mo_eq mo_ild)
 (mo_eq mo_lld)))
 (mo_lt
 (mo_lt
 (mo_eq mo_push)
 (mo_eq mo_lli))
 (mo_lt
 (mo_eq mo_if1)
 (mo_eq mo_push))))
 (mo_lt
 (mo_lt
 (mo_lt
 (mo_eq mo_go)
 (mo_eq mo_push))
 (mo_lt
 (mo_eq mo_iii)
 (mo_eq mo_ist)))
 (mo_lt
 (mo_lt
 (mo_eq mo_inc)
 (mo_eq mo_go))
 (mo_lt
 (mo_eq mo_ild)
 (mo_eq mo_ri))))))
theorem mo_X0_offOf {S_X0_cells S_X3_at S_X0_countOf : ma_Cs} (hS_X0_cells : ma_ms S_X0_cells) (hS_X3_at : ma_ms S_X3_at) (hS_X0_countOf : ma_ms S_X0_countOf) : ∀ pc, ma_mo (tb_X0_offOf S_X0_cells S_X3_at S_X0_countOf pc) := fun pc =>
 (mo_lt
 (mo_lt
 (mo_lt
 (mo_lt
 (mo_lt
 (mo_eq mo_push)
 (mo_lt
 (mo_eq mo_lst)
 (mo_eq mo_push)))
 (mo_lt
 (mo_eq mo_ist)
 (mo_lt
 (mo_eq mo_ild)
 (mo_eq mo_ald))))
 (mo_lt
 (mo_lt
 (mo_eq (mo_v1 hS_X0_cells))
 (mo_lt
 (mo_eq mo_if2)
 (mo_eq mo_lld)))
 (mo_lt
 (mo_eq mo_ild)
 (mo_lt
 (mo_eq mo_push)
 (mo_eq mo_if2)))))
 (mo_lt
 (mo_lt
 (mo_lt
 (mo_eq mo_ild)
 (mo_lt
 (mo_eq mo_ald)
 (mo_eq mo_get)))
 (mo_lt
 (mo_eq mo_idv)
 (mo_lt
 (mo_eq mo_ild)
 (mo_eq mo_if2))))
 (mo_lt
 (mo_lt
 (mo_eq mo_go)
 (mo_lt
 (mo_eq mo_ild)
 (mo_eq mo_ald)))
 (mo_lt
 (mo_eq mo_get)
 (mo_lt
 (mo_eq mo_idv)
 (mo_eq mo_ild))))))
 (mo_lt
 (mo_lt
 (mo_lt
 (mo_lt
 (mo_eq mo_push)
 (mo_lt
 (mo_eq mo_iii)
 (mo_eq mo_if2)))
 (mo_lt
 (mo_eq mo_ald)
 (mo_lt
 (mo_eq mo_get)
 (mo_eq mo_ald))))
 (mo_lt
 (mo_lt
 (mo_eq mo_get)
 (mo_lt
 (mo_eq mo_ild)
 (mo_eq mo_ald)))
 (mo_lt
 (mo_eq mo_get)
 (mo_lt
 (mo_eq (mo_v4 hS_X3_at))
 (mo_eq (mo_s1 hS_X0_countOf))))))
 (mo_lt
 (mo_lt
 (mo_lt
 (mo_eq mo_go)
 (mo_lt
 (mo_eq mo_push)
 (mo_eq mo_lll)))
 (mo_lt
 (mo_eq mo_lst)
 (mo_lt
 (mo_eq mo_inc)
 (mo_eq mo_go))))
 (mo_lt
 (mo_lt
 (mo_eq mo_ald)
 (mo_lt
 (mo_eq mo_get)
 (mo_eq mo_ild)))
 (mo_lt
 (mo_lt
 (mo_eq mo_lar)
 (mo_eq mo_lld))
 (mo_lt
 (mo_eq mo_lll)
 (mo_eq mo_rl)))))))
theorem mo_X0_least {S_X0_toldMany S_X0_refresh S_X0_offOf S_X0_isGroup S_J1_bitCount : ma_Cs} (hS_X0_toldMany : ma_ms S_X0_toldMany) (hS_X0_refresh : ma_ms S_X0_refresh) (hS_X0_offOf : ma_ms S_X0_offOf) (hS_X0_isGroup : ma_ms S_X0_isGroup) (hS_J1_bitCount : ma_ms S_J1_bitCount) : ∀ pc, ma_mo (tb_X0_least S_X0_toldMany S_X0_refresh S_X0_offOf S_X0_isGroup S_J1_bitCount pc) := fun pc =>
 (mo_lt
 (mo_lt
 (mo_lt
 (mo_lt
 (mo_lt
 (mo_lt
 (mo_lt
 (mo_eq mo_ald)
 (mo_eq (mo_v1 hS_X0_toldMany)))
 (mo_lt
 (mo_eq mo_ald)
 (mo_lt
 (mo_eq mo_get)
 (mo_eq mo_ald))))
 (mo_lt
 (mo_lt
 (mo_eq mo_get)
 (mo_eq mo_iii))
 (mo_lt
 (mo_eq mo_if2)
 (mo_lt
 (mo_eq mo_push)
 (mo_eq mo_ri)))))
 (mo_lt
 (mo_lt
 (mo_lt
 (mo_eq mo_ald)
 (mo_eq (mo_v1 hS_X0_refresh)))
 (mo_lt
 (mo_eq mo_push)
 (mo_lt
 (mo_eq mo_lst)
 (mo_eq mo_push))))
 (mo_lt
 (mo_lt
 (mo_eq mo_ist)
 (mo_eq mo_push))
 (mo_lt
 (mo_eq mo_ist)
 (mo_lt
 (mo_eq mo_ild)
 (mo_eq mo_push))))))
 (mo_lt
 (mo_lt
 (mo_lt
 (mo_lt
 (mo_eq mo_if2)
 (mo_eq mo_ald))
 (mo_lt
 (mo_eq mo_get)
 (mo_lt
 (mo_eq mo_ild)
 (mo_eq mo_ald))))
 (mo_lt
 (mo_lt
 (mo_eq mo_get)
 (mo_eq mo_ild))
 (mo_lt
 (mo_eq mo_lar)
 (mo_lt
 (mo_eq mo_push)
 (mo_eq mo_lli)))))
 (mo_lt
 (mo_lt
 (mo_lt
 (mo_eq mo_if1)
 (mo_eq mo_push))
 (mo_lt
 (mo_eq mo_go)
 (mo_lt
 (mo_eq mo_ald)
 (mo_eq mo_ild))))
 (mo_lt
 (mo_lt
 (mo_eq (mo_v2 hS_X0_offOf))
 (mo_lt
 (mo_eq mo_law)
 (mo_eq mo_lld)))
 (mo_lt
 (mo_eq mo_ild)
 (mo_lt
 (mo_eq mo_push)
 (mo_eq mo_if2)))))))
 (mo_lt
 (mo_lt
 (mo_lt
 (mo_lt
 (mo_lt
 (mo_eq mo_ald)
 (mo_eq mo_get))
 (mo_lt
 (mo_eq mo_ild)
 (mo_lt
 (mo_eq mo_lar)
 (mo_eq mo_go))))
 (mo_lt
 (mo_lt
 (mo_eq mo_ald)
 (mo_eq mo_get))
 (mo_lt
 (mo_eq mo_ild)
 (mo_lt
 (mo_eq mo_lar)
 (mo_eq mo_ll)))))
 (mo_lt
 (mo_lt
 (mo_lt
 (mo_eq mo_lll)
 (mo_eq mo_lst))
 (mo_lt
 (mo_eq mo_ild)
 (mo_lt
 (mo_eq mo_ald)
 (mo_eq mo_get))))
 (mo_lt
 (mo_lt
 (mo_eq mo_ild)
 (mo_eq mo_lar))
 (mo_lt
 (mo_eq mo_push)
 (mo_lt
 (mo_eq mo_lli)
 (mo_eq mo_if1))))))
 (mo_lt
 (mo_lt
 (mo_lt
 (mo_lt
 (mo_eq mo_push)
 (mo_eq mo_go))
 (mo_lt
 (mo_eq mo_push)
 (mo_lt
 (mo_eq mo_ild)
 (mo_eq mo_iii))))
 (mo_lt
 (mo_lt
 (mo_eq mo_iii)
 (mo_eq mo_ist))
 (mo_lt
 (mo_eq mo_inc)
 (mo_lt
 (mo_eq mo_go)
 (mo_eq mo_lld)))))
 (mo_lt
 (mo_lt
 (mo_lt
 (mo_eq mo_push)
 (mo_eq mo_lli))
 (mo_lt
 (mo_eq mo_if1)
 (mo_lt
 (mo_eq mo_push)
 (mo_eq mo_ri))))
 (mo_lt
 (mo_lt
 (mo_eq mo_ild)
 (mo_lt
 (mo_eq mo_ist)
 (mo_eq mo_ald)))
 (mo_lt
 (mo_eq mo_get)
 (mo_lt
 (mo_eq mo_ild)
 (mo_eq mo_push))))))))
 (mo_lt
 (mo_lt
 (mo_lt
 (mo_lt
 (mo_lt
 (mo_lt
 (mo_eq mo_iaw)
 (mo_eq mo_ild))
 (mo_lt
 (mo_eq mo_if1)
 (mo_lt
 (mo_eq mo_go)
 (mo_eq mo_ild))))
 (mo_lt
 (mo_lt
 (mo_eq mo_push)
 (mo_eq mo_iii))
 (mo_lt
 (mo_eq mo_ild)
 (mo_lt
 (mo_eq mo_iii)
 (mo_eq mo_ist)))))
 (mo_lt
 (mo_lt
 (mo_lt
 (mo_eq mo_go)
 (mo_eq mo_push))
 (mo_lt
 (mo_eq mo_ist)
 (mo_lt
 (mo_eq mo_ild)
 (mo_eq mo_ild))))
 (mo_lt
 (mo_lt
 (mo_eq mo_if2)
 (mo_eq mo_ild))
 (mo_lt
 (mo_eq mo_ild)
 (mo_lt
 (mo_eq mo_push)
 (mo_eq mo_iii))))))
 (mo_lt
 (mo_lt
 (mo_lt
 (mo_lt
 (mo_eq mo_iii)
 (mo_eq mo_if1))
 (mo_lt
 (mo_eq mo_ald)
 (mo_lt
 (mo_eq mo_get)
 (mo_eq mo_ild))))
 (mo_lt
 (mo_lt
 (mo_eq mo_ild)
 (mo_eq mo_push))
 (mo_lt
 (mo_eq mo_iii)
 (mo_lt
 (mo_eq mo_iii)
 (mo_eq mo_iar)))))
 (mo_lt
 (mo_lt
 (mo_lt
 (mo_eq mo_ist)
 (mo_eq mo_ild))
 (mo_lt
 (mo_eq mo_ist)
 (mo_lt
 (mo_eq mo_ild)
 (mo_eq mo_if1))))
 (mo_lt
 (mo_lt
 (mo_eq mo_ald)
 (mo_lt
 (mo_eq mo_get)
 (mo_eq mo_ild)))
 (mo_lt
 (mo_eq mo_ild)
 (mo_lt
 (mo_eq mo_push)
 (mo_eq mo_iii)))))))
 (mo_lt
 (mo_lt
 (mo_lt
 (mo_lt
 (mo_lt
 (mo_eq mo_iii)
 (mo_eq mo_iar))
 (mo_lt
 (mo_eq mo_ild)
 (mo_lt
 (mo_eq mo_if2)
 (mo_eq mo_ald))))
 (mo_lt
 (mo_lt
 (mo_eq mo_ild)
 (mo_eq (mo_v2 hS_X0_isGroup)))
 (mo_lt
 (mo_eq mo_if1)
 (mo_lt
 (mo_eq mo_ald)
 (mo_eq mo_get)))))
 (mo_lt
 (mo_lt
 (mo_lt
 (mo_eq mo_ild)
 (mo_eq mo_ild))
 (mo_lt
 (mo_eq mo_push)
 (mo_lt
 (mo_eq mo_iii)
 (mo_eq mo_iii))))
 (mo_lt
 (mo_lt
 (mo_eq mo_iar)
 (mo_eq mo_push))
 (mo_lt
 (mo_eq mo_iii)
 (mo_lt
 (mo_eq mo_ist)
 (mo_eq mo_ild))))))
 (mo_lt
 (mo_lt
 (mo_lt
 (mo_lt
 (mo_eq mo_push)
 (mo_eq mo_iii))
 (mo_lt
 (mo_eq mo_ild)
 (mo_lt
 (mo_eq mo_iii)
 (mo_eq mo_ist))))
 (mo_lt
 (mo_lt
 (mo_eq mo_go)
 (mo_eq mo_ald))
 (mo_lt
 (mo_eq mo_get)
 (mo_lt
 (mo_eq mo_ild)
 (mo_eq mo_ild)))))
 (mo_lt
 (mo_lt
 (mo_lt
 (mo_eq mo_iaw)
 (mo_eq mo_inc))
 (mo_lt
 (mo_eq mo_go)
 (mo_lt
 (mo_eq mo_ild)
 (mo_eq (mo_s1 hS_J1_bitCount)))))
 (mo_lt
 (mo_lt
 (mo_eq mo_ald)
 (mo_lt
 (mo_eq mo_get)
 (mo_eq mo_ild)))
 (mo_lt
 (mo_eq mo_iar)
 (mo_lt
 (mo_eq mo_iii)
 (mo_eq mo_ri)))))))))
theorem mo_X0_isGroup : ∀ pc, ma_mo (tb_X0_isGroup  pc) := fun pc =>
 (mo_lt
 (mo_lt
 (mo_lt
 (mo_lt
 (mo_lt
 (mo_eq mo_push)
 (mo_lt
 (mo_eq mo_lst)
 (mo_eq mo_push)))
 (mo_lt
 (mo_eq mo_ist)
 (mo_lt
 (mo_eq mo_ild)
 (mo_eq mo_push))))
 (mo_lt
 (mo_lt
 (mo_eq mo_if2)
 (mo_lt
 (mo_eq mo_lld)
 (mo_eq mo_ild)))
 (mo_lt
 (mo_eq mo_ild)
 (mo_lt
 (mo_eq mo_iii)
 (mo_eq mo_push)))))
 (mo_lt
 (mo_lt
 (mo_lt
 (mo_eq mo_iii)
 (mo_lt
 (mo_eq mo_if1)
 (mo_eq mo_push)))
 (mo_lt
 (mo_eq mo_go)
 (mo_lt
 (mo_eq mo_ild)
 (mo_eq mo_push))))
 (mo_lt
 (mo_lt
 (mo_eq mo_if2)
 (mo_lt
 (mo_eq mo_ald)
 (mo_eq mo_get)))
 (mo_lt
 (mo_eq mo_ild)
 (mo_lt
 (mo_eq mo_lar)
 (mo_eq mo_go))))))
 (mo_lt
 (mo_lt
 (mo_lt
 (mo_lt
 (mo_eq mo_ald)
 (mo_lt
 (mo_eq mo_get)
 (mo_eq mo_ild)))
 (mo_lt
 (mo_eq mo_lar)
 (mo_lt
 (mo_eq mo_ll)
 (mo_eq mo_lll))))
 (mo_lt
 (mo_lt
 (mo_eq mo_lst)
 (mo_lt
 (mo_eq mo_inc)
 (mo_eq mo_go)))
 (mo_lt
 (mo_eq mo_lld)
 (mo_lt
 (mo_eq mo_push)
 (mo_eq mo_lli)))))
 (mo_lt
 (mo_lt
 (mo_lt
 (mo_eq mo_if1)
 (mo_lt
 (mo_eq mo_ild)
 (mo_eq mo_push)))
 (mo_lt
 (mo_eq mo_iii)
 (mo_lt
 (mo_eq mo_if1)
 (mo_eq mo_ild))))
 (mo_lt
 (mo_lt
 (mo_eq mo_push)
 (mo_lt
 (mo_eq mo_iii)
 (mo_eq mo_if1)))
 (mo_lt
 (mo_lt
 (mo_eq mo_push)
 (mo_eq mo_go))
 (mo_lt
 (mo_eq mo_push)
 (mo_eq mo_rz)))))))
theorem mo_X0_second {S_X0_isIn S_X0_isCell S_X0_refresh S_X3_at S_X0_anew : ma_Cs} (hS_X0_isIn : ma_ms S_X0_isIn) (hS_X0_isCell : ma_ms S_X0_isCell) (hS_X0_refresh : ma_ms S_X0_refresh) (hS_X3_at : ma_ms S_X3_at) (hS_X0_anew : ma_ms S_X0_anew) : ∀ pc, ma_mo (tb_X0_second S_X0_isIn S_X0_isCell S_X0_refresh S_X3_at S_X0_anew pc) := fun pc =>
 (mo_lt
 (mo_lt
 (mo_lt
 (mo_lt
 (mo_lt
 (mo_eq mo_ild)
 (mo_eq mo_il))
 (mo_lt
 (mo_eq mo_push)
 (mo_lt
 (mo_eq mo_push)
 (mo_eq (mo_s3 hS_X0_isIn)))))
 (mo_lt
 (mo_lt
 (mo_eq mo_if1)
 (mo_lt
 (mo_eq mo_ald)
 (mo_eq mo_ild)))
 (mo_lt
 (mo_eq (mo_v2 hS_X0_isCell))
 (mo_lt
 (mo_eq mo_if1)
 (mo_eq mo_push)))))
 (mo_lt
 (mo_lt
 (mo_lt
 (mo_eq mo_ri)
 (mo_eq mo_ald))
 (mo_lt
 (mo_eq (mo_v1 hS_X0_refresh))
 (mo_lt
 (mo_eq mo_push)
 (mo_eq mo_ist))))
 (mo_lt
 (mo_lt
 (mo_eq mo_push)
 (mo_lt
 (mo_eq mo_ist)
 (mo_eq mo_ild)))
 (mo_lt
 (mo_eq mo_push)
 (mo_lt
 (mo_eq mo_if2)
 (mo_eq mo_ild))))))
 (mo_lt
 (mo_lt
 (mo_lt
 (mo_lt
 (mo_eq mo_ald)
 (mo_eq mo_get))
 (mo_lt
 (mo_eq mo_ild)
 (mo_lt
 (mo_eq mo_ild)
 (mo_eq mo_ild))))
 (mo_lt
 (mo_lt
 (mo_eq (mo_v4 hS_X3_at))
 (mo_lt
 (mo_eq mo_ald)
 (mo_eq mo_ild)))
 (mo_lt
 (mo_eq mo_ild)
 (mo_lt
 (mo_eq mo_ild)
 (mo_eq (mo_v4 hS_X0_anew))))))
 (mo_lt
 (mo_lt
 (mo_lt
 (mo_eq mo_if2)
 (mo_lt
 (mo_eq mo_push)
 (mo_eq mo_ild)))
 (mo_lt
 (mo_eq mo_iii)
 (mo_lt
 (mo_eq mo_go)
 (mo_eq mo_push))))
 (mo_lt
 (mo_lt
 (mo_eq mo_iii)
 (mo_lt
 (mo_eq mo_ist)
 (mo_eq mo_inc)))
 (mo_lt
 (mo_eq mo_go)
 (mo_lt
 (mo_eq mo_ild)
 (mo_eq mo_ri)))))))
theorem mo_X0_anew {S_X2_lineOf S_X3_at S_X3_made : ma_Cs} (hS_X2_lineOf : ma_ms S_X2_lineOf) (hS_X3_at : ma_ms S_X3_at) (hS_X3_made : ma_ms S_X3_made) : ∀ pc, ma_mo (tb_X0_anew S_X2_lineOf S_X3_at S_X3_made pc) := fun pc =>
 (mo_lt
 (mo_lt
 (mo_lt
 (mo_lt
 (mo_eq mo_ald)
 (mo_lt
 (mo_eq mo_get)
 (mo_eq mo_ild)))
 (mo_lt
 (mo_eq (mo_v2 hS_X2_lineOf))
 (mo_lt
 (mo_eq mo_ist)
 (mo_eq mo_ild))))
 (mo_lt
 (mo_lt
 (mo_eq mo_push)
 (mo_lt
 (mo_eq mo_if2)
 (mo_eq mo_ald)))
 (mo_lt
 (mo_eq mo_get)
 (mo_lt
 (mo_eq mo_ild)
 (mo_eq mo_push)))))
 (mo_lt
 (mo_lt
 (mo_lt
 (mo_eq mo_iii)
 (mo_lt
 (mo_eq mo_ild)
 (mo_eq mo_ild)))
 (mo_lt
 (mo_eq (mo_v4 hS_X3_at))
 (mo_lt
 (mo_eq mo_go)
 (mo_eq mo_ald))))
 (mo_lt
 (mo_lt
 (mo_eq mo_get)
 (mo_lt
 (mo_eq mo_ild)
 (mo_eq mo_ild)))
 (mo_lt
 (mo_eq mo_ild)
 (mo_lt
 (mo_eq (mo_v4 hS_X3_made))
 (mo_eq mo_ri))))))
theorem mo_X0_put {S_X0_isCell S_X0_isIn : ma_Cs} (hS_X0_isCell : ma_ms S_X0_isCell) (hS_X0_isIn : ma_ms S_X0_isIn) : ∀ pc, ma_mo (tb_X0_put S_X0_isCell S_X0_isIn pc) := fun pc =>
 (mo_lt
 (mo_lt
 (mo_lt
 (mo_lt
 (mo_eq mo_ald)
 (mo_lt
 (mo_eq mo_ild)
 (mo_eq (mo_v2 hS_X0_isCell))))
 (mo_lt
 (mo_eq mo_if1)
 (mo_lt
 (mo_eq mo_ild)
 (mo_eq mo_il))))
 (mo_lt
 (mo_lt
 (mo_eq mo_push)
 (mo_lt
 (mo_eq mo_push)
 (mo_eq (mo_s3 hS_X0_isIn))))
 (mo_lt
 (mo_eq mo_if1)
 (mo_lt
 (mo_eq mo_push)
 (mo_eq mo_ri)))))
 (mo_lt
 (mo_lt
 (mo_lt
 (mo_eq mo_ald)
 (mo_lt
 (mo_eq mo_get)
 (mo_eq mo_ild)))
 (mo_lt
 (mo_eq mo_iar)
 (mo_lt
 (mo_eq mo_ist)
 (mo_eq mo_ald))))
 (mo_lt
 (mo_lt
 (mo_eq mo_get)
 (mo_lt
 (mo_eq mo_ild)
 (mo_eq mo_ild)))
 (mo_lt
 (mo_eq mo_iaw)
 (mo_lt
 (mo_eq mo_ild)
 (mo_eq mo_ri))))))
theorem mo_X0_judge {S_X0_isIn S_X0_isLetter S_X0_refresh S_X0_cells S_X0_anew : ma_Cs} (hS_X0_isIn : ma_ms S_X0_isIn) (hS_X0_isLetter : ma_ms S_X0_isLetter) (hS_X0_refresh : ma_ms S_X0_refresh) (hS_X0_cells : ma_ms S_X0_cells) (hS_X0_anew : ma_ms S_X0_anew) : ∀ pc, ma_mo (tb_X0_judge S_X0_isIn S_X0_isLetter S_X0_refresh S_X0_cells S_X0_anew pc) := fun pc =>
 (mo_lt
 (mo_lt
 (mo_lt
 (mo_lt
 (mo_lt
 (mo_eq mo_ild)
 (mo_eq mo_il))
 (mo_lt
 (mo_eq mo_push)
 (mo_eq mo_push)))
 (mo_lt
 (mo_lt
 (mo_eq (mo_s3 hS_X0_isIn))
 (mo_eq mo_if1))
 (mo_lt
 (mo_eq mo_ild)
 (mo_eq (mo_s1 hS_X0_isLetter)))))
 (mo_lt
 (mo_lt
 (mo_lt
 (mo_eq mo_if1)
 (mo_eq mo_push))
 (mo_lt
 (mo_eq mo_ri)
 (mo_eq mo_ald)))
 (mo_lt
 (mo_lt
 (mo_eq (mo_v1 hS_X0_refresh))
 (mo_eq mo_push))
 (mo_lt
 (mo_eq mo_ist)
 (mo_lt
 (mo_eq mo_ild)
 (mo_eq mo_ald))))))
 (mo_lt
 (mo_lt
 (mo_lt
 (mo_lt
 (mo_eq (mo_v1 hS_X0_cells))
 (mo_eq mo_if2))
 (mo_lt
 (mo_eq mo_ald)
 (mo_eq mo_get)))
 (mo_lt
 (mo_lt
 (mo_eq mo_ild)
 (mo_eq mo_iar))
 (mo_lt
 (mo_eq mo_ald)
 (mo_lt
 (mo_eq mo_ild)
 (mo_eq mo_ild)))))
 (mo_lt
 (mo_lt
 (mo_lt
 (mo_eq mo_ild)
 (mo_eq (mo_v4 hS_X0_anew)))
 (mo_lt
 (mo_eq mo_if2)
 (mo_eq mo_ild)))
 (mo_lt
 (mo_lt
 (mo_eq mo_ri)
 (mo_eq mo_inc))
 (mo_lt
 (mo_eq mo_go)
 (mo_lt
 (mo_eq mo_push)
 (mo_eq mo_ri)))))))
theorem mo_X0_pace {S_X0_isPerson S_X0_isIn : ma_Cs} (hS_X0_isPerson : ma_ms S_X0_isPerson) (hS_X0_isIn : ma_ms S_X0_isIn) : ∀ pc, ma_mo (tb_X0_pace S_X0_isPerson S_X0_isIn pc) := fun pc =>
 (mo_lt
 (mo_lt
 (mo_lt
 (mo_lt
 (mo_eq mo_ild)
 (mo_eq (mo_s1 hS_X0_isPerson)))
 (mo_lt
 (mo_eq mo_if1)
 (mo_lt
 (mo_eq mo_ild)
 (mo_eq mo_il))))
 (mo_lt
 (mo_lt
 (mo_eq mo_push)
 (mo_lt
 (mo_eq mo_push)
 (mo_eq (mo_s3 hS_X0_isIn))))
 (mo_lt
 (mo_eq mo_if1)
 (mo_lt
 (mo_eq mo_push)
 (mo_eq mo_ri)))))
 (mo_lt
 (mo_lt
 (mo_lt
 (mo_eq mo_ald)
 (mo_lt
 (mo_eq mo_get)
 (mo_eq mo_ild)))
 (mo_lt
 (mo_eq mo_iar)
 (mo_lt
 (mo_eq mo_ist)
 (mo_eq mo_ald))))
 (mo_lt
 (mo_lt
 (mo_eq mo_get)
 (mo_lt
 (mo_eq mo_ild)
 (mo_eq mo_ild)))
 (mo_lt
 (mo_eq mo_iaw)
 (mo_lt
 (mo_eq mo_ild)
 (mo_eq mo_ri))))))
theorem mo_X0_isPerson {S_X0_isIn : ma_Cs} (hS_X0_isIn : ma_ms S_X0_isIn) : ∀ pc, ma_mo (tb_X0_isPerson S_X0_isIn pc) := fun pc =>
 (mo_lt
 (mo_lt
 (mo_eq mo_ild)
 (mo_lt
 (mo_eq mo_il)
 (mo_eq mo_push)))
 (mo_lt
 (mo_eq mo_push)
 (mo_lt
 (mo_eq (mo_s3 hS_X0_isIn))
 (mo_eq mo_rz))))
theorem mo_X0_give {S_X0_isCell S_X0_isPerson : ma_Cs} (hS_X0_isCell : ma_ms S_X0_isCell) (hS_X0_isPerson : ma_ms S_X0_isPerson) : ∀ pc, ma_mo (tb_X0_give S_X0_isCell S_X0_isPerson pc) := fun pc =>
 (mo_lt
 (mo_lt
 (mo_lt
 (mo_lt
 (mo_eq mo_ald)
 (mo_eq mo_ild))
 (mo_lt
 (mo_eq (mo_v2 hS_X0_isCell))
 (mo_lt
 (mo_eq mo_if1)
 (mo_eq mo_ild))))
 (mo_lt
 (mo_lt
 (mo_eq (mo_s1 hS_X0_isPerson))
 (mo_eq mo_if1))
 (mo_lt
 (mo_eq mo_push)
 (mo_lt
 (mo_eq mo_ri)
 (mo_eq mo_ald)))))
 (mo_lt
 (mo_lt
 (mo_lt
 (mo_eq mo_get)
 (mo_eq mo_ild))
 (mo_lt
 (mo_eq mo_iar)
 (mo_lt
 (mo_eq mo_ist)
 (mo_eq mo_ald))))
 (mo_lt
 (mo_lt
 (mo_eq mo_get)
 (mo_lt
 (mo_eq mo_ild)
 (mo_eq mo_ild)))
 (mo_lt
 (mo_eq mo_iaw)
 (mo_lt
 (mo_eq mo_ild)
 (mo_eq mo_ri))))))
theorem mo_X0_when {S_X0_isStep S_X0_isCell S_X0_layEnds S_X0_lastOf : ma_Cs} (hS_X0_isStep : ma_ms S_X0_isStep) (hS_X0_isCell : ma_ms S_X0_isCell) (hS_X0_layEnds : ma_ms S_X0_layEnds) (hS_X0_lastOf : ma_ms S_X0_lastOf) : ∀ pc, ma_mo (tb_X0_when S_X0_isStep S_X0_isCell S_X0_layEnds S_X0_lastOf pc) := fun pc =>
 (mo_lt
 (mo_lt
 (mo_lt
 (mo_lt
 (mo_lt
 (mo_eq mo_ild)
 (mo_eq (mo_s1 hS_X0_isStep)))
 (mo_lt
 (mo_eq mo_if1)
 (mo_eq mo_ild)))
 (mo_lt
 (mo_lt
 (mo_eq mo_push)
 (mo_eq mo_if2))
 (mo_lt
 (mo_eq mo_ald)
 (mo_eq mo_ild))))
 (mo_lt
 (mo_lt
 (mo_lt
 (mo_eq (mo_v2 hS_X0_isCell))
 (mo_eq mo_if1))
 (mo_lt
 (mo_eq mo_push)
 (mo_eq mo_ri)))
 (mo_lt
 (mo_lt
 (mo_eq mo_ald)
 (mo_eq mo_ald))
 (mo_lt
 (mo_eq mo_get)
 (mo_eq mo_ild)))))
 (mo_lt
 (mo_lt
 (mo_lt
 (mo_lt
 (mo_eq (mo_v3 hS_X0_layEnds))
 (mo_eq mo_ald))
 (mo_lt
 (mo_eq mo_get)
 (mo_eq mo_ild)))
 (mo_lt
 (mo_lt
 (mo_eq mo_push)
 (mo_eq mo_iii))
 (mo_lt
 (mo_eq mo_ild)
 (mo_eq mo_if1))))
 (mo_lt
 (mo_lt
 (mo_lt
 (mo_eq mo_ald)
 (mo_eq mo_ild))
 (mo_lt
 (mo_eq (mo_v2 hS_X0_lastOf))
 (mo_eq mo_go)))
 (mo_lt
 (mo_lt
 (mo_eq mo_ild)
 (mo_eq mo_iii))
 (mo_lt
 (mo_eq mo_iar)
 (mo_eq mo_ri))))))
theorem mo_X0_layEnds {S_X0_cells S_X3_neighbour S_J0_max : ma_Cs} (hS_X0_cells : ma_ms S_X0_cells) (hS_X3_neighbour : ma_ms S_X3_neighbour) (hS_J0_max : ma_ms S_J0_max) : ∀ pc, ma_mo (tb_X0_layEnds S_X0_cells S_X3_neighbour S_J0_max pc) := fun pc =>
 (mo_lt
 (mo_lt
 (mo_lt
 (mo_lt
 (mo_lt
 (mo_lt
 (mo_lt
 (mo_eq mo_ald)
 (mo_eq mo_get))
 (mo_lt
 (mo_eq mo_ald)
 (mo_eq mo_get)))
 (mo_lt
 (mo_lt
 (mo_eq mo_put)
 (mo_eq mo_ald))
 (mo_lt
 (mo_eq mo_get)
 (mo_eq mo_ald))))
 (mo_lt
 (mo_lt
 (mo_lt
 (mo_eq mo_get)
 (mo_eq mo_put))
 (mo_lt
 (mo_eq mo_push)
 (mo_eq mo_ist)))
 (mo_lt
 (mo_lt
 (mo_eq mo_ild)
 (mo_eq mo_push))
 (mo_lt
 (mo_eq mo_if2)
 (mo_eq mo_ald)))))
 (mo_lt
 (mo_lt
 (mo_lt
 (mo_lt
 (mo_eq mo_get)
 (mo_eq mo_ild))
 (mo_lt
 (mo_eq mo_push)
 (mo_eq mo_iaw)))
 (mo_lt
 (mo_lt
 (mo_eq mo_inc)
 (mo_eq mo_go))
 (mo_lt
 (mo_eq mo_push)
 (mo_eq mo_ist))))
 (mo_lt
 (mo_lt
 (mo_lt
 (mo_eq mo_ild)
 (mo_eq mo_push))
 (mo_lt
 (mo_eq mo_if2)
 (mo_eq mo_ald)))
 (mo_lt
 (mo_lt
 (mo_eq mo_get)
 (mo_eq mo_ild))
 (mo_lt
 (mo_eq mo_push)
 (mo_lt
 (mo_eq mo_iaw)
 (mo_eq mo_inc)))))))
 (mo_lt
 (mo_lt
 (mo_lt
 (mo_lt
 (mo_lt
 (mo_eq mo_go)
 (mo_eq mo_push))
 (mo_lt
 (mo_eq mo_ist)
 (mo_eq mo_ild)))
 (mo_lt
 (mo_lt
 (mo_eq mo_ild)
 (mo_eq mo_if2))
 (mo_lt
 (mo_eq mo_push)
 (mo_eq mo_ist))))
 (mo_lt
 (mo_lt
 (mo_lt
 (mo_eq mo_ild)
 (mo_eq mo_ald))
 (mo_lt
 (mo_eq (mo_v1 hS_X0_cells))
 (mo_eq mo_if2)))
 (mo_lt
 (mo_lt
 (mo_eq mo_ald)
 (mo_eq mo_get))
 (mo_lt
 (mo_eq mo_ald)
 (mo_eq mo_ild)))))
 (mo_lt
 (mo_lt
 (mo_lt
 (mo_lt
 (mo_eq mo_iar)
 (mo_eq mo_iar))
 (mo_lt
 (mo_eq mo_ist)
 (mo_eq mo_push)))
 (mo_lt
 (mo_lt
 (mo_eq mo_ist)
 (mo_eq mo_ild))
 (mo_lt
 (mo_eq mo_push)
 (mo_eq mo_if2))))
 (mo_lt
 (mo_lt
 (mo_lt
 (mo_eq mo_ald)
 (mo_eq mo_get))
 (mo_lt
 (mo_eq mo_ild)
 (mo_eq mo_ild)))
 (mo_lt
 (mo_lt
 (mo_eq (mo_v3 hS_X3_neighbour))
 (mo_eq mo_ist))
 (mo_lt
 (mo_eq mo_ild)
 (mo_lt
 (mo_eq mo_push)
 (mo_eq mo_if2))))))))
 (mo_lt
 (mo_lt
 (mo_lt
 (mo_lt
 (mo_lt
 (mo_lt
 (mo_eq mo_ild)
 (mo_eq mo_ild))
 (mo_lt
 (mo_eq mo_push)
 (mo_eq mo_if2)))
 (mo_lt
 (mo_lt
 (mo_eq mo_push)
 (mo_eq mo_go))
 (mo_lt
 (mo_eq mo_ald)
 (mo_eq mo_get))))
 (mo_lt
 (mo_lt
 (mo_lt
 (mo_eq mo_ild)
 (mo_eq mo_push))
 (mo_lt
 (mo_eq mo_iii)
 (mo_eq mo_push)))
 (mo_lt
 (mo_lt
 (mo_eq mo_iii)
 (mo_eq mo_ild))
 (mo_lt
 (mo_eq mo_iii)
 (mo_eq mo_iar)))))
 (mo_lt
 (mo_lt
 (mo_lt
 (mo_lt
 (mo_eq mo_ald)
 (mo_eq mo_ild))
 (mo_lt
 (mo_eq mo_iar)
 (mo_eq mo_ald)))
 (mo_lt
 (mo_lt
 (mo_eq mo_ild)
 (mo_eq mo_iar))
 (mo_lt
 (mo_eq mo_if2)
 (mo_eq mo_push))))
 (mo_lt
 (mo_lt
 (mo_lt
 (mo_eq mo_go)
 (mo_eq mo_ald))
 (mo_lt
 (mo_eq mo_get)
 (mo_eq mo_iii)))
 (mo_lt
 (mo_lt
 (mo_eq (mo_s2 hS_J0_max))
 (mo_eq mo_ist))
 (mo_lt
 (mo_eq mo_inc)
 (mo_lt
 (mo_eq mo_go)
 (mo_eq mo_ald)))))))
 (mo_lt
 (mo_lt
 (mo_lt
 (mo_lt
 (mo_lt
 (mo_eq mo_get)
 (mo_eq mo_ild))
 (mo_lt
 (mo_eq mo_push)
 (mo_eq mo_iii)))
 (mo_lt
 (mo_lt
 (mo_eq mo_ild)
 (mo_eq mo_iii))
 (mo_lt
 (mo_eq mo_ild)
 (mo_eq mo_ald))))
 (mo_lt
 (mo_lt
 (mo_lt
 (mo_eq mo_get)
 (mo_eq mo_ald))
 (mo_lt
 (mo_eq mo_ild)
 (mo_eq mo_iar)))
 (mo_lt
 (mo_lt
 (mo_eq mo_iar)
 (mo_eq mo_iii))
 (mo_lt
 (mo_eq mo_iaw)
 (mo_lt
 (mo_eq mo_ald)
 (mo_eq mo_get))))))
 (mo_lt
 (mo_lt
 (mo_lt
 (mo_lt
 (mo_eq mo_ald)
 (mo_eq mo_ild))
 (mo_lt
 (mo_eq mo_iar)
 (mo_eq mo_ald)))
 (mo_lt
 (mo_lt
 (mo_eq mo_get)
 (mo_eq mo_ild))
 (mo_lt
 (mo_eq mo_push)
 (mo_eq mo_iii))))
 (mo_lt
 (mo_lt
 (mo_lt
 (mo_eq mo_ild)
 (mo_eq mo_iii))
 (mo_lt
 (mo_eq mo_iar)
 (mo_eq mo_iaw)))
 (mo_lt
 (mo_lt
 (mo_eq mo_inc)
 (mo_eq mo_go))
 (mo_lt
 (mo_eq mo_inc)
 (mo_lt
 (mo_eq mo_go)
 (mo_eq mo_rv)))))))))
theorem mo_X0_lastOf {S_X0_cells : ma_Cs} (hS_X0_cells : ma_ms S_X0_cells) : ∀ pc, ma_mo (tb_X0_lastOf S_X0_cells pc) := fun pc =>
 (mo_lt
 (mo_lt
 (mo_lt
 (mo_lt
 (mo_lt
 (mo_eq mo_push)
 (mo_eq mo_ist))
 (mo_lt
 (mo_eq mo_push)
 (mo_eq mo_ist)))
 (mo_lt
 (mo_lt
 (mo_eq mo_ild)
 (mo_eq mo_ald))
 (mo_lt
 (mo_eq (mo_v1 hS_X0_cells))
 (mo_eq mo_if2))))
 (mo_lt
 (mo_lt
 (mo_lt
 (mo_eq mo_ald)
 (mo_eq mo_get))
 (mo_lt
 (mo_eq mo_ild)
 (mo_eq mo_push)))
 (mo_lt
 (mo_lt
 (mo_eq mo_iii)
 (mo_eq mo_ild))
 (mo_lt
 (mo_eq mo_iii)
 (mo_eq mo_iar)))))
 (mo_lt
 (mo_lt
 (mo_lt
 (mo_lt
 (mo_eq mo_ald)
 (mo_eq mo_get))
 (mo_lt
 (mo_eq mo_ild)
 (mo_eq mo_push)))
 (mo_lt
 (mo_lt
 (mo_eq mo_iii)
 (mo_eq mo_ild))
 (mo_lt
 (mo_eq mo_iii)
 (mo_eq mo_iar))))
 (mo_lt
 (mo_lt
 (mo_lt
 (mo_eq mo_if2)
 (mo_eq mo_ild))
 (mo_lt
 (mo_eq mo_go)
 (mo_eq mo_ild)))
 (mo_lt
 (mo_lt
 (mo_eq mo_ist)
 (mo_eq mo_inc))
 (mo_lt
 (mo_eq mo_go)
 (mo_lt
 (mo_eq mo_ild)
 (mo_eq mo_ri)))))))
theorem mo_X0_slowest {S_X0_isIn S_X0_layEnds S_X0_lastOf : ma_Cs} (hS_X0_isIn : ma_ms S_X0_isIn) (hS_X0_layEnds : ma_ms S_X0_layEnds) (hS_X0_lastOf : ma_ms S_X0_lastOf) : ∀ pc, ma_mo (tb_X0_slowest S_X0_isIn S_X0_layEnds S_X0_lastOf pc) := fun pc =>
 (mo_lt
 (mo_lt
 (mo_lt
 (mo_lt
 (mo_eq mo_ild)
 (mo_eq mo_il))
 (mo_lt
 (mo_eq mo_push)
 (mo_eq mo_push)))
 (mo_lt
 (mo_lt
 (mo_eq (mo_s3 hS_X0_isIn))
 (mo_eq mo_if1))
 (mo_lt
 (mo_eq mo_push)
 (mo_eq mo_ri))))
 (mo_lt
 (mo_lt
 (mo_lt
 (mo_eq mo_ald)
 (mo_eq mo_ald))
 (mo_lt
 (mo_eq mo_get)
 (mo_eq mo_ild)))
 (mo_lt
 (mo_lt
 (mo_eq (mo_v3 hS_X0_layEnds))
 (mo_eq mo_ald))
 (mo_lt
 (mo_eq mo_ild)
 (mo_lt
 (mo_eq (mo_v2 hS_X0_lastOf))
 (mo_eq mo_ri))))))
theorem mo_X0_given {S_X0_isIn S_X0_isCell S_X0_cells S_X0_layEnds S_X0_lastOf : ma_Cs} (hS_X0_isIn : ma_ms S_X0_isIn) (hS_X0_isCell : ma_ms S_X0_isCell) (hS_X0_cells : ma_ms S_X0_cells) (hS_X0_layEnds : ma_ms S_X0_layEnds) (hS_X0_lastOf : ma_ms S_X0_lastOf) : ∀ pc, ma_mo (tb_X0_given S_X0_isIn S_X0_isCell S_X0_cells S_X0_layEnds S_X0_lastOf pc) := fun pc =>
 (mo_lt
 (mo_lt
 (mo_lt
 (mo_lt
 (mo_lt
 (mo_lt
 (mo_eq mo_ild)
 (mo_lt
 (mo_eq mo_il)
 (mo_eq mo_push)))
 (mo_lt
 (mo_eq mo_push)
 (mo_lt
 (mo_eq (mo_s3 hS_X0_isIn))
 (mo_eq mo_if1))))
 (mo_lt
 (mo_lt
 (mo_eq mo_ild)
 (mo_lt
 (mo_eq mo_il)
 (mo_eq mo_push)))
 (mo_lt
 (mo_lt
 (mo_eq mo_push)
 (mo_eq (mo_s3 hS_X0_isIn)))
 (mo_lt
 (mo_eq mo_if1)
 (mo_eq mo_ild)))))
 (mo_lt
 (mo_lt
 (mo_lt
 (mo_eq mo_push)
 (mo_lt
 (mo_eq mo_if2)
 (mo_eq mo_ald)))
 (mo_lt
 (mo_lt
 (mo_eq mo_ild)
 (mo_eq (mo_v2 hS_X0_isCell)))
 (mo_lt
 (mo_eq mo_if1)
 (mo_eq mo_push))))
 (mo_lt
 (mo_lt
 (mo_eq mo_ri)
 (mo_lt
 (mo_eq mo_ald)
 (mo_eq (mo_v1 hS_X0_cells))))
 (mo_lt
 (mo_lt
 (mo_eq mo_push)
 (mo_eq mo_if2))
 (mo_lt
 (mo_eq mo_push)
 (mo_eq mo_ri))))))
 (mo_lt
 (mo_lt
 (mo_lt
 (mo_lt
 (mo_eq mo_push)
 (mo_lt
 (mo_eq mo_ist)
 (mo_eq mo_push)))
 (mo_lt
 (mo_lt
 (mo_eq mo_ist)
 (mo_eq mo_ild))
 (mo_lt
 (mo_eq mo_ald)
 (mo_eq (mo_v1 hS_X0_cells)))))
 (mo_lt
 (mo_lt
 (mo_eq mo_if2)
 (mo_lt
 (mo_eq mo_ild)
 (mo_eq mo_ild)))
 (mo_lt
 (mo_lt
 (mo_eq mo_iii)
 (mo_eq mo_ist))
 (mo_lt
 (mo_eq mo_inc)
 (mo_eq mo_go)))))
 (mo_lt
 (mo_lt
 (mo_lt
 (mo_eq mo_push)
 (mo_lt
 (mo_eq mo_ist)
 (mo_eq mo_push)))
 (mo_lt
 (mo_lt
 (mo_eq mo_ist)
 (mo_eq mo_ild))
 (mo_lt
 (mo_eq mo_ild)
 (mo_eq mo_if2))))
 (mo_lt
 (mo_lt
 (mo_eq mo_ild)
 (mo_lt
 (mo_eq mo_ist)
 (mo_eq mo_ald)))
 (mo_lt
 (mo_lt
 (mo_eq (mo_v1 hS_X0_cells))
 (mo_eq mo_push))
 (mo_lt
 (mo_eq mo_iii)
 (mo_eq mo_ist)))))))
 (mo_lt
 (mo_lt
 (mo_lt
 (mo_lt
 (mo_lt
 (mo_eq mo_ild)
 (mo_lt
 (mo_eq mo_if1)
 (mo_eq mo_ald)))
 (mo_lt
 (mo_eq mo_get)
 (mo_lt
 (mo_eq mo_ild)
 (mo_eq mo_ild))))
 (mo_lt
 (mo_lt
 (mo_eq mo_ild)
 (mo_lt
 (mo_eq mo_idv)
 (mo_eq mo_iaw)))
 (mo_lt
 (mo_lt
 (mo_eq mo_ild)
 (mo_eq mo_ild))
 (mo_lt
 (mo_eq mo_idv)
 (mo_eq mo_ist)))))
 (mo_lt
 (mo_lt
 (mo_lt
 (mo_eq mo_inc)
 (mo_lt
 (mo_eq mo_go)
 (mo_eq mo_ald)))
 (mo_lt
 (mo_lt
 (mo_eq mo_ald)
 (mo_eq mo_get))
 (mo_lt
 (mo_eq mo_ild)
 (mo_eq (mo_v3 hS_X0_layEnds)))))
 (mo_lt
 (mo_lt
 (mo_eq mo_ald)
 (mo_lt
 (mo_eq mo_get)
 (mo_eq mo_ild)))
 (mo_lt
 (mo_lt
 (mo_eq mo_push)
 (mo_eq mo_iii))
 (mo_lt
 (mo_eq mo_ald)
 (mo_eq mo_ild))))))
 (mo_lt
 (mo_lt
 (mo_lt
 (mo_lt
 (mo_eq (mo_v2 hS_X0_lastOf))
 (mo_lt
 (mo_eq mo_iii)
 (mo_eq mo_iar)))
 (mo_lt
 (mo_lt
 (mo_eq mo_ist)
 (mo_eq mo_ild))
 (mo_lt
 (mo_eq mo_ild)
 (mo_eq mo_if2))))
 (mo_lt
 (mo_lt
 (mo_eq mo_ild)
 (mo_lt
 (mo_eq mo_ist)
 (mo_eq mo_ald)))
 (mo_lt
 (mo_lt
 (mo_eq mo_get)
 (mo_eq mo_push))
 (mo_lt
 (mo_eq mo_ald)
 (mo_eq mo_get)))))
 (mo_lt
 (mo_lt
 (mo_lt
 (mo_eq mo_push)
 (mo_lt
 (mo_eq mo_push)
 (mo_eq mo_cpy)))
 (mo_lt
 (mo_lt
 (mo_eq mo_inc)
 (mo_eq mo_go))
 (mo_lt
 (mo_eq mo_ild)
 (mo_eq mo_if1))))
 (mo_lt
 (mo_lt
 (mo_eq mo_ild)
 (mo_lt
 (mo_eq mo_go)
 (mo_eq mo_ald)))
 (mo_lt
 (mo_lt
 (mo_eq mo_get)
 (mo_eq mo_ild))
 (mo_lt
 (mo_eq mo_iar)
 (mo_eq mo_ri))))))))
theorem mo_X0_known {S_X0_isCell S_X0_isIn S_X0_layEnds : ma_Cs} (hS_X0_isCell : ma_ms S_X0_isCell) (hS_X0_isIn : ma_ms S_X0_isIn) (hS_X0_layEnds : ma_ms S_X0_layEnds) : ∀ pc, ma_mo (tb_X0_known S_X0_isCell S_X0_isIn S_X0_layEnds pc) := fun pc =>
 (mo_lt
 (mo_lt
 (mo_lt
 (mo_lt
 (mo_lt
 (mo_eq mo_ald)
 (mo_eq mo_ild))
 (mo_lt
 (mo_eq (mo_v2 hS_X0_isCell))
 (mo_eq mo_if1)))
 (mo_lt
 (mo_lt
 (mo_eq mo_ild)
 (mo_eq mo_il))
 (mo_lt
 (mo_eq mo_push)
 (mo_lt
 (mo_eq mo_push)
 (mo_eq (mo_s3 hS_X0_isIn))))))
 (mo_lt
 (mo_lt
 (mo_lt
 (mo_eq mo_if1)
 (mo_eq mo_push))
 (mo_lt
 (mo_eq mo_ri)
 (mo_lt
 (mo_eq mo_ald)
 (mo_eq mo_ald))))
 (mo_lt
 (mo_lt
 (mo_eq mo_get)
 (mo_eq mo_push))
 (mo_lt
 (mo_eq (mo_v3 hS_X0_layEnds))
 (mo_lt
 (mo_eq mo_push)
 (mo_eq mo_ist))))))
 (mo_lt
 (mo_lt
 (mo_lt
 (mo_lt
 (mo_eq mo_ild)
 (mo_eq mo_push))
 (mo_lt
 (mo_eq mo_if2)
 (mo_eq mo_ald)))
 (mo_lt
 (mo_lt
 (mo_eq mo_get)
 (mo_eq mo_ild))
 (mo_lt
 (mo_eq mo_push)
 (mo_lt
 (mo_eq mo_iii)
 (mo_eq mo_push)))))
 (mo_lt
 (mo_lt
 (mo_lt
 (mo_eq mo_iii)
 (mo_eq mo_ild))
 (mo_lt
 (mo_eq mo_iii)
 (mo_lt
 (mo_eq mo_iar)
 (mo_eq mo_ild))))
 (mo_lt
 (mo_lt
 (mo_eq mo_if2)
 (mo_eq mo_inc))
 (mo_lt
 (mo_eq mo_go)
 (mo_lt
 (mo_eq mo_ild)
 (mo_eq mo_ri)))))))
theorem mo_X0_coarse {S_X0_isIn S_X0_isLetter S_X0_refresh S_X3_beginCoarse S_X3_run S_X3_meanOf S_X3_at S_J0_abs : ma_Cs} (hS_X0_isIn : ma_ms S_X0_isIn) (hS_X0_isLetter : ma_ms S_X0_isLetter) (hS_X0_refresh : ma_ms S_X0_refresh) (hS_X3_beginCoarse : ma_ms S_X3_beginCoarse) (hS_X3_run : ma_ms S_X3_run) (hS_X3_meanOf : ma_ms S_X3_meanOf) (hS_X3_at : ma_ms S_X3_at) (hS_J0_abs : ma_ms S_J0_abs) : ∀ pc, ma_mo (tb_X0_coarse S_X0_isIn S_X0_isLetter S_X0_refresh S_X3_beginCoarse S_X3_run S_X3_meanOf S_X3_at S_J0_abs pc) := fun pc =>
 (mo_lt
 (mo_lt
 (mo_lt
 (mo_lt
 (mo_lt
 (mo_lt
 (mo_eq mo_ild)
 (mo_lt
 (mo_eq mo_il)
 (mo_eq mo_push)))
 (mo_lt
 (mo_eq mo_push)
 (mo_lt
 (mo_eq (mo_s3 hS_X0_isIn))
 (mo_eq mo_if1))))
 (mo_lt
 (mo_lt
 (mo_eq mo_ild)
 (mo_lt
 (mo_eq (mo_s1 hS_X0_isLetter))
 (mo_eq mo_if1)))
 (mo_lt
 (mo_eq mo_ild)
 (mo_lt
 (mo_eq mo_il)
 (mo_eq mo_push)))))
 (mo_lt
 (mo_lt
 (mo_lt
 (mo_eq mo_push)
 (mo_lt
 (mo_eq (mo_s3 hS_X0_isIn))
 (mo_eq mo_if1)))
 (mo_lt
 (mo_eq mo_push)
 (mo_lt
 (mo_eq mo_ri)
 (mo_eq mo_ald))))
 (mo_lt
 (mo_lt
 (mo_eq mo_get)
 (mo_lt
 (mo_eq mo_push)
 (mo_eq mo_idv)))
 (mo_lt
 (mo_eq mo_push)
 (mo_lt
 (mo_eq mo_if2)
 (mo_eq mo_ald))))))
 (mo_lt
 (mo_lt
 (mo_lt
 (mo_lt
 (mo_eq mo_get)
 (mo_lt
 (mo_eq mo_push)
 (mo_eq mo_idv)))
 (mo_lt
 (mo_eq mo_push)
 (mo_lt
 (mo_eq mo_if2)
 (mo_eq mo_push))))
 (mo_lt
 (mo_lt
 (mo_eq mo_ri)
 (mo_lt
 (mo_eq mo_ald)
 (mo_eq (mo_v1 hS_X0_refresh))))
 (mo_lt
 (mo_eq mo_ald)
 (mo_lt
 (mo_eq mo_get)
 (mo_eq mo_ald)))))
 (mo_lt
 (mo_lt
 (mo_lt
 (mo_eq mo_get)
 (mo_lt
 (mo_eq (mo_v2 hS_X3_beginCoarse))
 (mo_eq mo_ald)))
 (mo_lt
 (mo_eq mo_get)
 (mo_lt
 (mo_eq mo_ild)
 (mo_eq mo_push))))
 (mo_lt
 (mo_lt
 (mo_eq (mo_v3 hS_X3_run))
 (mo_lt
 (mo_eq mo_push)
 (mo_eq mo_ist)))
 (mo_lt
 (mo_lt
 (mo_eq mo_push)
 (mo_eq mo_ist))
 (mo_lt
 (mo_eq mo_ild)
 (mo_eq mo_ald)))))))
 (mo_lt
 (mo_lt
 (mo_lt
 (mo_lt
 (mo_lt
 (mo_eq mo_get)
 (mo_lt
 (mo_eq mo_get)
 (mo_eq mo_ald)))
 (mo_lt
 (mo_eq mo_get)
 (mo_lt
 (mo_eq mo_get)
 (mo_eq mo_iii))))
 (mo_lt
 (mo_lt
 (mo_eq mo_if2)
 (mo_lt
 (mo_eq mo_ald)
 (mo_eq mo_get)))
 (mo_lt
 (mo_eq mo_ald)
 (mo_lt
 (mo_eq mo_get)
 (mo_eq mo_ild)))))
 (mo_lt
 (mo_lt
 (mo_lt
 (mo_eq mo_ild)
 (mo_lt
 (mo_eq mo_ild)
 (mo_eq (mo_v5 hS_X3_meanOf))))
 (mo_lt
 (mo_eq mo_ist)
 (mo_lt
 (mo_eq mo_ald)
 (mo_eq mo_get))))
 (mo_lt
 (mo_lt
 (mo_eq mo_ild)
 (mo_lt
 (mo_eq mo_ild)
 (mo_eq mo_ild)))
 (mo_lt
 (mo_eq (mo_v4 hS_X3_at))
 (mo_lt
 (mo_eq mo_ist)
 (mo_eq mo_ild))))))
 (mo_lt
 (mo_lt
 (mo_lt
 (mo_lt
 (mo_eq mo_ild)
 (mo_lt
 (mo_eq mo_push)
 (mo_eq mo_if2)))
 (mo_lt
 (mo_eq mo_ild)
 (mo_lt
 (mo_eq mo_push)
 (mo_eq mo_if2))))
 (mo_lt
 (mo_lt
 (mo_eq mo_ild)
 (mo_lt
 (mo_eq mo_il)
 (mo_eq mo_ild)))
 (mo_lt
 (mo_eq mo_il)
 (mo_lt
 (mo_eq mo_lll)
 (mo_eq (mo_s1 hS_J0_abs))))))
 (mo_lt
 (mo_lt
 (mo_lt
 (mo_eq mo_ild)
 (mo_lt
 (mo_eq mo_il)
 (mo_eq mo_lli)))
 (mo_lt
 (mo_eq mo_if1)
 (mo_lt
 (mo_eq mo_push)
 (mo_eq mo_go))))
 (mo_lt
 (mo_lt
 (mo_eq mo_push)
 (mo_lt
 (mo_eq mo_iii)
 (mo_eq mo_ist)))
 (mo_lt
 (mo_lt
 (mo_eq mo_inc)
 (mo_eq mo_go))
 (mo_lt
 (mo_eq mo_ild)
 (mo_eq mo_ri))))))))
theorem mo_X0_keep {S_X4_keep : ma_Cs} (hS_X4_keep : ma_ms S_X4_keep) : ∀ pc, ma_mo (tb_X0_keep S_X4_keep pc) := fun pc =>
 (mo_lt
 (mo_lt
 (mo_lt
 (mo_lt
 (mo_eq mo_ald)
 (mo_eq mo_get))
 (mo_lt
 (mo_eq mo_push)
 (mo_lt
 (mo_eq mo_if2)
 (mo_eq mo_push))))
 (mo_lt
 (mo_lt
 (mo_eq mo_ri)
 (mo_lt
 (mo_eq mo_ald)
 (mo_eq mo_get)))
 (mo_lt
 (mo_eq mo_ald)
 (mo_lt
 (mo_eq mo_get)
 (mo_eq mo_aar)))))
 (mo_lt
 (mo_lt
 (mo_lt
 (mo_eq mo_ald)
 (mo_eq (mo_v2 hS_X4_keep)))
 (mo_lt
 (mo_eq mo_ald)
 (mo_lt
 (mo_eq mo_dup)
 (mo_eq mo_get))))
 (mo_lt
 (mo_lt
 (mo_eq mo_push)
 (mo_lt
 (mo_eq mo_iii)
 (mo_eq mo_put)))
 (mo_lt
 (mo_eq mo_ald)
 (mo_lt
 (mo_eq mo_get)
 (mo_eq mo_ri))))))
theorem mo_X0_back {S_X4_back : ma_Cs} (hS_X4_back : ma_ms S_X4_back) : ∀ pc, ma_mo (tb_X0_back S_X4_back pc) := fun pc =>
 (mo_lt
 (mo_lt
 (mo_lt
 (mo_lt
 (mo_eq mo_ald)
 (mo_eq mo_get))
 (mo_lt
 (mo_eq mo_if1)
 (mo_lt
 (mo_eq mo_push)
 (mo_eq mo_ri))))
 (mo_lt
 (mo_lt
 (mo_eq mo_ald)
 (mo_eq mo_dup))
 (mo_lt
 (mo_eq mo_get)
 (mo_lt
 (mo_eq mo_push)
 (mo_eq mo_iii)))))
 (mo_lt
 (mo_lt
 (mo_lt
 (mo_eq mo_put)
 (mo_eq mo_ald))
 (mo_lt
 (mo_eq mo_get)
 (mo_lt
 (mo_eq mo_ald)
 (mo_eq mo_get))))
 (mo_lt
 (mo_lt
 (mo_eq mo_aar)
 (mo_lt
 (mo_eq mo_ald)
 (mo_eq (mo_v2 hS_X4_back))))
 (mo_lt
 (mo_eq mo_ald)
 (mo_lt
 (mo_eq mo_get)
 (mo_eq mo_ri))))))
theorem mo_X0_count {S_X0_cells S_X0_toldMany : ma_Cs} (hS_X0_cells : ma_ms S_X0_cells) (hS_X0_toldMany : ma_ms S_X0_toldMany) : ∀ pc, ma_mo (tb_X0_count S_X0_cells S_X0_toldMany pc) := fun pc =>
 (mo_lt
 (mo_lt
 (mo_lt
 (mo_lt
 (mo_lt
 (mo_eq mo_push)
 (mo_lt
 (mo_eq mo_ist)
 (mo_eq mo_ild)))
 (mo_lt
 (mo_eq mo_sw)
 (mo_lt
 (mo_eq mo_ald)
 (mo_eq (mo_v1 hS_X0_cells)))))
 (mo_lt
 (mo_lt
 (mo_eq mo_ri)
 (mo_lt
 (mo_eq mo_ald)
 (mo_eq mo_get)))
 (mo_lt
 (mo_eq mo_ri)
 (mo_lt
 (mo_eq mo_ald)
 (mo_eq mo_get)))))
 (mo_lt
 (mo_lt
 (mo_lt
 (mo_eq mo_get)
 (mo_lt
 (mo_eq mo_ri)
 (mo_eq mo_push)))
 (mo_lt
 (mo_eq mo_ist)
 (mo_lt
 (mo_eq mo_ild)
 (mo_eq mo_ald))))
 (mo_lt
 (mo_lt
 (mo_eq (mo_v1 hS_X0_cells))
 (mo_lt
 (mo_eq mo_push)
 (mo_eq mo_iii)))
 (mo_lt
 (mo_eq mo_if2)
 (mo_lt
 (mo_eq mo_ild)
 (mo_eq mo_ald))))))
 (mo_lt
 (mo_lt
 (mo_lt
 (mo_lt
 (mo_eq mo_get)
 (mo_lt
 (mo_eq mo_ild)
 (mo_eq mo_iar)))
 (mo_lt
 (mo_eq mo_push)
 (mo_lt
 (mo_eq mo_if2)
 (mo_eq mo_push))))
 (mo_lt
 (mo_lt
 (mo_eq mo_go)
 (mo_lt
 (mo_eq mo_push)
 (mo_eq mo_iii)))
 (mo_lt
 (mo_eq mo_ist)
 (mo_lt
 (mo_eq mo_inc)
 (mo_eq mo_go)))))
 (mo_lt
 (mo_lt
 (mo_lt
 (mo_eq mo_ild)
 (mo_lt
 (mo_eq mo_ri)
 (mo_eq mo_ald)))
 (mo_lt
 (mo_eq mo_get)
 (mo_lt
 (mo_eq mo_ri)
 (mo_eq mo_ald))))
 (mo_lt
 (mo_lt
 (mo_eq mo_get)
 (mo_lt
 (mo_eq mo_ri)
 (mo_eq mo_ald)))
 (mo_lt
 (mo_lt
 (mo_eq (mo_v1 hS_X0_toldMany))
 (mo_eq mo_ri))
 (mo_lt
 (mo_eq mo_push)
 (mo_eq mo_ri)))))))
theorem mo_X5_begins {S_X5_clears : ma_Cs} (hS_X5_clears : ma_ms S_X5_clears) : ∀ pc, ma_mo (tb_X5_begins S_X5_clears pc) := fun pc =>
 (mo_lt
 (mo_lt
 (mo_lt
 (mo_lt
 (mo_eq mo_push)
 (mo_lt
 (mo_eq mo_ist)
 (mo_eq mo_ild)))
 (mo_lt
 (mo_lt
 (mo_eq mo_push)
 (mo_eq mo_if2))
 (mo_lt
 (mo_eq mo_ald)
 (mo_eq mo_get))))
 (mo_lt
 (mo_lt
 (mo_lt
 (mo_eq mo_ild)
 (mo_eq mo_push))
 (mo_lt
 (mo_eq mo_iaw)
 (mo_eq mo_inc)))
 (mo_lt
 (mo_lt
 (mo_eq mo_go)
 (mo_eq mo_push))
 (mo_lt
 (mo_eq mo_ist)
 (mo_eq mo_ild)))))
 (mo_lt
 (mo_lt
 (mo_lt
 (mo_eq mo_push)
 (mo_lt
 (mo_eq mo_if2)
 (mo_eq mo_ald)))
 (mo_lt
 (mo_lt
 (mo_eq mo_get)
 (mo_eq mo_ild))
 (mo_lt
 (mo_eq mo_push)
 (mo_eq mo_iaw))))
 (mo_lt
 (mo_lt
 (mo_lt
 (mo_eq mo_inc)
 (mo_eq mo_go))
 (mo_lt
 (mo_eq mo_ald)
 (mo_eq mo_push)))
 (mo_lt
 (mo_lt
 (mo_eq mo_put)
 (mo_eq mo_ald))
 (mo_lt
 (mo_eq (mo_v1 hS_X5_clears))
 (mo_eq mo_rv))))))
theorem mo_X5_clears : ∀ pc, ma_mo (tb_X5_clears  pc) := fun pc =>
 (mo_lt
 (mo_lt
 (mo_lt
 (mo_eq mo_push)
 (mo_lt
 (mo_eq mo_ist)
 (mo_eq mo_ild)))
 (mo_lt
 (mo_eq mo_push)
 (mo_lt
 (mo_eq mo_if2)
 (mo_eq mo_ald))))
 (mo_lt
 (mo_lt
 (mo_eq mo_get)
 (mo_lt
 (mo_eq mo_ild)
 (mo_eq mo_push)))
 (mo_lt
 (mo_lt
 (mo_eq mo_law)
 (mo_eq mo_inc))
 (mo_lt
 (mo_eq mo_go)
 (mo_eq mo_rv)))))
theorem mo_X5_sky {S_X5_in S_X5_begins S_X5_cells : ma_Cs} (hS_X5_in : ma_ms S_X5_in) (hS_X5_begins : ma_ms S_X5_begins) (hS_X5_cells : ma_ms S_X5_cells) : ∀ pc, ma_mo (tb_X5_sky S_X5_in S_X5_begins S_X5_cells pc) := fun pc =>
 (mo_lt
 (mo_lt
 (mo_lt
 (mo_lt
 (mo_eq mo_ild)
 (mo_lt
 (mo_eq mo_il)
 (mo_eq mo_push)))
 (mo_lt
 (mo_lt
 (mo_eq mo_push)
 (mo_eq (mo_s3 hS_X5_in)))
 (mo_lt
 (mo_eq mo_if1)
 (mo_eq mo_ild))))
 (mo_lt
 (mo_lt
 (mo_eq mo_il)
 (mo_lt
 (mo_eq mo_push)
 (mo_eq mo_push)))
 (mo_lt
 (mo_lt
 (mo_eq (mo_s3 hS_X5_in))
 (mo_eq mo_if1))
 (mo_lt
 (mo_eq mo_push)
 (mo_eq mo_ri)))))
 (mo_lt
 (mo_lt
 (mo_lt
 (mo_eq mo_ald)
 (mo_lt
 (mo_eq mo_ild)
 (mo_eq mo_put)))
 (mo_lt
 (mo_lt
 (mo_eq mo_ald)
 (mo_eq mo_ild))
 (mo_lt
 (mo_eq mo_put)
 (mo_eq mo_ald))))
 (mo_lt
 (mo_lt
 (mo_eq mo_push)
 (mo_lt
 (mo_eq mo_put)
 (mo_eq mo_ald)))
 (mo_lt
 (mo_lt
 (mo_eq (mo_v1 hS_X5_begins))
 (mo_eq mo_ald))
 (mo_lt
 (mo_eq (mo_v1 hS_X5_cells))
 (mo_eq mo_ri))))))
theorem mo_X5_in : ∀ pc, ma_mo (tb_X5_in  pc) := fun pc =>
 (mo_lt
 (mo_lt
 (mo_lt
 (mo_eq mo_lld)
 (mo_lt
 (mo_eq mo_lld)
 (mo_eq mo_lli)))
 (mo_lt
 (mo_eq mo_if1)
 (mo_lt
 (mo_eq mo_lld)
 (mo_eq mo_lld))))
 (mo_lt
 (mo_lt
 (mo_eq mo_lli)
 (mo_lt
 (mo_eq mo_if1)
 (mo_eq mo_push)))
 (mo_lt
 (mo_eq mo_go)
 (mo_lt
 (mo_eq mo_push)
 (mo_eq mo_rz)))))
theorem mo_X5_cells : ∀ pc, ma_mo (tb_X5_cells  pc) := fun pc =>
 (mo_lt
 (mo_lt
 (mo_eq mo_ald)
 (mo_lt
 (mo_eq mo_get)
 (mo_eq mo_ald)))
 (mo_lt
 (mo_eq mo_get)
 (mo_lt
 (mo_eq mo_iii)
 (mo_eq mo_ri))))
theorem mo_X5_rule {S_X5_in : ma_Cs} (hS_X5_in : ma_ms S_X5_in) : ∀ pc, ma_mo (tb_X5_rule S_X5_in pc) := fun pc =>
 (mo_lt
 (mo_lt
 (mo_lt
 (mo_lt
 (mo_lt
 (mo_eq mo_ild)
 (mo_eq mo_il))
 (mo_lt
 (mo_eq mo_push)
 (mo_lt
 (mo_eq mo_push)
 (mo_eq (mo_s3 hS_X5_in)))))
 (mo_lt
 (mo_lt
 (mo_eq mo_if1)
 (mo_lt
 (mo_eq mo_ild)
 (mo_eq mo_il)))
 (mo_lt
 (mo_eq mo_push)
 (mo_lt
 (mo_eq mo_ild)
 (mo_eq mo_if1)))))
 (mo_lt
 (mo_lt
 (mo_lt
 (mo_eq mo_push)
 (mo_eq mo_go))
 (mo_lt
 (mo_eq mo_push)
 (mo_lt
 (mo_eq (mo_s3 hS_X5_in))
 (mo_eq mo_if1))))
 (mo_lt
 (mo_lt
 (mo_eq mo_push)
 (mo_lt
 (mo_eq mo_ri)
 (mo_eq mo_ild)))
 (mo_lt
 (mo_eq mo_if1)
 (mo_lt
 (mo_eq mo_ald)
 (mo_eq mo_get))))))
 (mo_lt
 (mo_lt
 (mo_lt
 (mo_lt
 (mo_eq mo_go)
 (mo_eq mo_ald))
 (mo_lt
 (mo_eq mo_get)
 (mo_lt
 (mo_eq mo_ist)
 (mo_eq mo_ald))))
 (mo_lt
 (mo_lt
 (mo_eq mo_ild)
 (mo_lt
 (mo_eq mo_if1)
 (mo_eq mo_ild)))
 (mo_lt
 (mo_eq mo_go)
 (mo_lt
 (mo_eq mo_ald)
 (mo_eq mo_get)))))
 (mo_lt
 (mo_lt
 (mo_lt
 (mo_eq mo_put)
 (mo_lt
 (mo_eq mo_ald)
 (mo_eq mo_ild)))
 (mo_lt
 (mo_eq mo_push)
 (mo_lt
 (mo_eq mo_if2)
 (mo_eq mo_ild))))
 (mo_lt
 (mo_lt
 (mo_eq mo_go)
 (mo_lt
 (mo_eq mo_ald)
 (mo_eq mo_get)))
 (mo_lt
 (mo_eq mo_put)
 (mo_lt
 (mo_eq mo_ild)
 (mo_eq mo_ri)))))))
theorem mo_X5_rim {S_X5_isLetter S_X5_in : ma_Cs} (hS_X5_isLetter : ma_ms S_X5_isLetter) (hS_X5_in : ma_ms S_X5_in) : ∀ pc, ma_mo (tb_X5_rim S_X5_isLetter S_X5_in pc) := fun pc =>
 (mo_lt
 (mo_lt
 (mo_lt
 (mo_lt
 (mo_eq mo_ild)
 (mo_eq (mo_s1 hS_X5_isLetter)))
 (mo_lt
 (mo_eq mo_if1)
 (mo_lt
 (mo_eq mo_ild)
 (mo_eq mo_il))))
 (mo_lt
 (mo_lt
 (mo_eq mo_push)
 (mo_lt
 (mo_eq mo_push)
 (mo_eq (mo_s3 hS_X5_in))))
 (mo_lt
 (mo_eq mo_if1)
 (mo_lt
 (mo_eq mo_push)
 (mo_eq mo_ri)))))
 (mo_lt
 (mo_lt
 (mo_lt
 (mo_eq mo_ald)
 (mo_lt
 (mo_eq mo_get)
 (mo_eq mo_ild)))
 (mo_lt
 (mo_eq mo_iar)
 (mo_lt
 (mo_eq mo_ist)
 (mo_eq mo_ald))))
 (mo_lt
 (mo_lt
 (mo_eq mo_get)
 (mo_lt
 (mo_eq mo_ild)
 (mo_eq mo_ild)))
 (mo_lt
 (mo_eq mo_iaw)
 (mo_lt
 (mo_eq mo_ild)
 (mo_eq mo_ri))))))
theorem mo_X5_isLetter {S_X5_in : ma_Cs} (hS_X5_in : ma_ms S_X5_in) : ∀ pc, ma_mo (tb_X5_isLetter S_X5_in pc) := fun pc =>
 (mo_lt
 (mo_lt
 (mo_eq mo_ild)
 (mo_lt
 (mo_eq mo_il)
 (mo_eq mo_push)))
 (mo_lt
 (mo_eq mo_push)
 (mo_lt
 (mo_eq (mo_s3 hS_X5_in))
 (mo_eq mo_rz))))
theorem mo_X5_write {S_X5_in : ma_Cs} (hS_X5_in : ma_ms S_X5_in) : ∀ pc, ma_mo (tb_X5_write S_X5_in pc) := fun pc =>
 (mo_lt
 (mo_lt
 (mo_lt
 (mo_lt
 (mo_lt
 (mo_eq mo_ild)
 (mo_eq mo_il))
 (mo_lt
 (mo_eq mo_push)
 (mo_lt
 (mo_eq mo_push)
 (mo_eq (mo_s3 hS_X5_in)))))
 (mo_lt
 (mo_lt
 (mo_eq mo_if1)
 (mo_lt
 (mo_eq mo_push)
 (mo_eq mo_ri)))
 (mo_lt
 (mo_eq mo_ald)
 (mo_lt
 (mo_eq mo_get)
 (mo_eq mo_ild)))))
 (mo_lt
 (mo_lt
 (mo_lt
 (mo_eq mo_iii)
 (mo_lt
 (mo_eq mo_push)
 (mo_eq mo_if2)))
 (mo_lt
 (mo_eq mo_push)
 (mo_lt
 (mo_eq mo_ri)
 (mo_eq mo_ild))))
 (mo_lt
 (mo_lt
 (mo_eq mo_push)
 (mo_lt
 (mo_eq mo_iii)
 (mo_eq mo_ist)))
 (mo_lt
 (mo_eq mo_ild)
 (mo_lt
 (mo_eq mo_if1)
 (mo_eq mo_ald))))))
 (mo_lt
 (mo_lt
 (mo_lt
 (mo_lt
 (mo_eq mo_get)
 (mo_eq mo_ald))
 (mo_lt
 (mo_eq mo_get)
 (mo_lt
 (mo_eq mo_lld)
 (mo_eq mo_push))))
 (mo_lt
 (mo_lt
 (mo_eq mo_ild)
 (mo_lt
 (mo_eq mo_iii)
 (mo_eq mo_lil)))
 (mo_lt
 (mo_eq mo_push)
 (mo_lt
 (mo_eq mo_lll)
 (mo_eq mo_li)))))
 (mo_lt
 (mo_lt
 (mo_lt
 (mo_eq mo_iaw)
 (mo_lt
 (mo_eq mo_ald)
 (mo_eq mo_dup)))
 (mo_lt
 (mo_eq mo_get)
 (mo_lt
 (mo_eq mo_push)
 (mo_eq mo_iii))))
 (mo_lt
 (mo_lt
 (mo_eq mo_put)
 (mo_lt
 (mo_eq mo_inc)
 (mo_eq mo_go)))
 (mo_lt
 (mo_eq mo_ald)
 (mo_lt
 (mo_eq mo_get)
 (mo_eq mo_ri)))))))
theorem mo_X5_wipe : ∀ pc, ma_mo (tb_X5_wipe  pc) := fun pc =>
 (mo_lt
 (mo_lt
 (mo_lt
 (mo_eq mo_ald)
 (mo_eq mo_get))
 (mo_lt
 (mo_eq mo_ist)
 (mo_eq mo_ald)))
 (mo_lt
 (mo_lt
 (mo_eq mo_push)
 (mo_eq mo_put))
 (mo_lt
 (mo_eq mo_ild)
 (mo_eq mo_ri))))
theorem mo_X5_fault {S_X5_faultOf : ma_Cs} (hS_X5_faultOf : ma_ms S_X5_faultOf) : ∀ pc, ma_mo (tb_X5_fault S_X5_faultOf pc) := fun pc =>
 (mo_lt
 (mo_eq mo_ald)
 (mo_lt
 (mo_eq (mo_v1 hS_X5_faultOf))
 (mo_eq mo_ri)))
theorem mo_X5_faultOf {S_X5_readLine : ma_Cs} (hS_X5_readLine : ma_ms S_X5_readLine) : ∀ pc, ma_mo (tb_X5_faultOf S_X5_readLine pc) := fun pc =>
 (mo_lt
 (mo_lt
 (mo_lt
 (mo_lt
 (mo_lt
 (mo_eq mo_ald)
 (mo_eq mo_push))
 (mo_lt
 (mo_eq mo_put)
 (mo_lt
 (mo_eq mo_ald)
 (mo_eq mo_push))))
 (mo_lt
 (mo_lt
 (mo_eq mo_put)
 (mo_eq mo_ald))
 (mo_lt
 (mo_eq mo_push)
 (mo_lt
 (mo_eq mo_put)
 (mo_eq mo_ald)))))
 (mo_lt
 (mo_lt
 (mo_lt
 (mo_eq mo_push)
 (mo_eq mo_put))
 (mo_lt
 (mo_eq mo_push)
 (mo_lt
 (mo_eq mo_ist)
 (mo_eq mo_ild))))
 (mo_lt
 (mo_lt
 (mo_eq mo_push)
 (mo_lt
 (mo_eq mo_if2)
 (mo_eq mo_ald)))
 (mo_lt
 (mo_eq mo_get)
 (mo_lt
 (mo_eq mo_ild)
 (mo_eq mo_push))))))
 (mo_lt
 (mo_lt
 (mo_lt
 (mo_lt
 (mo_eq mo_iaw)
 (mo_eq mo_inc))
 (mo_lt
 (mo_eq mo_go)
 (mo_lt
 (mo_eq mo_ald)
 (mo_eq mo_get))))
 (mo_lt
 (mo_lt
 (mo_eq mo_ald)
 (mo_lt
 (mo_eq mo_get)
 (mo_eq mo_if2)))
 (mo_lt
 (mo_eq mo_ald)
 (mo_lt
 (mo_eq mo_get)
 (mo_eq mo_if1)))))
 (mo_lt
 (mo_lt
 (mo_lt
 (mo_eq mo_ald)
 (mo_eq (mo_v1 hS_X5_readLine)))
 (mo_lt
 (mo_eq mo_go)
 (mo_lt
 (mo_eq mo_ald)
 (mo_eq mo_get))))
 (mo_lt
 (mo_lt
 (mo_eq mo_if1)
 (mo_lt
 (mo_eq mo_push)
 (mo_eq mo_go)))
 (mo_lt
 (mo_eq mo_ald)
 (mo_lt
 (mo_eq mo_get)
 (mo_eq mo_ri)))))))
theorem mo_X5_readLine {S_X5_byteAt S_X5_isLetter S_X5_fails S_X5_term S_X5_number : ma_Cs} (hS_X5_byteAt : ma_ms S_X5_byteAt) (hS_X5_isLetter : ma_ms S_X5_isLetter) (hS_X5_fails : ma_ms S_X5_fails) (hS_X5_term : ma_ms S_X5_term) (hS_X5_number : ma_ms S_X5_number) : ∀ pc, ma_mo (tb_X5_readLine S_X5_byteAt S_X5_isLetter S_X5_fails S_X5_term S_X5_number pc) := fun pc =>
 (mo_lt
 (mo_lt
 (mo_lt
 (mo_lt
 (mo_lt
 (mo_lt
 (mo_lt
 (mo_eq mo_ald)
 (mo_lt
 (mo_eq mo_ald)
 (mo_eq mo_get)))
 (mo_lt
 (mo_eq (mo_v2 hS_X5_byteAt))
 (mo_lt
 (mo_eq mo_push)
 (mo_eq mo_iii))))
 (mo_lt
 (mo_lt
 (mo_eq mo_ist)
 (mo_lt
 (mo_eq mo_push)
 (mo_eq mo_ist)))
 (mo_lt
 (mo_lt
 (mo_eq mo_push)
 (mo_eq mo_ist))
 (mo_lt
 (mo_eq mo_ild)
 (mo_eq mo_ald)))))
 (mo_lt
 (mo_lt
 (mo_lt
 (mo_eq mo_get)
 (mo_lt
 (mo_eq mo_if2)
 (mo_eq mo_ild)))
 (mo_lt
 (mo_lt
 (mo_eq mo_if1)
 (mo_eq mo_ald))
 (mo_lt
 (mo_eq mo_get)
 (mo_eq mo_push))))
 (mo_lt
 (mo_lt
 (mo_eq mo_ild)
 (mo_lt
 (mo_eq mo_iii)
 (mo_eq mo_iar)))
 (mo_lt
 (mo_lt
 (mo_eq mo_ild)
 (mo_eq mo_if2))
 (mo_lt
 (mo_eq mo_push)
 (mo_eq mo_go))))))
 (mo_lt
 (mo_lt
 (mo_lt
 (mo_lt
 (mo_eq mo_push)
 (mo_lt
 (mo_eq mo_ist)
 (mo_eq mo_inc)))
 (mo_lt
 (mo_eq mo_go)
 (mo_lt
 (mo_eq mo_ild)
 (mo_eq (mo_s1 hS_X5_isLetter)))))
 (mo_lt
 (mo_lt
 (mo_eq mo_if1)
 (mo_lt
 (mo_eq mo_ild)
 (mo_eq mo_if1)))
 (mo_lt
 (mo_lt
 (mo_eq mo_ald)
 (mo_eq mo_ald))
 (mo_lt
 (mo_eq mo_get)
 (mo_eq (mo_v2 hS_X5_fails))))))
 (mo_lt
 (mo_lt
 (mo_lt
 (mo_eq mo_rv)
 (mo_lt
 (mo_eq mo_ald)
 (mo_eq mo_dup)))
 (mo_lt
 (mo_lt
 (mo_eq mo_get)
 (mo_eq mo_push))
 (mo_lt
 (mo_eq mo_iii)
 (mo_eq mo_put))))
 (mo_lt
 (mo_lt
 (mo_eq mo_ald)
 (mo_lt
 (mo_eq mo_ald)
 (mo_eq mo_get)))
 (mo_lt
 (mo_lt
 (mo_eq (mo_v2 hS_X5_byteAt))
 (mo_eq mo_push))
 (mo_lt
 (mo_eq mo_if2)
 (mo_eq mo_ald)))))))
 (mo_lt
 (mo_lt
 (mo_lt
 (mo_lt
 (mo_lt
 (mo_eq mo_ald)
 (mo_lt
 (mo_eq mo_get)
 (mo_eq (mo_v2 hS_X5_fails))))
 (mo_lt
 (mo_eq mo_rv)
 (mo_lt
 (mo_eq mo_ald)
 (mo_eq mo_dup))))
 (mo_lt
 (mo_lt
 (mo_eq mo_get)
 (mo_lt
 (mo_eq mo_push)
 (mo_eq mo_iii)))
 (mo_lt
 (mo_lt
 (mo_eq mo_put)
 (mo_eq mo_ald))
 (mo_lt
 (mo_eq mo_get)
 (mo_eq mo_ist)))))
 (mo_lt
 (mo_lt
 (mo_lt
 (mo_eq mo_ald)
 (mo_lt
 (mo_eq mo_push)
 (mo_eq (mo_v2 hS_X5_term))))
 (mo_lt
 (mo_lt
 (mo_eq mo_ald)
 (mo_eq mo_get))
 (mo_lt
 (mo_eq mo_if1)
 (mo_eq mo_ald))))
 (mo_lt
 (mo_lt
 (mo_eq mo_ald)
 (mo_lt
 (mo_eq mo_get)
 (mo_eq (mo_v2 hS_X5_byteAt))))
 (mo_lt
 (mo_lt
 (mo_eq mo_push)
 (mo_eq mo_if2))
 (mo_lt
 (mo_eq mo_ald)
 (mo_eq mo_ald))))))
 (mo_lt
 (mo_lt
 (mo_lt
 (mo_lt
 (mo_eq mo_get)
 (mo_lt
 (mo_eq (mo_v2 hS_X5_byteAt))
 (mo_eq mo_push)))
 (mo_lt
 (mo_eq mo_if2)
 (mo_lt
 (mo_eq mo_ald)
 (mo_eq mo_push))))
 (mo_lt
 (mo_lt
 (mo_eq (mo_v2 hS_X5_term))
 (mo_lt
 (mo_eq mo_go)
 (mo_eq mo_push)))
 (mo_lt
 (mo_lt
 (mo_eq mo_ist)
 (mo_eq mo_ald))
 (mo_lt
 (mo_eq mo_get)
 (mo_eq mo_if1)))))
 (mo_lt
 (mo_lt
 (mo_lt
 (mo_eq mo_ald)
 (mo_lt
 (mo_eq mo_ald)
 (mo_eq mo_get)))
 (mo_lt
 (mo_lt
 (mo_eq (mo_v2 hS_X5_byteAt))
 (mo_eq mo_push))
 (mo_lt
 (mo_eq mo_if2)
 (mo_eq mo_ald))))
 (mo_lt
 (mo_lt
 (mo_eq mo_dup)
 (mo_lt
 (mo_eq mo_get)
 (mo_eq mo_push)))
 (mo_lt
 (mo_lt
 (mo_eq mo_iii)
 (mo_eq mo_put))
 (mo_lt
 (mo_eq mo_ald)
 (mo_eq mo_get))))))))
 (mo_lt
 (mo_lt
 (mo_lt
 (mo_lt
 (mo_lt
 (mo_lt
 (mo_eq mo_ist)
 (mo_lt
 (mo_eq mo_ald)
 (mo_eq mo_push)))
 (mo_lt
 (mo_eq (mo_v2 hS_X5_number))
 (mo_lt
 (mo_eq mo_ist)
 (mo_eq mo_ald))))
 (mo_lt
 (mo_lt
 (mo_eq mo_get)
 (mo_lt
 (mo_eq mo_ild)
 (mo_eq mo_if2)))
 (mo_lt
 (mo_lt
 (mo_eq mo_ald)
 (mo_eq mo_ald))
 (mo_lt
 (mo_eq mo_get)
 (mo_eq (mo_v2 hS_X5_fails))))))
 (mo_lt
 (mo_lt
 (mo_lt
 (mo_eq mo_push)
 (mo_lt
 (mo_eq mo_ist)
 (mo_eq mo_ald)))
 (mo_lt
 (mo_lt
 (mo_eq mo_get)
 (mo_eq mo_if1))
 (mo_lt
 (mo_eq mo_ald)
 (mo_eq mo_ald))))
 (mo_lt
 (mo_lt
 (mo_eq mo_get)
 (mo_lt
 (mo_eq (mo_v2 hS_X5_byteAt))
 (mo_eq mo_push)))
 (mo_lt
 (mo_lt
 (mo_eq mo_if2)
 (mo_eq mo_push))
 (mo_lt
 (mo_eq mo_ist)
 (mo_eq mo_ald))))))
 (mo_lt
 (mo_lt
 (mo_lt
 (mo_lt
 (mo_eq mo_dup)
 (mo_lt
 (mo_eq mo_get)
 (mo_eq mo_push)))
 (mo_lt
 (mo_eq mo_iii)
 (mo_lt
 (mo_eq mo_put)
 (mo_eq mo_ald))))
 (mo_lt
 (mo_lt
 (mo_eq mo_get)
 (mo_lt
 (mo_eq mo_if1)
 (mo_eq mo_ald)))
 (mo_lt
 (mo_lt
 (mo_eq mo_ald)
 (mo_eq mo_get))
 (mo_lt
 (mo_eq (mo_v2 hS_X5_byteAt))
 (mo_eq mo_push)))))
 (mo_lt
 (mo_lt
 (mo_lt
 (mo_eq mo_if2)
 (mo_lt
 (mo_eq mo_ald)
 (mo_eq mo_ald)))
 (mo_lt
 (mo_lt
 (mo_eq mo_get)
 (mo_eq (mo_v2 hS_X5_fails)))
 (mo_lt
 (mo_eq mo_ald)
 (mo_eq mo_dup))))
 (mo_lt
 (mo_lt
 (mo_eq mo_get)
 (mo_lt
 (mo_eq mo_push)
 (mo_eq mo_iii)))
 (mo_lt
 (mo_lt
 (mo_eq mo_put)
 (mo_eq mo_ald))
 (mo_lt
 (mo_eq mo_get)
 (mo_eq mo_if1)))))))
 (mo_lt
 (mo_lt
 (mo_lt
 (mo_lt
 (mo_lt
 (mo_eq mo_ald)
 (mo_lt
 (mo_eq mo_get)
 (mo_eq mo_push)))
 (mo_lt
 (mo_eq mo_ald)
 (mo_lt
 (mo_eq mo_get)
 (mo_eq mo_iii))))
 (mo_lt
 (mo_lt
 (mo_eq mo_ild)
 (mo_lt
 (mo_eq mo_iaw)
 (mo_eq mo_ald)))
 (mo_lt
 (mo_lt
 (mo_eq mo_get)
 (mo_eq mo_push))
 (mo_lt
 (mo_eq mo_ild)
 (mo_eq mo_iii)))))
 (mo_lt
 (mo_lt
 (mo_lt
 (mo_eq mo_ald)
 (mo_lt
 (mo_eq mo_get)
 (mo_eq mo_iaw)))
 (mo_lt
 (mo_lt
 (mo_eq mo_ald)
 (mo_eq mo_get))
 (mo_lt
 (mo_eq mo_push)
 (mo_eq mo_ild))))
 (mo_lt
 (mo_lt
 (mo_eq mo_iii)
 (mo_lt
 (mo_eq mo_ild)
 (mo_eq mo_iaw)))
 (mo_lt
 (mo_lt
 (mo_eq mo_ald)
 (mo_eq mo_get))
 (mo_lt
 (mo_eq mo_push)
 (mo_eq mo_ild))))))
 (mo_lt
 (mo_lt
 (mo_lt
 (mo_lt
 (mo_eq mo_iii)
 (mo_lt
 (mo_eq mo_ald)
 (mo_eq mo_get)))
 (mo_lt
 (mo_eq mo_ild)
 (mo_lt
 (mo_eq mo_iii)
 (mo_eq mo_iaw))))
 (mo_lt
 (mo_lt
 (mo_eq mo_ald)
 (mo_lt
 (mo_eq mo_get)
 (mo_eq mo_push)))
 (mo_lt
 (mo_lt
 (mo_eq mo_ild)
 (mo_eq mo_iii))
 (mo_lt
 (mo_eq mo_ild)
 (mo_eq mo_iaw)))))
 (mo_lt
 (mo_lt
 (mo_lt
 (mo_eq mo_ald)
 (mo_lt
 (mo_eq mo_get)
 (mo_eq mo_push)))
 (mo_lt
 (mo_lt
 (mo_eq mo_ild)
 (mo_eq mo_iii))
 (mo_lt
 (mo_eq mo_ild)
 (mo_eq mo_iaw))))
 (mo_lt
 (mo_lt
 (mo_eq mo_ald)
 (mo_lt
 (mo_eq mo_dup)
 (mo_eq mo_get)))
 (mo_lt
 (mo_lt
 (mo_eq mo_push)
 (mo_eq mo_iii))
 (mo_lt
 (mo_eq mo_put)
 (mo_eq mo_rv)))))))))
theorem mo_X5_byteAt : ∀ pc, ma_mo (tb_X5_byteAt  pc) := fun pc =>
 (mo_lt
 (mo_lt
 (mo_lt
 (mo_eq mo_ild)
 (mo_eq mo_ald))
 (mo_lt
 (mo_eq mo_get)
 (mo_lt
 (mo_eq mo_if2)
 (mo_eq mo_ald))))
 (mo_lt
 (mo_lt
 (mo_eq mo_get)
 (mo_lt
 (mo_eq mo_ild)
 (mo_eq mo_iar)))
 (mo_lt
 (mo_eq mo_go)
 (mo_lt
 (mo_eq mo_push)
 (mo_eq mo_ri)))))
theorem mo_X5_fails : ∀ pc, ma_mo (tb_X5_fails  pc) := fun pc =>
 (mo_lt
 (mo_lt
 (mo_lt
 (mo_eq mo_ald)
 (mo_eq mo_ald))
 (mo_lt
 (mo_eq mo_get)
 (mo_lt
 (mo_eq mo_if1)
 (mo_eq mo_ild))))
 (mo_lt
 (mo_lt
 (mo_eq mo_go)
 (mo_eq mo_ald))
 (mo_lt
 (mo_eq mo_get)
 (mo_lt
 (mo_eq mo_put)
 (mo_eq mo_rv)))))
theorem mo_X5_term {S_X5_byteAt S_X5_fails S_X5_number S_X5_name : ma_Cs} (hS_X5_byteAt : ma_ms S_X5_byteAt) (hS_X5_fails : ma_ms S_X5_fails) (hS_X5_number : ma_ms S_X5_number) (hS_X5_name : ma_ms S_X5_name) : ∀ pc, ma_mo (tb_X5_term S_X5_byteAt S_X5_fails S_X5_number S_X5_name pc) := fun pc =>
 (mo_lt
 (mo_lt
 (mo_lt
 (mo_lt
 (mo_lt
 (mo_lt
 (mo_eq mo_push)
 (mo_lt
 (mo_eq mo_ist)
 (mo_eq mo_ald)))
 (mo_lt
 (mo_lt
 (mo_eq mo_ald)
 (mo_eq mo_get))
 (mo_lt
 (mo_eq (mo_v2 hS_X5_byteAt))
 (mo_eq mo_push))))
 (mo_lt
 (mo_lt
 (mo_eq mo_if2)
 (mo_lt
 (mo_eq mo_ald)
 (mo_eq mo_ald)))
 (mo_lt
 (mo_lt
 (mo_eq mo_get)
 (mo_eq (mo_v2 hS_X5_byteAt)))
 (mo_lt
 (mo_eq mo_push)
 (mo_eq mo_if2)))))
 (mo_lt
 (mo_lt
 (mo_lt
 (mo_eq mo_ald)
 (mo_lt
 (mo_eq mo_ald)
 (mo_eq mo_get)))
 (mo_lt
 (mo_lt
 (mo_eq (mo_v2 hS_X5_byteAt))
 (mo_eq mo_push))
 (mo_lt
 (mo_eq mo_if2)
 (mo_eq mo_push))))
 (mo_lt
 (mo_lt
 (mo_eq mo_go)
 (mo_lt
 (mo_eq mo_push)
 (mo_eq mo_ist)))
 (mo_lt
 (mo_lt
 (mo_eq mo_ald)
 (mo_eq mo_dup))
 (mo_lt
 (mo_eq mo_get)
 (mo_eq mo_push))))))
 (mo_lt
 (mo_lt
 (mo_lt
 (mo_lt
 (mo_eq mo_iii)
 (mo_lt
 (mo_eq mo_put)
 (mo_eq mo_go)))
 (mo_lt
 (mo_lt
 (mo_eq mo_ild)
 (mo_eq mo_if1))
 (mo_lt
 (mo_eq mo_ald)
 (mo_eq mo_ald))))
 (mo_lt
 (mo_lt
 (mo_eq mo_get)
 (mo_lt
 (mo_eq (mo_v2 hS_X5_fails))
 (mo_eq mo_ald)))
 (mo_lt
 (mo_lt
 (mo_eq mo_get)
 (mo_eq mo_if1))
 (mo_lt
 (mo_eq mo_ald)
 (mo_eq mo_push)))))
 (mo_lt
 (mo_lt
 (mo_lt
 (mo_eq (mo_v2 hS_X5_number))
 (mo_lt
 (mo_eq mo_go)
 (mo_eq mo_push)))
 (mo_lt
 (mo_lt
 (mo_eq mo_ist)
 (mo_eq mo_ald))
 (mo_lt
 (mo_eq mo_get)
 (mo_eq mo_push))))
 (mo_lt
 (mo_lt
 (mo_eq mo_ald)
 (mo_lt
 (mo_eq mo_get)
 (mo_eq mo_iii)))
 (mo_lt
 (mo_lt
 (mo_eq mo_ild)
 (mo_eq mo_ild))
 (mo_lt
 (mo_eq mo_if1)
 (mo_eq mo_push)))))))
 (mo_lt
 (mo_lt
 (mo_lt
 (mo_lt
 (mo_lt
 (mo_eq mo_go)
 (mo_lt
 (mo_eq mo_ild)
 (mo_eq mo_iii)))
 (mo_lt
 (mo_lt
 (mo_eq mo_iaw)
 (mo_eq mo_ald))
 (mo_lt
 (mo_eq mo_get)
 (mo_eq mo_push))))
 (mo_lt
 (mo_lt
 (mo_eq mo_ald)
 (mo_lt
 (mo_eq mo_get)
 (mo_eq mo_iii)))
 (mo_lt
 (mo_lt
 (mo_eq mo_ald)
 (mo_eq mo_get))
 (mo_lt
 (mo_eq mo_if1)
 (mo_eq mo_ald)))))
 (mo_lt
 (mo_lt
 (mo_lt
 (mo_eq (mo_v1 hS_X5_name))
 (mo_lt
 (mo_eq mo_go)
 (mo_eq mo_push)))
 (mo_lt
 (mo_lt
 (mo_eq mo_iaw)
 (mo_eq mo_ald))
 (mo_lt
 (mo_eq mo_get)
 (mo_eq mo_push))))
 (mo_lt
 (mo_lt
 (mo_eq mo_ald)
 (mo_lt
 (mo_eq mo_get)
 (mo_eq mo_iii)))
 (mo_lt
 (mo_lt
 (mo_eq mo_push)
 (mo_eq mo_iaw))
 (mo_lt
 (mo_eq mo_ald)
 (mo_eq mo_get))))))
 (mo_lt
 (mo_lt
 (mo_lt
 (mo_lt
 (mo_eq mo_if1)
 (mo_lt
 (mo_eq mo_ald)
 (mo_eq mo_ald)))
 (mo_lt
 (mo_lt
 (mo_eq mo_get)
 (mo_eq (mo_v2 hS_X5_byteAt)))
 (mo_lt
 (mo_eq mo_push)
 (mo_eq mo_if2))))
 (mo_lt
 (mo_lt
 (mo_eq mo_ald)
 (mo_lt
 (mo_eq mo_dup)
 (mo_eq mo_get)))
 (mo_lt
 (mo_lt
 (mo_eq mo_push)
 (mo_eq mo_iii))
 (mo_lt
 (mo_eq mo_put)
 (mo_eq mo_ald)))))
 (mo_lt
 (mo_lt
 (mo_lt
 (mo_eq mo_get)
 (mo_lt
 (mo_eq mo_push)
 (mo_eq mo_ald)))
 (mo_lt
 (mo_lt
 (mo_eq mo_get)
 (mo_eq mo_iii))
 (mo_lt
 (mo_eq mo_ald)
 (mo_eq (mo_v1 hS_X5_name)))))
 (mo_lt
 (mo_lt
 (mo_lt
 (mo_eq mo_iaw)
 (mo_eq mo_ald))
 (mo_lt
 (mo_eq mo_dup)
 (mo_eq mo_get)))
 (mo_lt
 (mo_lt
 (mo_eq mo_push)
 (mo_eq mo_iii))
 (mo_lt
 (mo_eq mo_put)
 (mo_eq mo_rv))))))))
theorem mo_X5_number {S_X5_byteAt S_X5_in S_X5_fails : ma_Cs} (hS_X5_byteAt : ma_ms S_X5_byteAt) (hS_X5_in : ma_ms S_X5_in) (hS_X5_fails : ma_ms S_X5_fails) : ∀ pc, ma_mo (tb_X5_number S_X5_byteAt S_X5_in S_X5_fails pc) := fun pc =>
 (mo_lt
 (mo_lt
 (mo_lt
 (mo_lt
 (mo_lt
 (mo_eq mo_ald)
 (mo_lt
 (mo_eq mo_get)
 (mo_eq mo_ist)))
 (mo_lt
 (mo_eq mo_push)
 (mo_lt
 (mo_eq mo_ist)
 (mo_eq mo_ald))))
 (mo_lt
 (mo_lt
 (mo_eq mo_ald)
 (mo_lt
 (mo_eq mo_get)
 (mo_eq (mo_v2 hS_X5_byteAt))))
 (mo_lt
 (mo_lt
 (mo_eq mo_il)
 (mo_eq mo_push))
 (mo_lt
 (mo_eq mo_push)
 (mo_eq (mo_s3 hS_X5_in))))))
 (mo_lt
 (mo_lt
 (mo_lt
 (mo_eq mo_if1)
 (mo_lt
 (mo_eq mo_ild)
 (mo_eq mo_push)))
 (mo_lt
 (mo_lt
 (mo_eq mo_if2)
 (mo_eq mo_push))
 (mo_lt
 (mo_eq mo_ild)
 (mo_eq mo_iii))))
 (mo_lt
 (mo_lt
 (mo_eq mo_ald)
 (mo_lt
 (mo_eq mo_ald)
 (mo_eq mo_get)))
 (mo_lt
 (mo_lt
 (mo_eq (mo_v2 hS_X5_byteAt))
 (mo_eq mo_iii))
 (mo_lt
 (mo_eq mo_push)
 (mo_eq mo_iii))))))
 (mo_lt
 (mo_lt
 (mo_lt
 (mo_lt
 (mo_eq mo_go)
 (mo_lt
 (mo_eq mo_ild)
 (mo_eq mo_ist)))
 (mo_lt
 (mo_eq mo_ald)
 (mo_lt
 (mo_eq mo_dup)
 (mo_eq mo_get))))
 (mo_lt
 (mo_lt
 (mo_eq mo_push)
 (mo_lt
 (mo_eq mo_iii)
 (mo_eq mo_put)))
 (mo_lt
 (mo_lt
 (mo_eq mo_go)
 (mo_eq mo_ald))
 (mo_lt
 (mo_eq mo_get)
 (mo_eq mo_ild)))))
 (mo_lt
 (mo_lt
 (mo_lt
 (mo_eq mo_if2)
 (mo_lt
 (mo_eq mo_ald)
 (mo_eq mo_ild)))
 (mo_lt
 (mo_lt
 (mo_eq (mo_v2 hS_X5_byteAt))
 (mo_eq mo_push))
 (mo_lt
 (mo_eq mo_if2)
 (mo_eq mo_ild))))
 (mo_lt
 (mo_lt
 (mo_eq mo_ild)
 (mo_lt
 (mo_eq mo_if2)
 (mo_eq mo_ald)))
 (mo_lt
 (mo_lt
 (mo_eq mo_ild)
 (mo_eq (mo_v2 hS_X5_fails)))
 (mo_lt
 (mo_eq mo_ild)
 (mo_eq mo_ri)))))))
theorem mo_X5_name {S_X5_byteAt S_X5_isLetter S_X5_fails : ma_Cs} (hS_X5_byteAt : ma_ms S_X5_byteAt) (hS_X5_isLetter : ma_ms S_X5_isLetter) (hS_X5_fails : ma_ms S_X5_fails) : ∀ pc, ma_mo (tb_X5_name S_X5_byteAt S_X5_isLetter S_X5_fails pc) := fun pc =>
 (mo_lt
 (mo_lt
 (mo_lt
 (mo_lt
 (mo_lt
 (mo_lt
 (mo_eq mo_ald)
 (mo_lt
 (mo_eq mo_get)
 (mo_eq mo_ist)))
 (mo_lt
 (mo_lt
 (mo_eq mo_ald)
 (mo_eq mo_ald))
 (mo_lt
 (mo_eq mo_get)
 (mo_eq (mo_v2 hS_X5_byteAt)))))
 (mo_lt
 (mo_lt
 (mo_eq mo_push)
 (mo_lt
 (mo_eq mo_iii)
 (mo_eq mo_ist)))
 (mo_lt
 (mo_lt
 (mo_eq mo_ild)
 (mo_eq (mo_s1 hS_X5_isLetter)))
 (mo_lt
 (mo_eq mo_if1)
 (mo_eq mo_ald)))))
 (mo_lt
 (mo_lt
 (mo_lt
 (mo_eq mo_ald)
 (mo_lt
 (mo_eq mo_get)
 (mo_eq (mo_v2 hS_X5_fails))))
 (mo_lt
 (mo_lt
 (mo_eq mo_push)
 (mo_eq mo_ri))
 (mo_lt
 (mo_eq mo_ald)
 (mo_eq mo_dup))))
 (mo_lt
 (mo_lt
 (mo_eq mo_get)
 (mo_lt
 (mo_eq mo_push)
 (mo_eq mo_iii)))
 (mo_lt
 (mo_lt
 (mo_eq mo_put)
 (mo_eq mo_ald))
 (mo_lt
 (mo_eq mo_ald)
 (mo_eq mo_get))))))
 (mo_lt
 (mo_lt
 (mo_lt
 (mo_lt
 (mo_eq (mo_v2 hS_X5_byteAt))
 (mo_lt
 (mo_eq mo_ist)
 (mo_eq mo_ild)))
 (mo_lt
 (mo_lt
 (mo_eq mo_push)
 (mo_eq mo_if2))
 (mo_lt
 (mo_eq mo_push)
 (mo_eq mo_go))))
 (mo_lt
 (mo_lt
 (mo_eq mo_ild)
 (mo_lt
 (mo_eq mo_push)
 (mo_eq mo_if2)))
 (mo_lt
 (mo_lt
 (mo_eq mo_push)
 (mo_eq mo_go))
 (mo_lt
 (mo_eq mo_ild)
 (mo_eq mo_push)))))
 (mo_lt
 (mo_lt
 (mo_lt
 (mo_eq mo_if2)
 (mo_lt
 (mo_eq mo_push)
 (mo_eq mo_go)))
 (mo_lt
 (mo_lt
 (mo_eq mo_ild)
 (mo_eq mo_push))
 (mo_lt
 (mo_eq mo_if2)
 (mo_eq mo_push))))
 (mo_lt
 (mo_lt
 (mo_eq mo_go)
 (mo_lt
 (mo_eq mo_push)
 (mo_eq mo_ist)))
 (mo_lt
 (mo_lt
 (mo_eq mo_ald)
 (mo_eq mo_dup))
 (mo_lt
 (mo_eq mo_get)
 (mo_eq mo_ild)))))))
 (mo_lt
 (mo_lt
 (mo_lt
 (mo_lt
 (mo_lt
 (mo_eq mo_if1)
 (mo_lt
 (mo_eq mo_push)
 (mo_eq mo_go)))
 (mo_lt
 (mo_lt
 (mo_eq mo_push)
 (mo_eq mo_iii))
 (mo_lt
 (mo_eq mo_put)
 (mo_eq mo_ald))))
 (mo_lt
 (mo_lt
 (mo_eq mo_ald)
 (mo_lt
 (mo_eq mo_get)
 (mo_eq (mo_v2 hS_X5_byteAt))))
 (mo_lt
 (mo_lt
 (mo_eq mo_push)
 (mo_eq mo_if2))
 (mo_lt
 (mo_eq mo_push)
 (mo_eq mo_ist)))))
 (mo_lt
 (mo_lt
 (mo_lt
 (mo_eq mo_push)
 (mo_lt
 (mo_eq mo_ist)
 (mo_eq mo_ild)))
 (mo_lt
 (mo_lt
 (mo_eq mo_ald)
 (mo_eq mo_get))
 (mo_lt
 (mo_eq mo_if2)
 (mo_eq mo_ild))))
 (mo_lt
 (mo_lt
 (mo_eq mo_if1)
 (mo_lt
 (mo_eq mo_ald)
 (mo_eq mo_get)))
 (mo_lt
 (mo_lt
 (mo_eq mo_push)
 (mo_eq mo_ild))
 (mo_lt
 (mo_eq mo_iii)
 (mo_eq mo_iar))))))
 (mo_lt
 (mo_lt
 (mo_lt
 (mo_lt
 (mo_eq mo_ild)
 (mo_lt
 (mo_eq mo_if2)
 (mo_eq mo_push)))
 (mo_lt
 (mo_lt
 (mo_eq mo_go)
 (mo_eq mo_push))
 (mo_lt
 (mo_eq mo_ist)
 (mo_eq mo_inc))))
 (mo_lt
 (mo_lt
 (mo_eq mo_go)
 (mo_lt
 (mo_eq mo_ild)
 (mo_eq mo_if1)))
 (mo_lt
 (mo_lt
 (mo_eq mo_ild)
 (mo_eq mo_if1))
 (mo_lt
 (mo_eq mo_ald)
 (mo_eq mo_ild)))))
 (mo_lt
 (mo_lt
 (mo_lt
 (mo_eq (mo_v2 hS_X5_fails))
 (mo_lt
 (mo_eq mo_push)
 (mo_eq mo_ist)))
 (mo_lt
 (mo_lt
 (mo_eq mo_ald)
 (mo_eq mo_dup))
 (mo_lt
 (mo_eq mo_get)
 (mo_eq mo_push))))
 (mo_lt
 (mo_lt
 (mo_lt
 (mo_eq mo_iii)
 (mo_eq mo_put))
 (mo_lt
 (mo_eq mo_ild)
 (mo_eq mo_push)))
 (mo_lt
 (mo_lt
 (mo_eq mo_ild)
 (mo_eq mo_iii))
 (mo_lt
 (mo_eq mo_iii)
 (mo_eq mo_ri))))))))
theorem mo_X5_plan {S_X5_faultOf : ma_Cs} (hS_X5_faultOf : ma_ms S_X5_faultOf) : ∀ pc, ma_mo (tb_X5_plan S_X5_faultOf pc) := fun pc =>
 (mo_lt
 (mo_lt
 (mo_lt
 (mo_lt
 (mo_lt
 (mo_lt
 (mo_eq mo_ald)
 (mo_lt
 (mo_eq (mo_v1 hS_X5_faultOf))
 (mo_eq mo_push)))
 (mo_lt
 (mo_lt
 (mo_eq mo_if2)
 (mo_eq mo_push))
 (mo_lt
 (mo_eq mo_ri)
 (mo_eq mo_ald))))
 (mo_lt
 (mo_lt
 (mo_eq mo_ald)
 (mo_lt
 (mo_eq mo_get)
 (mo_eq mo_put)))
 (mo_lt
 (mo_lt
 (mo_eq mo_push)
 (mo_eq mo_ist))
 (mo_lt
 (mo_eq mo_ild)
 (mo_eq mo_push)))))
 (mo_lt
 (mo_lt
 (mo_lt
 (mo_eq mo_if2)
 (mo_lt
 (mo_eq mo_ald)
 (mo_eq mo_get)))
 (mo_lt
 (mo_lt
 (mo_eq mo_ild)
 (mo_eq mo_ald))
 (mo_lt
 (mo_eq mo_get)
 (mo_eq mo_push))))
 (mo_lt
 (mo_lt
 (mo_lt
 (mo_eq mo_ild)
 (mo_eq mo_iii))
 (mo_lt
 (mo_eq mo_iar)
 (mo_eq mo_iaw)))
 (mo_lt
 (mo_lt
 (mo_eq mo_ald)
 (mo_eq mo_get))
 (mo_lt
 (mo_eq mo_ild)
 (mo_eq mo_ald))))))
 (mo_lt
 (mo_lt
 (mo_lt
 (mo_lt
 (mo_eq mo_get)
 (mo_lt
 (mo_eq mo_push)
 (mo_eq mo_ild)))
 (mo_lt
 (mo_lt
 (mo_eq mo_iii)
 (mo_eq mo_iar))
 (mo_lt
 (mo_eq mo_iaw)
 (mo_eq mo_ald))))
 (mo_lt
 (mo_lt
 (mo_eq mo_get)
 (mo_lt
 (mo_eq mo_ild)
 (mo_eq mo_ald)))
 (mo_lt
 (mo_lt
 (mo_eq mo_get)
 (mo_eq mo_push))
 (mo_lt
 (mo_eq mo_ild)
 (mo_eq mo_iii)))))
 (mo_lt
 (mo_lt
 (mo_lt
 (mo_eq mo_iar)
 (mo_lt
 (mo_eq mo_iaw)
 (mo_eq mo_ald)))
 (mo_lt
 (mo_lt
 (mo_eq mo_get)
 (mo_eq mo_ild))
 (mo_lt
 (mo_eq mo_ald)
 (mo_eq mo_get))))
 (mo_lt
 (mo_lt
 (mo_lt
 (mo_eq mo_push)
 (mo_eq mo_ild))
 (mo_lt
 (mo_eq mo_iii)
 (mo_eq mo_iar)))
 (mo_lt
 (mo_lt
 (mo_eq mo_iaw)
 (mo_eq mo_ald))
 (mo_lt
 (mo_eq mo_get)
 (mo_eq mo_ild)))))))
 (mo_lt
 (mo_lt
 (mo_lt
 (mo_lt
 (mo_lt
 (mo_eq mo_ald)
 (mo_lt
 (mo_eq mo_get)
 (mo_eq mo_push)))
 (mo_lt
 (mo_lt
 (mo_eq mo_ild)
 (mo_eq mo_iii))
 (mo_lt
 (mo_eq mo_iar)
 (mo_eq mo_iaw))))
 (mo_lt
 (mo_lt
 (mo_eq mo_ald)
 (mo_lt
 (mo_eq mo_get)
 (mo_eq mo_ild)))
 (mo_lt
 (mo_lt
 (mo_eq mo_ald)
 (mo_eq mo_get))
 (mo_lt
 (mo_eq mo_push)
 (mo_eq mo_ild)))))
 (mo_lt
 (mo_lt
 (mo_lt
 (mo_eq mo_iii)
 (mo_lt
 (mo_eq mo_iar)
 (mo_eq mo_iaw)))
 (mo_lt
 (mo_lt
 (mo_eq mo_inc)
 (mo_eq mo_go))
 (mo_lt
 (mo_eq mo_push)
 (mo_eq mo_ist))))
 (mo_lt
 (mo_lt
 (mo_lt
 (mo_eq mo_ild)
 (mo_eq mo_push))
 (mo_lt
 (mo_eq mo_if2)
 (mo_eq mo_ald)))
 (mo_lt
 (mo_lt
 (mo_eq mo_get)
 (mo_eq mo_ild))
 (mo_lt
 (mo_eq mo_ald)
 (mo_eq mo_get))))))
 (mo_lt
 (mo_lt
 (mo_lt
 (mo_lt
 (mo_eq mo_push)
 (mo_lt
 (mo_eq mo_ild)
 (mo_eq mo_iii)))
 (mo_lt
 (mo_lt
 (mo_eq mo_iar)
 (mo_eq mo_iaw))
 (mo_lt
 (mo_eq mo_ald)
 (mo_eq mo_get))))
 (mo_lt
 (mo_lt
 (mo_lt
 (mo_eq mo_ild)
 (mo_eq mo_ald))
 (mo_lt
 (mo_eq mo_get)
 (mo_eq mo_push)))
 (mo_lt
 (mo_lt
 (mo_eq mo_ild)
 (mo_eq mo_iii))
 (mo_lt
 (mo_eq mo_iar)
 (mo_eq mo_iaw)))))
 (mo_lt
 (mo_lt
 (mo_lt
 (mo_eq mo_ald)
 (mo_lt
 (mo_eq mo_get)
 (mo_eq mo_ild)))
 (mo_lt
 (mo_lt
 (mo_eq mo_ald)
 (mo_eq mo_get))
 (mo_lt
 (mo_eq mo_push)
 (mo_eq mo_ild))))
 (mo_lt
 (mo_lt
 (mo_lt
 (mo_eq mo_iii)
 (mo_eq mo_iar))
 (mo_lt
 (mo_eq mo_iaw)
 (mo_eq mo_inc)))
 (mo_lt
 (mo_lt
 (mo_eq mo_go)
 (mo_eq mo_ald))
 (mo_lt
 (mo_eq mo_get)
 (mo_eq mo_ri))))))))
theorem mo_X5_line {S_X5_isLetter S_X5_in S_X5_hasProduct : ma_Cs} (hS_X5_isLetter : ma_ms S_X5_isLetter) (hS_X5_in : ma_ms S_X5_in) (hS_X5_hasProduct : ma_ms S_X5_hasProduct) : ∀ pc, ma_mo (tb_X5_line S_X5_isLetter S_X5_in S_X5_hasProduct pc) := fun pc =>
 (mo_lt
 (mo_lt
 (mo_lt
 (mo_lt
 (mo_lt
 (mo_eq mo_ild)
 (mo_lt
 (mo_eq (mo_s1 hS_X5_isLetter))
 (mo_eq mo_if1)))
 (mo_lt
 (mo_eq mo_ild)
 (mo_lt
 (mo_eq mo_il)
 (mo_eq mo_push))))
 (mo_lt
 (mo_lt
 (mo_eq mo_push)
 (mo_lt
 (mo_eq (mo_s3 hS_X5_in))
 (mo_eq mo_if1)))
 (mo_lt
 (mo_eq mo_push)
 (mo_lt
 (mo_eq mo_ri)
 (mo_eq mo_ald)))))
 (mo_lt
 (mo_lt
 (mo_lt
 (mo_eq mo_get)
 (mo_lt
 (mo_eq mo_ild)
 (mo_eq mo_iar)))
 (mo_lt
 (mo_eq mo_if1)
 (mo_lt
 (mo_eq mo_push)
 (mo_eq mo_ri))))
 (mo_lt
 (mo_lt
 (mo_eq mo_ild)
 (mo_lt
 (mo_eq mo_sw)
 (mo_eq mo_ald)))
 (mo_lt
 (mo_eq mo_get)
 (mo_lt
 (mo_eq mo_ild)
 (mo_eq mo_iar))))))
 (mo_lt
 (mo_lt
 (mo_lt
 (mo_lt
 (mo_eq mo_ri)
 (mo_lt
 (mo_eq mo_ald)
 (mo_eq mo_get)))
 (mo_lt
 (mo_eq mo_ild)
 (mo_lt
 (mo_eq mo_iar)
 (mo_eq mo_ri))))
 (mo_lt
 (mo_lt
 (mo_eq mo_ald)
 (mo_lt
 (mo_eq mo_get)
 (mo_eq mo_ild)))
 (mo_lt
 (mo_eq mo_iar)
 (mo_lt
 (mo_eq mo_ri)
 (mo_eq mo_ald)))))
 (mo_lt
 (mo_lt
 (mo_lt
 (mo_eq mo_get)
 (mo_lt
 (mo_eq mo_ild)
 (mo_eq mo_iar)))
 (mo_lt
 (mo_eq mo_ri)
 (mo_lt
 (mo_eq mo_ald)
 (mo_eq mo_ild))))
 (mo_lt
 (mo_lt
 (mo_eq (mo_v2 hS_X5_hasProduct))
 (mo_lt
 (mo_eq mo_if1)
 (mo_eq mo_push)))
 (mo_lt
 (mo_eq mo_go)
 (mo_lt
 (mo_eq mo_push)
 (mo_eq mo_ri)))))))
theorem mo_X5_hasProduct : ∀ pc, ma_mo (tb_X5_hasProduct  pc) := fun pc =>
 (mo_lt
 (mo_lt
 (mo_lt
 (mo_lt
 (mo_lt
 (mo_eq mo_push)
 (mo_eq mo_ist))
 (mo_lt
 (mo_eq mo_ald)
 (mo_eq mo_get)))
 (mo_lt
 (mo_lt
 (mo_eq mo_ild)
 (mo_eq mo_iar))
 (mo_lt
 (mo_eq mo_ist)
 (mo_eq mo_ild))))
 (mo_lt
 (mo_lt
 (mo_lt
 (mo_eq mo_ald)
 (mo_eq mo_get))
 (mo_lt
 (mo_eq mo_ild)
 (mo_eq mo_iar)))
 (mo_lt
 (mo_lt
 (mo_eq mo_ald)
 (mo_eq mo_get))
 (mo_lt
 (mo_eq mo_ild)
 (mo_eq mo_iar)))))
 (mo_lt
 (mo_lt
 (mo_lt
 (mo_lt
 (mo_eq mo_iii)
 (mo_eq mo_if2))
 (mo_lt
 (mo_eq mo_ild)
 (mo_eq mo_if1)))
 (mo_lt
 (mo_lt
 (mo_eq mo_ald)
 (mo_eq mo_get))
 (mo_lt
 (mo_eq mo_ild)
 (mo_eq mo_iar))))
 (mo_lt
 (mo_lt
 (mo_lt
 (mo_eq mo_if1)
 (mo_eq mo_push))
 (mo_lt
 (mo_eq mo_go)
 (mo_eq mo_push)))
 (mo_lt
 (mo_lt
 (mo_eq mo_ist)
 (mo_eq mo_inc))
 (mo_lt
 (mo_eq mo_go)
 (mo_lt
 (mo_eq mo_ild)
 (mo_eq mo_rz)))))))
theorem mo_X5_first {S_X5_isCell S_X5_isLetter S_X5_in : ma_Cs} (hS_X5_isCell : ma_ms S_X5_isCell) (hS_X5_isLetter : ma_ms S_X5_isLetter) (hS_X5_in : ma_ms S_X5_in) : ∀ pc, ma_mo (tb_X5_first S_X5_isCell S_X5_isLetter S_X5_in pc) := fun pc =>
 (mo_lt
 (mo_lt
 (mo_lt
 (mo_lt
 (mo_lt
 (mo_eq mo_ald)
 (mo_eq mo_ild))
 (mo_lt
 (mo_eq (mo_v2 hS_X5_isCell))
 (mo_eq mo_if1)))
 (mo_lt
 (mo_lt
 (mo_eq mo_ild)
 (mo_eq (mo_s1 hS_X5_isLetter)))
 (mo_lt
 (mo_eq mo_if1)
 (mo_lt
 (mo_eq mo_ild)
 (mo_eq mo_il)))))
 (mo_lt
 (mo_lt
 (mo_lt
 (mo_eq mo_push)
 (mo_eq mo_push))
 (mo_lt
 (mo_eq (mo_s3 hS_X5_in))
 (mo_lt
 (mo_eq mo_if1)
 (mo_eq mo_ild))))
 (mo_lt
 (mo_lt
 (mo_eq mo_push)
 (mo_eq mo_if2))
 (mo_lt
 (mo_eq mo_push)
 (mo_lt
 (mo_eq mo_ri)
 (mo_eq mo_ald))))))
 (mo_lt
 (mo_lt
 (mo_lt
 (mo_lt
 (mo_eq mo_get)
 (mo_eq mo_push))
 (mo_lt
 (mo_eq mo_ild)
 (mo_eq mo_iii)))
 (mo_lt
 (mo_lt
 (mo_eq mo_ild)
 (mo_eq mo_iii))
 (mo_lt
 (mo_eq mo_iar)
 (mo_lt
 (mo_eq mo_ist)
 (mo_eq mo_ald)))))
 (mo_lt
 (mo_lt
 (mo_lt
 (mo_eq mo_get)
 (mo_eq mo_push))
 (mo_lt
 (mo_eq mo_ild)
 (mo_lt
 (mo_eq mo_iii)
 (mo_eq mo_ild))))
 (mo_lt
 (mo_lt
 (mo_eq mo_iii)
 (mo_eq mo_ild))
 (mo_lt
 (mo_eq mo_iaw)
 (mo_lt
 (mo_eq mo_ild)
 (mo_eq mo_ri)))))))
theorem mo_X5_isCell {S_X5_cells S_X5_in : ma_Cs} (hS_X5_cells : ma_ms S_X5_cells) (hS_X5_in : ma_ms S_X5_in) : ∀ pc, ma_mo (tb_X5_isCell S_X5_cells S_X5_in pc) := fun pc =>
 (mo_lt
 (mo_lt
 (mo_lt
 (mo_eq mo_ild)
 (mo_eq mo_il))
 (mo_lt
 (mo_eq mo_push)
 (mo_lt
 (mo_eq mo_ald)
 (mo_eq (mo_v1 hS_X5_cells)))))
 (mo_lt
 (mo_lt
 (mo_eq mo_push)
 (mo_eq mo_iii))
 (mo_lt
 (mo_eq mo_il)
 (mo_lt
 (mo_eq (mo_s3 hS_X5_in))
 (mo_eq mo_rz)))))
theorem mo_X5_at {S_X5_isPlace S_X5_all S_X5_hall S_X5_place : ma_Cs} (hS_X5_isPlace : ma_ms S_X5_isPlace) (hS_X5_all : ma_ms S_X5_all) (hS_X5_hall : ma_ms S_X5_hall) (hS_X5_place : ma_ms S_X5_place) : ∀ pc, ma_mo (tb_X5_at S_X5_isPlace S_X5_all S_X5_hall S_X5_place pc) := fun pc =>
 (mo_lt
 (mo_lt
 (mo_lt
 (mo_lt
 (mo_eq mo_ald)
 (mo_lt
 (mo_eq mo_ild)
 (mo_eq mo_ild)))
 (mo_lt
 (mo_eq mo_ild)
 (mo_lt
 (mo_eq (mo_v4 hS_X5_isPlace))
 (mo_eq mo_if1))))
 (mo_lt
 (mo_lt
 (mo_eq mo_push)
 (mo_lt
 (mo_eq mo_ri)
 (mo_eq mo_ald)))
 (mo_lt
 (mo_lt
 (mo_eq mo_ald)
 (mo_eq mo_get))
 (mo_lt
 (mo_eq mo_ild)
 (mo_eq mo_if1)))))
 (mo_lt
 (mo_lt
 (mo_lt
 (mo_eq mo_push)
 (mo_lt
 (mo_eq mo_go)
 (mo_eq mo_ald)))
 (mo_lt
 (mo_eq (mo_v1 hS_X5_all))
 (mo_lt
 (mo_eq (mo_v3 hS_X5_hall))
 (mo_eq mo_ald))))
 (mo_lt
 (mo_lt
 (mo_eq mo_get)
 (mo_lt
 (mo_eq mo_ild)
 (mo_eq mo_ild)))
 (mo_lt
 (mo_lt
 (mo_eq mo_ild)
 (mo_eq (mo_s3 hS_X5_place)))
 (mo_lt
 (mo_eq mo_iar)
 (mo_eq mo_ri))))))
theorem mo_X5_isPlace {S_X5_in S_X5_isCell S_X5_isLetter : ma_Cs} (hS_X5_in : ma_ms S_X5_in) (hS_X5_isCell : ma_ms S_X5_isCell) (hS_X5_isLetter : ma_ms S_X5_isLetter) : ∀ pc, ma_mo (tb_X5_isPlace S_X5_in S_X5_isCell S_X5_isLetter pc) := fun pc =>
 (mo_lt
 (mo_lt
 (mo_lt
 (mo_lt
 (mo_eq mo_ild)
 (mo_eq mo_il))
 (mo_lt
 (mo_eq mo_push)
 (mo_eq mo_push)))
 (mo_lt
 (mo_lt
 (mo_eq (mo_s3 hS_X5_in))
 (mo_eq mo_if1))
 (mo_lt
 (mo_eq mo_ald)
 (mo_eq mo_ild))))
 (mo_lt
 (mo_lt
 (mo_lt
 (mo_eq (mo_v2 hS_X5_isCell))
 (mo_eq mo_if1))
 (mo_lt
 (mo_eq mo_ild)
 (mo_eq (mo_s1 hS_X5_isLetter))))
 (mo_lt
 (mo_lt
 (mo_eq mo_if1)
 (mo_eq mo_push))
 (mo_lt
 (mo_eq mo_go)
 (mo_lt
 (mo_eq mo_push)
 (mo_eq mo_rz))))))
theorem mo_X5_all : ∀ pc, ma_mo (tb_X5_all  pc) := fun pc =>
 (mo_lt
 (mo_lt
 (mo_eq mo_push)
 (mo_lt
 (mo_eq mo_ald)
 (mo_eq mo_get)))
 (mo_lt
 (mo_lt
 (mo_eq mo_iii)
 (mo_eq mo_push))
 (mo_lt
 (mo_eq mo_iii)
 (mo_eq mo_ri))))
theorem mo_X5_hall {S_X5_cells S_X5_place S_X5_filled S_X5_steps : ma_Cs} (hS_X5_cells : ma_ms S_X5_cells) (hS_X5_place : ma_ms S_X5_place) (hS_X5_filled : ma_ms S_X5_filled) (hS_X5_steps : ma_ms S_X5_steps) : ∀ pc, ma_mo (tb_X5_hall S_X5_cells S_X5_place S_X5_filled S_X5_steps pc) := fun pc =>
 (mo_lt
 (mo_lt
 (mo_lt
 (mo_lt
 (mo_lt
 (mo_eq mo_ald)
 (mo_lt
 (mo_eq mo_ald)
 (mo_eq mo_get)))
 (mo_lt
 (mo_lt
 (mo_eq mo_put)
 (mo_eq mo_ald))
 (mo_lt
 (mo_eq mo_ald)
 (mo_eq mo_get))))
 (mo_lt
 (mo_lt
 (mo_eq mo_put)
 (mo_lt
 (mo_eq mo_push)
 (mo_eq mo_ist)))
 (mo_lt
 (mo_lt
 (mo_eq mo_ild)
 (mo_eq mo_ald))
 (mo_lt
 (mo_eq (mo_v1 hS_X5_cells))
 (mo_eq mo_if2)))))
 (mo_lt
 (mo_lt
 (mo_lt
 (mo_eq mo_push)
 (mo_lt
 (mo_eq mo_ist)
 (mo_eq mo_ild)))
 (mo_lt
 (mo_lt
 (mo_eq mo_push)
 (mo_eq mo_if2))
 (mo_lt
 (mo_eq mo_ald)
 (mo_eq mo_push))))
 (mo_lt
 (mo_lt
 (mo_lt
 (mo_eq mo_ild)
 (mo_eq mo_ild))
 (mo_lt
 (mo_eq (mo_s3 hS_X5_place))
 (mo_eq mo_ald)))
 (mo_lt
 (mo_lt
 (mo_eq mo_ild)
 (mo_eq mo_ild))
 (mo_lt
 (mo_eq (mo_v3 hS_X5_filled))
 (mo_eq mo_iaw))))))
 (mo_lt
 (mo_lt
 (mo_lt
 (mo_lt
 (mo_eq mo_ald)
 (mo_lt
 (mo_eq mo_get)
 (mo_eq mo_push)))
 (mo_lt
 (mo_lt
 (mo_eq mo_ild)
 (mo_eq mo_ild))
 (mo_lt
 (mo_eq (mo_s3 hS_X5_place))
 (mo_eq mo_ald))))
 (mo_lt
 (mo_lt
 (mo_eq mo_get)
 (mo_lt
 (mo_eq mo_push)
 (mo_eq mo_ild)))
 (mo_lt
 (mo_lt
 (mo_eq mo_iii)
 (mo_eq mo_ild))
 (mo_lt
 (mo_eq mo_iii)
 (mo_eq mo_iar)))))
 (mo_lt
 (mo_lt
 (mo_lt
 (mo_eq mo_push)
 (mo_lt
 (mo_eq mo_if2)
 (mo_eq mo_push)))
 (mo_lt
 (mo_lt
 (mo_eq mo_go)
 (mo_eq mo_push))
 (mo_lt
 (mo_eq mo_baw)
 (mo_eq mo_inc))))
 (mo_lt
 (mo_lt
 (mo_lt
 (mo_eq mo_go)
 (mo_eq mo_inc))
 (mo_lt
 (mo_eq mo_go)
 (mo_eq mo_ald)))
 (mo_lt
 (mo_lt
 (mo_eq mo_ald)
 (mo_eq mo_ild))
 (mo_lt
 (mo_eq (mo_v3 hS_X5_steps))
 (mo_eq mo_rv)))))))
theorem mo_X5_place : ∀ pc, ma_mo (tb_X5_place  pc) := fun pc =>
 (mo_lt
 (mo_lt
 (mo_lt
 (mo_eq mo_push)
 (mo_eq mo_ild))
 (mo_lt
 (mo_eq mo_iii)
 (mo_lt
 (mo_eq mo_push)
 (mo_eq mo_ild))))
 (mo_lt
 (mo_lt
 (mo_eq mo_iii)
 (mo_eq mo_iii))
 (mo_lt
 (mo_eq mo_ild)
 (mo_lt
 (mo_eq mo_iii)
 (mo_eq mo_ri)))))
theorem mo_X5_filled {S_X5_next S_X5_down : ma_Cs} (hS_X5_next : ma_ms S_X5_next) (hS_X5_down : ma_ms S_X5_down) : ∀ pc, ma_mo (tb_X5_filled S_X5_next S_X5_down pc) := fun pc =>
 (mo_lt
 (mo_lt
 (mo_lt
 (mo_lt
 (mo_lt
 (mo_lt
 (mo_eq mo_ald)
 (mo_eq mo_get))
 (mo_lt
 (mo_eq mo_push)
 (mo_eq mo_ild)))
 (mo_lt
 (mo_lt
 (mo_eq mo_iii)
 (mo_eq mo_ild))
 (mo_lt
 (mo_eq mo_iii)
 (mo_lt
 (mo_eq mo_iar)
 (mo_eq mo_ist)))))
 (mo_lt
 (mo_lt
 (mo_lt
 (mo_eq mo_ild)
 (mo_eq mo_push))
 (mo_lt
 (mo_eq mo_if2)
 (mo_eq mo_ild)))
 (mo_lt
 (mo_lt
 (mo_eq mo_ri)
 (mo_eq mo_push))
 (mo_lt
 (mo_eq mo_lst)
 (mo_lt
 (mo_eq mo_push)
 (mo_eq mo_ist))))))
 (mo_lt
 (mo_lt
 (mo_lt
 (mo_lt
 (mo_eq mo_push)
 (mo_eq mo_ist))
 (mo_lt
 (mo_eq mo_ild)
 (mo_eq mo_push)))
 (mo_lt
 (mo_lt
 (mo_eq mo_if2)
 (mo_eq mo_ald))
 (mo_lt
 (mo_eq mo_ild)
 (mo_lt
 (mo_eq mo_ild)
 (mo_eq (mo_v3 hS_X5_next))))))
 (mo_lt
 (mo_lt
 (mo_lt
 (mo_eq mo_ist)
 (mo_eq mo_ild))
 (mo_lt
 (mo_eq mo_if1)
 (mo_lt
 (mo_eq mo_ald)
 (mo_eq mo_get))))
 (mo_lt
 (mo_lt
 (mo_eq mo_ild)
 (mo_eq mo_iar))
 (mo_lt
 (mo_eq mo_go)
 (mo_lt
 (mo_eq mo_ald)
 (mo_eq mo_get)))))))
 (mo_lt
 (mo_lt
 (mo_lt
 (mo_lt
 (mo_lt
 (mo_eq mo_push)
 (mo_eq mo_ild))
 (mo_lt
 (mo_eq mo_iii)
 (mo_eq mo_ild)))
 (mo_lt
 (mo_lt
 (mo_eq mo_iii)
 (mo_eq mo_iar))
 (mo_lt
 (mo_eq mo_ist)
 (mo_lt
 (mo_eq mo_lld)
 (mo_eq mo_ild)))))
 (mo_lt
 (mo_lt
 (mo_lt
 (mo_eq mo_push)
 (mo_eq mo_if2))
 (mo_lt
 (mo_eq mo_push)
 (mo_eq mo_go)))
 (mo_lt
 (mo_lt
 (mo_eq mo_ild)
 (mo_eq mo_il))
 (mo_lt
 (mo_eq mo_lll)
 (mo_lt
 (mo_eq mo_lst)
 (mo_eq mo_ild))))))
 (mo_lt
 (mo_lt
 (mo_lt
 (mo_lt
 (mo_eq mo_ild)
 (mo_eq mo_push))
 (mo_lt
 (mo_eq mo_if2)
 (mo_eq mo_push)))
 (mo_lt
 (mo_lt
 (mo_eq mo_go)
 (mo_eq mo_push))
 (mo_lt
 (mo_eq mo_iii)
 (mo_lt
 (mo_eq mo_ist)
 (mo_eq mo_inc)))))
 (mo_lt
 (mo_lt
 (mo_lt
 (mo_eq mo_go)
 (mo_eq mo_ild))
 (mo_lt
 (mo_eq mo_if1)
 (mo_lt
 (mo_eq mo_push)
 (mo_eq mo_go))))
 (mo_lt
 (mo_lt
 (mo_eq mo_lld)
 (mo_eq mo_ild))
 (mo_lt
 (mo_eq mo_il)
 (mo_lt
 (mo_eq (mo_s2 hS_X5_down))
 (mo_eq mo_ri))))))))
theorem mo_X5_next {S_X5_in : ma_Cs} (hS_X5_in : ma_ms S_X5_in) : ∀ pc, ma_mo (tb_X5_next S_X5_in pc) := fun pc =>
 (mo_lt
 (mo_lt
 (mo_lt
 (mo_lt
 (mo_lt
 (mo_lt
 (mo_eq mo_ild)
 (mo_eq mo_ald))
 (mo_lt
 (mo_eq mo_get)
 (mo_lt
 (mo_eq mo_idv)
 (mo_eq mo_ild))))
 (mo_lt
 (mo_lt
 (mo_eq mo_push)
 (mo_lt
 (mo_eq mo_if2)
 (mo_eq mo_push)))
 (mo_lt
 (mo_eq mo_go)
 (mo_lt
 (mo_eq mo_ild)
 (mo_eq mo_push)))))
 (mo_lt
 (mo_lt
 (mo_lt
 (mo_eq mo_if2)
 (mo_eq mo_push))
 (mo_lt
 (mo_eq mo_go)
 (mo_lt
 (mo_eq mo_push)
 (mo_eq mo_iii))))
 (mo_lt
 (mo_lt
 (mo_eq mo_ist)
 (mo_lt
 (mo_eq mo_ild)
 (mo_eq mo_ald)))
 (mo_lt
 (mo_eq mo_get)
 (mo_lt
 (mo_eq mo_idv)
 (mo_eq mo_ild))))))
 (mo_lt
 (mo_lt
 (mo_lt
 (mo_lt
 (mo_eq mo_push)
 (mo_eq mo_if2))
 (mo_lt
 (mo_eq mo_push)
 (mo_lt
 (mo_eq mo_go)
 (mo_eq mo_ild))))
 (mo_lt
 (mo_lt
 (mo_eq mo_push)
 (mo_lt
 (mo_eq mo_if2)
 (mo_eq mo_push)))
 (mo_lt
 (mo_eq mo_go)
 (mo_lt
 (mo_eq mo_push)
 (mo_eq mo_iii)))))
 (mo_lt
 (mo_lt
 (mo_lt
 (mo_eq mo_ist)
 (mo_lt
 (mo_eq mo_ild)
 (mo_eq mo_il)))
 (mo_lt
 (mo_eq mo_push)
 (mo_lt
 (mo_eq mo_ald)
 (mo_eq mo_get))))
 (mo_lt
 (mo_lt
 (mo_eq mo_push)
 (mo_lt
 (mo_eq mo_iii)
 (mo_eq mo_il)))
 (mo_lt
 (mo_eq (mo_s3 hS_X5_in))
 (mo_lt
 (mo_eq mo_if1)
 (mo_eq mo_ild)))))))
 (mo_lt
 (mo_lt
 (mo_lt
 (mo_lt
 (mo_lt
 (mo_eq mo_il)
 (mo_eq mo_push))
 (mo_lt
 (mo_eq mo_ald)
 (mo_lt
 (mo_eq mo_get)
 (mo_eq mo_push))))
 (mo_lt
 (mo_lt
 (mo_eq mo_iii)
 (mo_lt
 (mo_eq mo_il)
 (mo_eq (mo_s3 hS_X5_in))))
 (mo_lt
 (mo_eq mo_if1)
 (mo_lt
 (mo_eq mo_ald)
 (mo_eq mo_get)))))
 (mo_lt
 (mo_lt
 (mo_lt
 (mo_eq mo_ild)
 (mo_lt
 (mo_eq mo_iii)
 (mo_eq mo_ild)))
 (mo_lt
 (mo_eq mo_iii)
 (mo_lt
 (mo_eq mo_ri)
 (mo_eq mo_ald))))
 (mo_lt
 (mo_lt
 (mo_eq mo_get)
 (mo_lt
 (mo_eq mo_if1)
 (mo_eq mo_ald)))
 (mo_lt
 (mo_eq mo_get)
 (mo_lt
 (mo_eq mo_ild)
 (mo_eq mo_ald))))))
 (mo_lt
 (mo_lt
 (mo_lt
 (mo_lt
 (mo_eq mo_get)
 (mo_eq mo_iii))
 (mo_lt
 (mo_eq mo_ald)
 (mo_lt
 (mo_eq mo_get)
 (mo_eq mo_idv))))
 (mo_lt
 (mo_lt
 (mo_eq mo_iii)
 (mo_lt
 (mo_eq mo_ild)
 (mo_eq mo_ald)))
 (mo_lt
 (mo_eq mo_get)
 (mo_lt
 (mo_eq mo_iii)
 (mo_eq mo_ald)))))
 (mo_lt
 (mo_lt
 (mo_lt
 (mo_eq mo_get)
 (mo_lt
 (mo_eq mo_idv)
 (mo_eq mo_iii)))
 (mo_lt
 (mo_eq mo_ri)
 (mo_lt
 (mo_eq mo_ald)
 (mo_eq mo_get))))
 (mo_lt
 (mo_lt
 (mo_eq mo_push)
 (mo_lt
 (mo_eq mo_if2)
 (mo_eq mo_ild)))
 (mo_lt
 (mo_eq mo_go)
 (mo_lt
 (mo_eq mo_push)
 (mo_eq mo_ri))))))))
theorem mo_X5_down : ∀ pc, ma_mo (tb_X5_down  pc) := fun pc =>
 (mo_lt
 (mo_lt
 (mo_lt
 (mo_lt
 (mo_eq mo_lld)
 (mo_eq mo_push))
 (mo_lt
 (mo_eq mo_lli)
 (mo_eq mo_if1)))
 (mo_lt
 (mo_lt
 (mo_eq mo_lld)
 (mo_eq mo_lld))
 (mo_lt
 (mo_eq mo_ldv)
 (mo_lt
 (mo_eq mo_go)
 (mo_eq mo_lld)))))
 (mo_lt
 (mo_lt
 (mo_lt
 (mo_eq mo_push)
 (mo_eq mo_lll))
 (mo_lt
 (mo_eq mo_lld)
 (mo_eq mo_lll)))
 (mo_lt
 (mo_lt
 (mo_eq mo_lld)
 (mo_eq mo_ldv))
 (mo_lt
 (mo_eq mo_ll)
 (mo_lt
 (mo_eq mo_li)
 (mo_eq mo_ri))))))
theorem mo_X5_steps {S_X5_place S_X5_made S_X5_slipped S_X5_madeMarked : ma_Cs} (hS_X5_place : ma_ms S_X5_place) (hS_X5_made : ma_ms S_X5_made) (hS_X5_slipped : ma_ms S_X5_slipped) (hS_X5_madeMarked : ma_ms S_X5_madeMarked) : ∀ pc, ma_mo (tb_X5_steps S_X5_place S_X5_made S_X5_slipped S_X5_madeMarked pc) := fun pc =>
 (mo_lt
 (mo_lt
 (mo_lt
 (mo_lt
 (mo_lt
 (mo_lt
 (mo_eq mo_push)
 (mo_eq mo_ist))
 (mo_lt
 (mo_eq mo_ild)
 (mo_lt
 (mo_eq mo_push)
 (mo_eq mo_if2))))
 (mo_lt
 (mo_lt
 (mo_eq mo_push)
 (mo_eq mo_ist))
 (mo_lt
 (mo_eq mo_ild)
 (mo_lt
 (mo_eq mo_ald)
 (mo_eq mo_get)))))
 (mo_lt
 (mo_lt
 (mo_lt
 (mo_eq mo_ald)
 (mo_eq mo_get))
 (mo_lt
 (mo_eq mo_iii)
 (mo_lt
 (mo_eq mo_if2)
 (mo_eq mo_push))))
 (mo_lt
 (mo_lt
 (mo_eq mo_ist)
 (mo_lt
 (mo_eq mo_ild)
 (mo_eq mo_push)))
 (mo_lt
 (mo_eq mo_if2)
 (mo_lt
 (mo_eq mo_ild)
 (mo_eq mo_push))))))
 (mo_lt
 (mo_lt
 (mo_lt
 (mo_lt
 (mo_eq mo_if2)
 (mo_eq mo_ild))
 (mo_lt
 (mo_eq mo_ald)
 (mo_lt
 (mo_eq mo_get)
 (mo_eq mo_if2))))
 (mo_lt
 (mo_lt
 (mo_eq mo_ald)
 (mo_eq mo_get))
 (mo_lt
 (mo_eq mo_ild)
 (mo_lt
 (mo_eq mo_iar)
 (mo_eq mo_go)))))
 (mo_lt
 (mo_lt
 (mo_lt
 (mo_eq mo_push)
 (mo_eq mo_go))
 (mo_lt
 (mo_eq mo_ald)
 (mo_lt
 (mo_eq mo_get)
 (mo_eq mo_ild))))
 (mo_lt
 (mo_lt
 (mo_eq mo_push)
 (mo_lt
 (mo_eq mo_iii)
 (mo_eq mo_iar)))
 (mo_lt
 (mo_eq mo_if1)
 (mo_lt
 (mo_eq mo_ild)
 (mo_eq mo_push)))))))
 (mo_lt
 (mo_lt
 (mo_lt
 (mo_lt
 (mo_lt
 (mo_eq mo_iii)
 (mo_eq mo_go))
 (mo_lt
 (mo_eq mo_push)
 (mo_lt
 (mo_eq mo_ist)
 (mo_eq mo_ild))))
 (mo_lt
 (mo_lt
 (mo_eq mo_if1)
 (mo_eq mo_ild))
 (mo_lt
 (mo_eq mo_ild)
 (mo_lt
 (mo_eq mo_ild)
 (mo_eq (mo_s3 hS_X5_place))))))
 (mo_lt
 (mo_lt
 (mo_lt
 (mo_eq mo_ist)
 (mo_eq mo_ald))
 (mo_lt
 (mo_eq mo_ild)
 (mo_lt
 (mo_eq mo_ald)
 (mo_eq mo_ald))))
 (mo_lt
 (mo_lt
 (mo_eq mo_ald)
 (mo_lt
 (mo_eq mo_ild)
 (mo_eq mo_ild)))
 (mo_lt
 (mo_eq mo_ild)
 (mo_lt
 (mo_eq (mo_v5 hS_X5_made))
 (mo_eq mo_ild))))))
 (mo_lt
 (mo_lt
 (mo_lt
 (mo_lt
 (mo_eq mo_ild)
 (mo_eq mo_ild))
 (mo_lt
 (mo_eq mo_ild)
 (mo_lt
 (mo_eq (mo_v6 hS_X5_slipped))
 (mo_eq mo_iaw))))
 (mo_lt
 (mo_lt
 (mo_eq mo_ald)
 (mo_eq mo_get))
 (mo_lt
 (mo_eq mo_ild)
 (mo_lt
 (mo_eq mo_ald)
 (mo_eq mo_ild)))))
 (mo_lt
 (mo_lt
 (mo_lt
 (mo_eq mo_ild)
 (mo_eq mo_ild))
 (mo_lt
 (mo_eq (mo_v4 hS_X5_madeMarked))
 (mo_lt
 (mo_eq mo_baw)
 (mo_eq mo_inc))))
 (mo_lt
 (mo_lt
 (mo_eq mo_go)
 (mo_lt
 (mo_eq mo_inc)
 (mo_eq mo_go)))
 (mo_lt
 (mo_eq mo_inc)
 (mo_lt
 (mo_eq mo_go)
 (mo_eq mo_rv))))))))
theorem mo_X5_made {S_X5_place S_X5_named S_X5_size S_X5_downLong : ma_Cs} (hS_X5_place : ma_ms S_X5_place) (hS_X5_named : ma_ms S_X5_named) (hS_X5_size : ma_ms S_X5_size) (hS_X5_downLong : ma_ms S_X5_downLong) : ∀ pc, ma_mo (tb_X5_made S_X5_place S_X5_named S_X5_size S_X5_downLong pc) := fun pc =>
 (mo_lt
 (mo_lt
 (mo_lt
 (mo_lt
 (mo_lt
 (mo_lt
 (mo_lt
 (mo_eq mo_ald)
 (mo_eq mo_get))
 (mo_lt
 (mo_eq mo_ild)
 (mo_eq mo_iar)))
 (mo_lt
 (mo_lt
 (mo_eq mo_if1)
 (mo_eq mo_ald))
 (mo_lt
 (mo_eq mo_ild)
 (mo_lt
 (mo_eq mo_push)
 (mo_eq mo_iii)))))
 (mo_lt
 (mo_lt
 (mo_lt
 (mo_eq mo_ild)
 (mo_eq mo_ild))
 (mo_lt
 (mo_eq (mo_s3 hS_X5_place))
 (mo_eq mo_iar)))
 (mo_lt
 (mo_lt
 (mo_eq mo_ri)
 (mo_eq mo_push))
 (mo_lt
 (mo_eq mo_lst)
 (mo_lt
 (mo_eq mo_ald)
 (mo_eq mo_get))))))
 (mo_lt
 (mo_lt
 (mo_lt
 (mo_lt
 (mo_eq mo_ild)
 (mo_eq mo_iar))
 (mo_lt
 (mo_eq mo_ist)
 (mo_eq mo_ild)))
 (mo_lt
 (mo_lt
 (mo_eq mo_ald)
 (mo_eq mo_get))
 (mo_lt
 (mo_eq mo_ild)
 (mo_lt
 (mo_eq mo_iar)
 (mo_eq mo_ald)))))
 (mo_lt
 (mo_lt
 (mo_lt
 (mo_eq mo_get)
 (mo_eq mo_ild))
 (mo_lt
 (mo_eq mo_iar)
 (mo_eq mo_iii)))
 (mo_lt
 (mo_lt
 (mo_eq mo_if2)
 (mo_eq mo_ald))
 (mo_lt
 (mo_eq mo_ald)
 (mo_lt
 (mo_eq mo_ald)
 (mo_eq mo_get)))))))
 (mo_lt
 (mo_lt
 (mo_lt
 (mo_lt
 (mo_lt
 (mo_eq mo_ild)
 (mo_eq mo_iar))
 (mo_lt
 (mo_eq mo_ild)
 (mo_eq mo_ild)))
 (mo_lt
 (mo_lt
 (mo_eq (mo_v5 hS_X5_named))
 (mo_eq mo_il))
 (mo_lt
 (mo_eq mo_lst)
 (mo_lt
 (mo_eq mo_ald)
 (mo_eq mo_get)))))
 (mo_lt
 (mo_lt
 (mo_lt
 (mo_eq mo_ild)
 (mo_eq mo_iar))
 (mo_lt
 (mo_eq mo_if1)
 (mo_eq mo_push)))
 (mo_lt
 (mo_lt
 (mo_eq mo_go)
 (mo_eq mo_ald))
 (mo_lt
 (mo_eq mo_ald)
 (mo_lt
 (mo_eq mo_ald)
 (mo_eq mo_get))))))
 (mo_lt
 (mo_lt
 (mo_lt
 (mo_lt
 (mo_eq mo_ild)
 (mo_eq mo_iar))
 (mo_lt
 (mo_eq mo_ild)
 (mo_eq mo_ild)))
 (mo_lt
 (mo_lt
 (mo_eq (mo_v5 hS_X5_named))
 (mo_eq mo_il))
 (mo_lt
 (mo_eq mo_lst)
 (mo_lt
 (mo_eq mo_lld)
 (mo_eq mo_push)))))
 (mo_lt
 (mo_lt
 (mo_lt
 (mo_eq mo_lli)
 (mo_eq mo_if1))
 (mo_lt
 (mo_eq mo_lld)
 (mo_eq mo_push)))
 (mo_lt
 (mo_lt
 (mo_eq mo_lli)
 (mo_eq mo_if1))
 (mo_lt
 (mo_eq mo_lld)
 (mo_lt
 (mo_eq mo_lld)
 (mo_eq mo_lll))))))))
 (mo_lt
 (mo_lt
 (mo_lt
 (mo_lt
 (mo_lt
 (mo_lt
 (mo_eq (mo_s1 hS_X5_size))
 (mo_eq mo_push))
 (mo_lt
 (mo_eq mo_lli)
 (mo_eq mo_if1)))
 (mo_lt
 (mo_lt
 (mo_eq mo_push)
 (mo_eq mo_ri))
 (mo_lt
 (mo_eq mo_ald)
 (mo_lt
 (mo_eq mo_get)
 (mo_eq mo_ild)))))
 (mo_lt
 (mo_lt
 (mo_lt
 (mo_eq mo_iar)
 (mo_eq mo_il))
 (mo_lt
 (mo_eq mo_lld)
 (mo_eq mo_lld)))
 (mo_lt
 (mo_lt
 (mo_eq mo_lll)
 (mo_eq mo_lll))
 (mo_lt
 (mo_eq mo_lst)
 (mo_lt
 (mo_eq mo_lld)
 (mo_eq (mo_s1 hS_X5_size)))))))
 (mo_lt
 (mo_lt
 (mo_lt
 (mo_lt
 (mo_eq mo_push)
 (mo_eq mo_lli))
 (mo_lt
 (mo_eq mo_if1)
 (mo_eq mo_push)))
 (mo_lt
 (mo_lt
 (mo_eq mo_ri)
 (mo_eq mo_lld))
 (mo_lt
 (mo_eq mo_lld)
 (mo_lt
 (mo_eq mo_lll)
 (mo_eq mo_lst)))))
 (mo_lt
 (mo_lt
 (mo_lt
 (mo_eq mo_inc)
 (mo_eq mo_go))
 (mo_lt
 (mo_eq mo_lld)
 (mo_eq (mo_s1 hS_X5_size))))
 (mo_lt
 (mo_lt
 (mo_eq mo_push)
 (mo_eq mo_lli))
 (mo_lt
 (mo_eq mo_if1)
 (mo_lt
 (mo_eq mo_push)
 (mo_eq mo_ri)))))))
 (mo_lt
 (mo_lt
 (mo_lt
 (mo_lt
 (mo_lt
 (mo_eq mo_ald)
 (mo_eq mo_get))
 (mo_lt
 (mo_eq mo_ild)
 (mo_eq mo_iar)))
 (mo_lt
 (mo_lt
 (mo_eq mo_il)
 (mo_eq mo_lst))
 (mo_lt
 (mo_eq mo_ald)
 (mo_lt
 (mo_eq mo_get)
 (mo_eq mo_ild)))))
 (mo_lt
 (mo_lt
 (mo_lt
 (mo_eq mo_iar)
 (mo_eq mo_push))
 (mo_lt
 (mo_eq mo_if2)
 (mo_eq mo_push)))
 (mo_lt
 (mo_lt
 (mo_eq mo_lld)
 (mo_eq mo_lll))
 (mo_lt
 (mo_eq mo_lld)
 (mo_lt
 (mo_eq mo_lll)
 (mo_eq mo_push))))))
 (mo_lt
 (mo_lt
 (mo_lt
 (mo_lt
 (mo_eq mo_lld)
 (mo_eq mo_lll))
 (mo_lt
 (mo_eq (mo_s2 hS_X5_downLong))
 (mo_eq mo_go)))
 (mo_lt
 (mo_lt
 (mo_eq mo_lld)
 (mo_eq mo_lld))
 (mo_lt
 (mo_eq (mo_s2 hS_X5_downLong))
 (mo_lt
 (mo_eq mo_lst)
 (mo_eq mo_lld)))))
 (mo_lt
 (mo_lt
 (mo_lt
 (mo_eq (mo_s1 hS_X5_size))
 (mo_eq mo_push))
 (mo_lt
 (mo_eq mo_lli)
 (mo_eq mo_if1)))
 (mo_lt
 (mo_lt
 (mo_eq mo_push)
 (mo_eq mo_go))
 (mo_lt
 (mo_eq mo_lld)
 (mo_lt
 (mo_eq mo_li)
 (mo_eq mo_ri)))))))))
theorem mo_X5_named {S_X5_place S_X5_next : ma_Cs} (hS_X5_place : ma_ms S_X5_place) (hS_X5_next : ma_ms S_X5_next) : ∀ pc, ma_mo (tb_X5_named S_X5_place S_X5_next pc) := fun pc =>
 (mo_lt
 (mo_lt
 (mo_lt
 (mo_lt
 (mo_lt
 (mo_eq mo_ild)
 (mo_eq mo_push))
 (mo_lt
 (mo_eq mo_idv)
 (mo_lt
 (mo_eq mo_ist)
 (mo_eq mo_ild))))
 (mo_lt
 (mo_lt
 (mo_eq mo_push)
 (mo_eq mo_idv))
 (mo_lt
 (mo_eq mo_ist)
 (mo_lt
 (mo_eq mo_ild)
 (mo_eq mo_push)))))
 (mo_lt
 (mo_lt
 (mo_lt
 (mo_eq mo_if2)
 (mo_eq mo_ald))
 (mo_lt
 (mo_eq mo_ild)
 (mo_lt
 (mo_eq mo_ild)
 (mo_eq mo_ild))))
 (mo_lt
 (mo_lt
 (mo_eq (mo_s3 hS_X5_place))
 (mo_lt
 (mo_eq mo_iar)
 (mo_eq mo_ri)))
 (mo_lt
 (mo_eq mo_ild)
 (mo_lt
 (mo_eq mo_if1)
 (mo_eq mo_ild))))))
 (mo_lt
 (mo_lt
 (mo_lt
 (mo_lt
 (mo_eq mo_go)
 (mo_eq mo_ald))
 (mo_lt
 (mo_eq mo_ild)
 (mo_lt
 (mo_eq mo_ild)
 (mo_eq (mo_v3 hS_X5_next)))))
 (mo_lt
 (mo_lt
 (mo_eq mo_ist)
 (mo_lt
 (mo_eq mo_ild)
 (mo_eq mo_if1)))
 (mo_lt
 (mo_eq mo_ald)
 (mo_lt
 (mo_eq mo_get)
 (mo_eq mo_ild)))))
 (mo_lt
 (mo_lt
 (mo_lt
 (mo_eq mo_iar)
 (mo_eq mo_go))
 (mo_lt
 (mo_eq mo_ald)
 (mo_lt
 (mo_eq mo_ild)
 (mo_eq mo_push))))
 (mo_lt
 (mo_lt
 (mo_eq mo_iii)
 (mo_lt
 (mo_eq mo_ild)
 (mo_eq mo_ild)))
 (mo_lt
 (mo_eq (mo_s3 hS_X5_place))
 (mo_lt
 (mo_eq mo_iar)
 (mo_eq mo_ri)))))))
theorem mo_X5_size : ∀ pc, ma_mo (tb_X5_size  pc) := fun pc =>
 (mo_lt
 (mo_lt
 (mo_lt
 (mo_eq mo_lld)
 (mo_eq mo_push))
 (mo_lt
 (mo_eq mo_lli)
 (mo_eq mo_if1)))
 (mo_lt
 (mo_lt
 (mo_eq mo_lld)
 (mo_eq mo_ll))
 (mo_lt
 (mo_eq mo_go)
 (mo_lt
 (mo_eq mo_lld)
 (mo_eq mo_rl)))))
theorem mo_X5_downLong : ∀ pc, ma_mo (tb_X5_downLong  pc) := fun pc =>
 (mo_lt
 (mo_lt
 (mo_lt
 (mo_lt
 (mo_eq mo_lld)
 (mo_eq mo_push))
 (mo_lt
 (mo_eq mo_lli)
 (mo_eq mo_if1)))
 (mo_lt
 (mo_lt
 (mo_eq mo_lld)
 (mo_eq mo_lld))
 (mo_lt
 (mo_eq mo_ldv)
 (mo_eq mo_go))))
 (mo_lt
 (mo_lt
 (mo_lt
 (mo_eq mo_lld)
 (mo_eq mo_push))
 (mo_lt
 (mo_eq mo_lll)
 (mo_eq mo_lld)))
 (mo_lt
 (mo_lt
 (mo_eq mo_lll)
 (mo_eq mo_lld))
 (mo_lt
 (mo_eq mo_ldv)
 (mo_lt
 (mo_eq mo_ll)
 (mo_eq mo_rl))))))
theorem mo_X5_slipped {S_X5_size : ma_Cs} (hS_X5_size : ma_ms S_X5_size) : ∀ pc, ma_mo (tb_X5_slipped S_X5_size pc) := fun pc =>
 (mo_lt
 (mo_lt
 (mo_lt
 (mo_lt
 (mo_lt
 (mo_eq mo_ild)
 (mo_lt
 (mo_eq mo_ist)
 (mo_eq mo_push)))
 (mo_lt
 (mo_lt
 (mo_eq mo_ist)
 (mo_eq mo_ild))
 (mo_lt
 (mo_eq mo_ald)
 (mo_eq mo_get))))
 (mo_lt
 (mo_lt
 (mo_eq mo_if2)
 (mo_lt
 (mo_eq mo_ild)
 (mo_eq mo_ild)))
 (mo_lt
 (mo_lt
 (mo_eq mo_iii)
 (mo_eq mo_push))
 (mo_lt
 (mo_eq mo_iii)
 (mo_eq mo_push)))))
 (mo_lt
 (mo_lt
 (mo_lt
 (mo_eq mo_if2)
 (mo_lt
 (mo_eq mo_ald)
 (mo_eq mo_get)))
 (mo_lt
 (mo_lt
 (mo_eq mo_ild)
 (mo_eq mo_iar))
 (mo_lt
 (mo_eq mo_ild)
 (mo_eq mo_if2))))
 (mo_lt
 (mo_lt
 (mo_eq mo_ald)
 (mo_lt
 (mo_eq mo_get)
 (mo_eq mo_ild)))
 (mo_lt
 (mo_lt
 (mo_eq mo_iar)
 (mo_eq mo_ild))
 (mo_lt
 (mo_eq mo_if2)
 (mo_eq mo_ald))))))
 (mo_lt
 (mo_lt
 (mo_lt
 (mo_lt
 (mo_eq mo_get)
 (mo_lt
 (mo_eq mo_ild)
 (mo_eq mo_iar)))
 (mo_lt
 (mo_lt
 (mo_eq mo_ild)
 (mo_eq mo_if2))
 (mo_lt
 (mo_eq mo_ild)
 (mo_eq mo_push))))
 (mo_lt
 (mo_lt
 (mo_eq mo_if2)
 (mo_lt
 (mo_eq mo_ild)
 (mo_eq mo_ald)))
 (mo_lt
 (mo_lt
 (mo_eq mo_get)
 (mo_eq mo_ild))
 (mo_lt
 (mo_eq mo_iar)
 (mo_eq mo_iii)))))
 (mo_lt
 (mo_lt
 (mo_lt
 (mo_eq mo_ist)
 (mo_lt
 (mo_eq mo_ild)
 (mo_eq mo_il)))
 (mo_lt
 (mo_lt
 (mo_eq (mo_s1 hS_X5_size))
 (mo_eq mo_push))
 (mo_lt
 (mo_eq mo_lli)
 (mo_eq mo_if1))))
 (mo_lt
 (mo_lt
 (mo_lt
 (mo_eq mo_push)
 (mo_eq mo_go))
 (mo_lt
 (mo_eq mo_ild)
 (mo_eq mo_ist)))
 (mo_lt
 (mo_lt
 (mo_eq mo_inc)
 (mo_eq mo_go))
 (mo_lt
 (mo_eq mo_ild)
 (mo_eq mo_ri)))))))
theorem mo_X5_madeMarked {S_X5_place S_X5_namedMarked : ma_Cs} (hS_X5_place : ma_ms S_X5_place) (hS_X5_namedMarked : ma_ms S_X5_namedMarked) : ∀ pc, ma_mo (tb_X5_madeMarked S_X5_place S_X5_namedMarked pc) := fun pc =>
 (mo_lt
 (mo_lt
 (mo_lt
 (mo_lt
 (mo_lt
 (mo_lt
 (mo_eq mo_ald)
 (mo_eq mo_get))
 (mo_lt
 (mo_eq mo_ild)
 (mo_eq mo_iar)))
 (mo_lt
 (mo_lt
 (mo_eq mo_if1)
 (mo_eq mo_ald))
 (mo_lt
 (mo_eq mo_get)
 (mo_eq mo_ild))))
 (mo_lt
 (mo_lt
 (mo_lt
 (mo_eq mo_push)
 (mo_eq mo_iii))
 (mo_lt
 (mo_eq mo_ild)
 (mo_eq mo_ild)))
 (mo_lt
 (mo_lt
 (mo_eq (mo_s3 hS_X5_place))
 (mo_eq mo_bar))
 (mo_lt
 (mo_eq mo_rz)
 (mo_eq mo_push)))))
 (mo_lt
 (mo_lt
 (mo_lt
 (mo_lt
 (mo_eq mo_ist)
 (mo_eq mo_ald))
 (mo_lt
 (mo_eq mo_get)
 (mo_eq mo_ild)))
 (mo_lt
 (mo_lt
 (mo_eq mo_iar)
 (mo_eq mo_ist))
 (mo_lt
 (mo_eq mo_ild)
 (mo_eq mo_ald))))
 (mo_lt
 (mo_lt
 (mo_lt
 (mo_eq mo_get)
 (mo_eq mo_ild))
 (mo_lt
 (mo_eq mo_iar)
 (mo_eq mo_ald)))
 (mo_lt
 (mo_lt
 (mo_eq mo_get)
 (mo_eq mo_ild))
 (mo_lt
 (mo_eq mo_iar)
 (mo_lt
 (mo_eq mo_iii)
 (mo_eq mo_if2)))))))
 (mo_lt
 (mo_lt
 (mo_lt
 (mo_lt
 (mo_lt
 (mo_eq mo_ild)
 (mo_eq mo_if1))
 (mo_lt
 (mo_eq mo_ald)
 (mo_eq mo_ald)))
 (mo_lt
 (mo_lt
 (mo_eq mo_get)
 (mo_eq mo_ild))
 (mo_lt
 (mo_eq mo_iar)
 (mo_eq mo_ild))))
 (mo_lt
 (mo_lt
 (mo_lt
 (mo_eq mo_ild)
 (mo_eq (mo_v4 hS_X5_namedMarked)))
 (mo_lt
 (mo_eq mo_if1)
 (mo_eq mo_ald)))
 (mo_lt
 (mo_lt
 (mo_eq mo_get)
 (mo_eq mo_ild))
 (mo_lt
 (mo_eq mo_iar)
 (mo_eq mo_if1)))))
 (mo_lt
 (mo_lt
 (mo_lt
 (mo_lt
 (mo_eq mo_ald)
 (mo_eq mo_ald))
 (mo_lt
 (mo_eq mo_get)
 (mo_eq mo_ild)))
 (mo_lt
 (mo_lt
 (mo_eq mo_iar)
 (mo_eq mo_ild))
 (mo_lt
 (mo_eq mo_ild)
 (mo_eq (mo_v4 hS_X5_namedMarked)))))
 (mo_lt
 (mo_lt
 (mo_lt
 (mo_eq mo_if1)
 (mo_eq mo_push))
 (mo_lt
 (mo_eq mo_go)
 (mo_eq mo_push)))
 (mo_lt
 (mo_lt
 (mo_eq mo_ist)
 (mo_eq mo_inc))
 (mo_lt
 (mo_eq mo_go)
 (mo_lt
 (mo_eq mo_ild)
 (mo_eq mo_rz))))))))
theorem mo_X5_namedMarked {S_X5_place S_X5_next : ma_Cs} (hS_X5_place : ma_ms S_X5_place) (hS_X5_next : ma_ms S_X5_next) : ∀ pc, ma_mo (tb_X5_namedMarked S_X5_place S_X5_next pc) := fun pc =>
 (mo_lt
 (mo_lt
 (mo_lt
 (mo_lt
 (mo_lt
 (mo_eq mo_ild)
 (mo_eq mo_push))
 (mo_lt
 (mo_eq mo_idv)
 (mo_lt
 (mo_eq mo_ist)
 (mo_eq mo_ild))))
 (mo_lt
 (mo_lt
 (mo_eq mo_push)
 (mo_lt
 (mo_eq mo_idv)
 (mo_eq mo_ist)))
 (mo_lt
 (mo_eq mo_ild)
 (mo_lt
 (mo_eq mo_push)
 (mo_eq mo_if2)))))
 (mo_lt
 (mo_lt
 (mo_lt
 (mo_eq mo_ald)
 (mo_eq mo_get))
 (mo_lt
 (mo_eq mo_ild)
 (mo_lt
 (mo_eq mo_ild)
 (mo_eq mo_ild))))
 (mo_lt
 (mo_lt
 (mo_eq (mo_s3 hS_X5_place))
 (mo_lt
 (mo_eq mo_bar)
 (mo_eq mo_rz)))
 (mo_lt
 (mo_eq mo_ild)
 (mo_lt
 (mo_eq mo_if1)
 (mo_eq mo_ild))))))
 (mo_lt
 (mo_lt
 (mo_lt
 (mo_lt
 (mo_eq mo_go)
 (mo_eq mo_ald))
 (mo_lt
 (mo_eq mo_ild)
 (mo_lt
 (mo_eq mo_ild)
 (mo_eq (mo_v3 hS_X5_next)))))
 (mo_lt
 (mo_lt
 (mo_eq mo_ist)
 (mo_lt
 (mo_eq mo_ild)
 (mo_eq mo_if1)))
 (mo_lt
 (mo_eq mo_ald)
 (mo_lt
 (mo_eq mo_get)
 (mo_eq mo_ild)))))
 (mo_lt
 (mo_lt
 (mo_lt
 (mo_eq mo_push)
 (mo_eq mo_iii))
 (mo_lt
 (mo_eq mo_ild)
 (mo_lt
 (mo_eq mo_ild)
 (mo_eq (mo_s3 hS_X5_place)))))
 (mo_lt
 (mo_lt
 (mo_eq mo_bar)
 (mo_lt
 (mo_eq mo_if1)
 (mo_eq mo_push)))
 (mo_lt
 (mo_eq mo_go)
 (mo_lt
 (mo_eq mo_push)
 (mo_eq mo_rz)))))))
theorem mo_X5_marked {S_X5_isPlace S_X5_all S_X5_hall S_X5_place : ma_Cs} (hS_X5_isPlace : ma_ms S_X5_isPlace) (hS_X5_all : ma_ms S_X5_all) (hS_X5_hall : ma_ms S_X5_hall) (hS_X5_place : ma_ms S_X5_place) : ∀ pc, ma_mo (tb_X5_marked S_X5_isPlace S_X5_all S_X5_hall S_X5_place pc) := fun pc =>
 (mo_lt
 (mo_lt
 (mo_lt
 (mo_lt
 (mo_eq mo_ald)
 (mo_lt
 (mo_eq mo_ild)
 (mo_eq mo_ild)))
 (mo_lt
 (mo_eq mo_ild)
 (mo_lt
 (mo_eq (mo_v4 hS_X5_isPlace))
 (mo_eq mo_if1))))
 (mo_lt
 (mo_lt
 (mo_eq mo_push)
 (mo_lt
 (mo_eq mo_ri)
 (mo_eq mo_ald)))
 (mo_lt
 (mo_lt
 (mo_eq mo_ald)
 (mo_eq mo_get))
 (mo_lt
 (mo_eq mo_ald)
 (mo_eq (mo_v1 hS_X5_all))))))
 (mo_lt
 (mo_lt
 (mo_lt
 (mo_eq (mo_v3 hS_X5_hall))
 (mo_lt
 (mo_eq mo_ald)
 (mo_eq mo_get)))
 (mo_lt
 (mo_eq mo_ild)
 (mo_lt
 (mo_eq mo_ild)
 (mo_eq mo_ild))))
 (mo_lt
 (mo_lt
 (mo_eq (mo_s3 hS_X5_place))
 (mo_lt
 (mo_eq mo_bar)
 (mo_eq mo_if1)))
 (mo_lt
 (mo_lt
 (mo_eq mo_push)
 (mo_eq mo_go))
 (mo_lt
 (mo_eq mo_push)
 (mo_eq mo_ri))))))
theorem mo_X5_sum {S_X5_isPlace S_X5_all S_X5_hall S_X5_cells S_X5_place : ma_Cs} (hS_X5_isPlace : ma_ms S_X5_isPlace) (hS_X5_all : ma_ms S_X5_all) (hS_X5_hall : ma_ms S_X5_hall) (hS_X5_cells : ma_ms S_X5_cells) (hS_X5_place : ma_ms S_X5_place) : ∀ pc, ma_mo (tb_X5_sum S_X5_isPlace S_X5_all S_X5_hall S_X5_cells S_X5_place pc) := fun pc =>
 (mo_lt
 (mo_lt
 (mo_lt
 (mo_lt
 (mo_lt
 (mo_eq mo_ald)
 (mo_lt
 (mo_eq mo_ild)
 (mo_eq mo_push)))
 (mo_lt
 (mo_eq mo_ild)
 (mo_lt
 (mo_eq (mo_v4 hS_X5_isPlace))
 (mo_eq mo_if1))))
 (mo_lt
 (mo_lt
 (mo_eq mo_push)
 (mo_lt
 (mo_eq mo_rl)
 (mo_eq mo_ald)))
 (mo_lt
 (mo_eq mo_ald)
 (mo_lt
 (mo_eq mo_get)
 (mo_eq mo_ild)))))
 (mo_lt
 (mo_lt
 (mo_lt
 (mo_eq mo_if1)
 (mo_lt
 (mo_eq mo_push)
 (mo_eq mo_go)))
 (mo_lt
 (mo_eq mo_ald)
 (mo_lt
 (mo_eq (mo_v1 hS_X5_all))
 (mo_eq (mo_v3 hS_X5_hall)))))
 (mo_lt
 (mo_lt
 (mo_eq mo_push)
 (mo_lt
 (mo_eq mo_lst)
 (mo_eq mo_push)))
 (mo_lt
 (mo_eq mo_ist)
 (mo_lt
 (mo_eq mo_ild)
 (mo_eq mo_ald))))))
 (mo_lt
 (mo_lt
 (mo_lt
 (mo_lt
 (mo_eq (mo_v1 hS_X5_cells))
 (mo_lt
 (mo_eq mo_if2)
 (mo_eq mo_ald)))
 (mo_lt
 (mo_eq mo_get)
 (mo_lt
 (mo_eq mo_ild)
 (mo_eq mo_ild))))
 (mo_lt
 (mo_lt
 (mo_eq mo_ild)
 (mo_lt
 (mo_eq (mo_s3 hS_X5_place))
 (mo_eq mo_iar)))
 (mo_lt
 (mo_eq mo_ist)
 (mo_lt
 (mo_eq mo_lld)
 (mo_eq mo_ild)))))
 (mo_lt
 (mo_lt
 (mo_lt
 (mo_eq mo_push)
 (mo_lt
 (mo_eq mo_if2)
 (mo_eq mo_push)))
 (mo_lt
 (mo_eq mo_go)
 (mo_lt
 (mo_eq mo_ild)
 (mo_eq mo_il))))
 (mo_lt
 (mo_lt
 (mo_eq mo_lll)
 (mo_lt
 (mo_eq mo_lst)
 (mo_eq mo_inc)))
 (mo_lt
 (mo_eq mo_go)
 (mo_lt
 (mo_eq mo_lld)
 (mo_eq mo_rl)))))))
theorem mo_X5_slip {S_X5_in S_X5_isCell S_X5_isLetter : ma_Cs} (hS_X5_in : ma_ms S_X5_in) (hS_X5_isCell : ma_ms S_X5_isCell) (hS_X5_isLetter : ma_ms S_X5_isLetter) : ∀ pc, ma_mo (tb_X5_slip S_X5_in S_X5_isCell S_X5_isLetter pc) := fun pc =>
 (mo_lt
 (mo_lt
 (mo_lt
 (mo_lt
 (mo_lt
 (mo_eq mo_ild)
 (mo_lt
 (mo_eq mo_il)
 (mo_eq mo_push)))
 (mo_lt
 (mo_lt
 (mo_eq mo_push)
 (mo_eq (mo_s3 hS_X5_in)))
 (mo_lt
 (mo_eq mo_if1)
 (mo_eq mo_ald))))
 (mo_lt
 (mo_lt
 (mo_lt
 (mo_eq mo_ild)
 (mo_eq (mo_v2 hS_X5_isCell)))
 (mo_lt
 (mo_eq mo_if1)
 (mo_eq mo_ild)))
 (mo_lt
 (mo_lt
 (mo_eq (mo_s1 hS_X5_isLetter))
 (mo_eq mo_if1))
 (mo_lt
 (mo_eq mo_ild)
 (mo_eq mo_il)))))
 (mo_lt
 (mo_lt
 (mo_lt
 (mo_lt
 (mo_eq mo_push)
 (mo_eq mo_push))
 (mo_lt
 (mo_eq (mo_s3 hS_X5_in))
 (mo_eq mo_if1)))
 (mo_lt
 (mo_lt
 (mo_eq mo_ild)
 (mo_eq mo_if1))
 (mo_lt
 (mo_eq mo_push)
 (mo_eq mo_ri))))
 (mo_lt
 (mo_lt
 (mo_lt
 (mo_eq mo_ald)
 (mo_eq mo_get))
 (mo_lt
 (mo_eq mo_push)
 (mo_eq mo_if2)))
 (mo_lt
 (mo_lt
 (mo_eq mo_push)
 (mo_eq mo_ri))
 (mo_lt
 (mo_eq mo_ald)
 (mo_eq mo_get))))))
 (mo_lt
 (mo_lt
 (mo_lt
 (mo_lt
 (mo_eq mo_ald)
 (mo_lt
 (mo_eq mo_get)
 (mo_eq mo_ild)))
 (mo_lt
 (mo_lt
 (mo_eq mo_iaw)
 (mo_eq mo_ald))
 (mo_lt
 (mo_eq mo_get)
 (mo_eq mo_ald))))
 (mo_lt
 (mo_lt
 (mo_lt
 (mo_eq mo_get)
 (mo_eq mo_ild))
 (mo_lt
 (mo_eq mo_iaw)
 (mo_eq mo_ald)))
 (mo_lt
 (mo_lt
 (mo_eq mo_get)
 (mo_eq mo_ald))
 (mo_lt
 (mo_eq mo_get)
 (mo_eq mo_ild)))))
 (mo_lt
 (mo_lt
 (mo_lt
 (mo_lt
 (mo_eq mo_iaw)
 (mo_eq mo_ald))
 (mo_lt
 (mo_eq mo_get)
 (mo_eq mo_ald)))
 (mo_lt
 (mo_lt
 (mo_eq mo_get)
 (mo_eq mo_ild))
 (mo_lt
 (mo_eq mo_iaw)
 (mo_eq mo_ald))))
 (mo_lt
 (mo_lt
 (mo_lt
 (mo_eq mo_dup)
 (mo_eq mo_get))
 (mo_lt
 (mo_eq mo_push)
 (mo_eq mo_iii)))
 (mo_lt
 (mo_lt
 (mo_eq mo_put)
 (mo_eq mo_ald))
 (mo_lt
 (mo_eq mo_get)
 (mo_eq mo_ri)))))))
theorem mo_X5_mend : ∀ pc, ma_mo (tb_X5_mend  pc) := fun pc =>
 (mo_lt
 (mo_lt
 (mo_lt
 (mo_eq mo_ald)
 (mo_lt
 (mo_eq mo_get)
 (mo_eq mo_if1)))
 (mo_lt
 (mo_lt
 (mo_eq mo_push)
 (mo_eq mo_ri))
 (mo_lt
 (mo_eq mo_ald)
 (mo_eq mo_dup))))
 (mo_lt
 (mo_lt
 (mo_eq mo_get)
 (mo_lt
 (mo_eq mo_push)
 (mo_eq mo_iii)))
 (mo_lt
 (mo_lt
 (mo_eq mo_put)
 (mo_eq mo_ald))
 (mo_lt
 (mo_eq mo_get)
 (mo_eq mo_ri)))))
theorem mo_X5_spread {S_X5_in S_X5_all S_X5_hall S_X5_cells : ma_Cs} (hS_X5_in : ma_ms S_X5_in) (hS_X5_all : ma_ms S_X5_all) (hS_X5_hall : ma_ms S_X5_hall) (hS_X5_cells : ma_ms S_X5_cells) : ∀ pc, ma_mo (tb_X5_spread S_X5_in S_X5_all S_X5_hall S_X5_cells pc) := fun pc =>
 (mo_lt
 (mo_lt
 (mo_lt
 (mo_lt
 (mo_lt
 (mo_lt
 (mo_eq mo_ild)
 (mo_lt
 (mo_eq mo_if1)
 (mo_eq mo_ild)))
 (mo_lt
 (mo_eq mo_il)
 (mo_lt
 (mo_eq mo_push)
 (mo_eq mo_push))))
 (mo_lt
 (mo_lt
 (mo_eq (mo_s3 hS_X5_in))
 (mo_lt
 (mo_eq mo_if1)
 (mo_eq mo_ild)))
 (mo_lt
 (mo_eq mo_il)
 (mo_lt
 (mo_eq mo_push)
 (mo_eq mo_push)))))
 (mo_lt
 (mo_lt
 (mo_lt
 (mo_eq (mo_s3 hS_X5_in))
 (mo_lt
 (mo_eq mo_if1)
 (mo_eq mo_push)))
 (mo_lt
 (mo_eq mo_ri)
 (mo_lt
 (mo_eq mo_ild)
 (mo_eq mo_ald))))
 (mo_lt
 (mo_lt
 (mo_eq mo_get)
 (mo_lt
 (mo_eq mo_if2)
 (mo_eq mo_push)))
 (mo_lt
 (mo_eq mo_ri)
 (mo_lt
 (mo_eq mo_ald)
 (mo_eq mo_ald))))))
 (mo_lt
 (mo_lt
 (mo_lt
 (mo_lt
 (mo_eq mo_get)
 (mo_lt
 (mo_eq mo_ald)
 (mo_eq (mo_v1 hS_X5_all))))
 (mo_lt
 (mo_eq mo_push)
 (mo_lt
 (mo_eq mo_ild)
 (mo_eq mo_iii))))
 (mo_lt
 (mo_lt
 (mo_eq mo_push)
 (mo_lt
 (mo_eq mo_iii)
 (mo_eq mo_iii)))
 (mo_lt
 (mo_eq (mo_v3 hS_X5_hall))
 (mo_lt
 (mo_eq mo_ald)
 (mo_eq mo_ald)))))
 (mo_lt
 (mo_lt
 (mo_lt
 (mo_eq mo_get)
 (mo_lt
 (mo_eq mo_ald)
 (mo_eq (mo_v1 hS_X5_all))))
 (mo_lt
 (mo_eq (mo_v3 hS_X5_hall))
 (mo_lt
 (mo_eq mo_push)
 (mo_eq mo_ist))))
 (mo_lt
 (mo_lt
 (mo_eq mo_push)
 (mo_lt
 (mo_eq mo_ist)
 (mo_eq mo_push)))
 (mo_lt
 (mo_eq mo_ist)
 (mo_lt
 (mo_eq mo_ild)
 (mo_eq mo_ild)))))))
 (mo_lt
 (mo_lt
 (mo_lt
 (mo_lt
 (mo_lt
 (mo_eq mo_if2)
 (mo_lt
 (mo_eq mo_push)
 (mo_eq mo_ist)))
 (mo_lt
 (mo_eq mo_ild)
 (mo_lt
 (mo_eq mo_push)
 (mo_eq mo_ald))))
 (mo_lt
 (mo_lt
 (mo_eq (mo_v1 hS_X5_cells))
 (mo_lt
 (mo_eq mo_iii)
 (mo_eq mo_if2)))
 (mo_lt
 (mo_eq mo_ald)
 (mo_lt
 (mo_eq mo_get)
 (mo_eq mo_push)))))
 (mo_lt
 (mo_lt
 (mo_lt
 (mo_eq mo_ild)
 (mo_lt
 (mo_eq mo_iii)
 (mo_eq mo_ild)))
 (mo_lt
 (mo_eq mo_iii)
 (mo_lt
 (mo_eq mo_iar)
 (mo_eq mo_ald))))
 (mo_lt
 (mo_lt
 (mo_eq mo_get)
 (mo_lt
 (mo_eq mo_push)
 (mo_eq mo_ild)))
 (mo_lt
 (mo_eq mo_iii)
 (mo_lt
 (mo_eq mo_ild)
 (mo_eq mo_iii))))))
 (mo_lt
 (mo_lt
 (mo_lt
 (mo_lt
 (mo_eq mo_iar)
 (mo_lt
 (mo_eq mo_if2)
 (mo_eq mo_inc)))
 (mo_lt
 (mo_eq mo_ild)
 (mo_lt
 (mo_eq mo_ist)
 (mo_eq mo_inc))))
 (mo_lt
 (mo_lt
 (mo_eq mo_go)
 (mo_lt
 (mo_eq mo_inc)
 (mo_eq mo_go)))
 (mo_lt
 (mo_eq mo_ild)
 (mo_lt
 (mo_eq mo_if1)
 (mo_eq mo_ild)))))
 (mo_lt
 (mo_lt
 (mo_lt
 (mo_eq mo_go)
 (mo_lt
 (mo_eq mo_ild)
 (mo_eq mo_push)))
 (mo_lt
 (mo_eq mo_if2)
 (mo_lt
 (mo_eq mo_ild)
 (mo_eq mo_go))))
 (mo_lt
 (mo_lt
 (mo_eq mo_ild)
 (mo_lt
 (mo_eq mo_ild)
 (mo_eq mo_if2)))
 (mo_lt
 (mo_lt
 (mo_eq mo_push)
 (mo_eq mo_go))
 (mo_lt
 (mo_eq mo_push)
 (mo_eq mo_ri))))))))
theorem mo_X5_kept {S_X5_isLetter S_X5_hasProduct : ma_Cs} (hS_X5_isLetter : ma_ms S_X5_isLetter) (hS_X5_hasProduct : ma_ms S_X5_hasProduct) : ∀ pc, ma_mo (tb_X5_kept S_X5_isLetter S_X5_hasProduct pc) := fun pc =>
 (mo_lt
 (mo_lt
 (mo_lt
 (mo_lt
 (mo_lt
 (mo_lt
 (mo_eq mo_ild)
 (mo_eq (mo_s1 hS_X5_isLetter)))
 (mo_lt
 (mo_eq mo_if1)
 (mo_lt
 (mo_eq mo_push)
 (mo_eq mo_ri))))
 (mo_lt
 (mo_lt
 (mo_eq mo_ald)
 (mo_eq mo_get))
 (mo_lt
 (mo_eq mo_ild)
 (mo_lt
 (mo_eq mo_iar)
 (mo_eq mo_if1)))))
 (mo_lt
 (mo_lt
 (mo_lt
 (mo_eq mo_push)
 (mo_eq mo_ri))
 (mo_lt
 (mo_eq mo_push)
 (mo_lt
 (mo_eq mo_ist)
 (mo_eq mo_ald))))
 (mo_lt
 (mo_lt
 (mo_eq mo_get)
 (mo_lt
 (mo_eq mo_if1)
 (mo_eq mo_ald)))
 (mo_lt
 (mo_eq mo_ild)
 (mo_lt
 (mo_eq (mo_v2 hS_X5_hasProduct))
 (mo_eq mo_if1))))))
 (mo_lt
 (mo_lt
 (mo_lt
 (mo_lt
 (mo_eq mo_push)
 (mo_eq mo_go))
 (mo_lt
 (mo_eq mo_push)
 (mo_lt
 (mo_eq mo_ist)
 (mo_eq mo_ald))))
 (mo_lt
 (mo_lt
 (mo_eq mo_get)
 (mo_eq mo_ild))
 (mo_lt
 (mo_eq mo_iar)
 (mo_lt
 (mo_eq mo_ist)
 (mo_eq mo_ild)))))
 (mo_lt
 (mo_lt
 (mo_lt
 (mo_eq mo_ald)
 (mo_eq mo_get))
 (mo_lt
 (mo_eq mo_ild)
 (mo_lt
 (mo_eq mo_iar)
 (mo_eq mo_ald))))
 (mo_lt
 (mo_lt
 (mo_eq mo_get)
 (mo_lt
 (mo_eq mo_ild)
 (mo_eq mo_iar)))
 (mo_lt
 (mo_eq mo_iii)
 (mo_lt
 (mo_eq mo_if2)
 (mo_eq mo_ild)))))))
 (mo_lt
 (mo_lt
 (mo_lt
 (mo_lt
 (mo_lt
 (mo_eq mo_if1)
 (mo_eq mo_ald))
 (mo_lt
 (mo_eq mo_get)
 (mo_lt
 (mo_eq mo_ild)
 (mo_eq mo_iar))))
 (mo_lt
 (mo_lt
 (mo_eq mo_push)
 (mo_eq mo_idv))
 (mo_lt
 (mo_eq mo_ild)
 (mo_lt
 (mo_eq mo_if2)
 (mo_eq mo_ald)))))
 (mo_lt
 (mo_lt
 (mo_lt
 (mo_eq mo_get)
 (mo_eq mo_ild))
 (mo_lt
 (mo_eq mo_iar)
 (mo_lt
 (mo_eq mo_push)
 (mo_eq mo_idv))))
 (mo_lt
 (mo_lt
 (mo_eq mo_push)
 (mo_lt
 (mo_eq mo_if2)
 (mo_eq mo_push)))
 (mo_lt
 (mo_eq mo_go)
 (mo_lt
 (mo_eq mo_push)
 (mo_eq mo_ist))))))
 (mo_lt
 (mo_lt
 (mo_lt
 (mo_lt
 (mo_eq mo_ild)
 (mo_eq mo_ald))
 (mo_lt
 (mo_eq mo_get)
 (mo_lt
 (mo_eq mo_ild)
 (mo_eq mo_iar))))
 (mo_lt
 (mo_lt
 (mo_eq mo_iii)
 (mo_eq mo_ist))
 (mo_lt
 (mo_eq mo_inc)
 (mo_lt
 (mo_eq mo_go)
 (mo_eq mo_ild)))))
 (mo_lt
 (mo_lt
 (mo_lt
 (mo_eq mo_if1)
 (mo_eq mo_ild))
 (mo_lt
 (mo_eq mo_ald)
 (mo_lt
 (mo_eq mo_get)
 (mo_eq mo_ild))))
 (mo_lt
 (mo_lt
 (mo_eq mo_iar)
 (mo_lt
 (mo_eq mo_if2)
 (mo_eq mo_push)))
 (mo_lt
 (mo_eq mo_go)
 (mo_lt
 (mo_eq mo_push)
 (mo_eq mo_ri))))))))
theorem mo_X5_grows {S_X5_hasProduct : ma_Cs} (hS_X5_hasProduct : ma_ms S_X5_hasProduct) : ∀ pc, ma_mo (tb_X5_grows S_X5_hasProduct pc) := fun pc =>
 (mo_lt
 (mo_lt
 (mo_lt
 (mo_lt
 (mo_lt
 (mo_lt
 (mo_eq mo_push)
 (mo_eq mo_ist))
 (mo_lt
 (mo_eq mo_push)
 (mo_eq mo_ist)))
 (mo_lt
 (mo_lt
 (mo_eq mo_ild)
 (mo_eq mo_push))
 (mo_lt
 (mo_eq mo_if2)
 (mo_lt
 (mo_eq mo_push)
 (mo_eq mo_ist)))))
 (mo_lt
 (mo_lt
 (mo_lt
 (mo_eq mo_ald)
 (mo_eq mo_get))
 (mo_lt
 (mo_eq mo_ild)
 (mo_lt
 (mo_eq mo_iar)
 (mo_eq mo_ist))))
 (mo_lt
 (mo_lt
 (mo_eq mo_ald)
 (mo_eq mo_get))
 (mo_lt
 (mo_eq mo_ild)
 (mo_lt
 (mo_eq mo_iar)
 (mo_eq mo_if1))))))
 (mo_lt
 (mo_lt
 (mo_lt
 (mo_lt
 (mo_eq mo_ild)
 (mo_eq mo_ald))
 (mo_lt
 (mo_eq mo_get)
 (mo_lt
 (mo_eq mo_ild)
 (mo_eq mo_iar))))
 (mo_lt
 (mo_lt
 (mo_eq mo_ald)
 (mo_eq mo_get))
 (mo_lt
 (mo_eq mo_ild)
 (mo_lt
 (mo_eq mo_iar)
 (mo_eq mo_iii)))))
 (mo_lt
 (mo_lt
 (mo_lt
 (mo_eq mo_if2)
 (mo_eq mo_ild))
 (mo_lt
 (mo_eq mo_ald)
 (mo_lt
 (mo_eq mo_get)
 (mo_eq mo_ild))))
 (mo_lt
 (mo_lt
 (mo_eq mo_iar)
 (mo_eq mo_if1))
 (mo_lt
 (mo_eq mo_ald)
 (mo_lt
 (mo_eq mo_get)
 (mo_eq mo_ild)))))))
 (mo_lt
 (mo_lt
 (mo_lt
 (mo_lt
 (mo_lt
 (mo_eq mo_iar)
 (mo_eq mo_ii))
 (mo_lt
 (mo_eq mo_go)
 (mo_lt
 (mo_eq mo_ald)
 (mo_eq mo_get))))
 (mo_lt
 (mo_lt
 (mo_eq mo_ild)
 (mo_eq mo_iar))
 (mo_lt
 (mo_eq mo_iii)
 (mo_lt
 (mo_eq mo_ist)
 (mo_eq mo_inc)))))
 (mo_lt
 (mo_lt
 (mo_lt
 (mo_eq mo_go)
 (mo_eq mo_ild))
 (mo_lt
 (mo_eq mo_if1)
 (mo_lt
 (mo_eq mo_ald)
 (mo_eq mo_get))))
 (mo_lt
 (mo_lt
 (mo_eq mo_ild)
 (mo_eq mo_iar))
 (mo_lt
 (mo_eq mo_if1)
 (mo_lt
 (mo_eq mo_ald)
 (mo_eq mo_ild))))))
 (mo_lt
 (mo_lt
 (mo_lt
 (mo_lt
 (mo_eq (mo_v2 hS_X5_hasProduct))
 (mo_eq mo_if1))
 (mo_lt
 (mo_eq mo_ild)
 (mo_lt
 (mo_eq mo_ald)
 (mo_eq mo_get))))
 (mo_lt
 (mo_lt
 (mo_eq mo_ild)
 (mo_eq mo_iar))
 (mo_lt
 (mo_eq mo_if2)
 (mo_lt
 (mo_eq mo_push)
 (mo_eq mo_go)))))
 (mo_lt
 (mo_lt
 (mo_lt
 (mo_eq mo_push)
 (mo_eq mo_ist))
 (mo_lt
 (mo_eq mo_inc)
 (mo_lt
 (mo_eq mo_go)
 (mo_eq mo_ild))))
 (mo_lt
 (mo_lt
 (mo_eq mo_if1)
 (mo_eq mo_push))
 (mo_lt
 (mo_eq mo_go)
 (mo_lt
 (mo_eq mo_push)
 (mo_eq mo_ri))))))))
theorem mo_X5_tell {S_X5_in S_X5_isLetter S_X5_clears : ma_Cs} (hS_X5_in : ma_ms S_X5_in) (hS_X5_isLetter : ma_ms S_X5_isLetter) (hS_X5_clears : ma_ms S_X5_clears) : ∀ pc, ma_mo (tb_X5_tell S_X5_in S_X5_isLetter S_X5_clears pc) := fun pc =>
 (mo_lt
 (mo_lt
 (mo_lt
 (mo_lt
 (mo_lt
 (mo_lt
 (mo_eq mo_lld)
 (mo_eq mo_push))
 (mo_lt
 (mo_eq mo_push)
 (mo_eq (mo_s3 hS_X5_in))))
 (mo_lt
 (mo_lt
 (mo_eq mo_if1)
 (mo_eq mo_lld))
 (mo_lt
 (mo_eq mo_push)
 (mo_eq mo_lli))))
 (mo_lt
 (mo_lt
 (mo_lt
 (mo_eq mo_if1)
 (mo_eq mo_push))
 (mo_lt
 (mo_eq mo_go)
 (mo_eq mo_push)))
 (mo_lt
 (mo_lt
 (mo_eq mo_ist)
 (mo_eq mo_ild))
 (mo_lt
 (mo_eq mo_il)
 (mo_lt
 (mo_eq mo_push)
 (mo_eq mo_push))))))
 (mo_lt
 (mo_lt
 (mo_lt
 (mo_lt
 (mo_eq (mo_s3 hS_X5_in))
 (mo_eq mo_if1))
 (mo_lt
 (mo_eq mo_ild)
 (mo_eq (mo_s1 hS_X5_isLetter))))
 (mo_lt
 (mo_lt
 (mo_eq mo_if1)
 (mo_eq mo_ild))
 (mo_lt
 (mo_eq mo_il)
 (mo_lt
 (mo_eq mo_push)
 (mo_eq mo_ild)))))
 (mo_lt
 (mo_lt
 (mo_lt
 (mo_eq mo_if1)
 (mo_eq mo_ald))
 (mo_lt
 (mo_eq mo_get)
 (mo_eq mo_go)))
 (mo_lt
 (mo_lt
 (mo_eq mo_ald)
 (mo_eq mo_get))
 (mo_lt
 (mo_eq mo_push)
 (mo_lt
 (mo_eq mo_iii)
 (mo_eq mo_il)))))))
 (mo_lt
 (mo_lt
 (mo_lt
 (mo_lt
 (mo_lt
 (mo_eq (mo_s3 hS_X5_in))
 (mo_eq mo_if1))
 (mo_lt
 (mo_eq mo_ild)
 (mo_eq mo_if1)))
 (mo_lt
 (mo_lt
 (mo_eq mo_push)
 (mo_eq mo_ri))
 (mo_lt
 (mo_eq mo_ild)
 (mo_eq mo_ald))))
 (mo_lt
 (mo_lt
 (mo_lt
 (mo_eq mo_get)
 (mo_eq mo_if2))
 (mo_lt
 (mo_eq mo_ild)
 (mo_eq mo_ald)))
 (mo_lt
 (mo_lt
 (mo_eq mo_get)
 (mo_eq mo_if2))
 (mo_lt
 (mo_eq mo_ald)
 (mo_lt
 (mo_eq (mo_v1 hS_X5_clears))
 (mo_eq mo_ald))))))
 (mo_lt
 (mo_lt
 (mo_lt
 (mo_lt
 (mo_eq mo_ild)
 (mo_eq mo_put))
 (mo_lt
 (mo_eq mo_ald)
 (mo_eq mo_ild)))
 (mo_lt
 (mo_lt
 (mo_eq mo_put)
 (mo_eq mo_ald))
 (mo_lt
 (mo_eq mo_get)
 (mo_lt
 (mo_eq mo_ild)
 (mo_eq mo_if1)))))
 (mo_lt
 (mo_lt
 (mo_lt
 (mo_eq mo_push)
 (mo_eq mo_go))
 (mo_lt
 (mo_eq mo_push)
 (mo_eq mo_ild)))
 (mo_lt
 (mo_lt
 (mo_eq mo_iii)
 (mo_eq mo_lld))
 (mo_lt
 (mo_eq mo_law)
 (mo_lt
 (mo_eq mo_push)
 (mo_eq mo_ri))))))))
theorem mo_X5_fails_2 {S_X5_tells : ma_Cs} (hS_X5_tells : ma_ms S_X5_tells) : ∀ pc, ma_mo (tb_X5_fails_2 S_X5_tells pc) := fun pc =>
 (mo_lt
 (mo_lt
 (mo_lt
 (mo_lt
 (mo_lt
 (mo_eq mo_ald)
 (mo_eq (mo_v1 hS_X5_tells)))
 (mo_lt
 (mo_eq mo_if1)
 (mo_lt
 (mo_eq mo_push)
 (mo_eq mo_ri))))
 (mo_lt
 (mo_lt
 (mo_eq mo_push)
 (mo_eq mo_ist))
 (mo_lt
 (mo_eq mo_push)
 (mo_lt
 (mo_eq mo_ist)
 (mo_eq mo_ild)))))
 (mo_lt
 (mo_lt
 (mo_lt
 (mo_eq mo_push)
 (mo_eq mo_if2))
 (mo_lt
 (mo_eq mo_ild)
 (mo_lt
 (mo_eq mo_ald)
 (mo_eq mo_get))))
 (mo_lt
 (mo_lt
 (mo_eq mo_ild)
 (mo_eq mo_lar))
 (mo_lt
 (mo_eq mo_push)
 (mo_lt
 (mo_eq mo_lli)
 (mo_eq mo_if1))))))
 (mo_lt
 (mo_lt
 (mo_lt
 (mo_lt
 (mo_eq mo_ald)
 (mo_eq mo_get))
 (mo_lt
 (mo_eq mo_ild)
 (mo_lt
 (mo_eq mo_lar)
 (mo_eq mo_ald))))
 (mo_lt
 (mo_lt
 (mo_eq mo_get)
 (mo_eq mo_ild))
 (mo_lt
 (mo_eq mo_lar)
 (mo_lt
 (mo_eq mo_lli)
 (mo_eq mo_if1)))))
 (mo_lt
 (mo_lt
 (mo_lt
 (mo_eq mo_push)
 (mo_eq mo_ild))
 (mo_lt
 (mo_eq mo_iii)
 (mo_lt
 (mo_eq mo_go)
 (mo_eq mo_push))))
 (mo_lt
 (mo_lt
 (mo_eq mo_iii)
 (mo_lt
 (mo_eq mo_ist)
 (mo_eq mo_inc)))
 (mo_lt
 (mo_eq mo_go)
 (mo_lt
 (mo_eq mo_ild)
 (mo_eq mo_ri)))))))
theorem mo_X5_tells {S_X5_all S_X5_hall S_X5_cells S_X5_place : ma_Cs} (hS_X5_all : ma_ms S_X5_all) (hS_X5_hall : ma_ms S_X5_hall) (hS_X5_cells : ma_ms S_X5_cells) (hS_X5_place : ma_ms S_X5_place) : ∀ pc, ma_mo (tb_X5_tells S_X5_all S_X5_hall S_X5_cells S_X5_place pc) := fun pc =>
 (mo_lt
 (mo_lt
 (mo_lt
 (mo_lt
 (mo_lt
 (mo_lt
 (mo_eq mo_push)
 (mo_eq mo_ist))
 (mo_lt
 (mo_eq mo_push)
 (mo_lt
 (mo_eq mo_ist)
 (mo_eq mo_ild))))
 (mo_lt
 (mo_lt
 (mo_eq mo_push)
 (mo_lt
 (mo_eq mo_if2)
 (mo_eq mo_ild)))
 (mo_lt
 (mo_eq mo_ald)
 (mo_lt
 (mo_eq mo_get)
 (mo_eq mo_ild)))))
 (mo_lt
 (mo_lt
 (mo_lt
 (mo_eq mo_lar)
 (mo_eq mo_push))
 (mo_lt
 (mo_eq mo_lli)
 (mo_lt
 (mo_eq mo_if1)
 (mo_eq mo_push))))
 (mo_lt
 (mo_lt
 (mo_eq mo_go)
 (mo_lt
 (mo_eq mo_push)
 (mo_eq mo_iii)))
 (mo_lt
 (mo_eq mo_ist)
 (mo_lt
 (mo_eq mo_ald)
 (mo_eq mo_get))))))
 (mo_lt
 (mo_lt
 (mo_lt
 (mo_lt
 (mo_eq mo_ild)
 (mo_eq mo_push))
 (mo_lt
 (mo_eq mo_law)
 (mo_lt
 (mo_eq mo_inc)
 (mo_eq mo_go))))
 (mo_lt
 (mo_lt
 (mo_eq mo_ald)
 (mo_lt
 (mo_eq mo_ald)
 (mo_eq mo_get)))
 (mo_lt
 (mo_eq mo_ald)
 (mo_lt
 (mo_eq (mo_v1 hS_X5_all))
 (mo_eq (mo_v3 hS_X5_hall))))))
 (mo_lt
 (mo_lt
 (mo_lt
 (mo_eq mo_push)
 (mo_eq mo_ist))
 (mo_lt
 (mo_eq mo_ild)
 (mo_lt
 (mo_eq mo_ald)
 (mo_eq (mo_v1 hS_X5_cells)))))
 (mo_lt
 (mo_lt
 (mo_eq mo_if2)
 (mo_lt
 (mo_eq mo_ald)
 (mo_eq mo_get)))
 (mo_lt
 (mo_eq mo_ald)
 (mo_lt
 (mo_eq mo_get)
 (mo_eq mo_ild)))))))
 (mo_lt
 (mo_lt
 (mo_lt
 (mo_lt
 (mo_lt
 (mo_eq mo_ald)
 (mo_eq mo_get))
 (mo_lt
 (mo_eq (mo_s3 hS_X5_place))
 (mo_lt
 (mo_eq mo_iar)
 (mo_eq mo_ist))))
 (mo_lt
 (mo_lt
 (mo_eq mo_ald)
 (mo_lt
 (mo_eq mo_get)
 (mo_eq mo_ild)))
 (mo_lt
 (mo_eq mo_ald)
 (mo_lt
 (mo_eq mo_get)
 (mo_eq mo_idv)))))
 (mo_lt
 (mo_lt
 (mo_lt
 (mo_eq mo_dp2)
 (mo_eq mo_lar))
 (mo_lt
 (mo_eq mo_ild)
 (mo_lt
 (mo_eq mo_push)
 (mo_eq mo_if2))))
 (mo_lt
 (mo_lt
 (mo_eq mo_push)
 (mo_lt
 (mo_eq mo_go)
 (mo_eq mo_ild)))
 (mo_lt
 (mo_eq mo_il)
 (mo_lt
 (mo_eq mo_lll)
 (mo_eq mo_law))))))
 (mo_lt
 (mo_lt
 (mo_lt
 (mo_lt
 (mo_eq mo_ald)
 (mo_eq mo_get))
 (mo_lt
 (mo_eq mo_push)
 (mo_lt
 (mo_eq mo_ild)
 (mo_eq mo_ald))))
 (mo_lt
 (mo_lt
 (mo_eq mo_get)
 (mo_lt
 (mo_eq mo_idv)
 (mo_eq mo_iii)))
 (mo_lt
 (mo_eq mo_dp2)
 (mo_lt
 (mo_eq mo_lar)
 (mo_eq mo_ild)))))
 (mo_lt
 (mo_lt
 (mo_lt
 (mo_eq mo_push)
 (mo_lt
 (mo_eq mo_if2)
 (mo_eq mo_push)))
 (mo_lt
 (mo_eq mo_go)
 (mo_lt
 (mo_eq mo_ild)
 (mo_eq mo_il))))
 (mo_lt
 (mo_lt
 (mo_eq mo_lll)
 (mo_lt
 (mo_eq mo_law)
 (mo_eq mo_inc)))
 (mo_lt
 (mo_eq mo_go)
 (mo_lt
 (mo_eq mo_ild)
 (mo_eq mo_ri))))))))
theorem mo_X5_least {S_X5_tells S_X5_isEven : ma_Cs} (hS_X5_tells : ma_ms S_X5_tells) (hS_X5_isEven : ma_ms S_X5_isEven) : ∀ pc, ma_mo (tb_X5_least S_X5_tells S_X5_isEven pc) := fun pc =>
 (mo_lt
 (mo_lt
 (mo_lt
 (mo_lt
 (mo_lt
 (mo_lt
 (mo_lt
 (mo_eq mo_ald)
 (mo_eq (mo_v1 hS_X5_tells)))
 (mo_lt
 (mo_eq mo_ald)
 (mo_lt
 (mo_eq mo_get)
 (mo_eq mo_ald))))
 (mo_lt
 (mo_lt
 (mo_eq mo_get)
 (mo_lt
 (mo_eq mo_iii)
 (mo_eq mo_if2)))
 (mo_lt
 (mo_eq mo_push)
 (mo_lt
 (mo_eq mo_ri)
 (mo_eq mo_push)))))
 (mo_lt
 (mo_lt
 (mo_lt
 (mo_eq mo_lst)
 (mo_lt
 (mo_eq mo_push)
 (mo_eq mo_ist)))
 (mo_lt
 (mo_eq mo_push)
 (mo_lt
 (mo_eq mo_ist)
 (mo_eq mo_push))))
 (mo_lt
 (mo_lt
 (mo_eq mo_ist)
 (mo_lt
 (mo_eq mo_ild)
 (mo_eq mo_push)))
 (mo_lt
 (mo_eq mo_if2)
 (mo_lt
 (mo_eq mo_ald)
 (mo_eq mo_get))))))
 (mo_lt
 (mo_lt
 (mo_lt
 (mo_lt
 (mo_eq mo_ild)
 (mo_eq mo_lar))
 (mo_lt
 (mo_eq mo_push)
 (mo_lt
 (mo_eq mo_lli)
 (mo_eq mo_if1))))
 (mo_lt
 (mo_lt
 (mo_eq mo_push)
 (mo_lt
 (mo_eq mo_go)
 (mo_eq mo_push)))
 (mo_lt
 (mo_eq mo_ist)
 (mo_lt
 (mo_eq mo_ild)
 (mo_eq mo_if1)))))
 (mo_lt
 (mo_lt
 (mo_lt
 (mo_eq mo_ald)
 (mo_lt
 (mo_eq mo_get)
 (mo_eq mo_ild)))
 (mo_lt
 (mo_eq mo_lar)
 (mo_lt
 (mo_eq mo_ald)
 (mo_eq mo_get))))
 (mo_lt
 (mo_lt
 (mo_eq mo_ild)
 (mo_lt
 (mo_eq mo_lar)
 (mo_eq mo_lll)))
 (mo_lt
 (mo_eq mo_go)
 (mo_lt
 (mo_eq mo_push)
 (mo_eq mo_lst)))))))
 (mo_lt
 (mo_lt
 (mo_lt
 (mo_lt
 (mo_lt
 (mo_eq mo_lld)
 (mo_eq mo_ild))
 (mo_lt
 (mo_eq mo_push)
 (mo_lt
 (mo_eq mo_if2)
 (mo_eq mo_lld))))
 (mo_lt
 (mo_lt
 (mo_eq mo_go)
 (mo_lt
 (mo_eq mo_lld)
 (mo_eq mo_ll)))
 (mo_lt
 (mo_eq mo_lll)
 (mo_lt
 (mo_eq mo_lst)
 (mo_eq mo_lld)))))
 (mo_lt
 (mo_lt
 (mo_lt
 (mo_eq mo_push)
 (mo_lt
 (mo_eq mo_lli)
 (mo_eq mo_if1)))
 (mo_lt
 (mo_eq mo_ald)
 (mo_lt
 (mo_eq mo_get)
 (mo_eq mo_ild))))
 (mo_lt
 (mo_lt
 (mo_eq mo_ild)
 (mo_lt
 (mo_eq mo_push)
 (mo_eq mo_if2)))
 (mo_lt
 (mo_eq mo_lld)
 (mo_lt
 (mo_eq mo_go)
 (mo_eq mo_lld))))))
 (mo_lt
 (mo_lt
 (mo_lt
 (mo_lt
 (mo_eq mo_ll)
 (mo_lt
 (mo_eq mo_law)
 (mo_eq mo_inc)))
 (mo_lt
 (mo_eq mo_ild)
 (mo_lt
 (mo_eq mo_ild)
 (mo_eq mo_push))))
 (mo_lt
 (mo_lt
 (mo_eq mo_if2)
 (mo_lt
 (mo_eq mo_push)
 (mo_eq mo_go)))
 (mo_lt
 (mo_eq mo_push)
 (mo_lt
 (mo_eq mo_iii)
 (mo_eq mo_ist)))))
 (mo_lt
 (mo_lt
 (mo_lt
 (mo_eq mo_inc)
 (mo_lt
 (mo_eq mo_go)
 (mo_eq mo_lld)))
 (mo_lt
 (mo_eq mo_push)
 (mo_lt
 (mo_eq mo_lli)
 (mo_eq mo_if1))))
 (mo_lt
 (mo_lt
 (mo_eq mo_push)
 (mo_lt
 (mo_eq mo_ri)
 (mo_eq mo_ild)))
 (mo_lt
 (mo_eq mo_ist)
 (mo_lt
 (mo_eq mo_ild)
 (mo_eq mo_push))))))))
 (mo_lt
 (mo_lt
 (mo_lt
 (mo_lt
 (mo_lt
 (mo_lt
 (mo_eq mo_if2)
 (mo_eq mo_ald))
 (mo_lt
 (mo_eq mo_get)
 (mo_lt
 (mo_eq mo_ild)
 (mo_eq mo_push))))
 (mo_lt
 (mo_lt
 (mo_eq mo_law)
 (mo_lt
 (mo_eq mo_inc)
 (mo_eq mo_go)))
 (mo_lt
 (mo_eq mo_push)
 (mo_lt
 (mo_eq mo_ist)
 (mo_eq mo_ild)))))
 (mo_lt
 (mo_lt
 (mo_lt
 (mo_eq mo_push)
 (mo_lt
 (mo_eq mo_ild)
 (mo_eq mo_iii)))
 (mo_lt
 (mo_eq mo_if2)
 (mo_lt
 (mo_eq mo_ild)
 (mo_eq mo_ild))))
 (mo_lt
 (mo_lt
 (mo_eq mo_ii)
 (mo_lt
 (mo_eq mo_iii)
 (mo_eq mo_ist)))
 (mo_lt
 (mo_eq mo_ild)
 (mo_lt
 (mo_eq mo_if1)
 (mo_eq mo_push))))))
 (mo_lt
 (mo_lt
 (mo_lt
 (mo_lt
 (mo_eq mo_go)
 (mo_lt
 (mo_eq mo_ald)
 (mo_eq mo_get)))
 (mo_lt
 (mo_eq mo_ild)
 (mo_lt
 (mo_eq mo_ild)
 (mo_eq mo_push))))
 (mo_lt
 (mo_lt
 (mo_eq mo_iii)
 (mo_lt
 (mo_eq mo_iii)
 (mo_eq mo_iar)))
 (mo_lt
 (mo_eq mo_ist)
 (mo_lt
 (mo_eq mo_ild)
 (mo_eq mo_ist)))))
 (mo_lt
 (mo_lt
 (mo_lt
 (mo_eq mo_ild)
 (mo_lt
 (mo_eq mo_if1)
 (mo_eq mo_ild)))
 (mo_lt
 (mo_eq mo_ild)
 (mo_lt
 (mo_eq mo_iii)
 (mo_eq mo_if1))))
 (mo_lt
 (mo_lt
 (mo_eq mo_ald)
 (mo_lt
 (mo_eq mo_get)
 (mo_eq mo_ild)))
 (mo_lt
 (mo_eq mo_ild)
 (mo_lt
 (mo_eq mo_push)
 (mo_eq mo_iii)))))))
 (mo_lt
 (mo_lt
 (mo_lt
 (mo_lt
 (mo_lt
 (mo_eq mo_iii)
 (mo_eq mo_iar))
 (mo_lt
 (mo_eq mo_push)
 (mo_lt
 (mo_eq mo_iii)
 (mo_eq mo_ild))))
 (mo_lt
 (mo_lt
 (mo_eq mo_if2)
 (mo_lt
 (mo_eq mo_ald)
 (mo_eq mo_ild)))
 (mo_lt
 (mo_eq mo_ild)
 (mo_lt
 (mo_eq (mo_v3 hS_X5_isEven))
 (mo_eq mo_if1)))))
 (mo_lt
 (mo_lt
 (mo_lt
 (mo_eq mo_ald)
 (mo_lt
 (mo_eq mo_get)
 (mo_eq mo_ild)))
 (mo_lt
 (mo_eq mo_ild)
 (mo_lt
 (mo_eq mo_push)
 (mo_eq mo_iii))))
 (mo_lt
 (mo_lt
 (mo_eq mo_iii)
 (mo_lt
 (mo_eq mo_iar)
 (mo_eq mo_push)))
 (mo_lt
 (mo_eq mo_iii)
 (mo_lt
 (mo_eq mo_ist)
 (mo_eq mo_ild))))))
 (mo_lt
 (mo_lt
 (mo_lt
 (mo_lt
 (mo_eq mo_push)
 (mo_lt
 (mo_eq mo_iii)
 (mo_eq mo_ild)))
 (mo_lt
 (mo_eq mo_iii)
 (mo_lt
 (mo_eq mo_ist)
 (mo_eq mo_go))))
 (mo_lt
 (mo_lt
 (mo_eq mo_ald)
 (mo_lt
 (mo_eq mo_get)
 (mo_eq mo_ild)))
 (mo_lt
 (mo_eq mo_ild)
 (mo_lt
 (mo_eq mo_iaw)
 (mo_eq mo_inc)))))
 (mo_lt
 (mo_lt
 (mo_lt
 (mo_eq mo_go)
 (mo_lt
 (mo_eq mo_ild)
 (mo_eq mo_ald)))
 (mo_lt
 (mo_eq mo_get)
 (mo_lt
 (mo_eq mo_push)
 (mo_eq mo_ild))))
 (mo_lt
 (mo_lt
 (mo_eq mo_iii)
 (mo_lt
 (mo_eq mo_push)
 (mo_eq mo_iii)))
 (mo_lt
 (mo_eq mo_iar)
 (mo_lt
 (mo_eq mo_iii)
 (mo_eq mo_ri)))))))))
theorem mo_X5_isEven : ∀ pc, ma_mo (tb_X5_isEven  pc) := fun pc =>
 (mo_lt
 (mo_lt
 (mo_lt
 (mo_lt
 (mo_lt
 (mo_eq mo_ild)
 (mo_lt
 (mo_eq mo_push)
 (mo_eq mo_ild)))
 (mo_lt
 (mo_eq mo_iii)
 (mo_lt
 (mo_eq mo_push)
 (mo_eq mo_iii))))
 (mo_lt
 (mo_lt
 (mo_eq mo_iii)
 (mo_lt
 (mo_eq mo_ist)
 (mo_eq mo_ild)))
 (mo_lt
 (mo_eq mo_if1)
 (mo_lt
 (mo_eq mo_ild)
 (mo_eq mo_ild)))))
 (mo_lt
 (mo_lt
 (mo_lt
 (mo_eq mo_if2)
 (mo_lt
 (mo_eq mo_push)
 (mo_eq mo_rz)))
 (mo_lt
 (mo_eq mo_push)
 (mo_lt
 (mo_eq mo_lst)
 (mo_eq mo_push))))
 (mo_lt
 (mo_lt
 (mo_eq mo_ist)
 (mo_lt
 (mo_eq mo_ild)
 (mo_eq mo_push)))
 (mo_lt
 (mo_eq mo_if2)
 (mo_lt
 (mo_eq mo_lld)
 (mo_eq mo_ild))))))
 (mo_lt
 (mo_lt
 (mo_lt
 (mo_lt
 (mo_eq mo_ild)
 (mo_lt
 (mo_eq mo_iii)
 (mo_eq mo_push)))
 (mo_lt
 (mo_eq mo_iii)
 (mo_lt
 (mo_eq mo_push)
 (mo_eq mo_if2))))
 (mo_lt
 (mo_lt
 (mo_eq mo_ald)
 (mo_lt
 (mo_eq mo_get)
 (mo_eq mo_ild)))
 (mo_lt
 (mo_eq mo_lar)
 (mo_lt
 (mo_eq mo_go)
 (mo_eq mo_push)))))
 (mo_lt
 (mo_lt
 (mo_lt
 (mo_eq mo_lll)
 (mo_lt
 (mo_eq mo_lst)
 (mo_eq mo_inc)))
 (mo_lt
 (mo_eq mo_go)
 (mo_lt
 (mo_eq mo_lld)
 (mo_eq mo_push))))
 (mo_lt
 (mo_lt
 (mo_eq mo_lli)
 (mo_lt
 (mo_eq mo_if1)
 (mo_eq mo_push)))
 (mo_lt
 (mo_eq mo_go)
 (mo_lt
 (mo_eq mo_push)
 (mo_eq mo_rz)))))))
theorem mo_X5_second {S_X5_in S_X5_isCell S_X5_all S_X5_hall S_X5_made S_X5_place : ma_Cs} (hS_X5_in : ma_ms S_X5_in) (hS_X5_isCell : ma_ms S_X5_isCell) (hS_X5_all : ma_ms S_X5_all) (hS_X5_hall : ma_ms S_X5_hall) (hS_X5_made : ma_ms S_X5_made) (hS_X5_place : ma_ms S_X5_place) : ∀ pc, ma_mo (tb_X5_second S_X5_in S_X5_isCell S_X5_all S_X5_hall S_X5_made S_X5_place pc) := fun pc =>
 (mo_lt
 (mo_lt
 (mo_lt
 (mo_lt
 (mo_lt
 (mo_eq mo_ild)
 (mo_lt
 (mo_eq mo_il)
 (mo_eq mo_push)))
 (mo_lt
 (mo_eq mo_push)
 (mo_lt
 (mo_eq (mo_s3 hS_X5_in))
 (mo_eq mo_if1))))
 (mo_lt
 (mo_lt
 (mo_eq mo_ald)
 (mo_lt
 (mo_eq mo_ild)
 (mo_eq (mo_v2 hS_X5_isCell))))
 (mo_lt
 (mo_lt
 (mo_eq mo_if1)
 (mo_eq mo_push))
 (mo_lt
 (mo_eq mo_ri)
 (mo_eq mo_ald)))))
 (mo_lt
 (mo_lt
 (mo_lt
 (mo_eq mo_ald)
 (mo_lt
 (mo_eq mo_get)
 (mo_eq mo_ald)))
 (mo_lt
 (mo_eq (mo_v1 hS_X5_all))
 (mo_lt
 (mo_eq (mo_v3 hS_X5_hall))
 (mo_eq mo_push))))
 (mo_lt
 (mo_lt
 (mo_eq mo_ist)
 (mo_lt
 (mo_eq mo_push)
 (mo_eq mo_ist)))
 (mo_lt
 (mo_lt
 (mo_eq mo_ild)
 (mo_eq mo_push))
 (mo_lt
 (mo_eq mo_if2)
 (mo_eq mo_ild))))))
 (mo_lt
 (mo_lt
 (mo_lt
 (mo_lt
 (mo_eq mo_ald)
 (mo_lt
 (mo_eq mo_ald)
 (mo_eq mo_get)))
 (mo_lt
 (mo_eq mo_ild)
 (mo_lt
 (mo_eq mo_ild)
 (mo_eq mo_ild))))
 (mo_lt
 (mo_lt
 (mo_eq (mo_v5 hS_X5_made))
 (mo_lt
 (mo_eq mo_ald)
 (mo_eq mo_get)))
 (mo_lt
 (mo_lt
 (mo_eq mo_ild)
 (mo_eq mo_ild))
 (mo_lt
 (mo_eq mo_ild)
 (mo_eq (mo_s3 hS_X5_place))))))
 (mo_lt
 (mo_lt
 (mo_lt
 (mo_eq mo_iar)
 (mo_lt
 (mo_eq mo_if2)
 (mo_eq mo_push)))
 (mo_lt
 (mo_eq mo_ild)
 (mo_lt
 (mo_eq mo_iii)
 (mo_eq mo_go))))
 (mo_lt
 (mo_lt
 (mo_eq mo_push)
 (mo_lt
 (mo_eq mo_iii)
 (mo_eq mo_ist)))
 (mo_lt
 (mo_lt
 (mo_eq mo_inc)
 (mo_eq mo_go))
 (mo_lt
 (mo_eq mo_ild)
 (mo_eq mo_ri)))))))
theorem mo_X5_put {S_X5_isCell S_X5_in : ma_Cs} (hS_X5_isCell : ma_ms S_X5_isCell) (hS_X5_in : ma_ms S_X5_in) : ∀ pc, ma_mo (tb_X5_put S_X5_isCell S_X5_in pc) := fun pc =>
 (mo_lt
 (mo_lt
 (mo_lt
 (mo_lt
 (mo_eq mo_ald)
 (mo_lt
 (mo_eq mo_ild)
 (mo_eq (mo_v2 hS_X5_isCell))))
 (mo_lt
 (mo_eq mo_if1)
 (mo_lt
 (mo_eq mo_ild)
 (mo_eq mo_il))))
 (mo_lt
 (mo_lt
 (mo_eq mo_push)
 (mo_lt
 (mo_eq mo_push)
 (mo_eq (mo_s3 hS_X5_in))))
 (mo_lt
 (mo_eq mo_if1)
 (mo_lt
 (mo_eq mo_push)
 (mo_eq mo_ri)))))
 (mo_lt
 (mo_lt
 (mo_lt
 (mo_eq mo_ald)
 (mo_lt
 (mo_eq mo_get)
 (mo_eq mo_ild)))
 (mo_lt
 (mo_eq mo_iar)
 (mo_lt
 (mo_eq mo_ist)
 (mo_eq mo_ald))))
 (mo_lt
 (mo_lt
 (mo_eq mo_get)
 (mo_lt
 (mo_eq mo_ild)
 (mo_eq mo_ild)))
 (mo_lt
 (mo_eq mo_iaw)
 (mo_lt
 (mo_eq mo_ild)
 (mo_eq mo_ri))))))
theorem mo_X5_judge {S_X5_in S_X5_isLetter S_X5_all S_X5_hall S_X5_cells S_X5_made : ma_Cs} (hS_X5_in : ma_ms S_X5_in) (hS_X5_isLetter : ma_ms S_X5_isLetter) (hS_X5_all : ma_ms S_X5_all) (hS_X5_hall : ma_ms S_X5_hall) (hS_X5_cells : ma_ms S_X5_cells) (hS_X5_made : ma_ms S_X5_made) : ∀ pc, ma_mo (tb_X5_judge S_X5_in S_X5_isLetter S_X5_all S_X5_hall S_X5_cells S_X5_made pc) := fun pc =>
 (mo_lt
 (mo_lt
 (mo_lt
 (mo_lt
 (mo_lt
 (mo_eq mo_ild)
 (mo_eq mo_il))
 (mo_lt
 (mo_eq mo_push)
 (mo_lt
 (mo_eq mo_push)
 (mo_eq (mo_s3 hS_X5_in)))))
 (mo_lt
 (mo_lt
 (mo_eq mo_if1)
 (mo_eq mo_ild))
 (mo_lt
 (mo_eq (mo_s1 hS_X5_isLetter))
 (mo_lt
 (mo_eq mo_if1)
 (mo_eq mo_push)))))
 (mo_lt
 (mo_lt
 (mo_lt
 (mo_eq mo_ri)
 (mo_eq mo_ald))
 (mo_lt
 (mo_eq mo_ald)
 (mo_lt
 (mo_eq mo_get)
 (mo_eq mo_ald))))
 (mo_lt
 (mo_lt
 (mo_eq (mo_v1 hS_X5_all))
 (mo_eq (mo_v3 hS_X5_hall)))
 (mo_lt
 (mo_eq mo_push)
 (mo_lt
 (mo_eq mo_ist)
 (mo_eq mo_ild))))))
 (mo_lt
 (mo_lt
 (mo_lt
 (mo_lt
 (mo_eq mo_ald)
 (mo_eq (mo_v1 hS_X5_cells)))
 (mo_lt
 (mo_eq mo_if2)
 (mo_lt
 (mo_eq mo_ald)
 (mo_eq mo_ald))))
 (mo_lt
 (mo_lt
 (mo_eq mo_get)
 (mo_eq mo_ild))
 (mo_lt
 (mo_eq mo_ild)
 (mo_lt
 (mo_eq mo_ild)
 (mo_eq (mo_v5 hS_X5_made))))))
 (mo_lt
 (mo_lt
 (mo_lt
 (mo_eq mo_ald)
 (mo_eq mo_get))
 (mo_lt
 (mo_eq mo_ild)
 (mo_lt
 (mo_eq mo_iar)
 (mo_eq mo_if2))))
 (mo_lt
 (mo_lt
 (mo_eq mo_ild)
 (mo_lt
 (mo_eq mo_ri)
 (mo_eq mo_inc)))
 (mo_lt
 (mo_eq mo_go)
 (mo_lt
 (mo_eq mo_push)
 (mo_eq mo_ri)))))))
theorem mo_X5_pace {S_X5_in : ma_Cs} (hS_X5_in : ma_ms S_X5_in) : ∀ pc, ma_mo (tb_X5_pace S_X5_in pc) := fun pc =>
 (mo_lt
 (mo_lt
 (mo_lt
 (mo_lt
 (mo_eq mo_ild)
 (mo_lt
 (mo_eq mo_il)
 (mo_eq mo_push)))
 (mo_lt
 (mo_eq mo_push)
 (mo_lt
 (mo_eq (mo_s3 hS_X5_in))
 (mo_eq mo_if1))))
 (mo_lt
 (mo_lt
 (mo_eq mo_ild)
 (mo_lt
 (mo_eq mo_il)
 (mo_eq mo_push)))
 (mo_lt
 (mo_lt
 (mo_eq mo_push)
 (mo_eq (mo_s3 hS_X5_in)))
 (mo_lt
 (mo_eq mo_if1)
 (mo_eq mo_push)))))
 (mo_lt
 (mo_lt
 (mo_lt
 (mo_eq mo_ri)
 (mo_lt
 (mo_eq mo_ald)
 (mo_eq mo_get)))
 (mo_lt
 (mo_eq mo_ild)
 (mo_lt
 (mo_eq mo_iar)
 (mo_eq mo_ist))))
 (mo_lt
 (mo_lt
 (mo_eq mo_ald)
 (mo_lt
 (mo_eq mo_get)
 (mo_eq mo_ild)))
 (mo_lt
 (mo_lt
 (mo_eq mo_ild)
 (mo_eq mo_iaw))
 (mo_lt
 (mo_eq mo_ild)
 (mo_eq mo_ri))))))
theorem mo_X5_give {S_X5_isCell S_X5_in : ma_Cs} (hS_X5_isCell : ma_ms S_X5_isCell) (hS_X5_in : ma_ms S_X5_in) : ∀ pc, ma_mo (tb_X5_give S_X5_isCell S_X5_in pc) := fun pc =>
 (mo_lt
 (mo_lt
 (mo_lt
 (mo_lt
 (mo_eq mo_ald)
 (mo_lt
 (mo_eq mo_ild)
 (mo_eq (mo_v2 hS_X5_isCell))))
 (mo_lt
 (mo_eq mo_if1)
 (mo_lt
 (mo_eq mo_ild)
 (mo_eq mo_il))))
 (mo_lt
 (mo_lt
 (mo_eq mo_push)
 (mo_lt
 (mo_eq mo_push)
 (mo_eq (mo_s3 hS_X5_in))))
 (mo_lt
 (mo_eq mo_if1)
 (mo_lt
 (mo_eq mo_push)
 (mo_eq mo_ri)))))
 (mo_lt
 (mo_lt
 (mo_lt
 (mo_eq mo_ald)
 (mo_lt
 (mo_eq mo_get)
 (mo_eq mo_ild)))
 (mo_lt
 (mo_eq mo_iar)
 (mo_lt
 (mo_eq mo_ist)
 (mo_eq mo_ald))))
 (mo_lt
 (mo_lt
 (mo_eq mo_get)
 (mo_lt
 (mo_eq mo_ild)
 (mo_eq mo_ild)))
 (mo_lt
 (mo_eq mo_iaw)
 (mo_lt
 (mo_eq mo_ild)
 (mo_eq mo_ri))))))
theorem mo_X5_when {S_X5_in S_X5_cells S_X5_ownEnds S_X5_lastOf : ma_Cs} (hS_X5_in : ma_ms S_X5_in) (hS_X5_cells : ma_ms S_X5_cells) (hS_X5_ownEnds : ma_ms S_X5_ownEnds) (hS_X5_lastOf : ma_ms S_X5_lastOf) : ∀ pc, ma_mo (tb_X5_when S_X5_in S_X5_cells S_X5_ownEnds S_X5_lastOf pc) := fun pc =>
 (mo_lt
 (mo_lt
 (mo_lt
 (mo_lt
 (mo_lt
 (mo_eq mo_ild)
 (mo_eq mo_il))
 (mo_lt
 (mo_eq mo_push)
 (mo_eq mo_push)))
 (mo_lt
 (mo_lt
 (mo_eq (mo_s3 hS_X5_in))
 (mo_eq mo_if1))
 (mo_lt
 (mo_eq mo_ild)
 (mo_eq mo_il))))
 (mo_lt
 (mo_lt
 (mo_lt
 (mo_eq mo_push)
 (mo_eq mo_ald))
 (mo_lt
 (mo_eq (mo_v1 hS_X5_cells))
 (mo_eq mo_push)))
 (mo_lt
 (mo_lt
 (mo_eq mo_iii)
 (mo_eq mo_il))
 (mo_lt
 (mo_eq (mo_s3 hS_X5_in))
 (mo_lt
 (mo_eq mo_if1)
 (mo_eq mo_push))))))
 (mo_lt
 (mo_lt
 (mo_lt
 (mo_lt
 (mo_eq mo_ri)
 (mo_eq mo_ald))
 (mo_lt
 (mo_eq (mo_v1 hS_X5_ownEnds))
 (mo_eq mo_ild)))
 (mo_lt
 (mo_lt
 (mo_eq mo_if1)
 (mo_eq mo_ald))
 (mo_lt
 (mo_eq mo_ild)
 (mo_lt
 (mo_eq (mo_v2 hS_X5_lastOf))
 (mo_eq mo_go)))))
 (mo_lt
 (mo_lt
 (mo_lt
 (mo_eq mo_ald)
 (mo_eq mo_get))
 (mo_lt
 (mo_eq mo_push)
 (mo_eq mo_ild)))
 (mo_lt
 (mo_lt
 (mo_eq mo_iii)
 (mo_eq mo_ild))
 (mo_lt
 (mo_eq mo_iii)
 (mo_lt
 (mo_eq mo_iar)
 (mo_eq mo_ri)))))))
theorem mo_X5_ownEnds {S_X5_ends : ma_Cs} (hS_X5_ends : ma_ms S_X5_ends) : ∀ pc, ma_mo (tb_X5_ownEnds S_X5_ends pc) := fun pc =>
 (mo_lt
 (mo_lt
 (mo_lt
 (mo_lt
 (mo_eq mo_push)
 (mo_lt
 (mo_eq mo_ist)
 (mo_eq mo_ild)))
 (mo_lt
 (mo_eq mo_push)
 (mo_lt
 (mo_eq mo_if2)
 (mo_eq mo_ald))))
 (mo_lt
 (mo_lt
 (mo_eq mo_get)
 (mo_lt
 (mo_eq mo_ild)
 (mo_eq mo_ald)))
 (mo_lt
 (mo_eq mo_get)
 (mo_lt
 (mo_eq mo_ild)
 (mo_eq mo_iar)))))
 (mo_lt
 (mo_lt
 (mo_lt
 (mo_eq mo_iaw)
 (mo_lt
 (mo_eq mo_ald)
 (mo_eq mo_get)))
 (mo_lt
 (mo_eq mo_ild)
 (mo_lt
 (mo_eq mo_push)
 (mo_eq mo_iaw))))
 (mo_lt
 (mo_lt
 (mo_eq mo_inc)
 (mo_lt
 (mo_eq mo_go)
 (mo_eq mo_ald)))
 (mo_lt
 (mo_eq mo_push)
 (mo_lt
 (mo_eq (mo_v2 hS_X5_ends))
 (mo_eq mo_rv))))))
theorem mo_X5_ends {S_X5_cells S_X5_next : ma_Cs} (hS_X5_cells : ma_ms S_X5_cells) (hS_X5_next : ma_ms S_X5_next) : ∀ pc, ma_mo (tb_X5_ends S_X5_cells S_X5_next pc) := fun pc =>
 (mo_lt
 (mo_lt
 (mo_lt
 (mo_lt
 (mo_lt
 (mo_lt
 (mo_eq mo_ald)
 (mo_lt
 (mo_eq mo_ald)
 (mo_eq mo_get)))
 (mo_lt
 (mo_lt
 (mo_eq mo_put)
 (mo_eq mo_ald))
 (mo_lt
 (mo_eq mo_ald)
 (mo_eq mo_get))))
 (mo_lt
 (mo_lt
 (mo_eq mo_put)
 (mo_lt
 (mo_eq mo_push)
 (mo_eq mo_ist)))
 (mo_lt
 (mo_lt
 (mo_eq mo_ild)
 (mo_eq mo_push))
 (mo_lt
 (mo_eq mo_if2)
 (mo_eq mo_ald)))))
 (mo_lt
 (mo_lt
 (mo_lt
 (mo_eq mo_get)
 (mo_lt
 (mo_eq mo_ild)
 (mo_eq mo_push)))
 (mo_lt
 (mo_lt
 (mo_eq mo_iaw)
 (mo_eq mo_inc))
 (mo_lt
 (mo_eq mo_go)
 (mo_eq mo_push))))
 (mo_lt
 (mo_lt
 (mo_lt
 (mo_eq mo_ist)
 (mo_eq mo_ild))
 (mo_lt
 (mo_eq mo_ild)
 (mo_eq mo_if2)))
 (mo_lt
 (mo_lt
 (mo_eq mo_push)
 (mo_eq mo_ist))
 (mo_lt
 (mo_eq mo_ild)
 (mo_eq mo_ald))))))
 (mo_lt
 (mo_lt
 (mo_lt
 (mo_lt
 (mo_eq (mo_v1 hS_X5_cells))
 (mo_lt
 (mo_eq mo_if2)
 (mo_eq mo_ald)))
 (mo_lt
 (mo_lt
 (mo_eq mo_get)
 (mo_eq mo_ild))
 (mo_lt
 (mo_eq mo_iar)
 (mo_eq mo_ist))))
 (mo_lt
 (mo_lt
 (mo_eq mo_ald)
 (mo_lt
 (mo_eq mo_get)
 (mo_eq mo_ild)))
 (mo_lt
 (mo_lt
 (mo_eq mo_iar)
 (mo_eq mo_ist))
 (mo_lt
 (mo_eq mo_push)
 (mo_eq mo_ist)))))
 (mo_lt
 (mo_lt
 (mo_lt
 (mo_eq mo_ild)
 (mo_lt
 (mo_eq mo_push)
 (mo_eq mo_if2)))
 (mo_lt
 (mo_lt
 (mo_eq mo_ild)
 (mo_eq mo_push))
 (mo_lt
 (mo_eq mo_if2)
 (mo_eq mo_ald))))
 (mo_lt
 (mo_lt
 (mo_lt
 (mo_eq mo_ild)
 (mo_eq mo_ild))
 (mo_lt
 (mo_eq (mo_v3 hS_X5_next))
 (mo_eq mo_ist)))
 (mo_lt
 (mo_lt
 (mo_eq mo_ild)
 (mo_eq mo_if1))
 (mo_lt
 (mo_eq mo_ald)
 (mo_eq mo_get)))))))
 (mo_lt
 (mo_lt
 (mo_lt
 (mo_lt
 (mo_lt
 (mo_eq mo_push)
 (mo_lt
 (mo_eq mo_ild)
 (mo_eq mo_push)))
 (mo_lt
 (mo_lt
 (mo_eq mo_iii)
 (mo_eq mo_iii))
 (mo_lt
 (mo_eq mo_ild)
 (mo_eq mo_iii))))
 (mo_lt
 (mo_lt
 (mo_eq mo_iar)
 (mo_lt
 (mo_eq mo_ald)
 (mo_eq mo_get)))
 (mo_lt
 (mo_lt
 (mo_eq mo_ild)
 (mo_eq mo_iar))
 (mo_lt
 (mo_eq mo_ild)
 (mo_eq mo_if2)))))
 (mo_lt
 (mo_lt
 (mo_lt
 (mo_eq mo_push)
 (mo_lt
 (mo_eq mo_go)
 (mo_eq mo_ald)))
 (mo_lt
 (mo_lt
 (mo_eq mo_get)
 (mo_eq mo_iii))
 (mo_lt
 (mo_eq mo_ist)
 (mo_eq mo_ild))))
 (mo_lt
 (mo_lt
 (mo_lt
 (mo_eq mo_ild)
 (mo_eq mo_if2))
 (mo_lt
 (mo_eq mo_ild)
 (mo_eq mo_go)))
 (mo_lt
 (mo_lt
 (mo_eq mo_ild)
 (mo_eq mo_ist))
 (mo_lt
 (mo_eq mo_inc)
 (mo_eq mo_go))))))
 (mo_lt
 (mo_lt
 (mo_lt
 (mo_lt
 (mo_eq mo_ald)
 (mo_lt
 (mo_eq mo_get)
 (mo_eq mo_push)))
 (mo_lt
 (mo_lt
 (mo_eq mo_ild)
 (mo_eq mo_iii))
 (mo_lt
 (mo_eq mo_ild)
 (mo_eq mo_iii))))
 (mo_lt
 (mo_lt
 (mo_eq mo_ild)
 (mo_lt
 (mo_eq mo_ald)
 (mo_eq mo_get)))
 (mo_lt
 (mo_lt
 (mo_eq mo_ild)
 (mo_eq mo_iar))
 (mo_lt
 (mo_eq mo_iii)
 (mo_eq mo_iaw)))))
 (mo_lt
 (mo_lt
 (mo_lt
 (mo_eq mo_ald)
 (mo_lt
 (mo_eq mo_get)
 (mo_eq mo_ild)))
 (mo_lt
 (mo_lt
 (mo_eq mo_ild)
 (mo_eq mo_ald))
 (mo_lt
 (mo_eq mo_get)
 (mo_eq mo_ild))))
 (mo_lt
 (mo_lt
 (mo_lt
 (mo_eq mo_iar)
 (mo_eq mo_iii))
 (mo_lt
 (mo_eq mo_iaw)
 (mo_eq mo_inc)))
 (mo_lt
 (mo_lt
 (mo_eq mo_go)
 (mo_eq mo_inc))
 (mo_lt
 (mo_eq mo_go)
 (mo_eq mo_rv))))))))
theorem mo_X5_lastOf {S_X5_cells : ma_Cs} (hS_X5_cells : ma_ms S_X5_cells) : ∀ pc, ma_mo (tb_X5_lastOf S_X5_cells pc) := fun pc =>
 (mo_lt
 (mo_lt
 (mo_lt
 (mo_lt
 (mo_lt
 (mo_eq mo_push)
 (mo_eq mo_ist))
 (mo_lt
 (mo_eq mo_push)
 (mo_eq mo_ist)))
 (mo_lt
 (mo_lt
 (mo_eq mo_ild)
 (mo_eq mo_ald))
 (mo_lt
 (mo_eq (mo_v1 hS_X5_cells))
 (mo_eq mo_if2))))
 (mo_lt
 (mo_lt
 (mo_lt
 (mo_eq mo_ald)
 (mo_eq mo_get))
 (mo_lt
 (mo_eq mo_push)
 (mo_eq mo_ild)))
 (mo_lt
 (mo_lt
 (mo_eq mo_iii)
 (mo_eq mo_ild))
 (mo_lt
 (mo_eq mo_iii)
 (mo_eq mo_iar)))))
 (mo_lt
 (mo_lt
 (mo_lt
 (mo_lt
 (mo_eq mo_ild)
 (mo_eq mo_if2))
 (mo_lt
 (mo_eq mo_ald)
 (mo_eq mo_get)))
 (mo_lt
 (mo_lt
 (mo_eq mo_push)
 (mo_eq mo_ild))
 (mo_lt
 (mo_eq mo_iii)
 (mo_eq mo_ild))))
 (mo_lt
 (mo_lt
 (mo_lt
 (mo_eq mo_iii)
 (mo_eq mo_iar))
 (mo_lt
 (mo_eq mo_go)
 (mo_eq mo_ild)))
 (mo_lt
 (mo_lt
 (mo_eq mo_ist)
 (mo_eq mo_inc))
 (mo_lt
 (mo_eq mo_go)
 (mo_lt
 (mo_eq mo_ild)
 (mo_eq mo_ri)))))))
theorem mo_X5_slowest {S_X5_in S_X5_ownEnds S_X5_lastOf : ma_Cs} (hS_X5_in : ma_ms S_X5_in) (hS_X5_ownEnds : ma_ms S_X5_ownEnds) (hS_X5_lastOf : ma_ms S_X5_lastOf) : ∀ pc, ma_mo (tb_X5_slowest S_X5_in S_X5_ownEnds S_X5_lastOf pc) := fun pc =>
 (mo_lt
 (mo_lt
 (mo_lt
 (mo_lt
 (mo_eq mo_ild)
 (mo_lt
 (mo_eq mo_il)
 (mo_eq mo_push)))
 (mo_lt
 (mo_lt
 (mo_eq mo_push)
 (mo_eq (mo_s3 hS_X5_in)))
 (mo_lt
 (mo_eq mo_if1)
 (mo_eq mo_push))))
 (mo_lt
 (mo_lt
 (mo_eq mo_ri)
 (mo_lt
 (mo_eq mo_ald)
 (mo_eq (mo_v1 hS_X5_ownEnds))))
 (mo_lt
 (mo_lt
 (mo_eq mo_push)
 (mo_eq mo_ist))
 (mo_lt
 (mo_eq mo_ald)
 (mo_eq mo_get)))))
 (mo_lt
 (mo_lt
 (mo_lt
 (mo_eq mo_push)
 (mo_lt
 (mo_eq mo_ild)
 (mo_eq mo_iii)))
 (mo_lt
 (mo_lt
 (mo_eq mo_ild)
 (mo_eq mo_iii))
 (mo_lt
 (mo_eq mo_iar)
 (mo_eq mo_ald))))
 (mo_lt
 (mo_lt
 (mo_eq mo_ild)
 (mo_lt
 (mo_eq (mo_v2 hS_X5_lastOf))
 (mo_eq mo_if2)))
 (mo_lt
 (mo_lt
 (mo_eq mo_inc)
 (mo_eq mo_go))
 (mo_lt
 (mo_eq mo_ild)
 (mo_eq mo_ri))))))
theorem mo_X5_given {S_X5_in S_X5_cells S_X5_gives S_X5_ends S_X5_lastOf : ma_Cs} (hS_X5_in : ma_ms S_X5_in) (hS_X5_cells : ma_ms S_X5_cells) (hS_X5_gives : ma_ms S_X5_gives) (hS_X5_ends : ma_ms S_X5_ends) (hS_X5_lastOf : ma_ms S_X5_lastOf) : ∀ pc, ma_mo (tb_X5_given S_X5_in S_X5_cells S_X5_gives S_X5_ends S_X5_lastOf pc) := fun pc =>
 (mo_lt
 (mo_lt
 (mo_lt
 (mo_lt
 (mo_lt
 (mo_lt
 (mo_eq mo_ild)
 (mo_lt
 (mo_eq mo_il)
 (mo_eq mo_push)))
 (mo_lt
 (mo_eq mo_push)
 (mo_lt
 (mo_eq (mo_s3 hS_X5_in))
 (mo_eq mo_if1))))
 (mo_lt
 (mo_lt
 (mo_eq mo_ild)
 (mo_lt
 (mo_eq mo_il)
 (mo_eq mo_push)))
 (mo_lt
 (mo_eq mo_push)
 (mo_lt
 (mo_eq (mo_s3 hS_X5_in))
 (mo_eq mo_if1)))))
 (mo_lt
 (mo_lt
 (mo_lt
 (mo_eq mo_ild)
 (mo_lt
 (mo_eq mo_il)
 (mo_eq mo_push)))
 (mo_lt
 (mo_eq mo_ald)
 (mo_lt
 (mo_eq (mo_v1 hS_X5_cells))
 (mo_eq mo_push))))
 (mo_lt
 (mo_lt
 (mo_eq mo_iii)
 (mo_lt
 (mo_eq mo_il)
 (mo_eq (mo_s3 hS_X5_in))))
 (mo_lt
 (mo_eq mo_if1)
 (mo_lt
 (mo_eq mo_push)
 (mo_eq mo_ri))))))
 (mo_lt
 (mo_lt
 (mo_lt
 (mo_lt
 (mo_eq mo_ald)
 (mo_lt
 (mo_eq (mo_v1 hS_X5_cells))
 (mo_eq mo_push)))
 (mo_lt
 (mo_eq mo_if2)
 (mo_lt
 (mo_eq mo_push)
 (mo_eq mo_ri))))
 (mo_lt
 (mo_lt
 (mo_eq mo_push)
 (mo_lt
 (mo_eq mo_ist)
 (mo_eq mo_push)))
 (mo_lt
 (mo_eq mo_ist)
 (mo_lt
 (mo_eq mo_ild)
 (mo_eq mo_ald)))))
 (mo_lt
 (mo_lt
 (mo_lt
 (mo_eq (mo_v1 hS_X5_cells))
 (mo_lt
 (mo_eq mo_if2)
 (mo_eq mo_ild)))
 (mo_lt
 (mo_eq mo_ild)
 (mo_lt
 (mo_eq mo_iii)
 (mo_eq mo_ist))))
 (mo_lt
 (mo_lt
 (mo_eq mo_inc)
 (mo_lt
 (mo_eq mo_go)
 (mo_eq mo_push)))
 (mo_lt
 (mo_eq mo_ist)
 (mo_lt
 (mo_eq mo_push)
 (mo_eq mo_ist)))))))
 (mo_lt
 (mo_lt
 (mo_lt
 (mo_lt
 (mo_lt
 (mo_eq mo_push)
 (mo_lt
 (mo_eq mo_ist)
 (mo_eq mo_ild)))
 (mo_lt
 (mo_eq mo_ild)
 (mo_lt
 (mo_eq mo_if2)
 (mo_eq mo_ald))))
 (mo_lt
 (mo_lt
 (mo_eq mo_ild)
 (mo_lt
 (mo_eq mo_ild)
 (mo_eq (mo_v3 hS_X5_gives))))
 (mo_lt
 (mo_eq mo_ald)
 (mo_lt
 (mo_eq mo_ild)
 (mo_eq (mo_v2 hS_X5_ends))))))
 (mo_lt
 (mo_lt
 (mo_lt
 (mo_eq mo_ald)
 (mo_lt
 (mo_eq mo_ild)
 (mo_eq (mo_v2 hS_X5_lastOf))))
 (mo_lt
 (mo_eq mo_ist)
 (mo_lt
 (mo_eq mo_ild)
 (mo_eq mo_if1))))
 (mo_lt
 (mo_lt
 (mo_eq mo_ild)
 (mo_lt
 (mo_eq mo_ild)
 (mo_eq mo_if2)))
 (mo_lt
 (mo_eq mo_ild)
 (mo_lt
 (mo_eq mo_go)
 (mo_eq mo_ild))))))
 (mo_lt
 (mo_lt
 (mo_lt
 (mo_lt
 (mo_eq mo_ist)
 (mo_lt
 (mo_eq mo_ild)
 (mo_eq mo_if1)))
 (mo_lt
 (mo_eq mo_ild)
 (mo_lt
 (mo_eq mo_ild)
 (mo_eq mo_if2))))
 (mo_lt
 (mo_lt
 (mo_eq mo_ild)
 (mo_lt
 (mo_eq mo_go)
 (mo_eq mo_ild)))
 (mo_lt
 (mo_eq mo_ist)
 (mo_lt
 (mo_eq mo_inc)
 (mo_eq mo_go)))))
 (mo_lt
 (mo_lt
 (mo_lt
 (mo_eq mo_ald)
 (mo_lt
 (mo_eq mo_ild)
 (mo_eq mo_ild)))
 (mo_lt
 (mo_eq (mo_v3 hS_X5_gives))
 (mo_lt
 (mo_eq mo_ild)
 (mo_eq mo_if1))))
 (mo_lt
 (mo_lt
 (mo_eq mo_ild)
 (mo_lt
 (mo_eq mo_go)
 (mo_eq mo_ald)))
 (mo_lt
 (mo_lt
 (mo_eq mo_get)
 (mo_eq mo_ild))
 (mo_lt
 (mo_eq mo_iar)
 (mo_eq mo_ri))))))))
theorem mo_X5_gives {S_X5_cells : ma_Cs} (hS_X5_cells : ma_ms S_X5_cells) : ∀ pc, ma_mo (tb_X5_gives S_X5_cells pc) := fun pc =>
 (mo_lt
 (mo_lt
 (mo_lt
 (mo_lt
 (mo_eq mo_ild)
 (mo_eq mo_ist))
 (mo_lt
 (mo_eq mo_ald)
 (mo_lt
 (mo_eq (mo_v1 hS_X5_cells))
 (mo_eq mo_push))))
 (mo_lt
 (mo_lt
 (mo_eq mo_iii)
 (mo_lt
 (mo_eq mo_ist)
 (mo_eq mo_ild)))
 (mo_lt
 (mo_eq mo_if1)
 (mo_lt
 (mo_eq mo_ald)
 (mo_eq mo_get)))))
 (mo_lt
 (mo_lt
 (mo_lt
 (mo_eq mo_ild)
 (mo_lt
 (mo_eq mo_ild)
 (mo_eq mo_ild)))
 (mo_lt
 (mo_eq mo_idv)
 (mo_lt
 (mo_eq mo_iaw)
 (mo_eq mo_ild))))
 (mo_lt
 (mo_lt
 (mo_eq mo_ild)
 (mo_lt
 (mo_eq mo_idv)
 (mo_eq mo_ist)))
 (mo_lt
 (mo_eq mo_inc)
 (mo_lt
 (mo_eq mo_go)
 (mo_eq mo_rv))))))
theorem mo_X5_known {S_X5_isCell S_X5_in S_X5_ownEnds : ma_Cs} (hS_X5_isCell : ma_ms S_X5_isCell) (hS_X5_in : ma_ms S_X5_in) (hS_X5_ownEnds : ma_ms S_X5_ownEnds) : ∀ pc, ma_mo (tb_X5_known S_X5_isCell S_X5_in S_X5_ownEnds pc) := fun pc =>
 (mo_lt
 (mo_lt
 (mo_lt
 (mo_lt
 (mo_lt
 (mo_eq mo_ald)
 (mo_eq mo_ild))
 (mo_lt
 (mo_eq (mo_v2 hS_X5_isCell))
 (mo_eq mo_if1)))
 (mo_lt
 (mo_lt
 (mo_eq mo_ild)
 (mo_eq mo_il))
 (mo_lt
 (mo_eq mo_push)
 (mo_eq mo_push))))
 (mo_lt
 (mo_lt
 (mo_lt
 (mo_eq (mo_s3 hS_X5_in))
 (mo_eq mo_if1))
 (mo_lt
 (mo_eq mo_push)
 (mo_eq mo_ri)))
 (mo_lt
 (mo_lt
 (mo_eq mo_ald)
 (mo_eq (mo_v1 hS_X5_ownEnds)))
 (mo_lt
 (mo_eq mo_push)
 (mo_lt
 (mo_eq mo_ist)
 (mo_eq mo_ild))))))
 (mo_lt
 (mo_lt
 (mo_lt
 (mo_lt
 (mo_eq mo_push)
 (mo_eq mo_if2))
 (mo_lt
 (mo_eq mo_ald)
 (mo_eq mo_get)))
 (mo_lt
 (mo_lt
 (mo_eq mo_push)
 (mo_eq mo_ild))
 (mo_lt
 (mo_eq mo_push)
 (mo_lt
 (mo_eq mo_iii)
 (mo_eq mo_iii)))))
 (mo_lt
 (mo_lt
 (mo_lt
 (mo_eq mo_ild)
 (mo_eq mo_iii))
 (mo_lt
 (mo_eq mo_iar)
 (mo_eq mo_ild)))
 (mo_lt
 (mo_lt
 (mo_eq mo_if2)
 (mo_eq mo_inc))
 (mo_lt
 (mo_eq mo_go)
 (mo_lt
 (mo_eq mo_ild)
 (mo_eq mo_ri)))))))
theorem mo_X5_coarse {S_X5_in S_X5_isLetter S_X5_hall S_X5_cells S_X5_place S_X5_down S_X5_steps S_X5_downLong S_X5_size : ma_Cs} (hS_X5_in : ma_ms S_X5_in) (hS_X5_isLetter : ma_ms S_X5_isLetter) (hS_X5_hall : ma_ms S_X5_hall) (hS_X5_cells : ma_ms S_X5_cells) (hS_X5_place : ma_ms S_X5_place) (hS_X5_down : ma_ms S_X5_down) (hS_X5_steps : ma_ms S_X5_steps) (hS_X5_downLong : ma_ms S_X5_downLong) (hS_X5_size : ma_ms S_X5_size) : ∀ pc, ma_mo (tb_X5_coarse S_X5_in S_X5_isLetter S_X5_hall S_X5_cells S_X5_place S_X5_down S_X5_steps S_X5_downLong S_X5_size pc) := fun pc =>
 (mo_lt
 (mo_lt
 (mo_lt
 (mo_lt
 (mo_lt
 (mo_lt
 (mo_lt
 (mo_lt
 (mo_eq mo_ild)
 (mo_eq mo_il))
 (mo_lt
 (mo_eq mo_push)
 (mo_eq mo_push)))
 (mo_lt
 (mo_lt
 (mo_eq (mo_s3 hS_X5_in))
 (mo_eq mo_if1))
 (mo_lt
 (mo_eq mo_ild)
 (mo_eq (mo_s1 hS_X5_isLetter)))))
 (mo_lt
 (mo_lt
 (mo_lt
 (mo_eq mo_if1)
 (mo_eq mo_ild))
 (mo_lt
 (mo_eq mo_il)
 (mo_eq mo_push)))
 (mo_lt
 (mo_lt
 (mo_eq mo_push)
 (mo_eq (mo_s3 hS_X5_in)))
 (mo_lt
 (mo_eq mo_if1)
 (mo_eq mo_push)))))
 (mo_lt
 (mo_lt
 (mo_lt
 (mo_lt
 (mo_eq mo_ri)
 (mo_eq mo_ald))
 (mo_lt
 (mo_eq mo_get)
 (mo_eq mo_push)))
 (mo_lt
 (mo_lt
 (mo_eq mo_idv)
 (mo_eq mo_push))
 (mo_lt
 (mo_eq mo_if2)
 (mo_eq mo_ald))))
 (mo_lt
 (mo_lt
 (mo_lt
 (mo_eq mo_get)
 (mo_eq mo_push))
 (mo_lt
 (mo_eq mo_idv)
 (mo_eq mo_push)))
 (mo_lt
 (mo_lt
 (mo_eq mo_if2)
 (mo_eq mo_push))
 (mo_lt
 (mo_eq mo_ri)
 (mo_eq mo_ald))))))
 (mo_lt
 (mo_lt
 (mo_lt
 (mo_lt
 (mo_lt
 (mo_eq mo_ald)
 (mo_eq mo_get))
 (mo_lt
 (mo_eq mo_push)
 (mo_eq (mo_v3 hS_X5_hall))))
 (mo_lt
 (mo_lt
 (mo_eq mo_push)
 (mo_eq mo_ist))
 (mo_lt
 (mo_eq mo_ild)
 (mo_eq mo_ald))))
 (mo_lt
 (mo_lt
 (mo_lt
 (mo_eq (mo_v1 hS_X5_cells))
 (mo_eq mo_if2))
 (mo_lt
 (mo_eq mo_push)
 (mo_eq mo_ald)))
 (mo_lt
 (mo_lt
 (mo_eq mo_get)
 (mo_eq mo_iii))
 (mo_lt
 (mo_eq mo_ild)
 (mo_eq mo_ald)))))
 (mo_lt
 (mo_lt
 (mo_lt
 (mo_lt
 (mo_eq mo_get)
 (mo_eq mo_push))
 (mo_lt
 (mo_eq mo_idv)
 (mo_eq mo_idv)))
 (mo_lt
 (mo_lt
 (mo_eq mo_iii)
 (mo_eq mo_push))
 (mo_lt
 (mo_eq mo_ild)
 (mo_eq mo_ald))))
 (mo_lt
 (mo_lt
 (mo_lt
 (mo_eq mo_get)
 (mo_eq mo_push))
 (mo_lt
 (mo_eq mo_idv)
 (mo_eq mo_idv)))
 (mo_lt
 (mo_lt
 (mo_eq mo_iii)
 (mo_eq mo_iii))
 (mo_lt
 (mo_eq mo_ist)
 (mo_lt
 (mo_eq mo_push)
 (mo_eq mo_ist))))))))
 (mo_lt
 (mo_lt
 (mo_lt
 (mo_lt
 (mo_lt
 (mo_lt
 (mo_eq mo_ild)
 (mo_eq mo_push))
 (mo_lt
 (mo_eq mo_if2)
 (mo_eq mo_ild)))
 (mo_lt
 (mo_lt
 (mo_eq mo_ald)
 (mo_eq (mo_v1 hS_X5_cells)))
 (mo_lt
 (mo_eq mo_push)
 (mo_eq mo_idv))))
 (mo_lt
 (mo_lt
 (mo_lt
 (mo_eq mo_if2)
 (mo_eq mo_ald))
 (mo_lt
 (mo_eq mo_get)
 (mo_eq mo_push)))
 (mo_lt
 (mo_lt
 (mo_eq mo_ild)
 (mo_eq mo_ild))
 (mo_lt
 (mo_eq (mo_s3 hS_X5_place))
 (mo_eq mo_iar)))))
 (mo_lt
 (mo_lt
 (mo_lt
 (mo_lt
 (mo_eq mo_il)
 (mo_eq mo_ald))
 (mo_lt
 (mo_eq mo_get)
 (mo_eq mo_push)))
 (mo_lt
 (mo_lt
 (mo_eq mo_ild)
 (mo_eq mo_push))
 (mo_lt
 (mo_eq mo_iii)
 (mo_eq mo_ild))))
 (mo_lt
 (mo_lt
 (mo_lt
 (mo_eq (mo_s3 hS_X5_place))
 (mo_eq mo_iar))
 (mo_lt
 (mo_eq mo_il)
 (mo_eq mo_lll)))
 (mo_lt
 (mo_lt
 (mo_eq mo_ald)
 (mo_eq mo_get))
 (mo_lt
 (mo_eq mo_push)
 (mo_lt
 (mo_eq mo_ild)
 (mo_eq mo_ald)))))))
 (mo_lt
 (mo_lt
 (mo_lt
 (mo_lt
 (mo_lt
 (mo_eq mo_get)
 (mo_eq mo_iii))
 (mo_lt
 (mo_eq mo_ild)
 (mo_eq (mo_s3 hS_X5_place))))
 (mo_lt
 (mo_lt
 (mo_eq mo_iar)
 (mo_eq mo_il))
 (mo_lt
 (mo_eq mo_lll)
 (mo_eq mo_ald))))
 (mo_lt
 (mo_lt
 (mo_lt
 (mo_eq mo_get)
 (mo_eq mo_push))
 (mo_lt
 (mo_eq mo_ild)
 (mo_eq mo_ald)))
 (mo_lt
 (mo_lt
 (mo_eq mo_get)
 (mo_eq mo_iii))
 (mo_lt
 (mo_eq mo_push)
 (mo_eq mo_iii)))))
 (mo_lt
 (mo_lt
 (mo_lt
 (mo_lt
 (mo_eq mo_ild)
 (mo_eq (mo_s3 hS_X5_place)))
 (mo_lt
 (mo_eq mo_iar)
 (mo_eq mo_il)))
 (mo_lt
 (mo_lt
 (mo_eq mo_lll)
 (mo_eq mo_lst))
 (mo_lt
 (mo_eq mo_ald)
 (mo_eq mo_get))))
 (mo_lt
 (mo_lt
 (mo_lt
 (mo_eq mo_push)
 (mo_eq mo_ild))
 (mo_lt
 (mo_eq mo_ild)
 (mo_eq (mo_s3 hS_X5_place))))
 (mo_lt
 (mo_lt
 (mo_eq mo_lld)
 (mo_eq mo_push))
 (mo_lt
 (mo_eq (mo_s2 hS_X5_down))
 (mo_lt
 (mo_eq mo_iaw)
 (mo_eq mo_inc)))))))))
 (mo_lt
 (mo_lt
 (mo_lt
 (mo_lt
 (mo_lt
 (mo_lt
 (mo_lt
 (mo_eq mo_go)
 (mo_eq mo_inc))
 (mo_lt
 (mo_eq mo_go)
 (mo_eq mo_ald)))
 (mo_lt
 (mo_lt
 (mo_eq mo_ald)
 (mo_eq mo_get))
 (mo_lt
 (mo_eq mo_push)
 (mo_eq mo_idv))))
 (mo_lt
 (mo_lt
 (mo_lt
 (mo_eq mo_put)
 (mo_eq mo_ald))
 (mo_lt
 (mo_eq mo_ald)
 (mo_eq mo_get)))
 (mo_lt
 (mo_lt
 (mo_eq mo_push)
 (mo_eq mo_idv))
 (mo_lt
 (mo_eq mo_put)
 (mo_eq mo_ald)))))
 (mo_lt
 (mo_lt
 (mo_lt
 (mo_lt
 (mo_eq mo_ald)
 (mo_eq mo_get))
 (mo_lt
 (mo_eq mo_push)
 (mo_eq (mo_v3 hS_X5_steps))))
 (mo_lt
 (mo_lt
 (mo_eq mo_push)
 (mo_eq mo_ist))
 (mo_lt
 (mo_eq mo_push)
 (mo_eq mo_ist))))
 (mo_lt
 (mo_lt
 (mo_lt
 (mo_eq mo_ild)
 (mo_eq mo_ald))
 (mo_lt
 (mo_eq mo_get)
 (mo_eq mo_ald)))
 (mo_lt
 (mo_lt
 (mo_eq mo_get)
 (mo_eq mo_iii))
 (mo_lt
 (mo_eq mo_if2)
 (mo_lt
 (mo_eq mo_push)
 (mo_eq mo_ald)))))))
 (mo_lt
 (mo_lt
 (mo_lt
 (mo_lt
 (mo_lt
 (mo_eq mo_get)
 (mo_eq mo_iii))
 (mo_lt
 (mo_eq mo_ild)
 (mo_eq mo_ald)))
 (mo_lt
 (mo_lt
 (mo_eq mo_get)
 (mo_eq mo_idv))
 (mo_lt
 (mo_eq mo_iii)
 (mo_eq mo_push))))
 (mo_lt
 (mo_lt
 (mo_lt
 (mo_eq mo_ild)
 (mo_eq mo_ald))
 (mo_lt
 (mo_eq mo_get)
 (mo_eq mo_idv)))
 (mo_lt
 (mo_lt
 (mo_eq mo_iii)
 (mo_eq mo_iii))
 (mo_lt
 (mo_eq mo_ist)
 (mo_eq mo_push)))))
 (mo_lt
 (mo_lt
 (mo_lt
 (mo_lt
 (mo_eq mo_lst)
 (mo_eq mo_ald))
 (mo_lt
 (mo_eq mo_get)
 (mo_eq mo_ild)))
 (mo_lt
 (mo_lt
 (mo_eq mo_ild)
 (mo_eq mo_ild))
 (mo_lt
 (mo_eq (mo_s3 hS_X5_place))
 (mo_eq mo_iar))))
 (mo_lt
 (mo_lt
 (mo_lt
 (mo_eq mo_push)
 (mo_eq mo_if2))
 (mo_lt
 (mo_eq mo_push)
 (mo_eq mo_go)))
 (mo_lt
 (mo_lt
 (mo_eq mo_push)
 (mo_eq mo_ist))
 (mo_lt
 (mo_eq mo_push)
 (mo_lt
 (mo_eq mo_ist)
 (mo_eq mo_ild))))))))
 (mo_lt
 (mo_lt
 (mo_lt
 (mo_lt
 (mo_lt
 (mo_lt
 (mo_eq mo_push)
 (mo_eq mo_if2))
 (mo_lt
 (mo_eq mo_ald)
 (mo_eq mo_get)))
 (mo_lt
 (mo_lt
 (mo_eq mo_ild)
 (mo_eq mo_ild))
 (mo_lt
 (mo_eq mo_ild)
 (mo_eq mo_push))))
 (mo_lt
 (mo_lt
 (mo_lt
 (mo_eq mo_idv)
 (mo_eq mo_iii))
 (mo_lt
 (mo_eq mo_ald)
 (mo_eq mo_get)))
 (mo_lt
 (mo_lt
 (mo_eq mo_ild)
 (mo_eq mo_push))
 (mo_lt
 (mo_eq mo_idv)
 (mo_eq mo_iii)))))
 (mo_lt
 (mo_lt
 (mo_lt
 (mo_lt
 (mo_eq mo_iii)
 (mo_eq mo_ild))
 (mo_lt
 (mo_eq (mo_s3 hS_X5_place))
 (mo_eq mo_iar)))
 (mo_lt
 (mo_lt
 (mo_eq mo_ist)
 (mo_eq mo_ild))
 (mo_lt
 (mo_eq mo_if1)
 (mo_eq mo_ild))))
 (mo_lt
 (mo_lt
 (mo_lt
 (mo_eq mo_push)
 (mo_eq mo_if2))
 (mo_lt
 (mo_eq mo_push)
 (mo_eq mo_go)))
 (mo_lt
 (mo_lt
 (mo_eq mo_push)
 (mo_eq mo_ist))
 (mo_lt
 (mo_eq mo_lld)
 (mo_lt
 (mo_eq mo_ild)
 (mo_eq mo_il)))))))
 (mo_lt
 (mo_lt
 (mo_lt
 (mo_lt
 (mo_lt
 (mo_eq mo_lll)
 (mo_eq mo_lst))
 (mo_lt
 (mo_eq mo_inc)
 (mo_eq mo_go)))
 (mo_lt
 (mo_lt
 (mo_eq mo_ild)
 (mo_eq mo_ild))
 (mo_lt
 (mo_eq mo_if1)
 (mo_eq mo_ald))))
 (mo_lt
 (mo_lt
 (mo_lt
 (mo_eq mo_get)
 (mo_eq mo_ild))
 (mo_lt
 (mo_eq mo_ild)
 (mo_eq mo_ild)))
 (mo_lt
 (mo_lt
 (mo_eq (mo_s3 hS_X5_place))
 (mo_eq mo_iar))
 (mo_lt
 (mo_eq mo_il)
 (mo_eq mo_lld)))))
 (mo_lt
 (mo_lt
 (mo_lt
 (mo_lt
 (mo_eq mo_push)
 (mo_eq (mo_s2 hS_X5_downLong)))
 (mo_lt
 (mo_eq mo_lll)
 (mo_eq (mo_s1 hS_X5_size))))
 (mo_lt
 (mo_lt
 (mo_eq mo_ild)
 (mo_eq mo_il))
 (mo_lt
 (mo_eq mo_lli)
 (mo_eq mo_if1))))
 (mo_lt
 (mo_lt
 (mo_lt
 (mo_eq mo_push)
 (mo_eq mo_go))
 (mo_lt
 (mo_eq mo_push)
 (mo_eq mo_iii)))
 (mo_lt
 (mo_lt
 (mo_eq mo_ist)
 (mo_eq mo_inc))
 (mo_lt
 (mo_eq mo_go)
 (mo_lt
 (mo_eq mo_ild)
 (mo_eq mo_ri))))))))))
theorem mo_X5_keep {S_X5_moveAll : ma_Cs} (hS_X5_moveAll : ma_ms S_X5_moveAll) : ∀ pc, ma_mo (tb_X5_keep S_X5_moveAll pc) := fun pc =>
 (mo_lt
 (mo_lt
 (mo_lt
 (mo_lt
 (mo_eq mo_ald)
 (mo_eq mo_get))
 (mo_lt
 (mo_eq mo_push)
 (mo_lt
 (mo_eq mo_if2)
 (mo_eq mo_push))))
 (mo_lt
 (mo_lt
 (mo_eq mo_ri)
 (mo_eq mo_ald))
 (mo_lt
 (mo_eq mo_ald)
 (mo_lt
 (mo_eq mo_get)
 (mo_eq mo_push)))))
 (mo_lt
 (mo_lt
 (mo_lt
 (mo_eq (mo_v3 hS_X5_moveAll))
 (mo_eq mo_ald))
 (mo_lt
 (mo_eq mo_dup)
 (mo_lt
 (mo_eq mo_get)
 (mo_eq mo_push))))
 (mo_lt
 (mo_lt
 (mo_eq mo_iii)
 (mo_eq mo_put))
 (mo_lt
 (mo_eq mo_ald)
 (mo_lt
 (mo_eq mo_get)
 (mo_eq mo_ri))))))
theorem mo_X5_moveAll {S_X5_moves : ma_Cs} (hS_X5_moves : ma_ms S_X5_moves) : ∀ pc, ma_mo (tb_X5_moveAll S_X5_moves pc) := fun pc =>
 (mo_lt
 (mo_lt
 (mo_lt
 (mo_lt
 (mo_lt
 (mo_lt
 (mo_lt
 (mo_lt
 (mo_eq mo_ald)
 (mo_eq mo_ald))
 (mo_lt
 (mo_eq mo_ild)
 (mo_eq mo_push)))
 (mo_lt
 (mo_lt
 (mo_eq mo_ald)
 (mo_eq mo_get))
 (mo_lt
 (mo_eq mo_ild)
 (mo_eq (mo_v5 hS_X5_moves)))))
 (mo_lt
 (mo_lt
 (mo_lt
 (mo_eq mo_put)
 (mo_eq mo_ald))
 (mo_lt
 (mo_eq mo_ald)
 (mo_eq mo_ild)))
 (mo_lt
 (mo_lt
 (mo_eq mo_push)
 (mo_eq mo_ald))
 (mo_lt
 (mo_eq mo_get)
 (mo_lt
 (mo_eq mo_ild)
 (mo_eq (mo_v5 hS_X5_moves)))))))
 (mo_lt
 (mo_lt
 (mo_lt
 (mo_lt
 (mo_eq mo_put)
 (mo_eq mo_ald))
 (mo_lt
 (mo_eq mo_ald)
 (mo_eq mo_ild)))
 (mo_lt
 (mo_lt
 (mo_eq mo_push)
 (mo_eq mo_ald))
 (mo_lt
 (mo_eq mo_get)
 (mo_lt
 (mo_eq mo_ild)
 (mo_eq (mo_v5 hS_X5_moves))))))
 (mo_lt
 (mo_lt
 (mo_lt
 (mo_eq mo_put)
 (mo_eq mo_push))
 (mo_lt
 (mo_eq mo_ist)
 (mo_eq mo_ild)))
 (mo_lt
 (mo_lt
 (mo_eq mo_push)
 (mo_eq mo_if2))
 (mo_lt
 (mo_eq mo_ald)
 (mo_lt
 (mo_eq mo_get)
 (mo_eq mo_ild)))))))
 (mo_lt
 (mo_lt
 (mo_lt
 (mo_lt
 (mo_lt
 (mo_eq mo_ald)
 (mo_eq mo_ild))
 (mo_lt
 (mo_eq mo_push)
 (mo_eq mo_ild)))
 (mo_lt
 (mo_lt
 (mo_eq mo_iii)
 (mo_eq mo_ald))
 (mo_lt
 (mo_eq mo_get)
 (mo_eq mo_ild))))
 (mo_lt
 (mo_lt
 (mo_lt
 (mo_eq mo_iar)
 (mo_eq mo_ild))
 (mo_lt
 (mo_eq (mo_v5 hS_X5_moves))
 (mo_eq mo_iaw)))
 (mo_lt
 (mo_lt
 (mo_eq mo_ald)
 (mo_eq mo_get))
 (mo_lt
 (mo_eq mo_ild)
 (mo_lt
 (mo_eq mo_ald)
 (mo_eq mo_ild))))))
 (mo_lt
 (mo_lt
 (mo_lt
 (mo_lt
 (mo_eq mo_push)
 (mo_eq mo_ild))
 (mo_lt
 (mo_eq mo_iii)
 (mo_eq mo_ald)))
 (mo_lt
 (mo_lt
 (mo_eq mo_get)
 (mo_eq mo_ild))
 (mo_lt
 (mo_eq mo_iar)
 (mo_lt
 (mo_eq mo_ild)
 (mo_eq (mo_v5 hS_X5_moves))))))
 (mo_lt
 (mo_lt
 (mo_lt
 (mo_eq mo_iaw)
 (mo_eq mo_ald))
 (mo_lt
 (mo_eq mo_get)
 (mo_eq mo_ild)))
 (mo_lt
 (mo_lt
 (mo_eq mo_ald)
 (mo_eq mo_ild))
 (mo_lt
 (mo_eq mo_push)
 (mo_lt
 (mo_eq mo_ild)
 (mo_eq mo_iii))))))))
 (mo_lt
 (mo_lt
 (mo_lt
 (mo_lt
 (mo_lt
 (mo_lt
 (mo_eq mo_ald)
 (mo_eq mo_get))
 (mo_lt
 (mo_eq mo_ild)
 (mo_eq mo_iar)))
 (mo_lt
 (mo_lt
 (mo_eq mo_ild)
 (mo_eq (mo_v5 hS_X5_moves)))
 (mo_lt
 (mo_eq mo_iaw)
 (mo_eq mo_ald))))
 (mo_lt
 (mo_lt
 (mo_lt
 (mo_eq mo_get)
 (mo_eq mo_ild))
 (mo_lt
 (mo_eq mo_ald)
 (mo_eq mo_ild)))
 (mo_lt
 (mo_lt
 (mo_eq mo_push)
 (mo_eq mo_ild))
 (mo_lt
 (mo_eq mo_iii)
 (mo_lt
 (mo_eq mo_ald)
 (mo_eq mo_get))))))
 (mo_lt
 (mo_lt
 (mo_lt
 (mo_lt
 (mo_eq mo_ild)
 (mo_eq mo_iar))
 (mo_lt
 (mo_eq mo_ild)
 (mo_eq (mo_v5 hS_X5_moves))))
 (mo_lt
 (mo_lt
 (mo_eq mo_iaw)
 (mo_eq mo_ald))
 (mo_lt
 (mo_eq mo_get)
 (mo_lt
 (mo_eq mo_ild)
 (mo_eq mo_ald)))))
 (mo_lt
 (mo_lt
 (mo_lt
 (mo_eq mo_ild)
 (mo_eq mo_push))
 (mo_lt
 (mo_eq mo_ild)
 (mo_eq mo_iii)))
 (mo_lt
 (mo_lt
 (mo_eq mo_ald)
 (mo_eq mo_get))
 (mo_lt
 (mo_eq mo_ild)
 (mo_lt
 (mo_eq mo_iar)
 (mo_eq mo_ild)))))))
 (mo_lt
 (mo_lt
 (mo_lt
 (mo_lt
 (mo_lt
 (mo_eq (mo_v5 hS_X5_moves))
 (mo_eq mo_iaw))
 (mo_lt
 (mo_eq mo_ald)
 (mo_eq mo_get)))
 (mo_lt
 (mo_lt
 (mo_eq mo_ild)
 (mo_eq mo_ald))
 (mo_lt
 (mo_eq mo_ild)
 (mo_eq mo_push))))
 (mo_lt
 (mo_lt
 (mo_lt
 (mo_eq mo_ild)
 (mo_eq mo_iii))
 (mo_lt
 (mo_eq mo_ald)
 (mo_eq mo_get)))
 (mo_lt
 (mo_lt
 (mo_eq mo_ild)
 (mo_eq mo_iar))
 (mo_lt
 (mo_eq mo_ild)
 (mo_lt
 (mo_eq (mo_v5 hS_X5_moves))
 (mo_eq mo_iaw))))))
 (mo_lt
 (mo_lt
 (mo_lt
 (mo_lt
 (mo_eq mo_ald)
 (mo_eq mo_get))
 (mo_lt
 (mo_eq mo_ild)
 (mo_eq mo_ald)))
 (mo_lt
 (mo_lt
 (mo_eq mo_ild)
 (mo_eq mo_push))
 (mo_lt
 (mo_eq mo_ild)
 (mo_lt
 (mo_eq mo_iii)
 (mo_eq mo_ald)))))
 (mo_lt
 (mo_lt
 (mo_lt
 (mo_eq mo_get)
 (mo_eq mo_ild))
 (mo_lt
 (mo_eq mo_iar)
 (mo_eq mo_ild)))
 (mo_lt
 (mo_lt
 (mo_eq (mo_v5 hS_X5_moves))
 (mo_eq mo_iaw))
 (mo_lt
 (mo_eq mo_inc)
 (mo_lt
 (mo_eq mo_go)
 (mo_eq mo_push)))))))))
 (mo_lt
 (mo_lt
 (mo_lt
 (mo_lt
 (mo_lt
 (mo_lt
 (mo_lt
 (mo_eq mo_ist)
 (mo_eq mo_ild))
 (mo_lt
 (mo_eq mo_push)
 (mo_eq mo_if2)))
 (mo_lt
 (mo_lt
 (mo_eq mo_ald)
 (mo_eq mo_get))
 (mo_lt
 (mo_eq mo_ild)
 (mo_eq mo_ald))))
 (mo_lt
 (mo_lt
 (mo_lt
 (mo_eq mo_ild)
 (mo_eq mo_push))
 (mo_lt
 (mo_eq mo_ild)
 (mo_eq mo_iii)))
 (mo_lt
 (mo_lt
 (mo_eq mo_ald)
 (mo_eq mo_get))
 (mo_lt
 (mo_eq mo_ild)
 (mo_lt
 (mo_eq mo_iar)
 (mo_eq mo_ild))))))
 (mo_lt
 (mo_lt
 (mo_lt
 (mo_lt
 (mo_eq (mo_v5 hS_X5_moves))
 (mo_eq mo_iaw))
 (mo_lt
 (mo_eq mo_ald)
 (mo_eq mo_get)))
 (mo_lt
 (mo_lt
 (mo_eq mo_ild)
 (mo_eq mo_ald))
 (mo_lt
 (mo_eq mo_ild)
 (mo_lt
 (mo_eq mo_push)
 (mo_eq mo_ild)))))
 (mo_lt
 (mo_lt
 (mo_lt
 (mo_eq mo_iii)
 (mo_eq mo_ald))
 (mo_lt
 (mo_eq mo_get)
 (mo_eq mo_ild)))
 (mo_lt
 (mo_lt
 (mo_eq mo_iar)
 (mo_eq mo_ild))
 (mo_lt
 (mo_eq (mo_v5 hS_X5_moves))
 (mo_lt
 (mo_eq mo_iaw)
 (mo_eq mo_ald)))))))
 (mo_lt
 (mo_lt
 (mo_lt
 (mo_lt
 (mo_lt
 (mo_eq mo_get)
 (mo_eq mo_ild))
 (mo_lt
 (mo_eq mo_ald)
 (mo_eq mo_ild)))
 (mo_lt
 (mo_lt
 (mo_eq mo_push)
 (mo_eq mo_ild))
 (mo_lt
 (mo_eq mo_iii)
 (mo_eq mo_ald))))
 (mo_lt
 (mo_lt
 (mo_lt
 (mo_eq mo_get)
 (mo_eq mo_ild))
 (mo_lt
 (mo_eq mo_iar)
 (mo_eq mo_ild)))
 (mo_lt
 (mo_lt
 (mo_eq (mo_v5 hS_X5_moves))
 (mo_eq mo_iaw))
 (mo_lt
 (mo_eq mo_inc)
 (mo_lt
 (mo_eq mo_go)
 (mo_eq mo_push))))))
 (mo_lt
 (mo_lt
 (mo_lt
 (mo_lt
 (mo_eq mo_ist)
 (mo_eq mo_ild))
 (mo_lt
 (mo_eq mo_push)
 (mo_eq mo_if2)))
 (mo_lt
 (mo_lt
 (mo_eq mo_ald)
 (mo_eq mo_get))
 (mo_lt
 (mo_eq mo_ild)
 (mo_lt
 (mo_eq mo_ald)
 (mo_eq mo_ild)))))
 (mo_lt
 (mo_lt
 (mo_lt
 (mo_eq mo_push)
 (mo_eq mo_ild))
 (mo_lt
 (mo_eq mo_iii)
 (mo_eq mo_ald)))
 (mo_lt
 (mo_lt
 (mo_eq mo_get)
 (mo_eq mo_ild))
 (mo_lt
 (mo_eq mo_iar)
 (mo_lt
 (mo_eq mo_ild)
 (mo_eq (mo_v5 hS_X5_moves)))))))))
 (mo_lt
 (mo_lt
 (mo_lt
 (mo_lt
 (mo_lt
 (mo_lt
 (mo_eq mo_iaw)
 (mo_eq mo_inc))
 (mo_lt
 (mo_eq mo_go)
 (mo_eq mo_push)))
 (mo_lt
 (mo_lt
 (mo_eq mo_ist)
 (mo_eq mo_ild))
 (mo_lt
 (mo_eq mo_push)
 (mo_eq mo_if2))))
 (mo_lt
 (mo_lt
 (mo_lt
 (mo_eq mo_ald)
 (mo_eq mo_get))
 (mo_lt
 (mo_eq mo_ild)
 (mo_eq mo_ald)))
 (mo_lt
 (mo_lt
 (mo_eq mo_ild)
 (mo_eq mo_push))
 (mo_lt
 (mo_eq mo_ild)
 (mo_lt
 (mo_eq mo_iii)
 (mo_eq mo_ald))))))
 (mo_lt
 (mo_lt
 (mo_lt
 (mo_lt
 (mo_eq mo_get)
 (mo_eq mo_ild))
 (mo_lt
 (mo_eq mo_iar)
 (mo_eq mo_ild)))
 (mo_lt
 (mo_lt
 (mo_eq (mo_v5 hS_X5_moves))
 (mo_eq mo_iaw))
 (mo_lt
 (mo_eq mo_ald)
 (mo_lt
 (mo_eq mo_get)
 (mo_eq mo_ild)))))
 (mo_lt
 (mo_lt
 (mo_lt
 (mo_eq mo_ald)
 (mo_eq mo_ild))
 (mo_lt
 (mo_eq mo_push)
 (mo_eq mo_ild)))
 (mo_lt
 (mo_lt
 (mo_eq mo_iii)
 (mo_eq mo_ald))
 (mo_lt
 (mo_eq mo_get)
 (mo_lt
 (mo_eq mo_ild)
 (mo_eq mo_iar)))))))
 (mo_lt
 (mo_lt
 (mo_lt
 (mo_lt
 (mo_lt
 (mo_eq mo_ild)
 (mo_eq (mo_v5 hS_X5_moves)))
 (mo_lt
 (mo_eq mo_iaw)
 (mo_eq mo_ald)))
 (mo_lt
 (mo_lt
 (mo_eq mo_get)
 (mo_eq mo_ild))
 (mo_lt
 (mo_eq mo_ald)
 (mo_lt
 (mo_eq mo_ild)
 (mo_eq mo_push)))))
 (mo_lt
 (mo_lt
 (mo_lt
 (mo_eq mo_ild)
 (mo_eq mo_iii))
 (mo_lt
 (mo_eq mo_ald)
 (mo_eq mo_get)))
 (mo_lt
 (mo_lt
 (mo_eq mo_ild)
 (mo_eq mo_iar))
 (mo_lt
 (mo_eq mo_ild)
 (mo_lt
 (mo_eq (mo_v5 hS_X5_moves))
 (mo_eq mo_iaw))))))
 (mo_lt
 (mo_lt
 (mo_lt
 (mo_lt
 (mo_eq mo_ald)
 (mo_eq mo_get))
 (mo_lt
 (mo_eq mo_ild)
 (mo_eq mo_ald)))
 (mo_lt
 (mo_lt
 (mo_eq mo_ild)
 (mo_eq mo_push))
 (mo_lt
 (mo_eq mo_ild)
 (mo_lt
 (mo_eq mo_iii)
 (mo_eq mo_ald)))))
 (mo_lt
 (mo_lt
 (mo_lt
 (mo_eq mo_get)
 (mo_eq mo_ild))
 (mo_lt
 (mo_eq mo_iar)
 (mo_eq mo_ild)))
 (mo_lt
 (mo_lt
 (mo_eq (mo_v5 hS_X5_moves))
 (mo_eq mo_iaw))
 (mo_lt
 (mo_eq mo_inc)
 (mo_lt
 (mo_eq mo_go)
 (mo_eq mo_rv))))))))))
theorem mo_X5_moves {S_X5_slot : ma_Cs} (hS_X5_slot : ma_ms S_X5_slot) : ∀ pc, ma_mo (tb_X5_moves S_X5_slot pc) := fun pc =>
 (mo_lt
 (mo_lt
 (mo_lt
 (mo_eq mo_ald)
 (mo_lt
 (mo_eq mo_ild)
 (mo_eq mo_push)))
 (mo_lt
 (mo_lt
 (mo_eq mo_ild)
 (mo_eq mo_ild))
 (mo_lt
 (mo_eq mo_ild)
 (mo_eq (mo_v6 hS_X5_slot)))))
 (mo_lt
 (mo_lt
 (mo_eq mo_ist)
 (mo_lt
 (mo_eq mo_ild)
 (mo_eq mo_if1)))
 (mo_lt
 (mo_lt
 (mo_eq mo_ild)
 (mo_eq mo_go))
 (mo_lt
 (mo_eq mo_ild)
 (mo_eq mo_ri)))))
theorem mo_X5_slot : ∀ pc, ma_mo (tb_X5_slot  pc) := fun pc =>
 (mo_lt
 (mo_lt
 (mo_lt
 (mo_lt
 (mo_eq mo_push)
 (mo_lt
 (mo_eq mo_ild)
 (mo_eq mo_iii)))
 (mo_lt
 (mo_eq mo_ild)
 (mo_lt
 (mo_eq mo_iii)
 (mo_eq mo_ild))))
 (mo_lt
 (mo_lt
 (mo_eq mo_iii)
 (mo_lt
 (mo_eq mo_ist)
 (mo_eq mo_ald)))
 (mo_lt
 (mo_eq mo_get)
 (mo_lt
 (mo_eq mo_ild)
 (mo_eq mo_iar)))))
 (mo_lt
 (mo_lt
 (mo_lt
 (mo_eq mo_ist)
 (mo_lt
 (mo_eq mo_ald)
 (mo_eq mo_get)))
 (mo_lt
 (mo_eq mo_ild)
 (mo_lt
 (mo_eq mo_ild)
 (mo_eq mo_if1))))
 (mo_lt
 (mo_lt
 (mo_eq mo_ild)
 (mo_lt
 (mo_eq mo_go)
 (mo_eq mo_ild)))
 (mo_lt
 (mo_eq mo_iaw)
 (mo_lt
 (mo_eq mo_ild)
 (mo_eq mo_ri))))))
theorem mo_X5_back {S_X5_moveAll : ma_Cs} (hS_X5_moveAll : ma_ms S_X5_moveAll) : ∀ pc, ma_mo (tb_X5_back S_X5_moveAll pc) := fun pc =>
 (mo_lt
 (mo_lt
 (mo_lt
 (mo_lt
 (mo_eq mo_ald)
 (mo_eq mo_get))
 (mo_lt
 (mo_eq mo_if1)
 (mo_eq mo_push)))
 (mo_lt
 (mo_lt
 (mo_eq mo_ri)
 (mo_eq mo_ald))
 (mo_lt
 (mo_eq mo_dup)
 (mo_lt
 (mo_eq mo_get)
 (mo_eq mo_push)))))
 (mo_lt
 (mo_lt
 (mo_lt
 (mo_eq mo_iii)
 (mo_eq mo_put))
 (mo_lt
 (mo_eq mo_ald)
 (mo_lt
 (mo_eq mo_ald)
 (mo_eq mo_get))))
 (mo_lt
 (mo_lt
 (mo_eq mo_push)
 (mo_eq (mo_v3 hS_X5_moveAll)))
 (mo_lt
 (mo_eq mo_ald)
 (mo_lt
 (mo_eq mo_get)
 (mo_eq mo_ri))))))
theorem mo_X5_count {S_X5_cells : ma_Cs} (hS_X5_cells : ma_ms S_X5_cells) : ∀ pc, ma_mo (tb_X5_count S_X5_cells pc) := fun pc =>
 (mo_lt
 (mo_lt
 (mo_lt
 (mo_lt
 (mo_lt
 (mo_lt
 (mo_eq mo_push)
 (mo_eq mo_ist))
 (mo_lt
 (mo_eq mo_push)
 (mo_eq mo_ist)))
 (mo_lt
 (mo_lt
 (mo_eq mo_push)
 (mo_eq mo_ist))
 (mo_lt
 (mo_eq mo_ild)
 (mo_eq mo_push))))
 (mo_lt
 (mo_lt
 (mo_lt
 (mo_eq mo_ald)
 (mo_eq (mo_v1 hS_X5_cells)))
 (mo_lt
 (mo_eq mo_iii)
 (mo_eq mo_if2)))
 (mo_lt
 (mo_lt
 (mo_eq mo_ild)
 (mo_eq mo_ald))
 (mo_lt
 (mo_eq mo_get)
 (mo_lt
 (mo_eq mo_ild)
 (mo_eq mo_iar))))))
 (mo_lt
 (mo_lt
 (mo_lt
 (mo_lt
 (mo_eq mo_push)
 (mo_eq mo_if2))
 (mo_lt
 (mo_eq mo_push)
 (mo_eq mo_go)))
 (mo_lt
 (mo_lt
 (mo_eq mo_push)
 (mo_eq mo_iii))
 (mo_lt
 (mo_eq mo_ist)
 (mo_eq mo_inc))))
 (mo_lt
 (mo_lt
 (mo_lt
 (mo_eq mo_go)
 (mo_eq mo_push))
 (mo_lt
 (mo_eq mo_ist)
 (mo_eq mo_ild)))
 (mo_lt
 (mo_lt
 (mo_eq mo_push)
 (mo_eq mo_if2))
 (mo_lt
 (mo_eq mo_ild)
 (mo_lt
 (mo_eq mo_ald)
 (mo_eq mo_get)))))))
 (mo_lt
 (mo_lt
 (mo_lt
 (mo_lt
 (mo_lt
 (mo_eq mo_ild)
 (mo_eq mo_lar))
 (mo_lt
 (mo_eq mo_push)
 (mo_eq mo_lli)))
 (mo_lt
 (mo_lt
 (mo_eq mo_if1)
 (mo_eq mo_push))
 (mo_lt
 (mo_eq mo_go)
 (mo_eq mo_push))))
 (mo_lt
 (mo_lt
 (mo_lt
 (mo_eq mo_iii)
 (mo_eq mo_ist))
 (mo_lt
 (mo_eq mo_inc)
 (mo_eq mo_go)))
 (mo_lt
 (mo_lt
 (mo_eq mo_ild)
 (mo_eq mo_sw))
 (mo_lt
 (mo_eq mo_ald)
 (mo_lt
 (mo_eq (mo_v1 hS_X5_cells))
 (mo_eq mo_ri))))))
 (mo_lt
 (mo_lt
 (mo_lt
 (mo_lt
 (mo_eq mo_ald)
 (mo_eq mo_get))
 (mo_lt
 (mo_eq mo_ri)
 (mo_eq mo_ald)))
 (mo_lt
 (mo_lt
 (mo_eq mo_get)
 (mo_eq mo_ri))
 (mo_lt
 (mo_eq mo_ild)
 (mo_lt
 (mo_eq mo_ri)
 (mo_eq mo_ald)))))
 (mo_lt
 (mo_lt
 (mo_lt
 (mo_eq mo_get)
 (mo_eq mo_ri))
 (mo_lt
 (mo_eq mo_ald)
 (mo_eq mo_get)))
 (mo_lt
 (mo_lt
 (mo_eq mo_ri)
 (mo_eq mo_ild))
 (mo_lt
 (mo_eq mo_ri)
 (mo_lt
 (mo_eq mo_push)
 (mo_eq mo_ri))))))))
