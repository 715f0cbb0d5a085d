/-! tables: J0_min J0_floorDiv J0_abs J0_floorDiv_2 J0_abs_2 J0_max J1_bitCount -/
set_option maxRecDepth 100000
set_option maxHeartbeats 4000000
theorem dJ0_min_0 : decode cJ0_min 0 = .ok (.iload_n 0, 1) := by decide +kernel
theorem dJ0_min_1 : decode cJ0_min 1 = .ok (.iload_n 1, 1) := by decide +kernel
theorem dJ0_min_2 : decode cJ0_min 2 = .ok (.if_icmp .gt 7, 3) := by decide +kernel
theorem dJ0_min_5 : decode cJ0_min 5 = .ok (.iload_n 0, 1) := by decide +kernel
theorem dJ0_min_6 : decode cJ0_min 6 = .ok (.goto 4, 3) := by decide +kernel
theorem dJ0_min_9 : decode cJ0_min 9 = .ok (.iload_n 1, 1) := by decide +kernel
theorem dJ0_min_10 : decode cJ0_min 10 = .ok (.ireturn, 1) := by decide +kernel
def tb_J0_min : Nat → ma_In := fun pc =>
 (if pc < 5 then
 (if pc < 1 then
 (if pc = 0 then in_ild 0 1 else in_no) else
 (if pc < 2 then
 (if pc = 1 then in_ild 1 2 else in_no) else
 (if pc = 2 then in_if2 (fun x y => y < x) 9 5 else in_no))) else
 (if pc < 9 then
 (if pc < 6 then
 (if pc = 5 then in_ild 0 6 else in_no) else
 (if pc = 6 then in_go 10 else in_no)) else
 (if pc < 10 then
 (if pc = 9 then in_ild 1 10 else in_no) else
 (if pc = 10 then in_ri else in_no))))
theorem tk_J0_min {l : Launch} {w : ma_Wd} {NC : Nat} {A : Nat → Prop} {Y : Nat → ma_Ly} {p : Program} {e : Env} {s : State} {m : MethodId} {args : Array Value} {below : List Frame} {meth : Method} {c : Code} (X : ma_Cx p s m args meth c w Y NC A yJ0_min.cls cJ0_min 2 (some .int)) : ∀ pc, ma_Ok p l e rm_J0_min s m args below meth c w Y NC A 2 pc (tb_J0_min pc) := fun pc =>
 (mk_lt
 (mk_lt
 (mk_eq (mk_iload_n X dJ0_min_0 rfl rfl))
 (mk_lt
 (mk_eq (mk_iload_n X dJ0_min_1 rfl rfl))
 (mk_eq (mk_icgt X dJ0_min_2 rfl rfl))))
 (mk_lt
 (mk_lt
 (mk_eq (mk_iload_n X dJ0_min_5 rfl rfl))
 (mk_eq (mk_goto X dJ0_min_6 rfl)))
 (mk_lt
 (mk_eq (mk_iload_n X dJ0_min_9 rfl rfl))
 (mk_eq (mk_ri X dJ0_min_10)))))
theorem sd_J0_min {l : Launch} {w : ma_Wd} {NC : Nat} {A : Nat → Prop} {Y : Nat → ma_Ly} (hw : ma_Wo w Y NC A) : ma_Sd l w Y NC A yJ0_min cJ0_min 2 (some .int) rm_J0_min (ma_rn (tb_J0_min) 2) := ma_ofF hw (by decide +kernel) ⟨rfl, rfl⟩ (fun X => tk_J0_min  X)
theorem dJ0_floorDiv_0 : decode cJ0_floorDiv 0 = .ok (.iload_n 0, 1) := by decide +kernel
theorem dJ0_floorDiv_1 : decode cJ0_floorDiv 1 = .ok (.iload_n 1, 1) := by decide +kernel
theorem dJ0_floorDiv_2 : decode cJ0_floorDiv 2 = .ok (.idiv, 1) := by decide +kernel
theorem dJ0_floorDiv_3 : decode cJ0_floorDiv 3 = .ok (.istore_n 2, 1) := by decide +kernel
theorem dJ0_floorDiv_4 : decode cJ0_floorDiv 4 = .ok (.iload_n 0, 1) := by decide +kernel
theorem dJ0_floorDiv_5 : decode cJ0_floorDiv 5 = .ok (.iload_n 1, 1) := by decide +kernel
theorem dJ0_floorDiv_6 : decode cJ0_floorDiv 6 = .ok (.ixor, 1) := by decide +kernel
theorem dJ0_floorDiv_7 : decode cJ0_floorDiv 7 = .ok (.ifCond .ge 14, 3) := by decide +kernel
theorem dJ0_floorDiv_10 : decode cJ0_floorDiv 10 = .ok (.iload_n 2, 1) := by decide +kernel
theorem dJ0_floorDiv_11 : decode cJ0_floorDiv 11 = .ok (.iload_n 1, 1) := by decide +kernel
theorem dJ0_floorDiv_12 : decode cJ0_floorDiv 12 = .ok (.imul, 1) := by decide +kernel
theorem dJ0_floorDiv_13 : decode cJ0_floorDiv 13 = .ok (.iload_n 0, 1) := by decide +kernel
theorem dJ0_floorDiv_14 : decode cJ0_floorDiv 14 = .ok (.if_icmp .eq 7, 3) := by decide +kernel
theorem dJ0_floorDiv_17 : decode cJ0_floorDiv 17 = .ok (.iload_n 2, 1) := by decide +kernel
theorem dJ0_floorDiv_18 : decode cJ0_floorDiv 18 = .ok (.iconst 1, 1) := by decide +kernel
theorem dJ0_floorDiv_19 : decode cJ0_floorDiv 19 = .ok (.isub, 1) := by decide +kernel
theorem dJ0_floorDiv_20 : decode cJ0_floorDiv 20 = .ok (.ireturn, 1) := by decide +kernel
theorem dJ0_floorDiv_21 : decode cJ0_floorDiv 21 = .ok (.iload_n 2, 1) := by decide +kernel
theorem dJ0_floorDiv_22 : decode cJ0_floorDiv 22 = .ok (.ireturn, 1) := by decide +kernel
def tb_J0_floorDiv : Nat → ma_In := fun pc =>
 (if pc < 11 then
 (if pc < 4 then
 (if pc < 2 then
 (if pc < 1 then
 (if pc = 0 then in_ild 0 1 else in_no) else
 (if pc = 1 then in_ild 1 2 else in_no)) else
 (if pc < 3 then
 (if pc = 2 then in_idv (fun x y => x / y) 3 else in_no) else
 (if pc = 3 then in_ist 2 4 else in_no))) else
 (if pc < 6 then
 (if pc < 5 then
 (if pc = 4 then in_ild 0 5 else in_no) else
 (if pc = 5 then in_ild 1 6 else in_no)) else
 (if pc < 7 then
 (if pc = 6 then in_iii (fun x y => x ^^^ y) 7 else in_no) else
 (if pc < 10 then
 (if pc = 7 then in_if1 (fun x => 0 ≤ x) 21 10 else in_no) else
 (if pc = 10 then in_ild 2 11 else in_no))))) else
 (if pc < 18 then
 (if pc < 13 then
 (if pc < 12 then
 (if pc = 11 then in_ild 1 12 else in_no) else
 (if pc = 12 then in_iii (fun x y => x * y) 13 else in_no)) else
 (if pc < 14 then
 (if pc = 13 then in_ild 0 14 else in_no) else
 (if pc < 17 then
 (if pc = 14 then in_if2 (fun x y => x = y) 21 17 else in_no) else
 (if pc = 17 then in_ild 2 18 else in_no)))) else
 (if pc < 20 then
 (if pc < 19 then
 (if pc = 18 then in_push (.int 1) 19 else in_no) else
 (if pc = 19 then in_iii (fun x y => x - y) 20 else in_no)) else
 (if pc < 21 then
 (if pc = 20 then in_ri else in_no) else
 (if pc < 22 then
 (if pc = 21 then in_ild 2 22 else in_no) else
 (if pc = 22 then in_ri else in_no))))))
theorem tk_J0_floorDiv {l : Launch} {w : ma_Wd} {NC : Nat} {A : Nat → Prop} {Y : Nat → ma_Ly} {p : Program} {e : Env} {s : State} {m : MethodId} {args : Array Value} {below : List Frame} {meth : Method} {c : Code} (X : ma_Cx p s m args meth c w Y NC A yJ0_floorDiv.cls cJ0_floorDiv 3 (some .int)) : ∀ pc, ma_Ok p l e rm_J0_floorDiv s m args below meth c w Y NC A 3 pc (tb_J0_floorDiv pc) := fun pc =>
 (mk_lt
 (mk_lt
 (mk_lt
 (mk_lt
 (mk_eq (mk_iload_n X dJ0_floorDiv_0 rfl rfl))
 (mk_eq (mk_iload_n X dJ0_floorDiv_1 rfl rfl)))
 (mk_lt
 (mk_eq (mk_idiv X dJ0_floorDiv_2 rfl))
 (mk_eq (mk_istore_n X dJ0_floorDiv_3 rfl (Nat.le_of_ble_eq_true rfl) rfl))))
 (mk_lt
 (mk_lt
 (mk_eq (mk_iload_n X dJ0_floorDiv_4 rfl rfl))
 (mk_eq (mk_iload_n X dJ0_floorDiv_5 rfl rfl)))
 (mk_lt
 (mk_eq (mk_ixor X dJ0_floorDiv_6 rfl))
 (mk_lt
 (mk_eq (mk_ifge X dJ0_floorDiv_7 rfl rfl))
 (mk_eq (mk_iload_n X dJ0_floorDiv_10 rfl rfl))))))
 (mk_lt
 (mk_lt
 (mk_lt
 (mk_eq (mk_iload_n X dJ0_floorDiv_11 rfl rfl))
 (mk_eq (mk_imul X dJ0_floorDiv_12 rfl)))
 (mk_lt
 (mk_eq (mk_iload_n X dJ0_floorDiv_13 rfl rfl))
 (mk_lt
 (mk_eq (mk_iceq X dJ0_floorDiv_14 rfl rfl))
 (mk_eq (mk_iload_n X dJ0_floorDiv_17 rfl rfl)))))
 (mk_lt
 (mk_lt
 (mk_eq (mk_iconst X dJ0_floorDiv_18 rfl rfl))
 (mk_eq (mk_isub X dJ0_floorDiv_19 rfl)))
 (mk_lt
 (mk_eq (mk_ri X dJ0_floorDiv_20))
 (mk_lt
 (mk_eq (mk_iload_n X dJ0_floorDiv_21 rfl rfl))
 (mk_eq (mk_ri X dJ0_floorDiv_22)))))))
theorem sd_J0_floorDiv {l : Launch} {w : ma_Wd} {NC : Nat} {A : Nat → Prop} {Y : Nat → ma_Ly} (hw : ma_Wo w Y NC A) : ma_Sd l w Y NC A yJ0_floorDiv cJ0_floorDiv 3 (some .int) rm_J0_floorDiv (ma_rn (tb_J0_floorDiv) 3) := ma_ofF hw (by decide +kernel) ⟨rfl, rfl⟩ (fun X => tk_J0_floorDiv  X)
theorem dJ0_abs_0 : decode cJ0_abs 0 = .ok (.lload_n 0, 1) := by decide +kernel
theorem dJ0_abs_1 : decode cJ0_abs 1 = .ok (.lconst 0, 1) := by decide +kernel
theorem dJ0_abs_2 : decode cJ0_abs 2 = .ok (.lcmp, 1) := by decide +kernel
theorem dJ0_abs_3 : decode cJ0_abs 3 = .ok (.ifCond .ge 8, 3) := by decide +kernel
theorem dJ0_abs_6 : decode cJ0_abs 6 = .ok (.lload_n 0, 1) := by decide +kernel
theorem dJ0_abs_7 : decode cJ0_abs 7 = .ok (.lneg, 1) := by decide +kernel
theorem dJ0_abs_8 : decode cJ0_abs 8 = .ok (.goto 4, 3) := by decide +kernel
theorem dJ0_abs_11 : decode cJ0_abs 11 = .ok (.lload_n 0, 1) := by decide +kernel
theorem dJ0_abs_12 : decode cJ0_abs 12 = .ok (.lreturn, 1) := by decide +kernel
def tb_J0_abs : Nat → ma_In := fun pc =>
 (if pc < 6 then
 (if pc < 2 then
 (if pc < 1 then
 (if pc = 0 then in_lld 0 1 else in_no) else
 (if pc = 1 then in_push (.long 0) 2 else in_no)) else
 (if pc < 3 then
 (if pc = 2 then in_lli lg_cmp 3 else in_no) else
 (if pc = 3 then in_if1 (fun x => 0 ≤ x) 11 6 else in_no))) else
 (if pc < 8 then
 (if pc < 7 then
 (if pc = 6 then in_lld 0 7 else in_no) else
 (if pc = 7 then in_ll (fun x => -x) 8 else in_no)) else
 (if pc < 11 then
 (if pc = 8 then in_go 12 else in_no) else
 (if pc < 12 then
 (if pc = 11 then in_lld 0 12 else in_no) else
 (if pc = 12 then in_rl else in_no)))))
theorem tk_J0_abs {l : Launch} {w : ma_Wd} {NC : Nat} {A : Nat → Prop} {Y : Nat → ma_Ly} {p : Program} {e : Env} {s : State} {m : MethodId} {args : Array Value} {below : List Frame} {meth : Method} {c : Code} (X : ma_Cx p s m args meth c w Y NC A yJ0_abs.cls cJ0_abs 2 (some .long)) : ∀ pc, ma_Ok p l e rm_J0_abs s m args below meth c w Y NC A 2 pc (tb_J0_abs pc) := fun pc =>
 (mk_lt
 (mk_lt
 (mk_lt
 (mk_eq (mk_lload_n X dJ0_abs_0 rfl rfl))
 (mk_eq (mk_lconst X dJ0_abs_1 rfl rfl)))
 (mk_lt
 (mk_eq (mk_lcmp X dJ0_abs_2 rfl))
 (mk_eq (mk_ifge X dJ0_abs_3 rfl rfl))))
 (mk_lt
 (mk_lt
 (mk_eq (mk_lload_n X dJ0_abs_6 rfl rfl))
 (mk_eq (mk_lneg X dJ0_abs_7 rfl)))
 (mk_lt
 (mk_eq (mk_goto X dJ0_abs_8 rfl))
 (mk_lt
 (mk_eq (mk_lload_n X dJ0_abs_11 rfl rfl))
 (mk_eq (mk_rl X dJ0_abs_12))))))
theorem sd_J0_abs {l : Launch} {w : ma_Wd} {NC : Nat} {A : Nat → Prop} {Y : Nat → ma_Ly} (hw : ma_Wo w Y NC A) : ma_Sd l w Y NC A yJ0_abs cJ0_abs 2 (some .long) rm_J0_abs (ma_rn (tb_J0_abs) 2) := ma_ofF hw (by decide +kernel) ⟨rfl, rfl⟩ (fun X => tk_J0_abs  X)
theorem dJ0_floorDiv_2_0 : decode cJ0_floorDiv_2 0 = .ok (.lload_n 0, 1) := by decide +kernel
theorem dJ0_floorDiv_2_1 : decode cJ0_floorDiv_2 1 = .ok (.lload_n 2, 1) := by decide +kernel
theorem dJ0_floorDiv_2_2 : decode cJ0_floorDiv_2 2 = .ok (.ldiv, 1) := by decide +kernel
theorem dJ0_floorDiv_2_3 : decode cJ0_floorDiv_2 3 = .ok (.lstore 4, 2) := by decide +kernel
theorem dJ0_floorDiv_2_5 : decode cJ0_floorDiv_2 5 = .ok (.lload_n 0, 1) := by decide +kernel
theorem dJ0_floorDiv_2_6 : decode cJ0_floorDiv_2 6 = .ok (.lload_n 2, 1) := by decide +kernel
theorem dJ0_floorDiv_2_7 : decode cJ0_floorDiv_2 7 = .ok (.lxor, 1) := by decide +kernel
theorem dJ0_floorDiv_2_8 : decode cJ0_floorDiv_2 8 = .ok (.lconst 0, 1) := by decide +kernel
theorem dJ0_floorDiv_2_9 : decode cJ0_floorDiv_2 9 = .ok (.lcmp, 1) := by decide +kernel
theorem dJ0_floorDiv_2_10 : decode cJ0_floorDiv_2 10 = .ok (.ifCond .ge 17, 3) := by decide +kernel
theorem dJ0_floorDiv_2_13 : decode cJ0_floorDiv_2 13 = .ok (.lload 4, 2) := by decide +kernel
theorem dJ0_floorDiv_2_15 : decode cJ0_floorDiv_2 15 = .ok (.lload_n 2, 1) := by decide +kernel
theorem dJ0_floorDiv_2_16 : decode cJ0_floorDiv_2 16 = .ok (.lmul, 1) := by decide +kernel
theorem dJ0_floorDiv_2_17 : decode cJ0_floorDiv_2 17 = .ok (.lload_n 0, 1) := by decide +kernel
theorem dJ0_floorDiv_2_18 : decode cJ0_floorDiv_2 18 = .ok (.lcmp, 1) := by decide +kernel
theorem dJ0_floorDiv_2_19 : decode cJ0_floorDiv_2 19 = .ok (.ifCond .eq 8, 3) := by decide +kernel
theorem dJ0_floorDiv_2_22 : decode cJ0_floorDiv_2 22 = .ok (.lload 4, 2) := by decide +kernel
theorem dJ0_floorDiv_2_24 : decode cJ0_floorDiv_2 24 = .ok (.lconst 1, 1) := by decide +kernel
theorem dJ0_floorDiv_2_25 : decode cJ0_floorDiv_2 25 = .ok (.lsub, 1) := by decide +kernel
theorem dJ0_floorDiv_2_26 : decode cJ0_floorDiv_2 26 = .ok (.lreturn, 1) := by decide +kernel
theorem dJ0_floorDiv_2_27 : decode cJ0_floorDiv_2 27 = .ok (.lload 4, 2) := by decide +kernel
theorem dJ0_floorDiv_2_29 : decode cJ0_floorDiv_2 29 = .ok (.lreturn, 1) := by decide +kernel
def tb_J0_floorDiv_2 : Nat → ma_In := fun pc =>
 (if pc < 15 then
 (if pc < 6 then
 (if pc < 2 then
 (if pc < 1 then
 (if pc = 0 then in_lld 0 1 else in_no) else
 (if pc = 1 then in_lld 2 2 else in_no)) else
 (if pc < 3 then
 (if pc = 2 then in_ldv (fun x y => x / y) 3 else in_no) else
 (if pc < 5 then
 (if pc = 3 then in_lst 4 5 else in_no) else
 (if pc = 5 then in_lld 0 6 else in_no)))) else
 (if pc < 9 then
 (if pc < 7 then
 (if pc = 6 then in_lld 2 7 else in_no) else
 (if pc < 8 then
 (if pc = 7 then in_lll (fun x y => x ^^^ y) 8 else in_no) else
 (if pc = 8 then in_push (.long 0) 9 else in_no))) else
 (if pc < 10 then
 (if pc = 9 then in_lli lg_cmp 10 else in_no) else
 (if pc < 13 then
 (if pc = 10 then in_if1 (fun x => 0 ≤ x) 27 13 else in_no) else
 (if pc = 13 then in_lld 4 15 else in_no))))) else
 (if pc < 22 then
 (if pc < 17 then
 (if pc < 16 then
 (if pc = 15 then in_lld 2 16 else in_no) else
 (if pc = 16 then in_lll (fun x y => x * y) 17 else in_no)) else
 (if pc < 18 then
 (if pc = 17 then in_lld 0 18 else in_no) else
 (if pc < 19 then
 (if pc = 18 then in_lli lg_cmp 19 else in_no) else
 (if pc = 19 then in_if1 (fun x => x = 0) 27 22 else in_no)))) else
 (if pc < 26 then
 (if pc < 24 then
 (if pc = 22 then in_lld 4 24 else in_no) else
 (if pc < 25 then
 (if pc = 24 then in_push (.long 1) 25 else in_no) else
 (if pc = 25 then in_lll (fun x y => x - y) 26 else in_no))) else
 (if pc < 27 then
 (if pc = 26 then in_rl else in_no) else
 (if pc < 29 then
 (if pc = 27 then in_lld 4 29 else in_no) else
 (if pc = 29 then in_rl else in_no))))))
theorem tk_J0_floorDiv_2 {l : Launch} {w : ma_Wd} {NC : Nat} {A : Nat → Prop} {Y : Nat → ma_Ly} {p : Program} {e : Env} {s : State} {m : MethodId} {args : Array Value} {below : List Frame} {meth : Method} {c : Code} (X : ma_Cx p s m args meth c w Y NC A yJ0_floorDiv_2.cls cJ0_floorDiv_2 6 (some .long)) : ∀ pc, ma_Ok p l e rm_J0_floorDiv_2 s m args below meth c w Y NC A 6 pc (tb_J0_floorDiv_2 pc) := fun pc =>
 (mk_lt
 (mk_lt
 (mk_lt
 (mk_lt
 (mk_eq (mk_lload_n X dJ0_floorDiv_2_0 rfl rfl))
 (mk_eq (mk_lload_n X dJ0_floorDiv_2_1 rfl rfl)))
 (mk_lt
 (mk_eq (mk_ldiv X dJ0_floorDiv_2_2 rfl))
 (mk_lt
 (mk_eq (mk_lstore X dJ0_floorDiv_2_3 (Nat.le_of_ble_eq_true rfl) rfl))
 (mk_eq (mk_lload_n X dJ0_floorDiv_2_5 rfl rfl)))))
 (mk_lt
 (mk_lt
 (mk_eq (mk_lload_n X dJ0_floorDiv_2_6 rfl rfl))
 (mk_lt
 (mk_eq (mk_lxor X dJ0_floorDiv_2_7 rfl))
 (mk_eq (mk_lconst X dJ0_floorDiv_2_8 rfl rfl))))
 (mk_lt
 (mk_eq (mk_lcmp X dJ0_floorDiv_2_9 rfl))
 (mk_lt
 (mk_eq (mk_ifge X dJ0_floorDiv_2_10 rfl rfl))
 (mk_eq (mk_lload X dJ0_floorDiv_2_13 rfl))))))
 (mk_lt
 (mk_lt
 (mk_lt
 (mk_eq (mk_lload_n X dJ0_floorDiv_2_15 rfl rfl))
 (mk_eq (mk_lmul X dJ0_floorDiv_2_16 rfl)))
 (mk_lt
 (mk_eq (mk_lload_n X dJ0_floorDiv_2_17 rfl rfl))
 (mk_lt
 (mk_eq (mk_lcmp X dJ0_floorDiv_2_18 rfl))
 (mk_eq (mk_ifeq X dJ0_floorDiv_2_19 rfl rfl)))))
 (mk_lt
 (mk_lt
 (mk_eq (mk_lload X dJ0_floorDiv_2_22 rfl))
 (mk_lt
 (mk_eq (mk_lconst X dJ0_floorDiv_2_24 rfl rfl))
 (mk_eq (mk_lsub X dJ0_floorDiv_2_25 rfl))))
 (mk_lt
 (mk_eq (mk_rl X dJ0_floorDiv_2_26))
 (mk_lt
 (mk_eq (mk_lload X dJ0_floorDiv_2_27 rfl))
 (mk_eq (mk_rl X dJ0_floorDiv_2_29)))))))
theorem sd_J0_floorDiv_2 {l : Launch} {w : ma_Wd} {NC : Nat} {A : Nat → Prop} {Y : Nat → ma_Ly} (hw : ma_Wo w Y NC A) : ma_Sd l w Y NC A yJ0_floorDiv_2 cJ0_floorDiv_2 6 (some .long) rm_J0_floorDiv_2 (ma_rn (tb_J0_floorDiv_2) 6) := ma_ofF hw (by decide +kernel) ⟨rfl, rfl⟩ (fun X => tk_J0_floorDiv_2  X)
theorem dJ0_abs_2_0 : decode cJ0_abs_2 0 = .ok (.iload_n 0, 1) := by decide +kernel
theorem dJ0_abs_2_1 : decode cJ0_abs_2 1 = .ok (.ifCond .ge 8, 3) := by decide +kernel
theorem dJ0_abs_2_4 : decode cJ0_abs_2 4 = .ok (.iload_n 0, 1) := by decide +kernel
theorem dJ0_abs_2_5 : decode cJ0_abs_2 5 = .ok (.ineg, 1) := by decide +kernel
theorem dJ0_abs_2_6 : decode cJ0_abs_2 6 = .ok (.goto 4, 3) := by decide +kernel
theorem dJ0_abs_2_9 : decode cJ0_abs_2 9 = .ok (.iload_n 0, 1) := by decide +kernel
theorem dJ0_abs_2_10 : decode cJ0_abs_2 10 = .ok (.ireturn, 1) := by decide +kernel
def tb_J0_abs_2 : Nat → ma_In := fun pc =>
 (if pc < 5 then
 (if pc < 1 then
 (if pc = 0 then in_ild 0 1 else in_no) else
 (if pc < 4 then
 (if pc = 1 then in_if1 (fun x => 0 ≤ x) 9 4 else in_no) else
 (if pc = 4 then in_ild 0 5 else in_no))) else
 (if pc < 9 then
 (if pc < 6 then
 (if pc = 5 then in_ii (fun x => -x) 6 else in_no) else
 (if pc = 6 then in_go 10 else in_no)) else
 (if pc < 10 then
 (if pc = 9 then in_ild 0 10 else in_no) else
 (if pc = 10 then in_ri else in_no))))
theorem tk_J0_abs_2 {l : Launch} {w : ma_Wd} {NC : Nat} {A : Nat → Prop} {Y : Nat → ma_Ly} {p : Program} {e : Env} {s : State} {m : MethodId} {args : Array Value} {below : List Frame} {meth : Method} {c : Code} (X : ma_Cx p s m args meth c w Y NC A yJ0_abs_2.cls cJ0_abs_2 1 (some .int)) : ∀ pc, ma_Ok p l e rm_J0_abs_2 s m args below meth c w Y NC A 1 pc (tb_J0_abs_2 pc) := fun pc =>
 (mk_lt
 (mk_lt
 (mk_eq (mk_iload_n X dJ0_abs_2_0 rfl rfl))
 (mk_lt
 (mk_eq (mk_ifge X dJ0_abs_2_1 rfl rfl))
 (mk_eq (mk_iload_n X dJ0_abs_2_4 rfl rfl))))
 (mk_lt
 (mk_lt
 (mk_eq (mk_ineg X dJ0_abs_2_5 rfl))
 (mk_eq (mk_goto X dJ0_abs_2_6 rfl)))
 (mk_lt
 (mk_eq (mk_iload_n X dJ0_abs_2_9 rfl rfl))
 (mk_eq (mk_ri X dJ0_abs_2_10)))))
theorem sd_J0_abs_2 {l : Launch} {w : ma_Wd} {NC : Nat} {A : Nat → Prop} {Y : Nat → ma_Ly} (hw : ma_Wo w Y NC A) : ma_Sd l w Y NC A yJ0_abs_2 cJ0_abs_2 1 (some .int) rm_J0_abs_2 (ma_rn (tb_J0_abs_2) 1) := ma_ofF hw (by decide +kernel) ⟨rfl, rfl⟩ (fun X => tk_J0_abs_2  X)
theorem dJ0_max_0 : decode cJ0_max 0 = .ok (.iload_n 0, 1) := by decide +kernel
theorem dJ0_max_1 : decode cJ0_max 1 = .ok (.iload_n 1, 1) := by decide +kernel
theorem dJ0_max_2 : decode cJ0_max 2 = .ok (.if_icmp .lt 7, 3) := by decide +kernel
theorem dJ0_max_5 : decode cJ0_max 5 = .ok (.iload_n 0, 1) := by decide +kernel
theorem dJ0_max_6 : decode cJ0_max 6 = .ok (.goto 4, 3) := by decide +kernel
theorem dJ0_max_9 : decode cJ0_max 9 = .ok (.iload_n 1, 1) := by decide +kernel
theorem dJ0_max_10 : decode cJ0_max 10 = .ok (.ireturn, 1) := by decide +kernel
def tb_J0_max : Nat → ma_In := fun pc =>
 (if pc < 5 then
 (if pc < 1 then
 (if pc = 0 then in_ild 0 1 else in_no) else
 (if pc < 2 then
 (if pc = 1 then in_ild 1 2 else in_no) else
 (if pc = 2 then in_if2 (fun x y => x < y) 9 5 else in_no))) else
 (if pc < 9 then
 (if pc < 6 then
 (if pc = 5 then in_ild 0 6 else in_no) else
 (if pc = 6 then in_go 10 else in_no)) else
 (if pc < 10 then
 (if pc = 9 then in_ild 1 10 else in_no) else
 (if pc = 10 then in_ri else in_no))))
theorem tk_J0_max {l : Launch} {w : ma_Wd} {NC : Nat} {A : Nat → Prop} {Y : Nat → ma_Ly} {p : Program} {e : Env} {s : State} {m : MethodId} {args : Array Value} {below : List Frame} {meth : Method} {c : Code} (X : ma_Cx p s m args meth c w Y NC A yJ0_max.cls cJ0_max 2 (some .int)) : ∀ pc, ma_Ok p l e rm_J0_max s m args below meth c w Y NC A 2 pc (tb_J0_max pc) := fun pc =>
 (mk_lt
 (mk_lt
 (mk_eq (mk_iload_n X dJ0_max_0 rfl rfl))
 (mk_lt
 (mk_eq (mk_iload_n X dJ0_max_1 rfl rfl))
 (mk_eq (mk_iclt X dJ0_max_2 rfl rfl))))
 (mk_lt
 (mk_lt
 (mk_eq (mk_iload_n X dJ0_max_5 rfl rfl))
 (mk_eq (mk_goto X dJ0_max_6 rfl)))
 (mk_lt
 (mk_eq (mk_iload_n X dJ0_max_9 rfl rfl))
 (mk_eq (mk_ri X dJ0_max_10)))))
theorem sd_J0_max {l : Launch} {w : ma_Wd} {NC : Nat} {A : Nat → Prop} {Y : Nat → ma_Ly} (hw : ma_Wo w Y NC A) : ma_Sd l w Y NC A yJ0_max cJ0_max 2 (some .int) rm_J0_max (ma_rn (tb_J0_max) 2) := ma_ofF hw (by decide +kernel) ⟨rfl, rfl⟩ (fun X => tk_J0_max  X)
theorem dJ1_bitCount_0 : decode cJ1_bitCount 0 = .ok (.iload_n 0, 1) := by decide +kernel
theorem dJ1_bitCount_1 : decode cJ1_bitCount 1 = .ok (.iload_n 0, 1) := by decide +kernel
theorem dJ1_bitCount_2 : decode cJ1_bitCount 2 = .ok (.iconst 1, 1) := by decide +kernel
theorem dJ1_bitCount_3 : decode cJ1_bitCount 3 = .ok (.iushr, 1) := by decide +kernel
theorem dJ1_bitCount_4 : decode cJ1_bitCount 4 = .ok (.ldc_w 265, 3) := by decide +kernel
theorem dJ1_bitCount_7 : decode cJ1_bitCount 7 = .ok (.iand, 1) := by decide +kernel
theorem dJ1_bitCount_8 : decode cJ1_bitCount 8 = .ok (.isub, 1) := by decide +kernel
theorem dJ1_bitCount_9 : decode cJ1_bitCount 9 = .ok (.istore_n 0, 1) := by decide +kernel
theorem dJ1_bitCount_10 : decode cJ1_bitCount 10 = .ok (.iload_n 0, 1) := by decide +kernel
theorem dJ1_bitCount_11 : decode cJ1_bitCount 11 = .ok (.ldc_w 266, 3) := by decide +kernel
theorem dJ1_bitCount_14 : decode cJ1_bitCount 14 = .ok (.iand, 1) := by decide +kernel
theorem dJ1_bitCount_15 : decode cJ1_bitCount 15 = .ok (.iload_n 0, 1) := by decide +kernel
theorem dJ1_bitCount_16 : decode cJ1_bitCount 16 = .ok (.iconst 2, 1) := by decide +kernel
theorem dJ1_bitCount_17 : decode cJ1_bitCount 17 = .ok (.iushr, 1) := by decide +kernel
theorem dJ1_bitCount_18 : decode cJ1_bitCount 18 = .ok (.ldc_w 266, 3) := by decide +kernel
theorem dJ1_bitCount_21 : decode cJ1_bitCount 21 = .ok (.iand, 1) := by decide +kernel
theorem dJ1_bitCount_22 : decode cJ1_bitCount 22 = .ok (.iadd, 1) := by decide +kernel
theorem dJ1_bitCount_23 : decode cJ1_bitCount 23 = .ok (.istore_n 0, 1) := by decide +kernel
theorem dJ1_bitCount_24 : decode cJ1_bitCount 24 = .ok (.iload_n 0, 1) := by decide +kernel
theorem dJ1_bitCount_25 : decode cJ1_bitCount 25 = .ok (.iload_n 0, 1) := by decide +kernel
theorem dJ1_bitCount_26 : decode cJ1_bitCount 26 = .ok (.iconst 4, 1) := by decide +kernel
theorem dJ1_bitCount_27 : decode cJ1_bitCount 27 = .ok (.iushr, 1) := by decide +kernel
theorem dJ1_bitCount_28 : decode cJ1_bitCount 28 = .ok (.iadd, 1) := by decide +kernel
theorem dJ1_bitCount_29 : decode cJ1_bitCount 29 = .ok (.ldc_w 267, 3) := by decide +kernel
theorem dJ1_bitCount_32 : decode cJ1_bitCount 32 = .ok (.iand, 1) := by decide +kernel
theorem dJ1_bitCount_33 : decode cJ1_bitCount 33 = .ok (.istore_n 0, 1) := by decide +kernel
theorem dJ1_bitCount_34 : decode cJ1_bitCount 34 = .ok (.iload_n 0, 1) := by decide +kernel
theorem dJ1_bitCount_35 : decode cJ1_bitCount 35 = .ok (.iload_n 0, 1) := by decide +kernel
theorem dJ1_bitCount_36 : decode cJ1_bitCount 36 = .ok (.bipush 8, 2) := by decide +kernel
theorem dJ1_bitCount_38 : decode cJ1_bitCount 38 = .ok (.iushr, 1) := by decide +kernel
theorem dJ1_bitCount_39 : decode cJ1_bitCount 39 = .ok (.iadd, 1) := by decide +kernel
theorem dJ1_bitCount_40 : decode cJ1_bitCount 40 = .ok (.istore_n 0, 1) := by decide +kernel
theorem dJ1_bitCount_41 : decode cJ1_bitCount 41 = .ok (.iload_n 0, 1) := by decide +kernel
theorem dJ1_bitCount_42 : decode cJ1_bitCount 42 = .ok (.iload_n 0, 1) := by decide +kernel
theorem dJ1_bitCount_43 : decode cJ1_bitCount 43 = .ok (.bipush 16, 2) := by decide +kernel
theorem dJ1_bitCount_45 : decode cJ1_bitCount 45 = .ok (.iushr, 1) := by decide +kernel
theorem dJ1_bitCount_46 : decode cJ1_bitCount 46 = .ok (.iadd, 1) := by decide +kernel
theorem dJ1_bitCount_47 : decode cJ1_bitCount 47 = .ok (.istore_n 0, 1) := by decide +kernel
theorem dJ1_bitCount_48 : decode cJ1_bitCount 48 = .ok (.iload_n 0, 1) := by decide +kernel
theorem dJ1_bitCount_49 : decode cJ1_bitCount 49 = .ok (.bipush 63, 2) := by decide +kernel
theorem dJ1_bitCount_51 : decode cJ1_bitCount 51 = .ok (.iand, 1) := by decide +kernel
theorem dJ1_bitCount_52 : decode cJ1_bitCount 52 = .ok (.ireturn, 1) := by decide +kernel
def tb_J1_bitCount : Nat → ma_In := fun pc =>
 (if pc < 27 then
 (if pc < 14 then
 (if pc < 7 then
 (if pc < 2 then
 (if pc < 1 then
 (if pc = 0 then in_ild 0 1 else in_no) else
 (if pc = 1 then in_ild 0 2 else in_no)) else
 (if pc < 3 then
 (if pc = 2 then in_push (.int 1) 3 else in_no) else
 (if pc < 4 then
 (if pc = 3 then in_iii (fun x y => (x.toUInt32 >>> (y.toUInt32 &&& Int32.toUInt32 31)).toInt32) 4 else in_no) else
 (if pc = 4 then in_push (.int 1431655765) 7 else in_no)))) else
 (if pc < 9 then
 (if pc < 8 then
 (if pc = 7 then in_iii (fun x y => x &&& y) 8 else in_no) else
 (if pc = 8 then in_iii (fun x y => x - y) 9 else in_no)) else
 (if pc < 10 then
 (if pc = 9 then in_ist 0 10 else in_no) else
 (if pc < 11 then
 (if pc = 10 then in_ild 0 11 else in_no) else
 (if pc = 11 then in_push (.int 858993459) 14 else in_no))))) else
 (if pc < 21 then
 (if pc < 16 then
 (if pc < 15 then
 (if pc = 14 then in_iii (fun x y => x &&& y) 15 else in_no) else
 (if pc = 15 then in_ild 0 16 else in_no)) else
 (if pc < 17 then
 (if pc = 16 then in_push (.int 2) 17 else in_no) else
 (if pc < 18 then
 (if pc = 17 then in_iii (fun x y => (x.toUInt32 >>> (y.toUInt32 &&& Int32.toUInt32 31)).toInt32) 18 else in_no) else
 (if pc = 18 then in_push (.int 858993459) 21 else in_no)))) else
 (if pc < 24 then
 (if pc < 22 then
 (if pc = 21 then in_iii (fun x y => x &&& y) 22 else in_no) else
 (if pc < 23 then
 (if pc = 22 then in_iii (fun x y => x + y) 23 else in_no) else
 (if pc = 23 then in_ist 0 24 else in_no))) else
 (if pc < 25 then
 (if pc = 24 then in_ild 0 25 else in_no) else
 (if pc < 26 then
 (if pc = 25 then in_ild 0 26 else in_no) else
 (if pc = 26 then in_push (.int 4) 27 else in_no)))))) else
 (if pc < 40 then
 (if pc < 34 then
 (if pc < 29 then
 (if pc < 28 then
 (if pc = 27 then in_iii (fun x y => (x.toUInt32 >>> (y.toUInt32 &&& Int32.toUInt32 31)).toInt32) 28 else in_no) else
 (if pc = 28 then in_iii (fun x y => x + y) 29 else in_no)) else
 (if pc < 32 then
 (if pc = 29 then in_push (.int 252645135) 32 else in_no) else
 (if pc < 33 then
 (if pc = 32 then in_iii (fun x y => x &&& y) 33 else in_no) else
 (if pc = 33 then in_ist 0 34 else in_no)))) else
 (if pc < 36 then
 (if pc < 35 then
 (if pc = 34 then in_ild 0 35 else in_no) else
 (if pc = 35 then in_ild 0 36 else in_no)) else
 (if pc < 38 then
 (if pc = 36 then in_push (.int 8) 38 else in_no) else
 (if pc < 39 then
 (if pc = 38 then in_iii (fun x y => (x.toUInt32 >>> (y.toUInt32 &&& Int32.toUInt32 31)).toInt32) 39 else in_no) else
 (if pc = 39 then in_iii (fun x y => x + y) 40 else in_no))))) else
 (if pc < 46 then
 (if pc < 42 then
 (if pc < 41 then
 (if pc = 40 then in_ist 0 41 else in_no) else
 (if pc = 41 then in_ild 0 42 else in_no)) else
 (if pc < 43 then
 (if pc = 42 then in_ild 0 43 else in_no) else
 (if pc < 45 then
 (if pc = 43 then in_push (.int 16) 45 else in_no) else
 (if pc = 45 then in_iii (fun x y => (x.toUInt32 >>> (y.toUInt32 &&& Int32.toUInt32 31)).toInt32) 46 else in_no)))) else
 (if pc < 49 then
 (if pc < 47 then
 (if pc = 46 then in_iii (fun x y => x + y) 47 else in_no) else
 (if pc < 48 then
 (if pc = 47 then in_ist 0 48 else in_no) else
 (if pc = 48 then in_ild 0 49 else in_no))) else
 (if pc < 51 then
 (if pc = 49 then in_push (.int 63) 51 else in_no) else
 (if pc < 52 then
 (if pc = 51 then in_iii (fun x y => x &&& y) 52 else in_no) else
 (if pc = 52 then in_ri else in_no)))))))
theorem tk_J1_bitCount {l : Launch} {w : ma_Wd} {NC : Nat} {A : Nat → Prop} {Y : Nat → ma_Ly} {p : Program} {e : Env} {s : State} {m : MethodId} {args : Array Value} {below : List Frame} {meth : Method} {c : Code} (X : ma_Cx p s m args meth c w Y NC A yJ1_bitCount.cls cJ1_bitCount 1 (some .int)) : ∀ pc, ma_Ok p l e rm_J1_bitCount s m args below meth c w Y NC A 1 pc (tb_J1_bitCount pc) := fun pc =>
 (mk_lt
 (mk_lt
 (mk_lt
 (mk_lt
 (mk_lt
 (mk_eq (mk_iload_n X dJ1_bitCount_0 rfl rfl))
 (mk_eq (mk_iload_n X dJ1_bitCount_1 rfl rfl)))
 (mk_lt
 (mk_eq (mk_iconst X dJ1_bitCount_2 rfl rfl))
 (mk_lt
 (mk_eq (mk_iushr X dJ1_bitCount_3 rfl))
 (mk_eq (mk_ldcw X dJ1_bitCount_4 q628 rfl)))))
 (mk_lt
 (mk_lt
 (mk_eq (mk_iand X dJ1_bitCount_7 rfl))
 (mk_eq (mk_isub X dJ1_bitCount_8 rfl)))
 (mk_lt
 (mk_eq (mk_istore_n X dJ1_bitCount_9 rfl (Nat.le_of_ble_eq_true rfl) rfl))
 (mk_lt
 (mk_eq (mk_iload_n X dJ1_bitCount_10 rfl rfl))
 (mk_eq (mk_ldcw X dJ1_bitCount_11 q629 rfl))))))
 (mk_lt
 (mk_lt
 (mk_lt
 (mk_eq (mk_iand X dJ1_bitCount_14 rfl))
 (mk_eq (mk_iload_n X dJ1_bitCount_15 rfl rfl)))
 (mk_lt
 (mk_eq (mk_iconst X dJ1_bitCount_16 rfl rfl))
 (mk_lt
 (mk_eq (mk_iushr X dJ1_bitCount_17 rfl))
 (mk_eq (mk_ldcw X dJ1_bitCount_18 q629 rfl)))))
 (mk_lt
 (mk_lt
 (mk_eq (mk_iand X dJ1_bitCount_21 rfl))
 (mk_lt
 (mk_eq (mk_iadd X dJ1_bitCount_22 rfl))
 (mk_eq (mk_istore_n X dJ1_bitCount_23 rfl (Nat.le_of_ble_eq_true rfl) rfl))))
 (mk_lt
 (mk_eq (mk_iload_n X dJ1_bitCount_24 rfl rfl))
 (mk_lt
 (mk_eq (mk_iload_n X dJ1_bitCount_25 rfl rfl))
 (mk_eq (mk_iconst X dJ1_bitCount_26 rfl rfl)))))))
 (mk_lt
 (mk_lt
 (mk_lt
 (mk_lt
 (mk_eq (mk_iushr X dJ1_bitCount_27 rfl))
 (mk_eq (mk_iadd X dJ1_bitCount_28 rfl)))
 (mk_lt
 (mk_eq (mk_ldcw X dJ1_bitCount_29 q630 rfl))
 (mk_lt
 (mk_eq (mk_iand X dJ1_bitCount_32 rfl))
 (mk_eq (mk_istore_n X dJ1_bitCount_33 rfl (Nat.le_of_ble_eq_true rfl) rfl)))))
 (mk_lt
 (mk_lt
 (mk_eq (mk_iload_n X dJ1_bitCount_34 rfl rfl))
 (mk_eq (mk_iload_n X dJ1_bitCount_35 rfl rfl)))
 (mk_lt
 (mk_eq (mk_bipush X dJ1_bitCount_36 rfl rfl))
 (mk_lt
 (mk_eq (mk_iushr X dJ1_bitCount_38 rfl))
 (mk_eq (mk_iadd X dJ1_bitCount_39 rfl))))))
 (mk_lt
 (mk_lt
 (mk_lt
 (mk_eq (mk_istore_n X dJ1_bitCount_40 rfl (Nat.le_of_ble_eq_true rfl) rfl))
 (mk_eq (mk_iload_n X dJ1_bitCount_41 rfl rfl)))
 (mk_lt
 (mk_eq (mk_iload_n X dJ1_bitCount_42 rfl rfl))
 (mk_lt
 (mk_eq (mk_bipush X dJ1_bitCount_43 rfl rfl))
 (mk_eq (mk_iushr X dJ1_bitCount_45 rfl)))))
 (mk_lt
 (mk_lt
 (mk_eq (mk_iadd X dJ1_bitCount_46 rfl))
 (mk_lt
 (mk_eq (mk_istore_n X dJ1_bitCount_47 rfl (Nat.le_of_ble_eq_true rfl) rfl))
 (mk_eq (mk_iload_n X dJ1_bitCount_48 rfl rfl))))
 (mk_lt
 (mk_eq (mk_bipush X dJ1_bitCount_49 rfl rfl))
 (mk_lt
 (mk_eq (mk_iand X dJ1_bitCount_51 rfl))
 (mk_eq (mk_ri X dJ1_bitCount_52))))))))
theorem sd_J1_bitCount {l : Launch} {w : ma_Wd} {NC : Nat} {A : Nat → Prop} {Y : Nat → ma_Ly} (hw : ma_Wo w Y NC A) : ma_Sd l w Y NC A yJ1_bitCount cJ1_bitCount 1 (some .int) rm_J1_bitCount (ma_rn (tb_J1_bitCount) 1) := ma_ofF hw (by decide +kernel) ⟨rfl, rfl⟩ (fun X => tk_J1_bitCount  X)
