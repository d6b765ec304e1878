def rm_RM_mustBe : Room := { frames := 6, cells := 1, slots := 6, locals := 90 }
def rm_RM_need : Room := { frames := 6, cells := 1, slots := 6, locals := 90 }
def rm_RM_poke : Room := { frames := 7, cells := 1, slots := 6, locals := 110 }
def rm_RM_input : Room := { frames := 0, cells := 0, slots := 0, locals := 0 }
def rm_RM_check : Room := { frames := 1, cells := 0, slots := 0, locals := 23 }
def rm_RM_isArgument : Room := { frames := 0, cells := 0, slots := 0, locals := 0 }
def rm_RM_perform : Room := { frames := 4, cells := 0, slots := 0, locals := 89 }
def rm_RM_branch : Room := { frames := 0, cells := 0, slots := 0, locals := 0 }
def rm_RM_advance : Room := { frames := 5, cells := 0, slots := 0, locals := 113 }
def rm_RM_thin : Room := { frames := 0, cells := 0, slots := 0, locals := 0 }
def rm_RM_tryStep : Room := { frames := 6, cells := 0, slots := 0, locals := 133 }
def rm_RM_step : Room := { frames := 7, cells := 0, slots := 0, locals := 154 }
def rm_RM_remember : Room := { frames := 1, cells := 0, slots := 0, locals := 60 }
def rm_RM_stop : Room := { frames := 0, cells := 0, slots := 0, locals := 0 }
def rm_RM_forth : Room := { frames := 7, cells := 1, slots := 6, locals := 154 }
def rm_RM_moveTo : Room := { frames := 6, cells := 0, slots := 0, locals := 133 }
def rm_RM_go : Room := { frames := 7, cells := 1, slots := 6, locals := 155 }
def rm_RM_back : Room := { frames := 8, cells := 1, slots := 6, locals := 176 }
def rm_RM_stopHere : Room := { frames := 7, cells := 0, slots := 0, locals := 155 }
def rm_RM_watchesAny : Room := { frames := 0, cells := 0, slots := 0, locals := 0 }
def rm_RM_changedBefore : Room := { frames := 6, cells := 0, slots := 0, locals := 133 }
def rm_RM_replay : Room := { frames := 5, cells := 0, slots := 0, locals := 113 }
def rm_RM_turn : Room := { frames := 7, cells := 1, slots := 6, locals := 110 }
def rm_RM_setBreak : Room := { frames := 8, cells := 1, slots := 6, locals := 133 }
def rm_RM_clearBreak : Room := { frames := 8, cells := 1, slots := 6, locals := 133 }
def rm_RM_setWatch : Room := { frames := 8, cells := 1, slots := 6, locals := 133 }
def rm_RM_clearWatch : Room := { frames := 8, cells := 1, slots := 6, locals := 133 }
def rm_RM_state : Room := { frames := 6, cells := 1, slots := 6, locals := 90 }
def rm_RM_cell : Room := { frames := 0, cells := 0, slots := 0, locals := 0 }
def rm_RM_stack : Room := { frames := 7, cells := 1, slots := 6, locals := 110 }
def rm_RM_checkpoint : Room := { frames := 7, cells := 1, slots := 6, locals := 110 }
def rm_MO_thrown : Room := { frames := 0, cells := 0, slots := 0, locals := 0 }
def rm_MO_fail : Room := { frames := 0, cells := 0, slots := 0, locals := 0 }
def rm_MO_poke : Room := { frames := 0, cells := 0, slots := 0, locals := 0 }
def rm_MO_input : Room := { frames := 0, cells := 0, slots := 0, locals := 0 }
def rm_MO_mark : Room := { frames := 0, cells := 0, slots := 0, locals := 0 }
def rm_MO_seek : Room := { frames := 3, cells := 0, slots := 0, locals := 66 }
def rm_MO_needs : Room := { frames := 0, cells := 0, slots := 0, locals := 0 }
def rm_MO_grows : Room := { frames := 0, cells := 0, slots := 0, locals := 0 }
def rm_MO_isArgument : Room := { frames := 0, cells := 0, slots := 0, locals := 0 }
def rm_MO_check : Room := { frames := 1, cells := 0, slots := 0, locals := 22 }
def rm_MO_push : Room := { frames := 0, cells := 0, slots := 0, locals := 0 }
def rm_MO_pop : Room := { frames := 0, cells := 0, slots := 0, locals := 0 }
def rm_MO_reckon : Room := { frames := 0, cells := 0, slots := 0, locals := 0 }
def rm_MO_branch : Room := { frames := 1, cells := 0, slots := 0, locals := 20 }
def rm_MO_giveBack : Room := { frames := 1, cells := 0, slots := 0, locals := 21 }
def rm_MO_call : Room := { frames := 1, cells := 0, slots := 0, locals := 21 }
def rm_MO_draw : Room := { frames := 0, cells := 0, slots := 0, locals := 0 }
def rm_MO_perform : Room := { frames := 2, cells := 0, slots := 0, locals := 43 }
def rm_MO_advance : Room := { frames := 3, cells := 0, slots := 0, locals := 66 }
def rm_MO_grow : Room := { frames := 1, cells := 0, slots := 0, locals := 22 }
def rm_MO_step : Room := { frames := 4, cells := 0, slots := 0, locals := 87 }
def rm_MO_remember : Room := { frames := 0, cells := 0, slots := 0, locals := 0 }
def rm_MO_stop : Room := { frames := 0, cells := 0, slots := 0, locals := 0 }
def rm_MO_forth : Room := { frames := 4, cells := 0, slots := 0, locals := 87 }
def rm_MO_account : Room := { frames := 0, cells := 0, slots := 0, locals := 0 }
def rm_MO_go : Room := { frames := 4, cells := 0, slots := 0, locals := 89 }
def rm_MO_backOne : Room := { frames := 4, cells := 0, slots := 0, locals := 89 }
def rm_MO_back : Room := { frames := 5, cells := 0, slots := 0, locals := 110 }
def rm_MO_outside : Room := { frames := 0, cells := 0, slots := 0, locals := 0 }
def rm_MO_setBreak : Room := { frames := 1, cells := 0, slots := 0, locals := 21 }
def rm_MO_clearBreak : Room := { frames := 1, cells := 0, slots := 0, locals := 21 }
def rm_MO_setWatch : Room := { frames := 1, cells := 0, slots := 0, locals := 21 }
def rm_MO_clearWatch : Room := { frames := 1, cells := 0, slots := 0, locals := 21 }
def rm_MO_state : Room := { frames := 1, cells := 0, slots := 0, locals := 21 }
def rm_MO_cell : Room := { frames := 1, cells := 0, slots := 0, locals := 21 }
def rm_MO_stack : Room := { frames := 1, cells := 0, slots := 0, locals := 21 }
def rm_MO_checkpoint : Room := { frames := 1, cells := 0, slots := 0, locals := 21 }
def rm_NT_add : Room := { frames := 0, cells := 0, slots := 0, locals := 0 }
def rm_NB_begin : Room := { frames := 0, cells := 0, slots := 0, locals := 0 }
def rm_NB_undo : Room := { frames := 0, cells := 0, slots := 0, locals := 0 }
def rm_NB_clear : Room := { frames := 0, cells := 0, slots := 0, locals := 0 }
def rm_ST_become : Room := { frames := 1, cells := 0, slots := 0, locals := 60 }
def rm_ST_top : Room := { frames := 0, cells := 0, slots := 0, locals := 0 }
def rm_ST_below : Room := { frames := 0, cells := 0, slots := 0, locals := 0 }
def rm_ST_write : Room := { frames := 1, cells := 0, slots := 0, locals := 22 }
def rm_ST_push : Room := { frames := 2, cells := 0, slots := 0, locals := 45 }
def rm_ST_join : Room := { frames := 2, cells := 0, slots := 0, locals := 45 }
def rm_ST_store : Room := { frames := 1, cells := 0, slots := 0, locals := 22 }
def rm_ST_swap : Room := { frames := 2, cells := 0, slots := 0, locals := 45 }
def rm_ST_call : Room := { frames := 3, cells := 0, slots := 0, locals := 67 }
def rm_ST_giveBack : Room := { frames := 3, cells := 0, slots := 0, locals := 67 }
def rm_ST_draw : Room := { frames := 0, cells := 0, slots := 0, locals := 0 }
def rm_LW_cell : Room := { frames := 0, cells := 0, slots := 0, locals := 0 }
def rm_LW_poke : Room := { frames := 8, cells := 1, slots := 6, locals := 132 }
def rm_LW_forth : Room := { frames := 8, cells := 1, slots := 6, locals := 177 }
def rm_LW_back : Room := { frames := 9, cells := 1, slots := 6, locals := 199 }
def rm_LW_go : Room := { frames := 8, cells := 1, slots := 6, locals := 176 }
def rm_LW_setBreak : Room := { frames := 9, cells := 1, slots := 6, locals := 154 }
def rm_LW_clearBreak : Room := { frames := 9, cells := 1, slots := 6, locals := 154 }
def rm_LW_setWatch : Room := { frames := 9, cells := 1, slots := 6, locals := 154 }
def rm_LW_clearWatch : Room := { frames := 9, cells := 1, slots := 6, locals := 154 }
def rm_LW_state : Room := { frames := 7, cells := 1, slots := 6, locals := 111 }
def rm_LW_stack : Room := { frames := 8, cells := 1, slots := 6, locals := 131 }
def rm_LW_checkpoint : Room := { frames := 8, cells := 1, slots := 6, locals := 131 }
def rm_EN_ordinal : Room := { frames := 0, cells := 0, slots := 0, locals := 0 }
theorem rk_RM_check_EN_ordinal : RmOk rm_EN_ordinal rm_RM_check 1 := ⟨by decide, by decide, rfl, rfl⟩
theorem rk_RM_check_RM_isArgument : RmOk rm_RM_isArgument rm_RM_check 4 := ⟨by decide, by decide, rfl, rfl⟩
theorem rk_RM_check_ST_top : RmOk rm_ST_top rm_RM_check 1 := ⟨by decide, by decide, rfl, rfl⟩
theorem rk_RM_perform_EN_ordinal : RmOk rm_EN_ordinal rm_RM_perform 1 := ⟨by decide, by decide, rfl, rfl⟩
theorem rk_RM_perform_NB_begin : RmOk rm_NB_begin rm_RM_perform 3 := ⟨by decide, by decide, rfl, rfl⟩
theorem rk_RM_perform_RM_branch : RmOk rm_RM_branch rm_RM_perform 3 := ⟨by decide, by decide, rfl, rfl⟩
theorem rk_RM_perform_ST_below : RmOk rm_ST_below rm_RM_perform 1 := ⟨by decide, by decide, rfl, rfl⟩
theorem rk_RM_perform_ST_call : RmOk rm_ST_call rm_RM_perform 3 := ⟨by decide, by decide, rfl, rfl⟩
theorem rk_RM_perform_ST_draw : RmOk rm_ST_draw rm_RM_perform 2 := ⟨by decide, by decide, rfl, rfl⟩
theorem rk_RM_perform_ST_giveBack : RmOk rm_ST_giveBack rm_RM_perform 3 := ⟨by decide, by decide, rfl, rfl⟩
theorem rk_RM_perform_ST_join : RmOk rm_ST_join rm_RM_perform 3 := ⟨by decide, by decide, rfl, rfl⟩
theorem rk_RM_perform_ST_push : RmOk rm_ST_push rm_RM_perform 3 := ⟨by decide, by decide, rfl, rfl⟩
theorem rk_RM_perform_ST_store : RmOk rm_ST_store rm_RM_perform 3 := ⟨by decide, by decide, rfl, rfl⟩
theorem rk_RM_perform_ST_swap : RmOk rm_ST_swap rm_RM_perform 4 := ⟨by decide, by decide, rfl, rfl⟩
theorem rk_RM_perform_ST_top : RmOk rm_ST_top rm_RM_perform 1 := ⟨by decide, by decide, rfl, rfl⟩
theorem rk_RM_perform_ST_write : RmOk rm_ST_write rm_RM_perform 4 := ⟨by decide, by decide, rfl, rfl⟩
theorem rk_RM_advance_RM_perform : RmOk rm_RM_perform rm_RM_advance 5 := ⟨by decide, by decide, rfl, rfl⟩
theorem rk_RM_advance_RM_thin : RmOk rm_RM_thin rm_RM_advance 4 := ⟨by decide, by decide, rfl, rfl⟩
theorem rk_RM_advance_ST_become : RmOk rm_ST_become rm_RM_advance 2 := ⟨by decide, by decide, rfl, rfl⟩
theorem rk_RM_tryStep_RM_advance : RmOk rm_RM_advance rm_RM_tryStep 1 := ⟨by decide, by decide, rfl, rfl⟩
theorem rk_RM_tryStep_RM_check : RmOk rm_RM_check rm_RM_tryStep 5 := ⟨by decide, by decide, rfl, rfl⟩
theorem rk_RM_step_RM_tryStep : RmOk rm_RM_tryStep rm_RM_step 2 := ⟨by decide, by decide, rfl, rfl⟩
theorem rk_RM_forth_RM_remember : RmOk rm_RM_remember rm_RM_forth 1 := ⟨by decide, by decide, rfl, rfl⟩
theorem rk_RM_forth_RM_stop : RmOk rm_RM_stop rm_RM_forth 2 := ⟨by decide, by decide, rfl, rfl⟩
theorem rk_RM_forth_RM_tryStep : RmOk rm_RM_tryStep rm_RM_forth 2 := ⟨by decide, by decide, rfl, rfl⟩
theorem rk_RM_moveTo_NB_clear : RmOk rm_NB_clear rm_RM_moveTo 1 := ⟨by decide, by decide, rfl, rfl⟩
theorem rk_RM_moveTo_NB_undo : RmOk rm_NB_undo rm_RM_moveTo 4 := ⟨by decide, by decide, rfl, rfl⟩
theorem rk_RM_moveTo_RM_advance : RmOk rm_RM_advance rm_RM_moveTo 1 := ⟨by decide, by decide, rfl, rfl⟩
theorem rk_RM_moveTo_ST_become : RmOk rm_ST_become rm_RM_moveTo 2 := ⟨by decide, by decide, rfl, rfl⟩
theorem rk_RM_go_RM_moveTo : RmOk rm_RM_moveTo rm_RM_go 3 := ⟨by decide, by decide, rfl, rfl⟩
theorem rk_RM_back_RM_moveTo : RmOk rm_RM_moveTo rm_RM_back 3 := ⟨by decide, by decide, rfl, rfl⟩
theorem rk_RM_back_RM_stopHere : RmOk rm_RM_stopHere rm_RM_back 2 := ⟨by decide, by decide, rfl, rfl⟩
theorem rk_RM_stopHere_RM_changedBefore : RmOk rm_RM_changedBefore rm_RM_stopHere 3 := ⟨by decide, by decide, rfl, rfl⟩
theorem rk_RM_stopHere_RM_watchesAny : RmOk rm_RM_watchesAny rm_RM_stopHere 2 := ⟨by decide, by decide, rfl, rfl⟩
theorem rk_RM_changedBefore_RM_replay : RmOk rm_RM_replay rm_RM_changedBefore 1 := ⟨by decide, by decide, rfl, rfl⟩
theorem rk_RM_changedBefore_ST_become : RmOk rm_ST_become rm_RM_changedBefore 2 := ⟨by decide, by decide, rfl, rfl⟩
theorem rk_RM_replay_NB_clear : RmOk rm_NB_clear rm_RM_replay 1 := ⟨by decide, by decide, rfl, rfl⟩
theorem rk_RM_replay_RM_perform : RmOk rm_RM_perform rm_RM_replay 5 := ⟨by decide, by decide, rfl, rfl⟩
theorem rk_MO_seek_MO_perform : RmOk rm_MO_perform rm_MO_seek 4 := ⟨by decide, by decide, rfl, rfl⟩
theorem rk_MO_check_MO_grows : RmOk rm_MO_grows rm_MO_check 1 := ⟨by decide, by decide, rfl, rfl⟩
theorem rk_MO_check_MO_isArgument : RmOk rm_MO_isArgument rm_MO_check 3 := ⟨by decide, by decide, rfl, rfl⟩
theorem rk_MO_check_MO_needs : RmOk rm_MO_needs rm_MO_check 1 := ⟨by decide, by decide, rfl, rfl⟩
theorem rk_MO_branch_MO_pop : RmOk rm_MO_pop rm_MO_branch 1 := ⟨by decide, by decide, rfl, rfl⟩
theorem rk_MO_giveBack_MO_pop : RmOk rm_MO_pop rm_MO_giveBack 1 := ⟨by decide, by decide, rfl, rfl⟩
theorem rk_MO_giveBack_MO_push : RmOk rm_MO_push rm_MO_giveBack 2 := ⟨by decide, by decide, rfl, rfl⟩
theorem rk_MO_call_MO_push : RmOk rm_MO_push rm_MO_call 2 := ⟨by decide, by decide, rfl, rfl⟩
theorem rk_MO_perform_MO_branch : RmOk rm_MO_branch rm_MO_perform 4 := ⟨by decide, by decide, rfl, rfl⟩
theorem rk_MO_perform_MO_call : RmOk rm_MO_call rm_MO_perform 2 := ⟨by decide, by decide, rfl, rfl⟩
theorem rk_MO_perform_MO_draw : RmOk rm_MO_draw rm_MO_perform 2 := ⟨by decide, by decide, rfl, rfl⟩
theorem rk_MO_perform_MO_giveBack : RmOk rm_MO_giveBack rm_MO_perform 2 := ⟨by decide, by decide, rfl, rfl⟩
theorem rk_MO_perform_MO_pop : RmOk rm_MO_pop rm_MO_perform 1 := ⟨by decide, by decide, rfl, rfl⟩
theorem rk_MO_perform_MO_push : RmOk rm_MO_push rm_MO_perform 2 := ⟨by decide, by decide, rfl, rfl⟩
theorem rk_MO_perform_MO_reckon : RmOk rm_MO_reckon rm_MO_perform 3 := ⟨by decide, by decide, rfl, rfl⟩
theorem rk_MO_advance_MO_check : RmOk rm_MO_check rm_MO_advance 4 := ⟨by decide, by decide, rfl, rfl⟩
theorem rk_MO_advance_MO_grow : RmOk rm_MO_grow rm_MO_advance 2 := ⟨by decide, by decide, rfl, rfl⟩
theorem rk_MO_advance_MO_perform : RmOk rm_MO_perform rm_MO_advance 4 := ⟨by decide, by decide, rfl, rfl⟩
theorem rk_MO_grow_MO_mark : RmOk rm_MO_mark rm_MO_grow 3 := ⟨by decide, by decide, rfl, rfl⟩
theorem rk_MO_step_MO_advance : RmOk rm_MO_advance rm_MO_step 2 := ⟨by decide, by decide, rfl, rfl⟩
theorem rk_MO_forth_MO_advance : RmOk rm_MO_advance rm_MO_forth 2 := ⟨by decide, by decide, rfl, rfl⟩
theorem rk_MO_forth_MO_remember : RmOk rm_MO_remember rm_MO_forth 2 := ⟨by decide, by decide, rfl, rfl⟩
theorem rk_MO_forth_MO_stop : RmOk rm_MO_stop rm_MO_forth 3 := ⟨by decide, by decide, rfl, rfl⟩
theorem rk_MO_go_MO_account : RmOk rm_MO_account rm_MO_go 5 := ⟨by decide, by decide, rfl, rfl⟩
theorem rk_MO_go_MO_seek : RmOk rm_MO_seek rm_MO_go 4 := ⟨by decide, by decide, rfl, rfl⟩
theorem rk_MO_backOne_MO_account : RmOk rm_MO_account rm_MO_backOne 5 := ⟨by decide, by decide, rfl, rfl⟩
theorem rk_MO_backOne_MO_remember : RmOk rm_MO_remember rm_MO_backOne 2 := ⟨by decide, by decide, rfl, rfl⟩
theorem rk_MO_backOne_MO_seek : RmOk rm_MO_seek rm_MO_backOne 4 := ⟨by decide, by decide, rfl, rfl⟩
theorem rk_MO_backOne_MO_stop : RmOk rm_MO_stop rm_MO_backOne 3 := ⟨by decide, by decide, rfl, rfl⟩
theorem rk_MO_back_MO_backOne : RmOk rm_MO_backOne rm_MO_back 2 := ⟨by decide, by decide, rfl, rfl⟩
theorem rk_MO_setBreak_MO_outside : RmOk rm_MO_outside rm_MO_setBreak 2 := ⟨by decide, by decide, rfl, rfl⟩
theorem rk_MO_clearBreak_MO_outside : RmOk rm_MO_outside rm_MO_clearBreak 2 := ⟨by decide, by decide, rfl, rfl⟩
theorem rk_MO_setWatch_MO_outside : RmOk rm_MO_outside rm_MO_setWatch 2 := ⟨by decide, by decide, rfl, rfl⟩
theorem rk_MO_clearWatch_MO_outside : RmOk rm_MO_outside rm_MO_clearWatch 2 := ⟨by decide, by decide, rfl, rfl⟩
theorem rk_MO_state_MO_fail : RmOk rm_MO_fail rm_MO_state 2 := ⟨by decide, by decide, rfl, rfl⟩
theorem rk_MO_cell_MO_outside : RmOk rm_MO_outside rm_MO_cell 2 := ⟨by decide, by decide, rfl, rfl⟩
theorem rk_MO_stack_MO_fail : RmOk rm_MO_fail rm_MO_stack 2 := ⟨by decide, by decide, rfl, rfl⟩
theorem rk_MO_stack_MO_outside : RmOk rm_MO_outside rm_MO_stack 2 := ⟨by decide, by decide, rfl, rfl⟩
theorem rk_MO_checkpoint_MO_fail : RmOk rm_MO_fail rm_MO_checkpoint 2 := ⟨by decide, by decide, rfl, rfl⟩
theorem rk_MO_checkpoint_MO_outside : RmOk rm_MO_outside rm_MO_checkpoint 2 := ⟨by decide, by decide, rfl, rfl⟩
theorem rk_ST_write_NT_add : RmOk rm_NT_add rm_ST_write 3 := ⟨by decide, by decide, rfl, rfl⟩
theorem rk_ST_push_ST_write : RmOk rm_ST_write rm_ST_push 4 := ⟨by decide, by decide, rfl, rfl⟩
theorem rk_ST_join_ST_write : RmOk rm_ST_write rm_ST_join 4 := ⟨by decide, by decide, rfl, rfl⟩
theorem rk_ST_store_NT_add : RmOk rm_NT_add rm_ST_store 3 := ⟨by decide, by decide, rfl, rfl⟩
theorem rk_ST_store_ST_below : RmOk rm_ST_below rm_ST_store 1 := ⟨by decide, by decide, rfl, rfl⟩
theorem rk_ST_store_ST_top : RmOk rm_ST_top rm_ST_store 1 := ⟨by decide, by decide, rfl, rfl⟩
theorem rk_ST_swap_ST_below : RmOk rm_ST_below rm_ST_swap 1 := ⟨by decide, by decide, rfl, rfl⟩
theorem rk_ST_swap_ST_top : RmOk rm_ST_top rm_ST_swap 1 := ⟨by decide, by decide, rfl, rfl⟩
theorem rk_ST_swap_ST_write : RmOk rm_ST_write rm_ST_swap 4 := ⟨by decide, by decide, rfl, rfl⟩
theorem rk_ST_call_ST_push : RmOk rm_ST_push rm_ST_call 3 := ⟨by decide, by decide, rfl, rfl⟩
theorem rk_ST_giveBack_ST_below : RmOk rm_ST_below rm_ST_giveBack 1 := ⟨by decide, by decide, rfl, rfl⟩
theorem rk_ST_giveBack_ST_push : RmOk rm_ST_push rm_ST_giveBack 3 := ⟨by decide, by decide, rfl, rfl⟩
theorem rk_ST_giveBack_ST_top : RmOk rm_ST_top rm_ST_giveBack 1 := ⟨by decide, by decide, rfl, rfl⟩
theorem cb_LW_58 : CB "ReplayMachineLaw" 58 y_RM_init b_RM_init 3 none 1 := ⟨ml_LW_58, cd_RM_init, in_RM, by decide +kernel⟩
theorem cb_RM_25 : CB "ReplayMachine" 25 y_NB_init b_NB_init 2 none 0 := ⟨ml_RM_25, cd_NB_init, in_NB, by decide +kernel⟩
theorem cb_RM_57 : CB "ReplayMachine" 57 y_ST_become b_ST_become 2 none 1 := ⟨ml_RM_57, cd_ST_become, in_ST, by decide +kernel⟩
theorem cb_LW_71 : CB "ReplayMachineLaw" 71 y_RM_input b_RM_input 2 (some FieldType.int) 1 := ⟨ml_LW_71, cd_RM_input, in_RM, by decide +kernel⟩
theorem cb_LW_75 : CB "ReplayMachineLaw" 75 y_RM_step b_RM_step 1 (some FieldType.int) 0 := ⟨ml_LW_75, cd_RM_step, in_RM, by decide +kernel⟩
theorem cb_RM_185 : CB "ReplayMachine" 185 y_RM_tryStep b_RM_tryStep 2 (some FieldType.int) 0 := ⟨ml_RM_185, cd_RM_tryStep, in_RM, by decide +kernel⟩
theorem cb_RM_175 : CB "ReplayMachine" 175 y_RM_check b_RM_check 5 (some FieldType.int) 1 := ⟨ml_RM_175, cd_RM_check, in_RM, by decide +kernel⟩
theorem cb_RM_106 : CB "ReplayMachine" 106 y_RM_isArgument b_RM_isArgument 4 (some FieldType.boolean) 2 := ⟨ml_RM_106, cd_RM_isArgument, in_RM, by decide +kernel⟩
theorem cb_RM_110 : CB "ReplayMachine" 110 y_ST_top b_ST_top 1 (some FieldType.int) 0 := ⟨ml_RM_110, cd_ST_top, in_ST, by decide +kernel⟩
theorem cb_RM_179 : CB "ReplayMachine" 179 y_RM_advance b_RM_advance 1 none 0 := ⟨ml_RM_179, cd_RM_advance, in_RM, by decide +kernel⟩
theorem cb_RM_169 : CB "ReplayMachine" 169 y_RM_perform b_RM_perform 5 none 1 := ⟨ml_RM_169, cd_RM_perform, in_RM, by decide +kernel⟩
theorem cb_RM_121 : CB "ReplayMachine" 121 y_NB_begin b_NB_begin 3 (some (FieldType.object "ReplayMachine$Note")) 1 := ⟨ml_RM_121, cd_NB_begin, in_NB, by decide +kernel⟩
theorem cb_RM_128 : CB "ReplayMachine" 128 y_ST_push b_ST_push 3 none 2 := ⟨ml_RM_128, cd_ST_push, in_ST, by decide +kernel⟩
theorem cb_ST_49 : CB "ReplayMachine$State" 49 y_ST_write b_ST_write 4 none 3 := ⟨ml_ST_49, cd_ST_write, in_ST, by decide +kernel⟩
theorem cb_ST_43 : CB "ReplayMachine$State" 43 y_NT_add b_NT_add 3 none 2 := ⟨ml_ST_43, cd_NT_add, in_NT, by decide +kernel⟩
theorem cb_RM_132 : CB "ReplayMachine" 132 y_ST_swap b_ST_swap 4 none 1 := ⟨ml_RM_132, cd_ST_swap, in_ST, by decide +kernel⟩
theorem cb_ST_53 : CB "ReplayMachine$State" 53 y_ST_top b_ST_top 1 (some FieldType.int) 0 := ⟨ml_ST_53, cd_ST_top, in_ST, by decide +kernel⟩
theorem cb_ST_57 : CB "ReplayMachine$State" 57 y_ST_below b_ST_below 1 (some FieldType.int) 0 := ⟨ml_ST_57, cd_ST_below, in_ST, by decide +kernel⟩
theorem cb_RM_136 : CB "ReplayMachine" 136 y_ST_below b_ST_below 1 (some FieldType.int) 0 := ⟨ml_RM_136, cd_ST_below, in_ST, by decide +kernel⟩
theorem cb_RM_139 : CB "ReplayMachine" 139 y_ST_join b_ST_join 3 none 2 := ⟨ml_RM_139, cd_ST_join, in_ST, by decide +kernel⟩
theorem cb_RM_149 : CB "ReplayMachine" 149 y_ST_store b_ST_store 3 none 1 := ⟨ml_RM_149, cd_ST_store, in_ST, by decide +kernel⟩
theorem cb_RM_152 : CB "ReplayMachine" 152 y_RM_branch b_RM_branch 3 none 3 := ⟨ml_RM_152, cd_RM_branch, in_RM, by decide +kernel⟩
theorem cb_RM_156 : CB "ReplayMachine" 156 y_ST_call b_ST_call 3 none 2 := ⟨ml_RM_156, cd_ST_call, in_ST, by decide +kernel⟩
theorem cb_ST_60 : CB "ReplayMachine$State" 60 y_ST_push b_ST_push 3 none 2 := ⟨ml_ST_60, cd_ST_push, in_ST, by decide +kernel⟩
theorem cb_RM_159 : CB "ReplayMachine" 159 y_ST_giveBack b_ST_giveBack 3 none 1 := ⟨ml_RM_159, cd_ST_giveBack, in_ST, by decide +kernel⟩
theorem cb_RM_165 : CB "ReplayMachine" 165 y_ST_draw b_ST_draw 2 (some FieldType.int) 1 := ⟨ml_RM_165, cd_ST_draw, in_ST, by decide +kernel⟩
theorem cb_RM_172 : CB "ReplayMachine" 172 y_RM_thin b_RM_thin 4 none 0 := ⟨ml_RM_172, cd_RM_thin, in_RM, by decide +kernel⟩
theorem cb_LW_105 : CB "ReplayMachineLaw" 105 y_RM_cell b_RM_cell 2 (some FieldType.int) 1 := ⟨ml_LW_105, cd_RM_cell, in_RM, by decide +kernel⟩
theorem cb_LW_52 : CB "ReplayMachineLaw" 52 y_LW_cell b_LW_cell 2 (some FieldType.int) 2 := ⟨ml_LW_52, cd_LW_cell, in_LW, by decide +kernel⟩
theorem cb_LW_7 : CB "ReplayMachineLaw" 7 y_RM_poke b_RM_poke 3 none 2 := ⟨ml_LW_7, cd_RM_poke, in_RM, by decide +kernel⟩
theorem cb_RM_67 : CB "ReplayMachine" 67 y_RM_mustBe b_RM_mustBe 1 none 1 := ⟨ml_RM_67, cd_RM_mustBe, in_RM, by decide +kernel⟩
theorem cb_RM_63 : CB "ReplayMachine" 63 y_IO_init b_IO_init 1 none 0 := ⟨ml_RM_63, cd_IO_init, in_IO, by decide +kernel⟩
theorem cb_RM_76 : CB "ReplayMachine" 76 y_IS_init b_IS_init 1 none 0 := ⟨ml_RM_76, cd_IS_init, in_IS, by decide +kernel⟩
theorem cb_LW_17 : CB "ReplayMachineLaw" 17 y_RM_forth b_RM_forth 4 (some FieldType.int) 1 := ⟨ml_LW_17, cd_RM_forth, in_RM, by decide +kernel⟩
theorem cb_RM_194 : CB "ReplayMachine" 194 y_RM_need b_RM_need 1 none 1 := ⟨ml_RM_194, cd_RM_need, in_RM, by decide +kernel⟩
theorem cb_RM_66 : CB "ReplayMachine" 66 y_IA_init b_IA_init 1 none 0 := ⟨ml_RM_66, cd_IA_init, in_IA, by decide +kernel⟩
theorem cb_RM_197 : CB "ReplayMachine" 197 y_RM_remember b_RM_remember 1 none 0 := ⟨ml_RM_197, cd_RM_remember, in_RM, by decide +kernel⟩
theorem cb_RM_200 : CB "ReplayMachine" 200 y_RM_stop b_RM_stop 2 (some FieldType.int) 0 := ⟨ml_RM_200, cd_RM_stop, in_RM, by decide +kernel⟩
theorem cb_LW_23 : CB "ReplayMachineLaw" 23 y_RM_back b_RM_back 4 (some FieldType.int) 1 := ⟨ml_LW_23, cd_RM_back, in_RM, by decide +kernel⟩
theorem cb_RM_212 : CB "ReplayMachine" 212 y_RM_moveTo b_RM_moveTo 3 none 1 := ⟨ml_RM_212, cd_RM_moveTo, in_RM, by decide +kernel⟩
theorem cb_RM_206 : CB "ReplayMachine" 206 y_NB_undo b_NB_undo 4 none 1 := ⟨ml_RM_206, cd_NB_undo, in_NB, by decide +kernel⟩
theorem cb_RM_209 : CB "ReplayMachine" 209 y_NB_clear b_NB_clear 1 none 0 := ⟨ml_RM_209, cd_NB_clear, in_NB, by decide +kernel⟩
theorem cb_RM_216 : CB "ReplayMachine" 216 y_RM_stopHere b_RM_stopHere 2 (some FieldType.int) 0 := ⟨ml_RM_216, cd_RM_stopHere, in_RM, by decide +kernel⟩
theorem cb_RM_219 : CB "ReplayMachine" 219 y_RM_watchesAny b_RM_watchesAny 2 (some FieldType.boolean) 0 := ⟨ml_RM_219, cd_RM_watchesAny, in_RM, by decide +kernel⟩
theorem cb_RM_241 : CB "ReplayMachine" 241 y_RM_changedBefore b_RM_changedBefore 3 (some FieldType.boolean) 0 := ⟨ml_RM_241, cd_RM_changedBefore, in_RM, by decide +kernel⟩
theorem cb_RM_244 : CB "ReplayMachine" 244 y_RM_replay b_RM_replay 1 none 0 := ⟨ml_RM_244, cd_RM_replay, in_RM, by decide +kernel⟩
theorem cb_LW_26 : CB "ReplayMachineLaw" 26 y_RM_go b_RM_go 2 none 1 := ⟨ml_LW_26, cd_RM_go, in_RM, by decide +kernel⟩
theorem cb_LW_30 : CB "ReplayMachineLaw" 30 y_RM_setBreak b_RM_setBreak 2 (some FieldType.boolean) 1 := ⟨ml_LW_30, cd_RM_setBreak, in_RM, by decide +kernel⟩
theorem cb_RM_247 : CB "ReplayMachine" 247 y_RM_turn b_RM_turn 4 (some FieldType.boolean) 3 := ⟨ml_RM_247, cd_RM_turn, in_RM, by decide +kernel⟩
theorem cb_LW_34 : CB "ReplayMachineLaw" 34 y_RM_clearBreak b_RM_clearBreak 2 (some FieldType.boolean) 1 := ⟨ml_LW_34, cd_RM_clearBreak, in_RM, by decide +kernel⟩
theorem cb_LW_37 : CB "ReplayMachineLaw" 37 y_RM_setWatch b_RM_setWatch 2 (some FieldType.boolean) 1 := ⟨ml_LW_37, cd_RM_setWatch, in_RM, by decide +kernel⟩
theorem cb_LW_40 : CB "ReplayMachineLaw" 40 y_RM_clearWatch b_RM_clearWatch 2 (some FieldType.boolean) 1 := ⟨ml_LW_40, cd_RM_clearWatch, in_RM, by decide +kernel⟩
theorem cb_LW_43 : CB "ReplayMachineLaw" 43 y_RM_state b_RM_state 2 (some FieldType.int) 1 := ⟨ml_LW_43, cd_RM_state, in_RM, by decide +kernel⟩
theorem cb_LW_46 : CB "ReplayMachineLaw" 46 y_RM_stack b_RM_stack 2 (some FieldType.int) 1 := ⟨ml_LW_46, cd_RM_stack, in_RM, by decide +kernel⟩
theorem cb_LW_49 : CB "ReplayMachineLaw" 49 y_RM_checkpoint b_RM_checkpoint 2 (some FieldType.int) 1 := ⟨ml_LW_49, cd_RM_checkpoint, in_RM, by decide +kernel⟩
theorem cb_LW_62 : CB "ReplayMachineLaw" 62 y_MO_init b_MO_init 2 none 1 := ⟨ml_LW_62, cd_MO_init, in_MO, by decide +kernel⟩
theorem cb_MO_48 : CB "ReplayMachineModel" 48 y_MO_mark b_MO_mark 3 none 0 := ⟨ml_MO_48, cd_MO_mark, in_MO, by decide +kernel⟩
theorem cb_LW_67 : CB "ReplayMachineLaw" 67 y_MO_thrown b_MO_thrown 1 (some FieldType.int) 0 := ⟨ml_LW_67, cd_MO_thrown, in_MO, by decide +kernel⟩
theorem cb_LW_66 : CB "ReplayMachineLaw" 66 y_MO_poke b_MO_poke 3 none 2 := ⟨ml_LW_66, cd_MO_poke, in_MO, by decide +kernel⟩
theorem cb_LW_74 : CB "ReplayMachineLaw" 74 y_MO_input b_MO_input 2 (some FieldType.int) 1 := ⟨ml_LW_74, cd_MO_input, in_MO, by decide +kernel⟩
theorem cb_LW_78 : CB "ReplayMachineLaw" 78 y_MO_step b_MO_step 1 (some FieldType.int) 0 := ⟨ml_LW_78, cd_MO_step, in_MO, by decide +kernel⟩
theorem cb_MO_131 : CB "ReplayMachineModel" 131 y_MO_advance b_MO_advance 2 (some FieldType.int) 0 := ⟨ml_MO_131, cd_MO_advance, in_MO, by decide +kernel⟩
theorem cb_MO_119 : CB "ReplayMachineModel" 119 y_MO_check b_MO_check 4 (some FieldType.int) 0 := ⟨ml_MO_119, cd_MO_check, in_MO, by decide +kernel⟩
theorem cb_MO_81 : CB "ReplayMachineModel" 81 y_MO_needs b_MO_needs 1 (some FieldType.int) 1 := ⟨ml_MO_81, cd_MO_needs, in_MO, by decide +kernel⟩
theorem cb_MO_85 : CB "ReplayMachineModel" 85 y_MO_isArgument b_MO_isArgument 3 (some FieldType.boolean) 1 := ⟨ml_MO_85, cd_MO_isArgument, in_MO, by decide +kernel⟩
theorem cb_MO_89 : CB "ReplayMachineModel" 89 y_MO_grows b_MO_grows 1 (some FieldType.int) 1 := ⟨ml_MO_89, cd_MO_grows, in_MO, by decide +kernel⟩
theorem cb_MO_78 : CB "ReplayMachineModel" 78 y_MO_perform b_MO_perform 4 none 0 := ⟨ml_MO_78, cd_MO_perform, in_MO, by decide +kernel⟩
theorem cb_MO_96 : CB "ReplayMachineModel" 96 y_MO_push b_MO_push 2 none 1 := ⟨ml_MO_96, cd_MO_push, in_MO, by decide +kernel⟩
theorem cb_MO_92 : CB "ReplayMachineModel" 92 y_MO_pop b_MO_pop 1 (some FieldType.int) 0 := ⟨ml_MO_92, cd_MO_pop, in_MO, by decide +kernel⟩
theorem cb_MO_102 : CB "ReplayMachineModel" 102 y_MO_branch b_MO_branch 4 none 2 := ⟨ml_MO_102, cd_MO_branch, in_MO, by decide +kernel⟩
theorem cb_MO_106 : CB "ReplayMachineModel" 106 y_MO_call b_MO_call 2 none 1 := ⟨ml_MO_106, cd_MO_call, in_MO, by decide +kernel⟩
theorem cb_MO_109 : CB "ReplayMachineModel" 109 y_MO_giveBack b_MO_giveBack 2 none 0 := ⟨ml_MO_109, cd_MO_giveBack, in_MO, by decide +kernel⟩
theorem cb_MO_112 : CB "ReplayMachineModel" 112 y_MO_draw b_MO_draw 2 (some FieldType.int) 1 := ⟨ml_MO_112, cd_MO_draw, in_MO, by decide +kernel⟩
theorem cb_MO_115 : CB "ReplayMachineModel" 115 y_MO_reckon b_MO_reckon 3 (some FieldType.int) 3 := ⟨ml_MO_115, cd_MO_reckon, in_MO, by decide +kernel⟩
theorem cb_MO_125 : CB "ReplayMachineModel" 125 y_MO_grow b_MO_grow 2 none 0 := ⟨ml_MO_125, cd_MO_grow, in_MO, by decide +kernel⟩
theorem cb_LW_82 : CB "ReplayMachineLaw" 82 y_MO_forth b_MO_forth 4 (some FieldType.int) 1 := ⟨ml_LW_82, cd_MO_forth, in_MO, by decide +kernel⟩
theorem cb_MO_134 : CB "ReplayMachineModel" 134 y_MO_remember b_MO_remember 2 none 0 := ⟨ml_MO_134, cd_MO_remember, in_MO, by decide +kernel⟩
theorem cb_MO_137 : CB "ReplayMachineModel" 137 y_MO_stop b_MO_stop 3 (some FieldType.int) 0 := ⟨ml_MO_137, cd_MO_stop, in_MO, by decide +kernel⟩
theorem cb_LW_89 : CB "ReplayMachineLaw" 89 y_MO_go b_MO_go 2 none 1 := ⟨ml_LW_89, cd_MO_go, in_MO, by decide +kernel⟩
theorem cb_MO_140 : CB "ReplayMachineModel" 140 y_MO_account b_MO_account 5 none 1 := ⟨ml_MO_140, cd_MO_account, in_MO, by decide +kernel⟩
theorem cb_MO_143 : CB "ReplayMachineModel" 143 y_MO_seek b_MO_seek 4 none 1 := ⟨ml_MO_143, cd_MO_seek, in_MO, by decide +kernel⟩
theorem cb_LW_85 : CB "ReplayMachineLaw" 85 y_MO_back b_MO_back 4 (some FieldType.int) 1 := ⟨ml_LW_85, cd_MO_back, in_MO, by decide +kernel⟩
theorem cb_MO_146 : CB "ReplayMachineModel" 146 y_MO_backOne b_MO_backOne 2 (some FieldType.int) 0 := ⟨ml_MO_146, cd_MO_backOne, in_MO, by decide +kernel⟩
theorem cb_LW_92 : CB "ReplayMachineLaw" 92 y_MO_setBreak b_MO_setBreak 2 (some FieldType.boolean) 1 := ⟨ml_LW_92, cd_MO_setBreak, in_MO, by decide +kernel⟩
theorem cb_MO_149 : CB "ReplayMachineModel" 149 y_MO_outside b_MO_outside 2 (some FieldType.boolean) 2 := ⟨ml_MO_149, cd_MO_outside, in_MO, by decide +kernel⟩
theorem cb_LW_95 : CB "ReplayMachineLaw" 95 y_MO_clearBreak b_MO_clearBreak 2 (some FieldType.boolean) 1 := ⟨ml_LW_95, cd_MO_clearBreak, in_MO, by decide +kernel⟩
theorem cb_LW_98 : CB "ReplayMachineLaw" 98 y_MO_setWatch b_MO_setWatch 2 (some FieldType.boolean) 1 := ⟨ml_LW_98, cd_MO_setWatch, in_MO, by decide +kernel⟩
theorem cb_LW_101 : CB "ReplayMachineLaw" 101 y_MO_clearWatch b_MO_clearWatch 2 (some FieldType.boolean) 1 := ⟨ml_LW_101, cd_MO_clearWatch, in_MO, by decide +kernel⟩
theorem cb_LW_104 : CB "ReplayMachineLaw" 104 y_MO_state b_MO_state 2 (some FieldType.int) 1 := ⟨ml_LW_104, cd_MO_state, in_MO, by decide +kernel⟩
theorem cb_MO_153 : CB "ReplayMachineModel" 153 y_MO_fail b_MO_fail 2 (some FieldType.int) 1 := ⟨ml_MO_153, cd_MO_fail, in_MO, by decide +kernel⟩
theorem cb_LW_107 : CB "ReplayMachineLaw" 107 y_MO_cell b_MO_cell 2 (some FieldType.int) 1 := ⟨ml_LW_107, cd_MO_cell, in_MO, by decide +kernel⟩
theorem cb_LW_110 : CB "ReplayMachineLaw" 110 y_MO_stack b_MO_stack 2 (some FieldType.int) 1 := ⟨ml_LW_110, cd_MO_stack, in_MO, by decide +kernel⟩
theorem cb_LW_113 : CB "ReplayMachineLaw" 113 y_MO_checkpoint b_MO_checkpoint 2 (some FieldType.int) 1 := ⟨ml_LW_113, cd_MO_checkpoint, in_MO, by decide +kernel⟩
/-! ===== ends ===== -/
def PI (γ : GH) (Φ : Int32 → SGG → Prop) : Option Value → (Nat → va_E) → Prop := fun v w => ∃ (r : Int32) (σ : SGG), v = some (.int r) ∧ w = enc γ σ ∧ Φ r σ
def PV (γ : GH) (Φ : SGG → Prop) : Option Value → (Nat → va_E) → Prop := fun v w => ∃ σ : SGG, v = none ∧ w = enc γ σ ∧ Φ σ
def PR (γ : GH) (Φ : Nat → SGG → Prop) : Option Value → (Nat → va_E) → Prop := fun v w => ∃ (r : Nat) (σ : SGG), v = some (.ref r) ∧ w = enc γ σ ∧ Φ r σ
section KC
variable {x : CT} {γ : GH} {cc : ByteArray} {own : String} {ret : Option FieldType} {rm : Room} {κ : Nat × Nat} {Q : State → Prop} {σ : SGG} {pc : Nat} {L : List (Option Value)} {st : List Value}
variable {y : MethodName} {b : ByteArray} {n idx : Nat} {rt : Option FieldType} {rc : Room}
theorem r_i (C : Cx x γ cc own (some .int) rm) {Φ : Int32 → SGG → Prop} {v : Int32} (hd : decode cc pc = .ok (.ireturn, 1)) (hp : Φ v σ) : V x γ (0, 0) (QM x γ (PI γ Φ)) (enc γ σ) pc L [.int v] := v_iret C hd ⟨v, σ, rfl, rfl, hp⟩
theorem r_z (C : Cx x γ cc own (some .boolean) rm) {Φ : Int32 → SGG → Prop} {v : Int32} (hd : decode cc pc = .ok (.ireturn, 1)) (hn : narrow .boolean (.int v) = .int v) (hp : Φ v σ) : V x γ (0, 0) (QM x γ (PI γ Φ)) (enc γ σ) pc L [.int v] := v_zret C hd hn ⟨v, σ, rfl, rfl, hp⟩
theorem r_v (C : Cx x γ cc own none rm) {Φ : SGG → Prop} (hd : decode cc pc = .ok (.return_, 1)) (hp : Φ σ) : V x γ (0, 0) (QM x γ (PV γ Φ)) (enc γ σ) pc L [] := v_vret C hd ⟨σ, rfl, rfl, hp⟩
theorem r_a (C : Cx x γ cc own ret rm) {nm : String} (hr : ret = some (.object nm)) {Φ : Nat → SGG → Prop} {a : Nat} (hd : decode cc pc = .ok (.areturn, 1)) (hp : Φ a σ) : V x γ (0, 0) (QM x γ (PR γ Φ)) (enc γ σ) pc L [.ref a] := v_aret C hr hd ⟨a, σ, rfl, rfl, hp⟩
theorem kS0i (C : Cx x γ cc own ret rm) (hX : 135 ≤ γ.N) {i : Nat} (hi : i < 10) (hB : CB own idx y b n rt 0) (hs : Cond.instanceMethod y ∈ TB ∧ Cond.selects y.cls y y ∈ TB) (hq : R_ST = y.cls) (hR : RmOk rc rm n) (hd : decode cc pc = .ok (.invokevirtual idx, 3)) (hκ : κ.1 ≤ rm.cells ∧ κ.2 ≤ rm.slots)  {Φ : Int32 → SGG → Prop} (hM : Ct x.l y b n rt rc γ (enc γ σ) [.ref (aS γ i)] (PI γ Φ)) (hW : (st.map fun v => v.category).sum ≤ 8)
    (kk : ∀ (r : Int32) (σ2 : SGG), Φ r σ2 → V x γ κ Q (enc γ σ2) (pc + 3) L (.int r :: st)) : V x γ κ Q (enc γ σ) pc L (.ref (aS γ i) :: st) :=
  v_callV C hB hs hR hd hκ (k := 9 + 3 * i) (by omega) (en_S hi) rfl hq (As := []) hM rfl hW (fun v w2 hp => by obtain ⟨r, σ2, rfl, rfl, h⟩ := hp; exact kk r σ2 h)
theorem kS0v (C : Cx x γ cc own ret rm) (hX : 135 ≤ γ.N) {i : Nat} (hi : i < 10) (hB : CB own idx y b n rt 0) (hs : Cond.instanceMethod y ∈ TB ∧ Cond.selects y.cls y y ∈ TB) (hq : R_ST = y.cls) (hR : RmOk rc rm n) (hd : decode cc pc = .ok (.invokevirtual idx, 3)) (hκ : κ.1 ≤ rm.cells ∧ κ.2 ≤ rm.slots)  {Φ : SGG → Prop} (hM : Ct x.l y b n rt rc γ (enc γ σ) [.ref (aS γ i)] (PV γ Φ)) (hW : (st.map fun v => v.category).sum ≤ 8)
    (kk : ∀ σ2 : SGG, Φ σ2 → V x γ κ Q (enc γ σ2) (pc + 3) L st) : V x γ κ Q (enc γ σ) pc L (.ref (aS γ i) :: st) :=
  v_callV C hB hs hR hd hκ (k := 9 + 3 * i) (by omega) (en_S hi) rfl hq (As := []) hM rfl hW (fun v w2 hp => by obtain ⟨σ2, rfl, rfl, h⟩ := hp; exact kk σ2 h)
theorem kS1i (C : Cx x γ cc own ret rm) (hX : 135 ≤ γ.N) {i : Nat} (hi : i < 10) (hB : CB own idx y b n rt 1) (hs : Cond.instanceMethod y ∈ TB ∧ Cond.selects y.cls y y ∈ TB) (hq : R_ST = y.cls) (hR : RmOk rc rm n) (hd : decode cc pc = .ok (.invokevirtual idx, 3)) (hκ : κ.1 ≤ rm.cells ∧ κ.2 ≤ rm.slots) {a1 : Value} {Φ : Int32 → SGG → Prop} (hM : Ct x.l y b n rt rc γ (enc γ σ) [.ref (aS γ i), a1] (PI γ Φ)) (hW : (st.map fun v => v.category).sum ≤ 8)
    (kk : ∀ (r : Int32) (σ2 : SGG), Φ r σ2 → V x γ κ Q (enc γ σ2) (pc + 3) L (.int r :: st)) : V x γ κ Q (enc γ σ) pc L (a1 :: .ref (aS γ i) :: st) :=
  v_callV C hB hs hR hd hκ (k := 9 + 3 * i) (by omega) (en_S hi) rfl hq (As := [a1]) hM rfl hW (fun v w2 hp => by obtain ⟨r, σ2, rfl, rfl, h⟩ := hp; exact kk r σ2 h)
theorem kS1v (C : Cx x γ cc own ret rm) (hX : 135 ≤ γ.N) {i : Nat} (hi : i < 10) (hB : CB own idx y b n rt 1) (hs : Cond.instanceMethod y ∈ TB ∧ Cond.selects y.cls y y ∈ TB) (hq : R_ST = y.cls) (hR : RmOk rc rm n) (hd : decode cc pc = .ok (.invokevirtual idx, 3)) (hκ : κ.1 ≤ rm.cells ∧ κ.2 ≤ rm.slots) {a1 : Value} {Φ : SGG → Prop} (hM : Ct x.l y b n rt rc γ (enc γ σ) [.ref (aS γ i), a1] (PV γ Φ)) (hW : (st.map fun v => v.category).sum ≤ 8)
    (kk : ∀ σ2 : SGG, Φ σ2 → V x γ κ Q (enc γ σ2) (pc + 3) L st) : V x γ κ Q (enc γ σ) pc L (a1 :: .ref (aS γ i) :: st) :=
  v_callV C hB hs hR hd hκ (k := 9 + 3 * i) (by omega) (en_S hi) rfl hq (As := [a1]) hM rfl hW (fun v w2 hp => by obtain ⟨σ2, rfl, rfl, h⟩ := hp; exact kk σ2 h)
theorem kS2i (C : Cx x γ cc own ret rm) (hX : 135 ≤ γ.N) {i : Nat} (hi : i < 10) (hB : CB own idx y b n rt 2) (hs : Cond.instanceMethod y ∈ TB ∧ Cond.selects y.cls y y ∈ TB) (hq : R_ST = y.cls) (hR : RmOk rc rm n) (hd : decode cc pc = .ok (.invokevirtual idx, 3)) (hκ : κ.1 ≤ rm.cells ∧ κ.2 ≤ rm.slots) {a1 a2 : Value} {Φ : Int32 → SGG → Prop} (hM : Ct x.l y b n rt rc γ (enc γ σ) [.ref (aS γ i), a1, a2] (PI γ Φ)) (hW : (st.map fun v => v.category).sum ≤ 8)
    (kk : ∀ (r : Int32) (σ2 : SGG), Φ r σ2 → V x γ κ Q (enc γ σ2) (pc + 3) L (.int r :: st)) : V x γ κ Q (enc γ σ) pc L (a2 :: a1 :: .ref (aS γ i) :: st) :=
  v_callV C hB hs hR hd hκ (k := 9 + 3 * i) (by omega) (en_S hi) rfl hq (As := [a1, a2]) hM rfl hW (fun v w2 hp => by obtain ⟨r, σ2, rfl, rfl, h⟩ := hp; exact kk r σ2 h)
theorem kS2v (C : Cx x γ cc own ret rm) (hX : 135 ≤ γ.N) {i : Nat} (hi : i < 10) (hB : CB own idx y b n rt 2) (hs : Cond.instanceMethod y ∈ TB ∧ Cond.selects y.cls y y ∈ TB) (hq : R_ST = y.cls) (hR : RmOk rc rm n) (hd : decode cc pc = .ok (.invokevirtual idx, 3)) (hκ : κ.1 ≤ rm.cells ∧ κ.2 ≤ rm.slots) {a1 a2 : Value} {Φ : SGG → Prop} (hM : Ct x.l y b n rt rc γ (enc γ σ) [.ref (aS γ i), a1, a2] (PV γ Φ)) (hW : (st.map fun v => v.category).sum ≤ 8)
    (kk : ∀ σ2 : SGG, Φ σ2 → V x γ κ Q (enc γ σ2) (pc + 3) L st) : V x γ κ Q (enc γ σ) pc L (a2 :: a1 :: .ref (aS γ i) :: st) :=
  v_callV C hB hs hR hd hκ (k := 9 + 3 * i) (by omega) (en_S hi) rfl hq (As := [a1, a2]) hM rfl hW (fun v w2 hp => by obtain ⟨σ2, rfl, rfl, h⟩ := hp; exact kk σ2 h)
theorem kS3i (C : Cx x γ cc own ret rm) (hX : 135 ≤ γ.N) {i : Nat} (hi : i < 10) (hB : CB own idx y b n rt 3) (hs : Cond.instanceMethod y ∈ TB ∧ Cond.selects y.cls y y ∈ TB) (hq : R_ST = y.cls) (hR : RmOk rc rm n) (hd : decode cc pc = .ok (.invokevirtual idx, 3)) (hκ : κ.1 ≤ rm.cells ∧ κ.2 ≤ rm.slots) {a1 a2 a3 : Value} {Φ : Int32 → SGG → Prop} (hM : Ct x.l y b n rt rc γ (enc γ σ) [.ref (aS γ i), a1, a2, a3] (PI γ Φ)) (hW : (st.map fun v => v.category).sum ≤ 8)
    (kk : ∀ (r : Int32) (σ2 : SGG), Φ r σ2 → V x γ κ Q (enc γ σ2) (pc + 3) L (.int r :: st)) : V x γ κ Q (enc γ σ) pc L (a3 :: a2 :: a1 :: .ref (aS γ i) :: st) :=
  v_callV C hB hs hR hd hκ (k := 9 + 3 * i) (by omega) (en_S hi) rfl hq (As := [a1, a2, a3]) hM rfl hW (fun v w2 hp => by obtain ⟨r, σ2, rfl, rfl, h⟩ := hp; exact kk r σ2 h)
theorem kS3v (C : Cx x γ cc own ret rm) (hX : 135 ≤ γ.N) {i : Nat} (hi : i < 10) (hB : CB own idx y b n rt 3) (hs : Cond.instanceMethod y ∈ TB ∧ Cond.selects y.cls y y ∈ TB) (hq : R_ST = y.cls) (hR : RmOk rc rm n) (hd : decode cc pc = .ok (.invokevirtual idx, 3)) (hκ : κ.1 ≤ rm.cells ∧ κ.2 ≤ rm.slots) {a1 a2 a3 : Value} {Φ : SGG → Prop} (hM : Ct x.l y b n rt rc γ (enc γ σ) [.ref (aS γ i), a1, a2, a3] (PV γ Φ)) (hW : (st.map fun v => v.category).sum ≤ 8)
    (kk : ∀ σ2 : SGG, Φ σ2 → V x γ κ Q (enc γ σ2) (pc + 3) L st) : V x γ κ Q (enc γ σ) pc L (a3 :: a2 :: a1 :: .ref (aS γ i) :: st) :=
  v_callV C hB hs hR hd hκ (k := 9 + 3 * i) (by omega) (en_S hi) rfl hq (As := [a1, a2, a3]) hM rfl hW (fun v w2 hp => by obtain ⟨σ2, rfl, rfl, h⟩ := hp; exact kk σ2 h)
theorem kM0i (C : Cx x γ cc own ret rm) (hX : 135 ≤ γ.N)  (hB : CB own idx y b n rt 0) (hs : Cond.instanceMethod y ∈ TB ∧ Cond.selects y.cls y y ∈ TB) (hq : R_RM = y.cls) (hR : RmOk rc rm n) (hd : decode cc pc = .ok (.invokevirtual idx, 3)) (hκ : κ.1 ≤ rm.cells ∧ κ.2 ≤ rm.slots)  {Φ : Int32 → SGG → Prop} (hM : Ct x.l y b n rt rc γ (enc γ σ) [.ref (aM γ)] (PI γ Φ)) (hW : (st.map fun v => v.category).sum ≤ 8)
    (kk : ∀ (r : Int32) (σ2 : SGG), Φ r σ2 → V x γ κ Q (enc γ σ2) (pc + 3) L (.int r :: st)) : V x γ κ Q (enc γ σ) pc L (.ref (aM γ) :: st) :=
  v_callV C hB hs hR hd hκ (k := 0) (by omega) en_M rfl hq (As := []) hM rfl hW (fun v w2 hp => by obtain ⟨r, σ2, rfl, rfl, h⟩ := hp; exact kk r σ2 h)
theorem kM0v (C : Cx x γ cc own ret rm) (hX : 135 ≤ γ.N)  (hB : CB own idx y b n rt 0) (hs : Cond.instanceMethod y ∈ TB ∧ Cond.selects y.cls y y ∈ TB) (hq : R_RM = y.cls) (hR : RmOk rc rm n) (hd : decode cc pc = .ok (.invokevirtual idx, 3)) (hκ : κ.1 ≤ rm.cells ∧ κ.2 ≤ rm.slots)  {Φ : SGG → Prop} (hM : Ct x.l y b n rt rc γ (enc γ σ) [.ref (aM γ)] (PV γ Φ)) (hW : (st.map fun v => v.category).sum ≤ 8)
    (kk : ∀ σ2 : SGG, Φ σ2 → V x γ κ Q (enc γ σ2) (pc + 3) L st) : V x γ κ Q (enc γ σ) pc L (.ref (aM γ) :: st) :=
  v_callV C hB hs hR hd hκ (k := 0) (by omega) en_M rfl hq (As := []) hM rfl hW (fun v w2 hp => by obtain ⟨σ2, rfl, rfl, h⟩ := hp; exact kk σ2 h)
theorem kM1i (C : Cx x γ cc own ret rm) (hX : 135 ≤ γ.N)  (hB : CB own idx y b n rt 1) (hs : Cond.instanceMethod y ∈ TB ∧ Cond.selects y.cls y y ∈ TB) (hq : R_RM = y.cls) (hR : RmOk rc rm n) (hd : decode cc pc = .ok (.invokevirtual idx, 3)) (hκ : κ.1 ≤ rm.cells ∧ κ.2 ≤ rm.slots) {a1 : Value} {Φ : Int32 → SGG → Prop} (hM : Ct x.l y b n rt rc γ (enc γ σ) [.ref (aM γ), a1] (PI γ Φ)) (hW : (st.map fun v => v.category).sum ≤ 8)
    (kk : ∀ (r : Int32) (σ2 : SGG), Φ r σ2 → V x γ κ Q (enc γ σ2) (pc + 3) L (.int r :: st)) : V x γ κ Q (enc γ σ) pc L (a1 :: .ref (aM γ) :: st) :=
  v_callV C hB hs hR hd hκ (k := 0) (by omega) en_M rfl hq (As := [a1]) hM rfl hW (fun v w2 hp => by obtain ⟨r, σ2, rfl, rfl, h⟩ := hp; exact kk r σ2 h)
theorem kM1v (C : Cx x γ cc own ret rm) (hX : 135 ≤ γ.N)  (hB : CB own idx y b n rt 1) (hs : Cond.instanceMethod y ∈ TB ∧ Cond.selects y.cls y y ∈ TB) (hq : R_RM = y.cls) (hR : RmOk rc rm n) (hd : decode cc pc = .ok (.invokevirtual idx, 3)) (hκ : κ.1 ≤ rm.cells ∧ κ.2 ≤ rm.slots) {a1 : Value} {Φ : SGG → Prop} (hM : Ct x.l y b n rt rc γ (enc γ σ) [.ref (aM γ), a1] (PV γ Φ)) (hW : (st.map fun v => v.category).sum ≤ 8)
    (kk : ∀ σ2 : SGG, Φ σ2 → V x γ κ Q (enc γ σ2) (pc + 3) L st) : V x γ κ Q (enc γ σ) pc L (a1 :: .ref (aM γ) :: st) :=
  v_callV C hB hs hR hd hκ (k := 0) (by omega) en_M rfl hq (As := [a1]) hM rfl hW (fun v w2 hp => by obtain ⟨σ2, rfl, rfl, h⟩ := hp; exact kk σ2 h)
theorem kM2i (C : Cx x γ cc own ret rm) (hX : 135 ≤ γ.N)  (hB : CB own idx y b n rt 2) (hs : Cond.instanceMethod y ∈ TB ∧ Cond.selects y.cls y y ∈ TB) (hq : R_RM = y.cls) (hR : RmOk rc rm n) (hd : decode cc pc = .ok (.invokevirtual idx, 3)) (hκ : κ.1 ≤ rm.cells ∧ κ.2 ≤ rm.slots) {a1 a2 : Value} {Φ : Int32 → SGG → Prop} (hM : Ct x.l y b n rt rc γ (enc γ σ) [.ref (aM γ), a1, a2] (PI γ Φ)) (hW : (st.map fun v => v.category).sum ≤ 8)
    (kk : ∀ (r : Int32) (σ2 : SGG), Φ r σ2 → V x γ κ Q (enc γ σ2) (pc + 3) L (.int r :: st)) : V x γ κ Q (enc γ σ) pc L (a2 :: a1 :: .ref (aM γ) :: st) :=
  v_callV C hB hs hR hd hκ (k := 0) (by omega) en_M rfl hq (As := [a1, a2]) hM rfl hW (fun v w2 hp => by obtain ⟨r, σ2, rfl, rfl, h⟩ := hp; exact kk r σ2 h)
theorem kM2v (C : Cx x γ cc own ret rm) (hX : 135 ≤ γ.N)  (hB : CB own idx y b n rt 2) (hs : Cond.instanceMethod y ∈ TB ∧ Cond.selects y.cls y y ∈ TB) (hq : R_RM = y.cls) (hR : RmOk rc rm n) (hd : decode cc pc = .ok (.invokevirtual idx, 3)) (hκ : κ.1 ≤ rm.cells ∧ κ.2 ≤ rm.slots) {a1 a2 : Value} {Φ : SGG → Prop} (hM : Ct x.l y b n rt rc γ (enc γ σ) [.ref (aM γ), a1, a2] (PV γ Φ)) (hW : (st.map fun v => v.category).sum ≤ 8)
    (kk : ∀ σ2 : SGG, Φ σ2 → V x γ κ Q (enc γ σ2) (pc + 3) L st) : V x γ κ Q (enc γ σ) pc L (a2 :: a1 :: .ref (aM γ) :: st) :=
  v_callV C hB hs hR hd hκ (k := 0) (by omega) en_M rfl hq (As := [a1, a2]) hM rfl hW (fun v w2 hp => by obtain ⟨σ2, rfl, rfl, h⟩ := hp; exact kk σ2 h)
theorem kM3i (C : Cx x γ cc own ret rm) (hX : 135 ≤ γ.N)  (hB : CB own idx y b n rt 3) (hs : Cond.instanceMethod y ∈ TB ∧ Cond.selects y.cls y y ∈ TB) (hq : R_RM = y.cls) (hR : RmOk rc rm n) (hd : decode cc pc = .ok (.invokevirtual idx, 3)) (hκ : κ.1 ≤ rm.cells ∧ κ.2 ≤ rm.slots) {a1 a2 a3 : Value} {Φ : Int32 → SGG → Prop} (hM : Ct x.l y b n rt rc γ (enc γ σ) [.ref (aM γ), a1, a2, a3] (PI γ Φ)) (hW : (st.map fun v => v.category).sum ≤ 8)
    (kk : ∀ (r : Int32) (σ2 : SGG), Φ r σ2 → V x γ κ Q (enc γ σ2) (pc + 3) L (.int r :: st)) : V x γ κ Q (enc γ σ) pc L (a3 :: a2 :: a1 :: .ref (aM γ) :: st) :=
  v_callV C hB hs hR hd hκ (k := 0) (by omega) en_M rfl hq (As := [a1, a2, a3]) hM rfl hW (fun v w2 hp => by obtain ⟨r, σ2, rfl, rfl, h⟩ := hp; exact kk r σ2 h)
theorem kM3v (C : Cx x γ cc own ret rm) (hX : 135 ≤ γ.N)  (hB : CB own idx y b n rt 3) (hs : Cond.instanceMethod y ∈ TB ∧ Cond.selects y.cls y y ∈ TB) (hq : R_RM = y.cls) (hR : RmOk rc rm n) (hd : decode cc pc = .ok (.invokevirtual idx, 3)) (hκ : κ.1 ≤ rm.cells ∧ κ.2 ≤ rm.slots) {a1 a2 a3 : Value} {Φ : SGG → Prop} (hM : Ct x.l y b n rt rc γ (enc γ σ) [.ref (aM γ), a1, a2, a3] (PV γ Φ)) (hW : (st.map fun v => v.category).sum ≤ 8)
    (kk : ∀ σ2 : SGG, Φ σ2 → V x γ κ Q (enc γ σ2) (pc + 3) L st) : V x γ κ Q (enc γ σ) pc L (a3 :: a2 :: a1 :: .ref (aM γ) :: st) :=
  v_callV C hB hs hR hd hκ (k := 0) (by omega) en_M rfl hq (As := [a1, a2, a3]) hM rfl hW (fun v w2 hp => by obtain ⟨σ2, rfl, rfl, h⟩ := hp; exact kk σ2 h)
theorem kB0i (C : Cx x γ cc own ret rm) (hX : 135 ≤ γ.N)  (hB : CB own idx y b n rt 0) (hs : Cond.instanceMethod y ∈ TB ∧ Cond.selects y.cls y y ∈ TB) (hq : R_NB = y.cls) (hR : RmOk rc rm n) (hd : decode cc pc = .ok (.invokevirtual idx, 3)) (hκ : κ.1 ≤ rm.cells ∧ κ.2 ≤ rm.slots)  {Φ : Int32 → SGG → Prop} (hM : Ct x.l y b n rt rc γ (enc γ σ) [.ref (aB γ)] (PI γ Φ)) (hW : (st.map fun v => v.category).sum ≤ 8)
    (kk : ∀ (r : Int32) (σ2 : SGG), Φ r σ2 → V x γ κ Q (enc γ σ2) (pc + 3) L (.int r :: st)) : V x γ κ Q (enc γ σ) pc L (.ref (aB γ) :: st) :=
  v_callV C hB hs hR hd hκ (k := 6) (by omega) en_B rfl hq (As := []) hM rfl hW (fun v w2 hp => by obtain ⟨r, σ2, rfl, rfl, h⟩ := hp; exact kk r σ2 h)
theorem kB0v (C : Cx x γ cc own ret rm) (hX : 135 ≤ γ.N)  (hB : CB own idx y b n rt 0) (hs : Cond.instanceMethod y ∈ TB ∧ Cond.selects y.cls y y ∈ TB) (hq : R_NB = y.cls) (hR : RmOk rc rm n) (hd : decode cc pc = .ok (.invokevirtual idx, 3)) (hκ : κ.1 ≤ rm.cells ∧ κ.2 ≤ rm.slots)  {Φ : SGG → Prop} (hM : Ct x.l y b n rt rc γ (enc γ σ) [.ref (aB γ)] (PV γ Φ)) (hW : (st.map fun v => v.category).sum ≤ 8)
    (kk : ∀ σ2 : SGG, Φ σ2 → V x γ κ Q (enc γ σ2) (pc + 3) L st) : V x γ κ Q (enc γ σ) pc L (.ref (aB γ) :: st) :=
  v_callV C hB hs hR hd hκ (k := 6) (by omega) en_B rfl hq (As := []) hM rfl hW (fun v w2 hp => by obtain ⟨σ2, rfl, rfl, h⟩ := hp; exact kk σ2 h)
theorem kB0r (C : Cx x γ cc own ret rm) (hX : 135 ≤ γ.N)  (hB : CB own idx y b n rt 0) (hs : Cond.instanceMethod y ∈ TB ∧ Cond.selects y.cls y y ∈ TB) (hq : R_NB = y.cls) (hR : RmOk rc rm n) (hd : decode cc pc = .ok (.invokevirtual idx, 3)) (hκ : κ.1 ≤ rm.cells ∧ κ.2 ≤ rm.slots)  {Φ : Nat → SGG → Prop} (hM : Ct x.l y b n rt rc γ (enc γ σ) [.ref (aB γ)] (PR γ Φ)) (hW : (st.map fun v => v.category).sum ≤ 8)
    (kk : ∀ (r : Nat) (σ2 : SGG), Φ r σ2 → V x γ κ Q (enc γ σ2) (pc + 3) L (.ref r :: st)) : V x γ κ Q (enc γ σ) pc L (.ref (aB γ) :: st) :=
  v_callV C hB hs hR hd hκ (k := 6) (by omega) en_B rfl hq (As := []) hM rfl hW (fun v w2 hp => by obtain ⟨r, σ2, rfl, rfl, h⟩ := hp; exact kk r σ2 h)
theorem kB1i (C : Cx x γ cc own ret rm) (hX : 135 ≤ γ.N)  (hB : CB own idx y b n rt 1) (hs : Cond.instanceMethod y ∈ TB ∧ Cond.selects y.cls y y ∈ TB) (hq : R_NB = y.cls) (hR : RmOk rc rm n) (hd : decode cc pc = .ok (.invokevirtual idx, 3)) (hκ : κ.1 ≤ rm.cells ∧ κ.2 ≤ rm.slots) {a1 : Value} {Φ : Int32 → SGG → Prop} (hM : Ct x.l y b n rt rc γ (enc γ σ) [.ref (aB γ), a1] (PI γ Φ)) (hW : (st.map fun v => v.category).sum ≤ 8)
    (kk : ∀ (r : Int32) (σ2 : SGG), Φ r σ2 → V x γ κ Q (enc γ σ2) (pc + 3) L (.int r :: st)) : V x γ κ Q (enc γ σ) pc L (a1 :: .ref (aB γ) :: st) :=
  v_callV C hB hs hR hd hκ (k := 6) (by omega) en_B rfl hq (As := [a1]) hM rfl hW (fun v w2 hp => by obtain ⟨r, σ2, rfl, rfl, h⟩ := hp; exact kk r σ2 h)
theorem kB1v (C : Cx x γ cc own ret rm) (hX : 135 ≤ γ.N)  (hB : CB own idx y b n rt 1) (hs : Cond.instanceMethod y ∈ TB ∧ Cond.selects y.cls y y ∈ TB) (hq : R_NB = y.cls) (hR : RmOk rc rm n) (hd : decode cc pc = .ok (.invokevirtual idx, 3)) (hκ : κ.1 ≤ rm.cells ∧ κ.2 ≤ rm.slots) {a1 : Value} {Φ : SGG → Prop} (hM : Ct x.l y b n rt rc γ (enc γ σ) [.ref (aB γ), a1] (PV γ Φ)) (hW : (st.map fun v => v.category).sum ≤ 8)
    (kk : ∀ σ2 : SGG, Φ σ2 → V x γ κ Q (enc γ σ2) (pc + 3) L st) : V x γ κ Q (enc γ σ) pc L (a1 :: .ref (aB γ) :: st) :=
  v_callV C hB hs hR hd hκ (k := 6) (by omega) en_B rfl hq (As := [a1]) hM rfl hW (fun v w2 hp => by obtain ⟨σ2, rfl, rfl, h⟩ := hp; exact kk σ2 h)
theorem kB1r (C : Cx x γ cc own ret rm) (hX : 135 ≤ γ.N)  (hB : CB own idx y b n rt 1) (hs : Cond.instanceMethod y ∈ TB ∧ Cond.selects y.cls y y ∈ TB) (hq : R_NB = y.cls) (hR : RmOk rc rm n) (hd : decode cc pc = .ok (.invokevirtual idx, 3)) (hκ : κ.1 ≤ rm.cells ∧ κ.2 ≤ rm.slots) {a1 : Value} {Φ : Nat → SGG → Prop} (hM : Ct x.l y b n rt rc γ (enc γ σ) [.ref (aB γ), a1] (PR γ Φ)) (hW : (st.map fun v => v.category).sum ≤ 8)
    (kk : ∀ (r : Nat) (σ2 : SGG), Φ r σ2 → V x γ κ Q (enc γ σ2) (pc + 3) L (.ref r :: st)) : V x γ κ Q (enc γ σ) pc L (a1 :: .ref (aB γ) :: st) :=
  v_callV C hB hs hR hd hκ (k := 6) (by omega) en_B rfl hq (As := [a1]) hM rfl hW (fun v w2 hp => by obtain ⟨r, σ2, rfl, rfl, h⟩ := hp; exact kk r σ2 h)
theorem kB2i (C : Cx x γ cc own ret rm) (hX : 135 ≤ γ.N)  (hB : CB own idx y b n rt 2) (hs : Cond.instanceMethod y ∈ TB ∧ Cond.selects y.cls y y ∈ TB) (hq : R_NB = y.cls) (hR : RmOk rc rm n) (hd : decode cc pc = .ok (.invokevirtual idx, 3)) (hκ : κ.1 ≤ rm.cells ∧ κ.2 ≤ rm.slots) {a1 a2 : Value} {Φ : Int32 → SGG → Prop} (hM : Ct x.l y b n rt rc γ (enc γ σ) [.ref (aB γ), a1, a2] (PI γ Φ)) (hW : (st.map fun v => v.category).sum ≤ 8)
    (kk : ∀ (r : Int32) (σ2 : SGG), Φ r σ2 → V x γ κ Q (enc γ σ2) (pc + 3) L (.int r :: st)) : V x γ κ Q (enc γ σ) pc L (a2 :: a1 :: .ref (aB γ) :: st) :=
  v_callV C hB hs hR hd hκ (k := 6) (by omega) en_B rfl hq (As := [a1, a2]) hM rfl hW (fun v w2 hp => by obtain ⟨r, σ2, rfl, rfl, h⟩ := hp; exact kk r σ2 h)
theorem kB2v (C : Cx x γ cc own ret rm) (hX : 135 ≤ γ.N)  (hB : CB own idx y b n rt 2) (hs : Cond.instanceMethod y ∈ TB ∧ Cond.selects y.cls y y ∈ TB) (hq : R_NB = y.cls) (hR : RmOk rc rm n) (hd : decode cc pc = .ok (.invokevirtual idx, 3)) (hκ : κ.1 ≤ rm.cells ∧ κ.2 ≤ rm.slots) {a1 a2 : Value} {Φ : SGG → Prop} (hM : Ct x.l y b n rt rc γ (enc γ σ) [.ref (aB γ), a1, a2] (PV γ Φ)) (hW : (st.map fun v => v.category).sum ≤ 8)
    (kk : ∀ σ2 : SGG, Φ σ2 → V x γ κ Q (enc γ σ2) (pc + 3) L st) : V x γ κ Q (enc γ σ) pc L (a2 :: a1 :: .ref (aB γ) :: st) :=
  v_callV C hB hs hR hd hκ (k := 6) (by omega) en_B rfl hq (As := [a1, a2]) hM rfl hW (fun v w2 hp => by obtain ⟨σ2, rfl, rfl, h⟩ := hp; exact kk σ2 h)
theorem kB2r (C : Cx x γ cc own ret rm) (hX : 135 ≤ γ.N)  (hB : CB own idx y b n rt 2) (hs : Cond.instanceMethod y ∈ TB ∧ Cond.selects y.cls y y ∈ TB) (hq : R_NB = y.cls) (hR : RmOk rc rm n) (hd : decode cc pc = .ok (.invokevirtual idx, 3)) (hκ : κ.1 ≤ rm.cells ∧ κ.2 ≤ rm.slots) {a1 a2 : Value} {Φ : Nat → SGG → Prop} (hM : Ct x.l y b n rt rc γ (enc γ σ) [.ref (aB γ), a1, a2] (PR γ Φ)) (hW : (st.map fun v => v.category).sum ≤ 8)
    (kk : ∀ (r : Nat) (σ2 : SGG), Φ r σ2 → V x γ κ Q (enc γ σ2) (pc + 3) L (.ref r :: st)) : V x γ κ Q (enc γ σ) pc L (a2 :: a1 :: .ref (aB γ) :: st) :=
  v_callV C hB hs hR hd hκ (k := 6) (by omega) en_B rfl hq (As := [a1, a2]) hM rfl hW (fun v w2 hp => by obtain ⟨r, σ2, rfl, rfl, h⟩ := hp; exact kk r σ2 h)
theorem kB3i (C : Cx x γ cc own ret rm) (hX : 135 ≤ γ.N)  (hB : CB own idx y b n rt 3) (hs : Cond.instanceMethod y ∈ TB ∧ Cond.selects y.cls y y ∈ TB) (hq : R_NB = y.cls) (hR : RmOk rc rm n) (hd : decode cc pc = .ok (.invokevirtual idx, 3)) (hκ : κ.1 ≤ rm.cells ∧ κ.2 ≤ rm.slots) {a1 a2 a3 : Value} {Φ : Int32 → SGG → Prop} (hM : Ct x.l y b n rt rc γ (enc γ σ) [.ref (aB γ), a1, a2, a3] (PI γ Φ)) (hW : (st.map fun v => v.category).sum ≤ 8)
    (kk : ∀ (r : Int32) (σ2 : SGG), Φ r σ2 → V x γ κ Q (enc γ σ2) (pc + 3) L (.int r :: st)) : V x γ κ Q (enc γ σ) pc L (a3 :: a2 :: a1 :: .ref (aB γ) :: st) :=
  v_callV C hB hs hR hd hκ (k := 6) (by omega) en_B rfl hq (As := [a1, a2, a3]) hM rfl hW (fun v w2 hp => by obtain ⟨r, σ2, rfl, rfl, h⟩ := hp; exact kk r σ2 h)
theorem kB3v (C : Cx x γ cc own ret rm) (hX : 135 ≤ γ.N)  (hB : CB own idx y b n rt 3) (hs : Cond.instanceMethod y ∈ TB ∧ Cond.selects y.cls y y ∈ TB) (hq : R_NB = y.cls) (hR : RmOk rc rm n) (hd : decode cc pc = .ok (.invokevirtual idx, 3)) (hκ : κ.1 ≤ rm.cells ∧ κ.2 ≤ rm.slots) {a1 a2 a3 : Value} {Φ : SGG → Prop} (hM : Ct x.l y b n rt rc γ (enc γ σ) [.ref (aB γ), a1, a2, a3] (PV γ Φ)) (hW : (st.map fun v => v.category).sum ≤ 8)
    (kk : ∀ σ2 : SGG, Φ σ2 → V x γ κ Q (enc γ σ2) (pc + 3) L st) : V x γ κ Q (enc γ σ) pc L (a3 :: a2 :: a1 :: .ref (aB γ) :: st) :=
  v_callV C hB hs hR hd hκ (k := 6) (by omega) en_B rfl hq (As := [a1, a2, a3]) hM rfl hW (fun v w2 hp => by obtain ⟨σ2, rfl, rfl, h⟩ := hp; exact kk σ2 h)
theorem kB3r (C : Cx x γ cc own ret rm) (hX : 135 ≤ γ.N)  (hB : CB own idx y b n rt 3) (hs : Cond.instanceMethod y ∈ TB ∧ Cond.selects y.cls y y ∈ TB) (hq : R_NB = y.cls) (hR : RmOk rc rm n) (hd : decode cc pc = .ok (.invokevirtual idx, 3)) (hκ : κ.1 ≤ rm.cells ∧ κ.2 ≤ rm.slots) {a1 a2 a3 : Value} {Φ : Nat → SGG → Prop} (hM : Ct x.l y b n rt rc γ (enc γ σ) [.ref (aB γ), a1, a2, a3] (PR γ Φ)) (hW : (st.map fun v => v.category).sum ≤ 8)
    (kk : ∀ (r : Nat) (σ2 : SGG), Φ r σ2 → V x γ κ Q (enc γ σ2) (pc + 3) L (.ref r :: st)) : V x γ κ Q (enc γ σ) pc L (a3 :: a2 :: a1 :: .ref (aB γ) :: st) :=
  v_callV C hB hs hR hd hκ (k := 6) (by omega) en_B rfl hq (As := [a1, a2, a3]) hM rfl hW (fun v w2 hp => by obtain ⟨r, σ2, rfl, rfl, h⟩ := hp; exact kk r σ2 h)
theorem kN0i (C : Cx x γ cc own ret rm) (hX : 135 ≤ γ.N) {i : Nat} (hi : i < 32) (hB : CB own idx y b n rt 0) (hs : Cond.instanceMethod y ∈ TB ∧ Cond.selects y.cls y y ∈ TB) (hq : R_NT = y.cls) (hR : RmOk rc rm n) (hd : decode cc pc = .ok (.invokevirtual idx, 3)) (hκ : κ.1 ≤ rm.cells ∧ κ.2 ≤ rm.slots)  {Φ : Int32 → SGG → Prop} (hM : Ct x.l y b n rt rc γ (enc γ σ) [.ref (aN γ i)] (PI γ Φ)) (hW : (st.map fun v => v.category).sum ≤ 8)
    (kk : ∀ (r : Int32) (σ2 : SGG), Φ r σ2 → V x γ κ Q (enc γ σ2) (pc + 3) L (.int r :: st)) : V x γ κ Q (enc γ σ) pc L (.ref (aN γ i) :: st) :=
  v_callV C hB hs hR hd hκ (k := 39 + 3 * i) (by omega) (en_N hi) rfl hq (As := []) hM rfl hW (fun v w2 hp => by obtain ⟨r, σ2, rfl, rfl, h⟩ := hp; exact kk r σ2 h)
theorem kN0v (C : Cx x γ cc own ret rm) (hX : 135 ≤ γ.N) {i : Nat} (hi : i < 32) (hB : CB own idx y b n rt 0) (hs : Cond.instanceMethod y ∈ TB ∧ Cond.selects y.cls y y ∈ TB) (hq : R_NT = y.cls) (hR : RmOk rc rm n) (hd : decode cc pc = .ok (.invokevirtual idx, 3)) (hκ : κ.1 ≤ rm.cells ∧ κ.2 ≤ rm.slots)  {Φ : SGG → Prop} (hM : Ct x.l y b n rt rc γ (enc γ σ) [.ref (aN γ i)] (PV γ Φ)) (hW : (st.map fun v => v.category).sum ≤ 8)
    (kk : ∀ σ2 : SGG, Φ σ2 → V x γ κ Q (enc γ σ2) (pc + 3) L st) : V x γ κ Q (enc γ σ) pc L (.ref (aN γ i) :: st) :=
  v_callV C hB hs hR hd hκ (k := 39 + 3 * i) (by omega) (en_N hi) rfl hq (As := []) hM rfl hW (fun v w2 hp => by obtain ⟨σ2, rfl, rfl, h⟩ := hp; exact kk σ2 h)
theorem kN1i (C : Cx x γ cc own ret rm) (hX : 135 ≤ γ.N) {i : Nat} (hi : i < 32) (hB : CB own idx y b n rt 1) (hs : Cond.instanceMethod y ∈ TB ∧ Cond.selects y.cls y y ∈ TB) (hq : R_NT = y.cls) (hR : RmOk rc rm n) (hd : decode cc pc = .ok (.invokevirtual idx, 3)) (hκ : κ.1 ≤ rm.cells ∧ κ.2 ≤ rm.slots) {a1 : Value} {Φ : Int32 → SGG → Prop} (hM : Ct x.l y b n rt rc γ (enc γ σ) [.ref (aN γ i), a1] (PI γ Φ)) (hW : (st.map fun v => v.category).sum ≤ 8)
    (kk : ∀ (r : Int32) (σ2 : SGG), Φ r σ2 → V x γ κ Q (enc γ σ2) (pc + 3) L (.int r :: st)) : V x γ κ Q (enc γ σ) pc L (a1 :: .ref (aN γ i) :: st) :=
  v_callV C hB hs hR hd hκ (k := 39 + 3 * i) (by omega) (en_N hi) rfl hq (As := [a1]) hM rfl hW (fun v w2 hp => by obtain ⟨r, σ2, rfl, rfl, h⟩ := hp; exact kk r σ2 h)
theorem kN1v (C : Cx x γ cc own ret rm) (hX : 135 ≤ γ.N) {i : Nat} (hi : i < 32) (hB : CB own idx y b n rt 1) (hs : Cond.instanceMethod y ∈ TB ∧ Cond.selects y.cls y y ∈ TB) (hq : R_NT = y.cls) (hR : RmOk rc rm n) (hd : decode cc pc = .ok (.invokevirtual idx, 3)) (hκ : κ.1 ≤ rm.cells ∧ κ.2 ≤ rm.slots) {a1 : Value} {Φ : SGG → Prop} (hM : Ct x.l y b n rt rc γ (enc γ σ) [.ref (aN γ i), a1] (PV γ Φ)) (hW : (st.map fun v => v.category).sum ≤ 8)
    (kk : ∀ σ2 : SGG, Φ σ2 → V x γ κ Q (enc γ σ2) (pc + 3) L st) : V x γ κ Q (enc γ σ) pc L (a1 :: .ref (aN γ i) :: st) :=
  v_callV C hB hs hR hd hκ (k := 39 + 3 * i) (by omega) (en_N hi) rfl hq (As := [a1]) hM rfl hW (fun v w2 hp => by obtain ⟨σ2, rfl, rfl, h⟩ := hp; exact kk σ2 h)
theorem kN2i (C : Cx x γ cc own ret rm) (hX : 135 ≤ γ.N) {i : Nat} (hi : i < 32) (hB : CB own idx y b n rt 2) (hs : Cond.instanceMethod y ∈ TB ∧ Cond.selects y.cls y y ∈ TB) (hq : R_NT = y.cls) (hR : RmOk rc rm n) (hd : decode cc pc = .ok (.invokevirtual idx, 3)) (hκ : κ.1 ≤ rm.cells ∧ κ.2 ≤ rm.slots) {a1 a2 : Value} {Φ : Int32 → SGG → Prop} (hM : Ct x.l y b n rt rc γ (enc γ σ) [.ref (aN γ i), a1, a2] (PI γ Φ)) (hW : (st.map fun v => v.category).sum ≤ 8)
    (kk : ∀ (r : Int32) (σ2 : SGG), Φ r σ2 → V x γ κ Q (enc γ σ2) (pc + 3) L (.int r :: st)) : V x γ κ Q (enc γ σ) pc L (a2 :: a1 :: .ref (aN γ i) :: st) :=
  v_callV C hB hs hR hd hκ (k := 39 + 3 * i) (by omega) (en_N hi) rfl hq (As := [a1, a2]) hM rfl hW (fun v w2 hp => by obtain ⟨r, σ2, rfl, rfl, h⟩ := hp; exact kk r σ2 h)
theorem kN2v (C : Cx x γ cc own ret rm) (hX : 135 ≤ γ.N) {i : Nat} (hi : i < 32) (hB : CB own idx y b n rt 2) (hs : Cond.instanceMethod y ∈ TB ∧ Cond.selects y.cls y y ∈ TB) (hq : R_NT = y.cls) (hR : RmOk rc rm n) (hd : decode cc pc = .ok (.invokevirtual idx, 3)) (hκ : κ.1 ≤ rm.cells ∧ κ.2 ≤ rm.slots) {a1 a2 : Value} {Φ : SGG → Prop} (hM : Ct x.l y b n rt rc γ (enc γ σ) [.ref (aN γ i), a1, a2] (PV γ Φ)) (hW : (st.map fun v => v.category).sum ≤ 8)
    (kk : ∀ σ2 : SGG, Φ σ2 → V x γ κ Q (enc γ σ2) (pc + 3) L st) : V x γ κ Q (enc γ σ) pc L (a2 :: a1 :: .ref (aN γ i) :: st) :=
  v_callV C hB hs hR hd hκ (k := 39 + 3 * i) (by omega) (en_N hi) rfl hq (As := [a1, a2]) hM rfl hW (fun v w2 hp => by obtain ⟨σ2, rfl, rfl, h⟩ := hp; exact kk σ2 h)
theorem kN3i (C : Cx x γ cc own ret rm) (hX : 135 ≤ γ.N) {i : Nat} (hi : i < 32) (hB : CB own idx y b n rt 3) (hs : Cond.instanceMethod y ∈ TB ∧ Cond.selects y.cls y y ∈ TB) (hq : R_NT = y.cls) (hR : RmOk rc rm n) (hd : decode cc pc = .ok (.invokevirtual idx, 3)) (hκ : κ.1 ≤ rm.cells ∧ κ.2 ≤ rm.slots) {a1 a2 a3 : Value} {Φ : Int32 → SGG → Prop} (hM : Ct x.l y b n rt rc γ (enc γ σ) [.ref (aN γ i), a1, a2, a3] (PI γ Φ)) (hW : (st.map fun v => v.category).sum ≤ 8)
    (kk : ∀ (r : Int32) (σ2 : SGG), Φ r σ2 → V x γ κ Q (enc γ σ2) (pc + 3) L (.int r :: st)) : V x γ κ Q (enc γ σ) pc L (a3 :: a2 :: a1 :: .ref (aN γ i) :: st) :=
  v_callV C hB hs hR hd hκ (k := 39 + 3 * i) (by omega) (en_N hi) rfl hq (As := [a1, a2, a3]) hM rfl hW (fun v w2 hp => by obtain ⟨r, σ2, rfl, rfl, h⟩ := hp; exact kk r σ2 h)
theorem kN3v (C : Cx x γ cc own ret rm) (hX : 135 ≤ γ.N) {i : Nat} (hi : i < 32) (hB : CB own idx y b n rt 3) (hs : Cond.instanceMethod y ∈ TB ∧ Cond.selects y.cls y y ∈ TB) (hq : R_NT = y.cls) (hR : RmOk rc rm n) (hd : decode cc pc = .ok (.invokevirtual idx, 3)) (hκ : κ.1 ≤ rm.cells ∧ κ.2 ≤ rm.slots) {a1 a2 a3 : Value} {Φ : SGG → Prop} (hM : Ct x.l y b n rt rc γ (enc γ σ) [.ref (aN γ i), a1, a2, a3] (PV γ Φ)) (hW : (st.map fun v => v.category).sum ≤ 8)
    (kk : ∀ σ2 : SGG, Φ σ2 → V x γ κ Q (enc γ σ2) (pc + 3) L st) : V x γ κ Q (enc γ σ) pc L (a3 :: a2 :: a1 :: .ref (aN γ i) :: st) :=
  v_callV C hB hs hR hd hκ (k := 39 + 3 * i) (by omega) (en_N hi) rfl hq (As := [a1, a2, a3]) hM rfl hW (fun v w2 hp => by obtain ⟨σ2, rfl, rfl, h⟩ := hp; exact kk σ2 h)
theorem kU0i (C : Cx x γ cc own ret rm) (hY : 146 ≤ γ.N)  (hB : CB own idx y b n rt 0) (hs : Cond.instanceMethod y ∈ TB ∧ Cond.selects y.cls y y ∈ TB) (hq : R_MO = y.cls) (hR : RmOk rc rm n) (hd : decode cc pc = .ok (.invokevirtual idx, 3)) (hκ : κ.1 ≤ rm.cells ∧ κ.2 ≤ rm.slots)  {Φ : Int32 → SGG → Prop} (hM : Ct x.l y b n rt rc γ (enc γ σ) [.ref (aU γ)] (PI γ Φ)) (hW : (st.map fun v => v.category).sum ≤ 8)
    (kk : ∀ (r : Int32) (σ2 : SGG), Φ r σ2 → V x γ κ Q (enc γ σ2) (pc + 3) L (.int r :: st)) : V x γ κ Q (enc γ σ) pc L (.ref (aU γ) :: st) :=
  v_callV C hB hs hR hd hκ (k := 135) (by omega) en_U rfl hq (As := []) hM rfl hW (fun v w2 hp => by obtain ⟨r, σ2, rfl, rfl, h⟩ := hp; exact kk r σ2 h)
theorem kU0v (C : Cx x γ cc own ret rm) (hY : 146 ≤ γ.N)  (hB : CB own idx y b n rt 0) (hs : Cond.instanceMethod y ∈ TB ∧ Cond.selects y.cls y y ∈ TB) (hq : R_MO = y.cls) (hR : RmOk rc rm n) (hd : decode cc pc = .ok (.invokevirtual idx, 3)) (hκ : κ.1 ≤ rm.cells ∧ κ.2 ≤ rm.slots)  {Φ : SGG → Prop} (hM : Ct x.l y b n rt rc γ (enc γ σ) [.ref (aU γ)] (PV γ Φ)) (hW : (st.map fun v => v.category).sum ≤ 8)
    (kk : ∀ σ2 : SGG, Φ σ2 → V x γ κ Q (enc γ σ2) (pc + 3) L st) : V x γ κ Q (enc γ σ) pc L (.ref (aU γ) :: st) :=
  v_callV C hB hs hR hd hκ (k := 135) (by omega) en_U rfl hq (As := []) hM rfl hW (fun v w2 hp => by obtain ⟨σ2, rfl, rfl, h⟩ := hp; exact kk σ2 h)
theorem kU1i (C : Cx x γ cc own ret rm) (hY : 146 ≤ γ.N)  (hB : CB own idx y b n rt 1) (hs : Cond.instanceMethod y ∈ TB ∧ Cond.selects y.cls y y ∈ TB) (hq : R_MO = y.cls) (hR : RmOk rc rm n) (hd : decode cc pc = .ok (.invokevirtual idx, 3)) (hκ : κ.1 ≤ rm.cells ∧ κ.2 ≤ rm.slots) {a1 : Value} {Φ : Int32 → SGG → Prop} (hM : Ct x.l y b n rt rc γ (enc γ σ) [.ref (aU γ), a1] (PI γ Φ)) (hW : (st.map fun v => v.category).sum ≤ 8)
    (kk : ∀ (r : Int32) (σ2 : SGG), Φ r σ2 → V x γ κ Q (enc γ σ2) (pc + 3) L (.int r :: st)) : V x γ κ Q (enc γ σ) pc L (a1 :: .ref (aU γ) :: st) :=
  v_callV C hB hs hR hd hκ (k := 135) (by omega) en_U rfl hq (As := [a1]) hM rfl hW (fun v w2 hp => by obtain ⟨r, σ2, rfl, rfl, h⟩ := hp; exact kk r σ2 h)
theorem kU1v (C : Cx x γ cc own ret rm) (hY : 146 ≤ γ.N)  (hB : CB own idx y b n rt 1) (hs : Cond.instanceMethod y ∈ TB ∧ Cond.selects y.cls y y ∈ TB) (hq : R_MO = y.cls) (hR : RmOk rc rm n) (hd : decode cc pc = .ok (.invokevirtual idx, 3)) (hκ : κ.1 ≤ rm.cells ∧ κ.2 ≤ rm.slots) {a1 : Value} {Φ : SGG → Prop} (hM : Ct x.l y b n rt rc γ (enc γ σ) [.ref (aU γ), a1] (PV γ Φ)) (hW : (st.map fun v => v.category).sum ≤ 8)
    (kk : ∀ σ2 : SGG, Φ σ2 → V x γ κ Q (enc γ σ2) (pc + 3) L st) : V x γ κ Q (enc γ σ) pc L (a1 :: .ref (aU γ) :: st) :=
  v_callV C hB hs hR hd hκ (k := 135) (by omega) en_U rfl hq (As := [a1]) hM rfl hW (fun v w2 hp => by obtain ⟨σ2, rfl, rfl, h⟩ := hp; exact kk σ2 h)
theorem kU2i (C : Cx x γ cc own ret rm) (hY : 146 ≤ γ.N)  (hB : CB own idx y b n rt 2) (hs : Cond.instanceMethod y ∈ TB ∧ Cond.selects y.cls y y ∈ TB) (hq : R_MO = y.cls) (hR : RmOk rc rm n) (hd : decode cc pc = .ok (.invokevirtual idx, 3)) (hκ : κ.1 ≤ rm.cells ∧ κ.2 ≤ rm.slots) {a1 a2 : Value} {Φ : Int32 → SGG → Prop} (hM : Ct x.l y b n rt rc γ (enc γ σ) [.ref (aU γ), a1, a2] (PI γ Φ)) (hW : (st.map fun v => v.category).sum ≤ 8)
    (kk : ∀ (r : Int32) (σ2 : SGG), Φ r σ2 → V x γ κ Q (enc γ σ2) (pc + 3) L (.int r :: st)) : V x γ κ Q (enc γ σ) pc L (a2 :: a1 :: .ref (aU γ) :: st) :=
  v_callV C hB hs hR hd hκ (k := 135) (by omega) en_U rfl hq (As := [a1, a2]) hM rfl hW (fun v w2 hp => by obtain ⟨r, σ2, rfl, rfl, h⟩ := hp; exact kk r σ2 h)
theorem kU2v (C : Cx x γ cc own ret rm) (hY : 146 ≤ γ.N)  (hB : CB own idx y b n rt 2) (hs : Cond.instanceMethod y ∈ TB ∧ Cond.selects y.cls y y ∈ TB) (hq : R_MO = y.cls) (hR : RmOk rc rm n) (hd : decode cc pc = .ok (.invokevirtual idx, 3)) (hκ : κ.1 ≤ rm.cells ∧ κ.2 ≤ rm.slots) {a1 a2 : Value} {Φ : SGG → Prop} (hM : Ct x.l y b n rt rc γ (enc γ σ) [.ref (aU γ), a1, a2] (PV γ Φ)) (hW : (st.map fun v => v.category).sum ≤ 8)
    (kk : ∀ σ2 : SGG, Φ σ2 → V x γ κ Q (enc γ σ2) (pc + 3) L st) : V x γ κ Q (enc γ σ) pc L (a2 :: a1 :: .ref (aU γ) :: st) :=
  v_callV C hB hs hR hd hκ (k := 135) (by omega) en_U rfl hq (As := [a1, a2]) hM rfl hW (fun v w2 hp => by obtain ⟨σ2, rfl, rfl, h⟩ := hp; exact kk σ2 h)
theorem kU3i (C : Cx x γ cc own ret rm) (hY : 146 ≤ γ.N)  (hB : CB own idx y b n rt 3) (hs : Cond.instanceMethod y ∈ TB ∧ Cond.selects y.cls y y ∈ TB) (hq : R_MO = y.cls) (hR : RmOk rc rm n) (hd : decode cc pc = .ok (.invokevirtual idx, 3)) (hκ : κ.1 ≤ rm.cells ∧ κ.2 ≤ rm.slots) {a1 a2 a3 : Value} {Φ : Int32 → SGG → Prop} (hM : Ct x.l y b n rt rc γ (enc γ σ) [.ref (aU γ), a1, a2, a3] (PI γ Φ)) (hW : (st.map fun v => v.category).sum ≤ 8)
    (kk : ∀ (r : Int32) (σ2 : SGG), Φ r σ2 → V x γ κ Q (enc γ σ2) (pc + 3) L (.int r :: st)) : V x γ κ Q (enc γ σ) pc L (a3 :: a2 :: a1 :: .ref (aU γ) :: st) :=
  v_callV C hB hs hR hd hκ (k := 135) (by omega) en_U rfl hq (As := [a1, a2, a3]) hM rfl hW (fun v w2 hp => by obtain ⟨r, σ2, rfl, rfl, h⟩ := hp; exact kk r σ2 h)
theorem kU3v (C : Cx x γ cc own ret rm) (hY : 146 ≤ γ.N)  (hB : CB own idx y b n rt 3) (hs : Cond.instanceMethod y ∈ TB ∧ Cond.selects y.cls y y ∈ TB) (hq : R_MO = y.cls) (hR : RmOk rc rm n) (hd : decode cc pc = .ok (.invokevirtual idx, 3)) (hκ : κ.1 ≤ rm.cells ∧ κ.2 ≤ rm.slots) {a1 a2 a3 : Value} {Φ : SGG → Prop} (hM : Ct x.l y b n rt rc γ (enc γ σ) [.ref (aU γ), a1, a2, a3] (PV γ Φ)) (hW : (st.map fun v => v.category).sum ≤ 8)
    (kk : ∀ σ2 : SGG, Φ σ2 → V x γ κ Q (enc γ σ2) (pc + 3) L st) : V x γ κ Q (enc γ σ) pc L (a3 :: a2 :: a1 :: .ref (aU γ) :: st) :=
  v_callV C hB hs hR hd hκ (k := 135) (by omega) en_U rfl hq (As := [a1, a2, a3]) hM rfl hW (fun v w2 hp => by obtain ⟨σ2, rfl, rfl, h⟩ := hp; exact kk σ2 h)
theorem kk0i (C : Cx x γ cc own ret rm) (hB : CB own idx y b n rt 0) (hs : Cond.static y ∈ TB) (hR : RmOk rc rm n) (hd : decode cc pc = .ok (.invokestatic idx, 3)) (hκ : κ.1 ≤ rm.cells ∧ κ.2 ≤ rm.slots)  {Φ : Int32 → SGG → Prop} (hM : Ct x.l y b n rt rc γ (enc γ σ) [] (PI γ Φ)) (hW : (st.map fun v => v.category).sum ≤ 8)
    (kk : ∀ (r : Int32) (σ2 : SGG), Φ r σ2 → V x γ κ Q (enc γ σ2) (pc + 3) L (.int r :: st)) : V x γ κ Q (enc γ σ) pc L (st) :=
  v_callS C hB hs hR hd hκ (As := []) hM rfl hW (fun v w2 hp => by obtain ⟨r, σ2, rfl, rfl, h⟩ := hp; exact kk r σ2 h)
theorem kk0v (C : Cx x γ cc own ret rm) (hB : CB own idx y b n rt 0) (hs : Cond.static y ∈ TB) (hR : RmOk rc rm n) (hd : decode cc pc = .ok (.invokestatic idx, 3)) (hκ : κ.1 ≤ rm.cells ∧ κ.2 ≤ rm.slots)  {Φ : SGG → Prop} (hM : Ct x.l y b n rt rc γ (enc γ σ) [] (PV γ Φ)) (hW : (st.map fun v => v.category).sum ≤ 8)
    (kk : ∀ σ2 : SGG, Φ σ2 → V x γ κ Q (enc γ σ2) (pc + 3) L st) : V x γ κ Q (enc γ σ) pc L (st) :=
  v_callS C hB hs hR hd hκ (As := []) hM rfl hW (fun v w2 hp => by obtain ⟨σ2, rfl, rfl, h⟩ := hp; exact kk σ2 h)
theorem kk1i (C : Cx x γ cc own ret rm) (hB : CB own idx y b n rt 1) (hs : Cond.static y ∈ TB) (hR : RmOk rc rm n) (hd : decode cc pc = .ok (.invokestatic idx, 3)) (hκ : κ.1 ≤ rm.cells ∧ κ.2 ≤ rm.slots) {a1 : Value} {Φ : Int32 → SGG → Prop} (hM : Ct x.l y b n rt rc γ (enc γ σ) [a1] (PI γ Φ)) (hW : (st.map fun v => v.category).sum ≤ 8)
    (kk : ∀ (r : Int32) (σ2 : SGG), Φ r σ2 → V x γ κ Q (enc γ σ2) (pc + 3) L (.int r :: st)) : V x γ κ Q (enc γ σ) pc L (a1 :: st) :=
  v_callS C hB hs hR hd hκ (As := [a1]) hM rfl hW (fun v w2 hp => by obtain ⟨r, σ2, rfl, rfl, h⟩ := hp; exact kk r σ2 h)
theorem kk1v (C : Cx x γ cc own ret rm) (hB : CB own idx y b n rt 1) (hs : Cond.static y ∈ TB) (hR : RmOk rc rm n) (hd : decode cc pc = .ok (.invokestatic idx, 3)) (hκ : κ.1 ≤ rm.cells ∧ κ.2 ≤ rm.slots) {a1 : Value} {Φ : SGG → Prop} (hM : Ct x.l y b n rt rc γ (enc γ σ) [a1] (PV γ Φ)) (hW : (st.map fun v => v.category).sum ≤ 8)
    (kk : ∀ σ2 : SGG, Φ σ2 → V x γ κ Q (enc γ σ2) (pc + 3) L st) : V x γ κ Q (enc γ σ) pc L (a1 :: st) :=
  v_callS C hB hs hR hd hκ (As := [a1]) hM rfl hW (fun v w2 hp => by obtain ⟨σ2, rfl, rfl, h⟩ := hp; exact kk σ2 h)
theorem kk2i (C : Cx x γ cc own ret rm) (hB : CB own idx y b n rt 2) (hs : Cond.static y ∈ TB) (hR : RmOk rc rm n) (hd : decode cc pc = .ok (.invokestatic idx, 3)) (hκ : κ.1 ≤ rm.cells ∧ κ.2 ≤ rm.slots) {a1 a2 : Value} {Φ : Int32 → SGG → Prop} (hM : Ct x.l y b n rt rc γ (enc γ σ) [a1, a2] (PI γ Φ)) (hW : (st.map fun v => v.category).sum ≤ 8)
    (kk : ∀ (r : Int32) (σ2 : SGG), Φ r σ2 → V x γ κ Q (enc γ σ2) (pc + 3) L (.int r :: st)) : V x γ κ Q (enc γ σ) pc L (a2 :: a1 :: st) :=
  v_callS C hB hs hR hd hκ (As := [a1, a2]) hM rfl hW (fun v w2 hp => by obtain ⟨r, σ2, rfl, rfl, h⟩ := hp; exact kk r σ2 h)
theorem kk2v (C : Cx x γ cc own ret rm) (hB : CB own idx y b n rt 2) (hs : Cond.static y ∈ TB) (hR : RmOk rc rm n) (hd : decode cc pc = .ok (.invokestatic idx, 3)) (hκ : κ.1 ≤ rm.cells ∧ κ.2 ≤ rm.slots) {a1 a2 : Value} {Φ : SGG → Prop} (hM : Ct x.l y b n rt rc γ (enc γ σ) [a1, a2] (PV γ Φ)) (hW : (st.map fun v => v.category).sum ≤ 8)
    (kk : ∀ σ2 : SGG, Φ σ2 → V x γ κ Q (enc γ σ2) (pc + 3) L st) : V x γ κ Q (enc γ σ) pc L (a2 :: a1 :: st) :=
  v_callS C hB hs hR hd hκ (As := [a1, a2]) hM rfl hW (fun v w2 hp => by obtain ⟨σ2, rfl, rfl, h⟩ := hp; exact kk σ2 h)
theorem kk3i (C : Cx x γ cc own ret rm) (hB : CB own idx y b n rt 3) (hs : Cond.static y ∈ TB) (hR : RmOk rc rm n) (hd : decode cc pc = .ok (.invokestatic idx, 3)) (hκ : κ.1 ≤ rm.cells ∧ κ.2 ≤ rm.slots) {a1 a2 a3 : Value} {Φ : Int32 → SGG → Prop} (hM : Ct x.l y b n rt rc γ (enc γ σ) [a1, a2, a3] (PI γ Φ)) (hW : (st.map fun v => v.category).sum ≤ 8)
    (kk : ∀ (r : Int32) (σ2 : SGG), Φ r σ2 → V x γ κ Q (enc γ σ2) (pc + 3) L (.int r :: st)) : V x γ κ Q (enc γ σ) pc L (a3 :: a2 :: a1 :: st) :=
  v_callS C hB hs hR hd hκ (As := [a1, a2, a3]) hM rfl hW (fun v w2 hp => by obtain ⟨r, σ2, rfl, rfl, h⟩ := hp; exact kk r σ2 h)
theorem kk3v (C : Cx x γ cc own ret rm) (hB : CB own idx y b n rt 3) (hs : Cond.static y ∈ TB) (hR : RmOk rc rm n) (hd : decode cc pc = .ok (.invokestatic idx, 3)) (hκ : κ.1 ≤ rm.cells ∧ κ.2 ≤ rm.slots) {a1 a2 a3 : Value} {Φ : SGG → Prop} (hM : Ct x.l y b n rt rc γ (enc γ σ) [a1, a2, a3] (PV γ Φ)) (hW : (st.map fun v => v.category).sum ≤ 8)
    (kk : ∀ σ2 : SGG, Φ σ2 → V x γ κ Q (enc γ σ2) (pc + 3) L st) : V x γ κ Q (enc γ σ) pc L (a3 :: a2 :: a1 :: st) :=
  v_callS C hB hs hR hd hκ (As := [a1, a2, a3]) hM rfl hW (fun v w2 hp => by obtain ⟨σ2, rfl, rfl, h⟩ := hp; exact kk σ2 h)
end KC
