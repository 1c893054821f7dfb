section
abbrev bb_T : Type := Int32 × Int32 × (Nat → Int32) × (Nat → Int32) × (Nat → Int32) × (Nat → Int32) × (Nat → Int32) × (Nat → Int32) × (Nat → Int32) × (Nat → Int32)
def bb_count (x : bb_T) : Int32 := x.1
def bb_height (x : bb_T) : Int32 := x.2.1
def bb_kind (x : bb_T) : Nat → Int32 := x.2.2.1
def bb_pa (x : bb_T) : Nat → Int32 := x.2.2.2.1
def bb_pb (x : bb_T) : Nat → Int32 := x.2.2.2.2.1
def bb_pc (x : bb_T) : Nat → Int32 := x.2.2.2.2.2.1
def bb_num (x : bb_T) : Nat → Int32 := x.2.2.2.2.2.2.1
def bb_wh (x : bb_T) : Nat → Int32 := x.2.2.2.2.2.2.2.1
def bb_pl (x : bb_T) : Nat → Int32 := x.2.2.2.2.2.2.2.2.1
def bb_stack (x : bb_T) : Nat → Int32 := x.2.2.2.2.2.2.2.2.2
abbrev qq_T : Type := Int32 × Int32 × Int32 × Int32 × Int32 × Int32 × (Nat → Int32) × (Nat → Int32) × (Nat → Int32) × (Nat → Int32) × (Nat → Int32) × (Nat → Int32) × (Nat → Int32) × (Nat → Int32) × (Nat → Int32)
def qq_size (x : qq_T) : Int32 := x.1
def qq_pending (x : qq_T) : Int32 := x.2.1
def qq_tasks (x : qq_T) : Int32 := x.2.2.1
def qq_fc (x : qq_T) : Int32 := x.2.2.2.1
def qq_fe (x : qq_T) : Int32 := x.2.2.2.2.1
def qq_cr (x : qq_T) : Int32 := x.2.2.2.2.2.1
def qq_code (x : qq_T) : Nat → Int32 := x.2.2.2.2.2.2.1
def qq_extra (x : qq_T) : Nat → Int32 := x.2.2.2.2.2.2.2.1
def qq_entry (x : qq_T) : Nat → Int32 := x.2.2.2.2.2.2.2.2.1
def qq_gc (x : qq_T) : Nat → Int32 := x.2.2.2.2.2.2.2.2.2.1
def qq_ge (x : qq_T) : Nat → Int32 := x.2.2.2.2.2.2.2.2.2.2.1
def qq_pf (x : qq_T) : Nat → Int32 := x.2.2.2.2.2.2.2.2.2.2.2.1
def qq_task (x : qq_T) : Nat → Int32 := x.2.2.2.2.2.2.2.2.2.2.2.2.1
def qq_phase (x : qq_T) : Nat → Int32 := x.2.2.2.2.2.2.2.2.2.2.2.2.2.1
def qq_hole (x : qq_T) : Nat → Int32 := x.2.2.2.2.2.2.2.2.2.2.2.2.2.2
abbrev vv_T : Type := Int32 × Int32 × Int32 × Int32 × Int32 × (Nat → Int32) × (Nat → Int32) × (Nat → Int32) × (Nat → Int32) × (Nat → Int32) × (Nat → Int32) × (Nat → Int32) × (Nat → Int32) × (Nat → Int32) × (Nat → Int32) × (Nat → Int32)
def vv_values (x : vv_T) : Int32 := x.1
def vv_frames (x : vv_T) : Int32 := x.2.1
def vv_closures (x : vv_T) : Int32 := x.2.2.1
def vv_called (x : vv_T) : Int32 := x.2.2.2.1
def vv_ended (x : vv_T) : Int32 := x.2.2.2.2.1
def vv_tag (x : vv_T) : Nat → Int32 := x.2.2.2.2.2.1
def vv_datum (x : vv_T) : Nat → Int32 := x.2.2.2.2.2.2.1
def vv_back (x : vv_T) : Nat → Int32 := x.2.2.2.2.2.2.2.1
def vv_run (x : vv_T) : Nat → Int32 := x.2.2.2.2.2.2.2.2.1
def vv_at (x : vv_T) : Nat → Int32 := x.2.2.2.2.2.2.2.2.2.1
def vv_ad (x : vv_T) : Nat → Int32 := x.2.2.2.2.2.2.2.2.2.2.1
def vv_st (x : vv_T) : Nat → Int32 := x.2.2.2.2.2.2.2.2.2.2.2.1
def vv_sd (x : vv_T) : Nat → Int32 := x.2.2.2.2.2.2.2.2.2.2.2.2.1
def vv_co (x : vv_T) : Nat → Int32 := x.2.2.2.2.2.2.2.2.2.2.2.2.2.1
def vv_kt (x : vv_T) : Nat → Int32 := x.2.2.2.2.2.2.2.2.2.2.2.2.2.2.1
def vv_kd (x : vv_T) : Nat → Int32 := x.2.2.2.2.2.2.2.2.2.2.2.2.2.2.2
def cc_u (b : bb_T) (c : qq_T) (v : vv_T) : St1 := (bb_count b, bb_height b, qq_size c, qq_pending c, qq_tasks c, vv_values v, vv_frames v, vv_closures v, vv_called v, vv_ended v, qq_fc c, qq_fe c, qq_cr c, bb_kind b, bb_pa b, bb_pb b, bb_pc b, bb_num b, bb_wh b, bb_pl b, bb_stack b, qq_code c, qq_extra c, qq_entry c, qq_gc c, qq_ge c, qq_pf c, qq_task c, qq_phase c, qq_hole c, vv_tag v, vv_datum v, vv_back v, vv_run v, vv_at v, vv_ad v, vv_st v, vv_sd v, vv_co v, vv_kt v, vv_kd v)
def bb_of (u : St1) : bb_T := (u.1, u.2.1, u.2.2.2.2.2.2.2.2.2.2.2.2.2.1, u.2.2.2.2.2.2.2.2.2.2.2.2.2.2.1, u.2.2.2.2.2.2.2.2.2.2.2.2.2.2.2.1, u.2.2.2.2.2.2.2.2.2.2.2.2.2.2.2.2.1, u.2.2.2.2.2.2.2.2.2.2.2.2.2.2.2.2.2.1, u.2.2.2.2.2.2.2.2.2.2.2.2.2.2.2.2.2.2.1, u.2.2.2.2.2.2.2.2.2.2.2.2.2.2.2.2.2.2.2.1, u.2.2.2.2.2.2.2.2.2.2.2.2.2.2.2.2.2.2.2.2.1)
def qq_of (u : St1) : qq_T := (u.2.2.1, u.2.2.2.1, u.2.2.2.2.1, u.2.2.2.2.2.2.2.2.2.2.1, u.2.2.2.2.2.2.2.2.2.2.2.1, u.2.2.2.2.2.2.2.2.2.2.2.2.1, u.2.2.2.2.2.2.2.2.2.2.2.2.2.2.2.2.2.2.2.2.2.1, u.2.2.2.2.2.2.2.2.2.2.2.2.2.2.2.2.2.2.2.2.2.2.1, u.2.2.2.2.2.2.2.2.2.2.2.2.2.2.2.2.2.2.2.2.2.2.2.1, u.2.2.2.2.2.2.2.2.2.2.2.2.2.2.2.2.2.2.2.2.2.2.2.2.1, u.2.2.2.2.2.2.2.2.2.2.2.2.2.2.2.2.2.2.2.2.2.2.2.2.2.1, u.2.2.2.2.2.2.2.2.2.2.2.2.2.2.2.2.2.2.2.2.2.2.2.2.2.2.1, u.2.2.2.2.2.2.2.2.2.2.2.2.2.2.2.2.2.2.2.2.2.2.2.2.2.2.2.1, u.2.2.2.2.2.2.2.2.2.2.2.2.2.2.2.2.2.2.2.2.2.2.2.2.2.2.2.2.1, u.2.2.2.2.2.2.2.2.2.2.2.2.2.2.2.2.2.2.2.2.2.2.2.2.2.2.2.2.2.1)
def vv_of (u : St1) : vv_T := (u.2.2.2.2.2.1, u.2.2.2.2.2.2.1, u.2.2.2.2.2.2.2.1, u.2.2.2.2.2.2.2.2.1, u.2.2.2.2.2.2.2.2.2.1, u.2.2.2.2.2.2.2.2.2.2.2.2.2.2.2.2.2.2.2.2.2.2.2.2.2.2.2.2.2.2.1, u.2.2.2.2.2.2.2.2.2.2.2.2.2.2.2.2.2.2.2.2.2.2.2.2.2.2.2.2.2.2.2.1, u.2.2.2.2.2.2.2.2.2.2.2.2.2.2.2.2.2.2.2.2.2.2.2.2.2.2.2.2.2.2.2.2.1, u.2.2.2.2.2.2.2.2.2.2.2.2.2.2.2.2.2.2.2.2.2.2.2.2.2.2.2.2.2.2.2.2.2.1, u.2.2.2.2.2.2.2.2.2.2.2.2.2.2.2.2.2.2.2.2.2.2.2.2.2.2.2.2.2.2.2.2.2.2.1, u.2.2.2.2.2.2.2.2.2.2.2.2.2.2.2.2.2.2.2.2.2.2.2.2.2.2.2.2.2.2.2.2.2.2.2.1, u.2.2.2.2.2.2.2.2.2.2.2.2.2.2.2.2.2.2.2.2.2.2.2.2.2.2.2.2.2.2.2.2.2.2.2.2.1, u.2.2.2.2.2.2.2.2.2.2.2.2.2.2.2.2.2.2.2.2.2.2.2.2.2.2.2.2.2.2.2.2.2.2.2.2.2.1, u.2.2.2.2.2.2.2.2.2.2.2.2.2.2.2.2.2.2.2.2.2.2.2.2.2.2.2.2.2.2.2.2.2.2.2.2.2.2.1, u.2.2.2.2.2.2.2.2.2.2.2.2.2.2.2.2.2.2.2.2.2.2.2.2.2.2.2.2.2.2.2.2.2.2.2.2.2.2.2.1, u.2.2.2.2.2.2.2.2.2.2.2.2.2.2.2.2.2.2.2.2.2.2.2.2.2.2.2.2.2.2.2.2.2.2.2.2.2.2.2.2)
theorem cc_eta (u : St1) : cc_u (bb_of u) (qq_of u) (vv_of u) = u := rfl
def cc_Xe (post : St1 → Prop) (n : Nat) (p i : Int32) (b : bb_T) (c : qq_T) (v : vv_T) : Prop := wX_execute_58 post n p i (bb_count b) (bb_height b) (qq_size c) (qq_pending c) (qq_tasks c) (vv_values v) (vv_frames v) (vv_closures v) (vv_called v) (vv_ended v) (qq_fc c) (qq_fe c) (qq_cr c) (bb_kind b) (bb_pa b) (bb_pb b) (bb_pc b) (bb_num b) (bb_wh b) (bb_pl b) (bb_stack b) (qq_code c) (qq_extra c) (qq_entry c) (qq_gc c) (qq_ge c) (qq_pf c) (qq_task c) (qq_phase c) (qq_hole c) (vv_tag v) (vv_datum v) (vv_back v) (vv_run v) (vv_at v) (vv_ad v) (vv_st v) (vv_sd v) (vv_co v) (vv_kt v) (vv_kd v)
def cc_Xc (post : St1 → Prop) (n : Nat) (i : Int32) (b : bb_T) (c : qq_T) (v : vv_T) : Prop := wX_compile_12 post n i (bb_count b) (bb_height b) (qq_size c) (qq_pending c) (qq_tasks c) (vv_values v) (vv_frames v) (vv_closures v) (vv_called v) (vv_ended v) (qq_fc c) (qq_fe c) (qq_cr c) (bb_kind b) (bb_pa b) (bb_pb b) (bb_pc b) (bb_num b) (bb_wh b) (bb_pl b) (bb_stack b) (qq_code c) (qq_extra c) (qq_entry c) (qq_gc c) (qq_ge c) (qq_pf c) (qq_task c) (qq_phase c) (qq_hole c) (vv_tag v) (vv_datum v) (vv_back v) (vv_run v) (vv_at v) (vv_ad v) (vv_st v) (vv_sd v) (vv_co v) (vv_kt v) (vv_kd v)
def cc_Xa (post : St1 → Prop) (n : Nat) (i : Int32) (b : bb_T) (c : qq_T) (v : vv_T) : Prop := wX_compileAll_38 post n i (bb_count b) (bb_height b) (qq_size c) (qq_pending c) (qq_tasks c) (vv_values v) (vv_frames v) (vv_closures v) (vv_called v) (vv_ended v) (qq_fc c) (qq_fe c) (qq_cr c) (bb_kind b) (bb_pa b) (bb_pb b) (bb_pc b) (bb_num b) (bb_wh b) (bb_pl b) (bb_stack b) (qq_code c) (qq_extra c) (qq_entry c) (qq_gc c) (qq_ge c) (qq_pf c) (qq_task c) (qq_phase c) (qq_hole c) (vv_tag v) (vv_datum v) (vv_back v) (vv_run v) (vv_at v) (vv_ad v) (vv_st v) (vv_sd v) (vv_co v) (vv_kt v) (vv_kd v)
def cc_Xg (post : St1 → Prop) (x : Int32) (n : Nat) (i : Int32) (b : bb_T) (c : qq_T) (v : vv_T) (z1 : Nat → Int32) : Prop := wX_compileAll_12 post x (bb_count b) (bb_height b) (qq_size c) (qq_pending c) (qq_tasks c) (vv_values v) (vv_frames v) (vv_closures v) (vv_called v) (vv_ended v) (qq_fc c) (qq_fe c) (qq_cr c) n i (bb_kind b) (bb_pa b) (bb_pb b) (bb_pc b) (bb_num b) (bb_wh b) (bb_pl b) (bb_stack b) (qq_code c) (qq_extra c) (qq_entry c) z1 (qq_ge c) (qq_pf c) (qq_task c) (qq_phase c) (qq_hole c) (vv_tag v) (vv_datum v) (vv_back v) (vv_run v) (vv_at v) (vv_ad v) (vv_st v) (vv_sd v) (vv_co v) (vv_kt v) (vv_kd v)
def cc_Xp (post : St1 → Prop) (x y z : Int32) (n : Nat) (i : Int32) (b : bb_T) (c : qq_T) (v : vv_T) (z1 z2 z3 : Int32) (z4 z5 : Nat → Int32) : Prop := wX_capture_23 post x y z n i (bb_count b) (bb_height b) (qq_size c) (qq_pending c) (qq_tasks c) (vv_values v) (vv_frames v) (vv_closures v) (vv_called v) (vv_ended v) z1 z2 z3 (bb_kind b) (bb_pa b) (bb_pb b) (bb_pc b) (bb_num b) (bb_wh b) (bb_pl b) (bb_stack b) (qq_code c) (qq_extra c) (qq_entry c) z4 z5 (qq_pf c) (qq_task c) (qq_phase c) (qq_hole c) (vv_tag v) (vv_datum v) (vv_back v) (vv_run v) (vv_at v) (vv_ad v) (vv_st v) (vv_sd v) (vv_co v) (vv_kt v) (vv_kd v)
def cc_Xm (post : St1 → Prop) (x y : Int32) (n : Nat) (i : Int32) (b : bb_T) (c : qq_T) (y1 : Int32) (y2 : Int32) (y3 : Int32) (y4 : Int32) (y5 : Int32) (y6 : Nat → Int32) (y7 : Nat → Int32) (y8 : Nat → Int32) (y9 : Nat → Int32) (y10 : Nat → Int32) (y11 : Nat → Int32) (y12 : Nat → Int32) (y13 : Nat → Int32) (y14 : Nat → Int32) (y15 : Nat → Int32) (y16 : Nat → Int32) : Prop := wX_makeClosure_24 post x y n i (bb_count b) (bb_height b) (qq_size c) (qq_pending c) (qq_tasks c) y1 y2 y3 y4 y5 (qq_fc c) (qq_fe c) (qq_cr c) (bb_kind b) (bb_pa b) (bb_pb b) (bb_pc b) (bb_num b) (bb_wh b) (bb_pl b) (bb_stack b) (qq_code c) (qq_extra c) (qq_entry c) (qq_gc c) (qq_ge c) (qq_pf c) (qq_task c) (qq_phase c) (qq_hole c) y6 y7 y8 y9 y10 y11 y12 y13 y14 y15 y16
def cc_Xb (post : Int32 → Prop) (b : bb_T) (c : qq_T) (v : vv_T) (n : Nat) (x y z : Int32) : Prop := wX_bindsAround_7 post (bb_count b) (bb_height b) (qq_size c) (qq_pending c) (qq_tasks c) (vv_values v) (vv_frames v) (vv_closures v) (vv_called v) (vv_ended v) (qq_fc c) (qq_fe c) (qq_cr c) (bb_kind b) (bb_pa b) (bb_pb b) (bb_pc b) (bb_num b) (bb_wh b) (bb_pl b) (bb_stack b) (qq_code c) (qq_extra c) (qq_entry c) (qq_gc c) (qq_ge c) (qq_pf c) (qq_task c) (qq_phase c) (qq_hole c) (vv_tag v) (vv_datum v) (vv_back v) (vv_run v) (vv_at v) (vv_ad v) (vv_st v) (vv_sd v) (vv_co v) (vv_kt v) (vv_kd v) n x y z
def cc_Xl (post : St1 → Prop) (w : Int32) (b : bb_T) (c : qq_T) (v : vv_T) (n : Nat) (x y : Int32) : Prop := wX_lookOut_21 post w (bb_count b) (bb_height b) (qq_size c) (qq_pending c) (qq_tasks c) (vv_values v) (vv_frames v) (vv_closures v) (vv_called v) (vv_ended v) 15 0 (-1) (bb_kind b) (bb_pa b) (bb_pb b) (bb_pc b) (bb_num b) (bb_wh b) (bb_pl b) (bb_stack b) (qq_code c) (qq_extra c) (qq_entry c) (qq_gc c) (qq_ge c) (qq_pf c) (qq_task c) (qq_phase c) (qq_hole c) (vv_tag v) (vv_datum v) (vv_back v) (vv_run v) (vv_at v) (vv_ad v) (vv_st v) (vv_sd v) (vv_co v) (vv_kt v) (vv_kd v) n x y
def cc_Xi (post : Int32 → Prop) (t : Int32) (b : bb_T) (c : qq_T) (v : vv_T) (n : Nat) (x y : Int32) : Prop := wX_inside_5 post t (bb_count b) (bb_height b) (qq_size c) (qq_pending c) (qq_tasks c) (vv_values v) (vv_frames v) (vv_closures v) (vv_called v) (vv_ended v) (qq_fc c) (qq_fe c) (qq_cr c) (bb_kind b) (bb_pa b) (bb_pb b) (bb_pc b) (bb_num b) (bb_wh b) (bb_pl b) (bb_stack b) (qq_code c) (qq_extra c) (qq_entry c) (qq_gc c) (qq_ge c) (qq_pf c) (qq_task c) (qq_phase c) (qq_hole c) (vv_tag v) (vv_datum v) (vv_back v) (vv_run v) (vv_at v) (vv_ad v) (vv_st v) (vv_sd v) (vv_co v) (vv_kt v) (vv_kd v) n x y
def cc_Xf (post : Int32 → St1 → Prop) (t : Int32) (n : Nat) (m x : Int32) (b : bb_T) (c : qq_T) (v : vv_T) : Prop := wX_free_26 post t n m x (bb_count b) (bb_height b) (qq_size c) (qq_pending c) (qq_tasks c) (vv_values v) (vv_frames v) (vv_closures v) (vv_called v) (vv_ended v) (qq_fc c) (qq_fe c) (qq_cr c) (bb_kind b) (bb_pa b) (bb_pb b) (bb_pc b) (bb_num b) (bb_wh b) (bb_pl b) (bb_stack b) (qq_code c) (qq_extra c) (qq_entry c) (qq_gc c) (qq_ge c) (qq_pf c) (qq_task c) (qq_phase c) (qq_hole c) (vv_tag v) (vv_datum v) (vv_back v) (vv_run v) (vv_at v) (vv_ad v) (vv_st v) (vv_sd v) (vv_co v) (vv_kt v) (vv_kd v)
def cc_Xh (post : Int32 → St1 → Prop) (t : Int32) (n : Nat) (m x : Int32) (fu : Nat) (i : Int32) (b : bb_T) (c : qq_T) (v : vv_T) : Prop := wX_free_65 post (wX_free_26 post t n) t m x fu i (bb_count b) (bb_height b) (qq_size c) (qq_pending c) (qq_tasks c) (vv_values v) (vv_frames v) (vv_closures v) (vv_called v) (vv_ended v) (qq_fc c) (qq_fe c) (qq_cr c) (bb_kind b) (bb_pa b) (bb_pb b) (bb_pc b) (bb_num b) (bb_wh b) (bb_pl b) (bb_stack b) (qq_code c) (qq_extra c) (qq_entry c) (qq_gc c) (qq_ge c) (qq_pf c) (qq_task c) (qq_phase c) (qq_hole c) (vv_tag v) (vv_datum v) (vv_back v) (vv_run v) (vv_at v) (vv_ad v) (vv_st v) (vv_sd v) (vv_co v) (vv_kt v) (vv_kd v)
def bb_s_count (x : bb_T) (y : Int32) : bb_T := (y, bb_height x, bb_kind x, bb_pa x, bb_pb x, bb_pc x, bb_num x, bb_wh x, bb_pl x, bb_stack x)
def bb_s_height (x : bb_T) (y : Int32) : bb_T := (bb_count x, y, bb_kind x, bb_pa x, bb_pb x, bb_pc x, bb_num x, bb_wh x, bb_pl x, bb_stack x)
def bb_s_kind (x : bb_T) (y : Nat → Int32) : bb_T := (bb_count x, bb_height x, y, bb_pa x, bb_pb x, bb_pc x, bb_num x, bb_wh x, bb_pl x, bb_stack x)
def bb_s_pa (x : bb_T) (y : Nat → Int32) : bb_T := (bb_count x, bb_height x, bb_kind x, y, bb_pb x, bb_pc x, bb_num x, bb_wh x, bb_pl x, bb_stack x)
def bb_s_pb (x : bb_T) (y : Nat → Int32) : bb_T := (bb_count x, bb_height x, bb_kind x, bb_pa x, y, bb_pc x, bb_num x, bb_wh x, bb_pl x, bb_stack x)
def bb_s_pc (x : bb_T) (y : Nat → Int32) : bb_T := (bb_count x, bb_height x, bb_kind x, bb_pa x, bb_pb x, y, bb_num x, bb_wh x, bb_pl x, bb_stack x)
def bb_s_num (x : bb_T) (y : Nat → Int32) : bb_T := (bb_count x, bb_height x, bb_kind x, bb_pa x, bb_pb x, bb_pc x, y, bb_wh x, bb_pl x, bb_stack x)
def bb_s_wh (x : bb_T) (y : Nat → Int32) : bb_T := (bb_count x, bb_height x, bb_kind x, bb_pa x, bb_pb x, bb_pc x, bb_num x, y, bb_pl x, bb_stack x)
def bb_s_pl (x : bb_T) (y : Nat → Int32) : bb_T := (bb_count x, bb_height x, bb_kind x, bb_pa x, bb_pb x, bb_pc x, bb_num x, bb_wh x, y, bb_stack x)
def bb_s_stack (x : bb_T) (y : Nat → Int32) : bb_T := (bb_count x, bb_height x, bb_kind x, bb_pa x, bb_pb x, bb_pc x, bb_num x, bb_wh x, bb_pl x, y)
def qq_s_size (x : qq_T) (y : Int32) : qq_T := (y, qq_pending x, qq_tasks x, qq_fc x, qq_fe x, qq_cr x, qq_code x, qq_extra x, qq_entry x, qq_gc x, qq_ge x, qq_pf x, qq_task x, qq_phase x, qq_hole x)
def qq_s_pending (x : qq_T) (y : Int32) : qq_T := (qq_size x, y, qq_tasks x, qq_fc x, qq_fe x, qq_cr x, qq_code x, qq_extra x, qq_entry x, qq_gc x, qq_ge x, qq_pf x, qq_task x, qq_phase x, qq_hole x)
def qq_s_tasks (x : qq_T) (y : Int32) : qq_T := (qq_size x, qq_pending x, y, qq_fc x, qq_fe x, qq_cr x, qq_code x, qq_extra x, qq_entry x, qq_gc x, qq_ge x, qq_pf x, qq_task x, qq_phase x, qq_hole x)
def qq_s_fc (x : qq_T) (y : Int32) : qq_T := (qq_size x, qq_pending x, qq_tasks x, y, qq_fe x, qq_cr x, qq_code x, qq_extra x, qq_entry x, qq_gc x, qq_ge x, qq_pf x, qq_task x, qq_phase x, qq_hole x)
def qq_s_fe (x : qq_T) (y : Int32) : qq_T := (qq_size x, qq_pending x, qq_tasks x, qq_fc x, y, qq_cr x, qq_code x, qq_extra x, qq_entry x, qq_gc x, qq_ge x, qq_pf x, qq_task x, qq_phase x, qq_hole x)
def qq_s_cr (x : qq_T) (y : Int32) : qq_T := (qq_size x, qq_pending x, qq_tasks x, qq_fc x, qq_fe x, y, qq_code x, qq_extra x, qq_entry x, qq_gc x, qq_ge x, qq_pf x, qq_task x, qq_phase x, qq_hole x)
def qq_s_code (x : qq_T) (y : Nat → Int32) : qq_T := (qq_size x, qq_pending x, qq_tasks x, qq_fc x, qq_fe x, qq_cr x, y, qq_extra x, qq_entry x, qq_gc x, qq_ge x, qq_pf x, qq_task x, qq_phase x, qq_hole x)
def qq_s_extra (x : qq_T) (y : Nat → Int32) : qq_T := (qq_size x, qq_pending x, qq_tasks x, qq_fc x, qq_fe x, qq_cr x, qq_code x, y, qq_entry x, qq_gc x, qq_ge x, qq_pf x, qq_task x, qq_phase x, qq_hole x)
def qq_s_entry (x : qq_T) (y : Nat → Int32) : qq_T := (qq_size x, qq_pending x, qq_tasks x, qq_fc x, qq_fe x, qq_cr x, qq_code x, qq_extra x, y, qq_gc x, qq_ge x, qq_pf x, qq_task x, qq_phase x, qq_hole x)
def qq_s_gc (x : qq_T) (y : Nat → Int32) : qq_T := (qq_size x, qq_pending x, qq_tasks x, qq_fc x, qq_fe x, qq_cr x, qq_code x, qq_extra x, qq_entry x, y, qq_ge x, qq_pf x, qq_task x, qq_phase x, qq_hole x)
def qq_s_ge (x : qq_T) (y : Nat → Int32) : qq_T := (qq_size x, qq_pending x, qq_tasks x, qq_fc x, qq_fe x, qq_cr x, qq_code x, qq_extra x, qq_entry x, qq_gc x, y, qq_pf x, qq_task x, qq_phase x, qq_hole x)
def qq_s_pf (x : qq_T) (y : Nat → Int32) : qq_T := (qq_size x, qq_pending x, qq_tasks x, qq_fc x, qq_fe x, qq_cr x, qq_code x, qq_extra x, qq_entry x, qq_gc x, qq_ge x, y, qq_task x, qq_phase x, qq_hole x)
def qq_s_task (x : qq_T) (y : Nat → Int32) : qq_T := (qq_size x, qq_pending x, qq_tasks x, qq_fc x, qq_fe x, qq_cr x, qq_code x, qq_extra x, qq_entry x, qq_gc x, qq_ge x, qq_pf x, y, qq_phase x, qq_hole x)
def qq_s_phase (x : qq_T) (y : Nat → Int32) : qq_T := (qq_size x, qq_pending x, qq_tasks x, qq_fc x, qq_fe x, qq_cr x, qq_code x, qq_extra x, qq_entry x, qq_gc x, qq_ge x, qq_pf x, qq_task x, y, qq_hole x)
def qq_s_hole (x : qq_T) (y : Nat → Int32) : qq_T := (qq_size x, qq_pending x, qq_tasks x, qq_fc x, qq_fe x, qq_cr x, qq_code x, qq_extra x, qq_entry x, qq_gc x, qq_ge x, qq_pf x, qq_task x, qq_phase x, y)
def vv_s_values (x : vv_T) (y : Int32) : vv_T := (y, vv_frames x, vv_closures x, vv_called x, vv_ended x, vv_tag x, vv_datum x, vv_back x, vv_run x, vv_at x, vv_ad x, vv_st x, vv_sd x, vv_co x, vv_kt x, vv_kd x)
def vv_s_frames (x : vv_T) (y : Int32) : vv_T := (vv_values x, y, vv_closures x, vv_called x, vv_ended x, vv_tag x, vv_datum x, vv_back x, vv_run x, vv_at x, vv_ad x, vv_st x, vv_sd x, vv_co x, vv_kt x, vv_kd x)
def vv_s_closures (x : vv_T) (y : Int32) : vv_T := (vv_values x, vv_frames x, y, vv_called x, vv_ended x, vv_tag x, vv_datum x, vv_back x, vv_run x, vv_at x, vv_ad x, vv_st x, vv_sd x, vv_co x, vv_kt x, vv_kd x)
def vv_s_called (x : vv_T) (y : Int32) : vv_T := (vv_values x, vv_frames x, vv_closures x, y, vv_ended x, vv_tag x, vv_datum x, vv_back x, vv_run x, vv_at x, vv_ad x, vv_st x, vv_sd x, vv_co x, vv_kt x, vv_kd x)
def vv_s_ended (x : vv_T) (y : Int32) : vv_T := (vv_values x, vv_frames x, vv_closures x, vv_called x, y, vv_tag x, vv_datum x, vv_back x, vv_run x, vv_at x, vv_ad x, vv_st x, vv_sd x, vv_co x, vv_kt x, vv_kd x)
def vv_s_tag (x : vv_T) (y : Nat → Int32) : vv_T := (vv_values x, vv_frames x, vv_closures x, vv_called x, vv_ended x, y, vv_datum x, vv_back x, vv_run x, vv_at x, vv_ad x, vv_st x, vv_sd x, vv_co x, vv_kt x, vv_kd x)
def vv_s_datum (x : vv_T) (y : Nat → Int32) : vv_T := (vv_values x, vv_frames x, vv_closures x, vv_called x, vv_ended x, vv_tag x, y, vv_back x, vv_run x, vv_at x, vv_ad x, vv_st x, vv_sd x, vv_co x, vv_kt x, vv_kd x)
def vv_s_back (x : vv_T) (y : Nat → Int32) : vv_T := (vv_values x, vv_frames x, vv_closures x, vv_called x, vv_ended x, vv_tag x, vv_datum x, y, vv_run x, vv_at x, vv_ad x, vv_st x, vv_sd x, vv_co x, vv_kt x, vv_kd x)
def vv_s_run (x : vv_T) (y : Nat → Int32) : vv_T := (vv_values x, vv_frames x, vv_closures x, vv_called x, vv_ended x, vv_tag x, vv_datum x, vv_back x, y, vv_at x, vv_ad x, vv_st x, vv_sd x, vv_co x, vv_kt x, vv_kd x)
def vv_s_at (x : vv_T) (y : Nat → Int32) : vv_T := (vv_values x, vv_frames x, vv_closures x, vv_called x, vv_ended x, vv_tag x, vv_datum x, vv_back x, vv_run x, y, vv_ad x, vv_st x, vv_sd x, vv_co x, vv_kt x, vv_kd x)
def vv_s_ad (x : vv_T) (y : Nat → Int32) : vv_T := (vv_values x, vv_frames x, vv_closures x, vv_called x, vv_ended x, vv_tag x, vv_datum x, vv_back x, vv_run x, vv_at x, y, vv_st x, vv_sd x, vv_co x, vv_kt x, vv_kd x)
def vv_s_st (x : vv_T) (y : Nat → Int32) : vv_T := (vv_values x, vv_frames x, vv_closures x, vv_called x, vv_ended x, vv_tag x, vv_datum x, vv_back x, vv_run x, vv_at x, vv_ad x, y, vv_sd x, vv_co x, vv_kt x, vv_kd x)
def vv_s_sd (x : vv_T) (y : Nat → Int32) : vv_T := (vv_values x, vv_frames x, vv_closures x, vv_called x, vv_ended x, vv_tag x, vv_datum x, vv_back x, vv_run x, vv_at x, vv_ad x, vv_st x, y, vv_co x, vv_kt x, vv_kd x)
def vv_s_co (x : vv_T) (y : Nat → Int32) : vv_T := (vv_values x, vv_frames x, vv_closures x, vv_called x, vv_ended x, vv_tag x, vv_datum x, vv_back x, vv_run x, vv_at x, vv_ad x, vv_st x, vv_sd x, y, vv_kt x, vv_kd x)
def vv_s_kt (x : vv_T) (y : Nat → Int32) : vv_T := (vv_values x, vv_frames x, vv_closures x, vv_called x, vv_ended x, vv_tag x, vv_datum x, vv_back x, vv_run x, vv_at x, vv_ad x, vv_st x, vv_sd x, vv_co x, y, vv_kd x)
def vv_s_kd (x : vv_T) (y : Nat → Int32) : vv_T := (vv_values x, vv_frames x, vv_closures x, vv_called x, vv_ended x, vv_tag x, vv_datum x, vv_back x, vv_run x, vv_at x, vv_ad x, vv_st x, vv_sd x, vv_co x, vv_kt x, y)
def nn_cr : Option (Nat × List Nat) → Int32
  | none => -1
  | some y => nI y.1
def qq_lk (c : qq_T) (q : Int32 × Int32 × Option (Nat × List Nat)) : qq_T := (qq_size c, qq_pending c, qq_tasks c, q.1, q.2.1, nn_cr q.2.2, qq_code c, qq_extra c, qq_entry c, qq_gc c, qq_ge c, qq_pf c, qq_task c, qq_phase c, qq_hole c)
def qq_cap (c : qq_T) (fc fe cr : Int32) (GC GE : Nat → Int32) : qq_T := (qq_size c, qq_pending c, qq_tasks c, fc, fe, cr, qq_code c, qq_extra c, qq_entry c, GC, GE, qq_pf c, qq_task c, qq_phase c, qq_hole c)
def qq_emit (c : qq_T) (p : Nat) (k n : Int32) : qq_T := (nI (p + 1), qq_pending c, qq_tasks c, qq_fc c, qq_fe c, qq_cr c, upd (qq_code c) p k, upd (qq_extra c) p n, qq_entry c, qq_gc c, qq_ge c, qq_pf c, qq_task c, qq_phase c, qq_hole c)
def qq_e7 (c : qq_T) (p pn : Nat) (k n : Int32) : qq_T := (nI (p + 1), nI (pn + 1), qq_tasks c, qq_fc c, qq_fe c, qq_cr c, upd (qq_code c) p k, upd (qq_extra c) p n, qq_entry c, qq_gc c, qq_ge c, upd (qq_pf c) pn n, qq_task c, qq_phase c, qq_hole c)
def qq_e9 (c : qq_T) (p : Nat) (fc fe cr : Int32) (GC GE : Nat → Int32) : qq_T := (nI (p + 1), qq_pending c, qq_tasks c, fc, fe, cr, upd (qq_code c) p fc, upd (qq_extra c) p fe, qq_entry c, GC, GE, qq_pf c, qq_task c, qq_phase c, qq_hole c)
def qq_begin (c : qq_T) (t : Nat) (x : Int32) : qq_T := (qq_size c, qq_pending c, nI (t + 1), qq_fc c, qq_fe c, qq_cr c, qq_code c, qq_extra c, qq_entry c, qq_gc c, qq_ge c, qq_pf c, upd (qq_task c) t x, upd (qq_phase c) t 0, qq_hole c)
def vv_push (v : vv_T) (w : Nat) (t d : Int32) : vv_T := (nI (w + 1), vv_frames v, vv_closures v, vv_called v, vv_ended v, upd (vv_tag v) w t, upd (vv_datum v) w d, vv_back v, vv_run v, vv_at v, vv_ad v, vv_st v, vv_sd v, vv_co v, vv_kt v, vv_kd v)
def vv_call (v : vv_T) (w f C : Nat) (p : Int32) : vv_T := (nI w, nI (f + 2), vv_closures v, nI (C + 1), vv_ended v, vv_tag v, vv_datum v, upd (vv_back v) (f + 1) p, upd (vv_run v) (f + 1) (vv_datum v w), upd (vv_at v) (f + 1) (vv_tag v (w + 1)), upd (vv_ad v) (f + 1) (vv_datum v (w + 1)), vv_st v, vv_sd v, vv_co v, vv_kt v, vv_kd v)
end
section
/-- how many binds lie around x (ancestors l, the innermost first) within its function -/
def nn_ba (b : bb_T) : Nat → List Nat → Nat
  | _, [] => 0
  | x, w :: l => if bb_kind b w = 7 then 0 else (if bb_kind b w = 6 ∧ bb_pl b x = 1 then 1 else 0) + nn_ba b w l
/-- what lookOut finds: instruction, its number, the function that is crossed with its ancestors -/
def nn_lk (b : bb_T) : Nat → List Nat → Int32 → Int32 × Int32 × Option (Nat × List Nat)
  | _, [], _ => (15, 0, none)
  | x, w :: l, v =>
    if bb_kind b w = 6 ∧ bb_pl b x = 1 ∧ bb_num b w = v then (11, nI (nn_ba b w l), none)
    else if bb_kind b w = 7 then
      (if bb_num b w &&& 3 = v then (12, v, none)
       else if bb_num b w >>> ((2 : Int32) &&& 31) = v then (13, v, none)
       else (14, v, some (w, l)))
    else nn_lk b w l v
def nn_en (b : bb_T) : List Nat → Option (Nat × List Nat)
  | [] => none
  | w :: l => if bb_kind b w = 7 then some (w, l) else nn_en b l
/-- a node of the tables: its kind, its parts, its subtree is the interval [lo x, x] -/
def nn_nd (b : bb_T) (lo : Nat → Nat) (x : Nat) : Prop :=
  lo x ≤ x ∧
  ((bb_kind b x = 8 ∧ lo x = x) ∨
   (bb_kind b x = 9 ∧ lo x = x ∧ ∃ v : Nat, v < 4 ∧ bb_num b x = nI v) ∨
   (∃ a : Nat, bb_kind b x = 7 ∧ bb_pa b x = nI a ∧ x = a + 1 ∧ lo x = lo a ∧ bb_wh b a = nI x ∧ bb_pl b a = 0 ∧ ∃ m : Nat, m < 16 ∧ bb_num b x = nI m) ∨
   (∃ a c : Nat, (∃ k : Nat, k < 5 ∧ bb_kind b x = nI k) ∧ bb_pa b x = nI a ∧ bb_pb b x = nI c ∧ x = c + 1 ∧ lo c = a + 1 ∧ lo x = lo a ∧ bb_wh b a = nI x ∧ bb_pl b a = 0 ∧ bb_wh b c = nI x ∧ bb_pl b c = 1) ∨
   (∃ a c : Nat, bb_kind b x = 6 ∧ bb_pa b x = nI a ∧ bb_pb b x = nI c ∧ x = c + 1 ∧ lo c = a + 1 ∧ lo x = lo a ∧ bb_wh b a = nI x ∧ bb_pl b a = 0 ∧ bb_wh b c = nI x ∧ bb_pl b c = 1 ∧ ∃ v : Nat, v < 4 ∧ bb_num b x = nI v) ∨
   (∃ a c e : Nat, bb_kind b x = 5 ∧ bb_pa b x = nI a ∧ bb_pb b x = nI c ∧ bb_pc b x = nI e ∧ x = e + 1 ∧ lo e = c + 1 ∧ lo c = a + 1 ∧ lo x = lo a ∧ bb_wh b a = nI x ∧ bb_pl b a = 0 ∧ bb_wh b c = nI x ∧ bb_pl b c = 1 ∧ bb_wh b e = nI x ∧ bb_pl b e = 2))
def nn_ok (b : bb_T) (lo : Nat → Nat) (N : Nat) : Prop := N ≤ 24 ∧ ∀ x, x < N → nn_nd b lo x
def nn_ch (b : bb_T) (lo : Nat → Nat) (w x : Nat) : Prop := x < w ∧ bb_wh b x = nI w ∧ lo w ≤ lo x ∧ (bb_pl b x = 1 → lo w < lo x)
/-- x with ancestors l -/
def nn_pt (b : bb_T) (lo : Nat → Nat) (N : Nat) : Nat → List Nat → Prop
  | x, [] => x < N ∧ bb_wh b x = -1
  | x, w :: l => nn_ch b lo w x ∧ nn_pt b lo N w l
theorem nn_pt_N {b : bb_T} {lo : Nat → Nat} {N : Nat} : ∀ (l : List Nat) (x : Nat), nn_pt b lo N x l → x + l.length < N
  | [], _, h => h.1
  | w :: l, x, h => by
    have h1 := nn_pt_N l w h.2
    have h2 := h.1.1
    simp only [List.length_cons]
    omega
theorem nn_pt_lt {b : bb_T} {lo : Nat → Nat} {N : Nat} {l : List Nat} {x : Nat} (h : nn_pt b lo N x l) : x < N := by
  have := nn_pt_N l x h
  omega
theorem nn_bound {b : bb_T} {lo : Nat → Nat} {N : Nat} (ok : nn_ok b lo N) : ∀ (l : List Nat) (x : Nat), nn_pt b lo N x l → 2 * nn_ba b x l + (x + 1 - lo x) ≤ 24
  | [], x, h => by
    have := ok.1
    have := h.1
    simp only [nn_ba]
    omega
  | w :: l, x, h => by
    have h1 := nn_bound ok l w h.2
    have hw := nn_pt_lt h.2
    have h2 := (ok.2 w hw).1
    have h3 := (ok.2 x (by have := h.1.1; omega)).1
    obtain ⟨c1, _, c3, c4⟩ := h.1
    have h4 := ok.1
    simp only [nn_ba]
    by_cases k7 : bb_kind b w = 7
    · rw [if_pos k7]
      omega
    · rw [if_neg k7]
      by_cases k6 : bb_kind b w = 6 ∧ bb_pl b x = 1
      · rw [if_pos k6]
        have := c4 k6.2
        omega
      · rw [if_neg k6]
        omega
theorem nn_lk_cases (b : bb_T) (v : Int32) : ∀ (l : List Nat) (x : Nat),
    (∃ n : Nat, nn_lk b x l v = (11, nI n, none) ∧ n < nn_ba b x l) ∨
    (nn_lk b x l v = (12, v, none) ∧ ∃ g lg, nn_en b l = some (g, lg)) ∨
    (nn_lk b x l v = (13, v, none) ∧ ∃ g lg, nn_en b l = some (g, lg)) ∨
    (∃ g lg, nn_lk b x l v = (14, v, some (g, lg)) ∧ nn_en b l = some (g, lg)) ∨
    nn_lk b x l v = (15, 0, none)
  | [], x => by
    refine Or.inr (Or.inr (Or.inr (Or.inr rfl)))
  | w :: l, x => by
    have ih := nn_lk_cases b v l w
    simp only [nn_lk, nn_en, nn_ba]
    by_cases k6 : bb_kind b w = 6 ∧ bb_pl b x = 1 ∧ bb_num b w = v
    · rw [if_pos k6]
      refine Or.inl ⟨_, rfl, ?_⟩
      rw [if_neg (by rw [k6.1]; decide), if_pos ⟨k6.1, k6.2.1⟩]
      omega
    · rw [if_neg k6]
      by_cases k7 : bb_kind b w = 7
      · rw [if_pos k7, if_pos k7, if_pos k7]
        by_cases c1 : bb_num b w &&& 3 = v
        · rw [if_pos c1]
          exact Or.inr (Or.inl ⟨rfl, w, l, rfl⟩)
        · rw [if_neg c1]
          by_cases c2 : bb_num b w >>> ((2 : Int32) &&& 31) = v
          · rw [if_pos c2]
            exact Or.inr (Or.inr (Or.inl ⟨rfl, w, l, rfl⟩))
          · rw [if_neg c2]
            exact Or.inr (Or.inr (Or.inr (Or.inl ⟨w, l, rfl, rfl⟩)))
      · rw [if_neg k7, if_neg k7, if_neg k7]
        rcases ih with ⟨n, h1, h2⟩ | h | h | h | h
        · exact Or.inl ⟨n, h1, by omega⟩
        · exact Or.inr (Or.inl h)
        · exact Or.inr (Or.inr (Or.inl h))
        · exact Or.inr (Or.inr (Or.inr (Or.inl h)))
        · exact Or.inr (Or.inr (Or.inr (Or.inr h)))
theorem nn_en_pt {b : bb_T} {lo : Nat → Nat} {N : Nat} : ∀ (l : List Nat) (x : Nat), nn_pt b lo N x l → ∀ g lg, nn_en b l = some (g, lg) → bb_kind b g = 7 ∧ nn_pt b lo N g lg ∧ x + lg.length < x + l.length
  | [], _, _, _, _, h => by simp [nn_en] at h
  | w :: l, x, hp, g, lg, h => by
    simp only [nn_en] at h
    by_cases k7 : bb_kind b w = 7
    · rw [if_pos k7] at h
      simp only [Option.some.injEq, Prod.mk.injEq] at h
      obtain ⟨rfl, rfl⟩ := h
      exact ⟨k7, hp.2, by simp⟩
    · rw [if_neg k7] at h
      have := nn_en_pt l w hp.2 g lg h
      exact ⟨this.1, this.2.1, by simp only [List.length_cons]; omega⟩
abbrev ee_V : Type := Int32 × Int32
abbrev ee_S : Type := Nat × Nat × (Nat → Nat × List Nat) × (Nat → Nat → ee_V)
abbrev ee_R : Type := Int32 × ee_V × ee_S
def ee_up {α : Type} (f : Nat → α) (k : Nat) (y : α) : Nat → α := fun j => if j = k then y else f j
theorem ee_up_s {α : Type} (f : Nat → α) (k : Nat) (y : α) : ee_up f k y k = y := if_pos rfl
theorem ee_up_n {α : Type} (f : Nat → α) {k j : Nat} (y : α) (h : j ≠ k) : ee_up f k y j = f j := if_neg h
/-- what an instruction that loads a name's value loads -/
def nn_ld (s : Nat → ee_V) (a : ee_V) (r : Nat) (kp : Nat → Nat → ee_V) (q : Int32 × Int32 × Option (Nat × List Nat)) : ee_V :=
  if q.1 = 11 then s q.2.1.toNatClampNeg
  else if q.1 = 12 then a
  else if q.1 = 13 then (1, nI r)
  else if q.1 = 14 then kp r q.2.1.toNatClampNeg
  else (2, 0)
def nn_cb (k x y : Int32) : Int32 := if k = 0 then x + y else if k = 1 then x - y else if k = 2 then x * y else if y ≤ x then 0 else 1
/-- the interpreter: fuel, node, ancestors, slots, argument, closure under way, store (called, closures, their functions, what they keep) -/
def ee_ev (b : bb_T) : Nat → Nat → List Nat → (Nat → ee_V) → ee_V → Nat → ee_S → ee_R
  | 0, _, _, _, _, _, st => (0, (0, 0), st)
  | n + 1, x, l, s, a, r, st =>
    if bb_kind b x = 8 then (-1, (0, bb_num b x), st)
    else if bb_kind b x = 9 then
      (if (nn_ld s a r st.2.2.2 (nn_lk b x l (bb_num b x))).1 = 2 then (2, (2, 0), st) else (-1, nn_ld s a r st.2.2.2 (nn_lk b x l (bb_num b x)), st))
    else if bb_kind b x = 7 then
      (-1, (1, nI st.2.1), (st.1, st.2.1 + 1, ee_up st.2.2.1 st.2.1 (x, l), ee_up st.2.2.2 st.2.1 (fun v => nn_ld s a r st.2.2.2 (nn_lk b x l (nI v)))))
    else if bb_kind b x = 6 then
      (if (ee_ev b n (bb_pa b x).toNatClampNeg (x :: l) s a r st).1 = -1 then
        ee_ev b n (bb_pb b x).toNatClampNeg (x :: l) (ee_up s (nn_ba b x l) (ee_ev b n (bb_pa b x).toNatClampNeg (x :: l) s a r st).2.1) a r (ee_ev b n (bb_pa b x).toNatClampNeg (x :: l) s a r st).2.2
       else ee_ev b n (bb_pa b x).toNatClampNeg (x :: l) s a r st)
    else if bb_kind b x = 5 then
      (if (ee_ev b n (bb_pa b x).toNatClampNeg (x :: l) s a r st).1 = -1 then
        (if (ee_ev b n (bb_pa b x).toNatClampNeg (x :: l) s a r st).2.1.1 = 0 then
          (if (ee_ev b n (bb_pa b x).toNatClampNeg (x :: l) s a r st).2.1.2 = 0 then
            ee_ev b n (bb_pc b x).toNatClampNeg (x :: l) s a r (ee_ev b n (bb_pa b x).toNatClampNeg (x :: l) s a r st).2.2
           else ee_ev b n (bb_pb b x).toNatClampNeg (x :: l) s a r (ee_ev b n (bb_pa b x).toNatClampNeg (x :: l) s a r st).2.2)
         else (2, (2, 0), (ee_ev b n (bb_pa b x).toNatClampNeg (x :: l) s a r st).2.2))
       else ee_ev b n (bb_pa b x).toNatClampNeg (x :: l) s a r st)
    else
      let r1 := ee_ev b n (bb_pa b x).toNatClampNeg (x :: l) s a r st
      if r1.1 = -1 then
        let r2 := ee_ev b n (bb_pb b x).toNatClampNeg (x :: l) s a r r1.2.2
        if r2.1 = -1 then
          if bb_kind b x = 4 then
            if r1.2.1.1 = 1 then
              if r2.2.2.1 = 60 then (3, (2, 0), r2.2.2)
              else ee_ev b n (bb_pa b (r2.2.2.2.2.1 r1.2.1.2.toNatClampNeg).1).toNatClampNeg ((r2.2.2.2.2.1 r1.2.1.2.toNatClampNeg).1 :: (r2.2.2.2.2.1 r1.2.1.2.toNatClampNeg).2) (fun _ => (0, 0)) r2.2.1 r1.2.1.2.toNatClampNeg (r2.2.2.1 + 1, r2.2.2.2)
            else (2, (2, 0), r2.2.2)
          else if r1.2.1.1 = 0 ∧ r2.2.1.1 = 0 then (-1, (0, nn_cb (bb_kind b x) r1.2.1.2 r2.2.1.2), r2.2.2)
          else (2, (2, 0), r2.2.2)
        else r2
      else r1
end
section
theorem mm_ix11 (f k : Nat) : nI f * 11 + nI k = nI (f * 11 + k) := by
  show nI f * nI 11 + nI k = _
  rw [pk_mul, nI_add]
theorem mm_ix4 (f k : Nat) : nI f * 4 + nI k = nI (f * 4 + k) := by
  show nI f * nI 4 + nI k = _
  rw [pk_mul, nI_add]
theorem mm_sub2 (w : Nat) : nI (w + 2) - 2 = nI w := by
  show nI (w + 2) - nI 2 = nI w
  rw [pk_sub (by omega)]
  rfl
def mm_lds (v : vv_T) (f : Nat) (what n : Int32) (y : ee_V) : Prop :=
  (what = 10 ∧ y = (0, n)) ∨
  (what = 11 ∧ ∃ k : Nat, n = nI k ∧ k < 11 ∧ y = (vv_st v (f * 11 + k), vv_sd v (f * 11 + k))) ∨
  (what = 12 ∧ y = (vv_at v f, vv_ad v f)) ∨
  (what = 13 ∧ y = (1, vv_run v f)) ∨
  (what = 14 ∧ ∃ r k : Nat, vv_run v f = nI r ∧ r < 736 ∧ n = nI k ∧ k < 4 ∧ y = (vv_kt v (r * 4 + k), vv_kd v (r * 4 + k))) ∨
  (what = 15 ∧ y = (2, 0))
section
variable {post : St1 → Prop} {b : bb_T} {c : qq_T} {v : vv_T}
theorem cc_w_push {t d : Int32} (w : Nat) (hw : vv_values v = nI w) (h : w < 1600) (H : post (cc_u b c (vv_push v w t d))) : wpX_push post (cc_u b c v) t d :=
  And.intro (pk_in w 1600 h hw) (nm_r (congrArg (fun z => upd (vv_tag v) z t) (pk_cl w hw)) (And.intro (pk_in w 1600 h hw) (nm_r (congrArg (fun z => upd (vv_datum v) z d) (pk_cl w hw)) (nm_r (show vv_values v + 1 = nI (w + 1) by rw [hw, nI_1]) H))))
theorem cc_w_load {what n : Int32} {y : ee_V} (w f : Nat) (hw : vv_values v = nI w) (h : w < 1600) (hf : vv_frames v = nI (f + 1)) (hf1 : f < 61) (hl : mm_lds v f what n y)
    (H : post (cc_u b c (vv_push v w y.1 y.2))) : wpX_load post (cc_u b c v) what n := by
  have e : vv_frames v - 1 = nI f := by rw [hf]; exact nI_pred f
  refine nm_r e ?_
  rcases hl with ⟨rfl, rfl⟩ | ⟨rfl, k, rfl, hk, rfl⟩ | ⟨rfl, rfl⟩ | ⟨rfl, rfl⟩ | ⟨rfl, r, k, hr, hr1, rfl, hk, rfl⟩ | ⟨rfl, rfl⟩
  · exact br_t rfl (cc_w_push w hw h H)
  · refine br_f (by decide) (br_t rfl ?_)
    have e2 := mm_ix11 f k
    refine And.intro (pk_in (f * 11 + k) 671 (by omega) e2) (And.intro (pk_in (f * 11 + k) 671 (by omega) e2) ?_)
    rw [e2, nI_clamp (by omega)]
    exact cc_w_push w hw h H
  · refine br_f (by decide) (br_f (by decide) (br_t rfl ?_))
    refine And.intro (pk_in f 61 hf1) (And.intro (pk_in f 61 hf1) ?_)
    rw [nI_clamp (by omega)]
    exact cc_w_push w hw h H
  · refine br_f (by decide) (br_f (by decide) (br_f (by decide) (br_t rfl ?_)))
    refine And.intro (pk_in f 61 hf1) ?_
    rw [nI_clamp (by omega)]
    exact cc_w_push w hw h H
  · refine br_f (by decide) (br_f (by decide) (br_f (by decide) (br_f (by decide) (br_t rfl ?_))))
    have e3 : vv_run v (nI f).toNatClampNeg * 4 + nI k = nI (r * 4 + k) := by rw [nI_clamp (by omega), hr]; exact mm_ix4 r k
    refine And.intro (pk_in f 61 hf1) (And.intro (pk_in (r * 4 + k) 2944 (by omega) e3) (And.intro (pk_in f 61 hf1) (And.intro (pk_in (r * 4 + k) 2944 (by omega) e3) ?_)))
    rw [e3, nI_clamp (show r * 4 + k < 2 ^ 31 by omega)]
    exact cc_w_push w hw h H
  · refine br_f (by decide) (br_f (by decide) (br_f (by decide) (br_f (by decide) (br_f (by decide) ?_))))
    exact cc_w_push w hw h H
theorem cc_w_loadName {what n : Int32} {y : ee_V} (w f : Nat) (hw : vv_values v = nI w) (h : w < 1600) (hf : vv_frames v = nI (f + 1)) (hf1 : f < 61) (hl : mm_lds v f what n y)
    (H2 : y.1 = 2 → post (cc_u b c (vv_s_ended (vv_push v w y.1 y.2) 2))) (H1 : ¬ y.1 = 2 → post (cc_u b c (vv_push v w y.1 y.2))) : wpX_loadName post (cc_u b c v) what n := by
  unfold wpX_loadName cc_u
  dsimp only
  refine cc_w_load (b := b) (c := c) (v := v) w f hw h hf hf1 hl ?_
  have e : (upd (vv_tag v) w y.1 (nI (w + 1) - 1).toNatClampNeg = 2) ↔ y.1 = 2 := by rw [nI_pred, nI_clamp (by omega), pk_us]
  exact And.intro (pk_in w 1600 h (nI_pred w)) (ek_if e H2 H1)
theorem cc_w_store {n : Int32} (w f k : Nat) (hw : vv_values v = nI (w + 1)) (h : w < 1600) (hf : vv_frames v = nI (f + 1)) (hf1 : f < 61) (hn : n = nI k) (hk : k < 11)
    (H : post (cc_u b c (vv_s_values (vv_s_sd (vv_s_st v (upd (vv_st v) (f * 11 + k) (vv_tag v w))) (upd (vv_sd v) (f * 11 + k) (vv_datum v w))) (nI w)))) : wpX_store post (cc_u b c v) n := by
  subst hn
  have e1 : vv_values v - 1 = nI w := by rw [hw]; exact nI_pred w
  have e2 : vv_frames v - 1 = nI f := by rw [hf]; exact nI_pred f
  have e3 := mm_ix11 f k
  have e4 : (nI f * 11 + nI k).toNatClampNeg = f * 11 + k := by rw [e3]; exact nI_clamp (by omega)
  have e5 : (nI w).toNatClampNeg = w := nI_clamp (by omega)
  exact nm_r e1 (nm_r e2 (And.intro (pk_in w 1600 h) (And.intro (pk_in (f * 11 + k) 671 (by omega) e3) (nm_r (show upd (vv_st v) (nI f * 11 + nI k).toNatClampNeg (vv_tag v (nI w).toNatClampNeg) = upd (vv_st v) (f * 11 + k) (vv_tag v w) by rw [e4, e5]) (And.intro (pk_in w 1600 h) (And.intro (pk_in (f * 11 + k) 671 (by omega) e3) (nm_r (show upd (vv_sd v) (nI f * 11 + nI k).toNatClampNeg (vv_datum v (nI w).toNatClampNeg) = upd (vv_sd v) (f * 11 + k) (vv_datum v w) by rw [e4, e5]) H)))))))
theorem cc_w_calc {k : Int32} (w : Nat) (hw : vv_values v = nI (w + 2)) (h : w + 1 < 1600)
    (H : vv_tag v w = 0 → vv_tag v (w + 1) = 0 → post (cc_u b c (vv_push (vv_s_values v (nI w)) w 0 (nn_cb k (vv_datum v w) (vv_datum v (w + 1))))))
    (H2 : ¬ (vv_tag v w = 0 ∧ vv_tag v (w + 1) = 0) → post (cc_u b c (vv_s_ended (vv_s_values v (nI w)) 2))) : wpX_calculate post (cc_u b c v) k := by
  have e1 : vv_values v - 2 = nI w := by rw [hw]; exact mm_sub2 w
  have e5 : (nI w).toNatClampNeg = w := nI_clamp (by omega)
  have e6 : (nI w + 1).toNatClampNeg = w + 1 := by rw [nI_1]; exact nI_clamp (by omega)
  refine nm_r e1 (And.intro (pk_in w 1600 (by omega)) ?_)
  refine ek_if (show (vv_tag v (nI w).toNatClampNeg = 0) ↔ vv_tag v w = 0 by rw [e5]) (fun t0 => ?_) (fun t0 => H2 (fun z => t0 z.1))
  refine And.intro (pk_in (w + 1) 1600 h (nI_1 w)) ?_
  refine ek_if (show (vv_tag v (nI w + 1).toNatClampNeg = 0) ↔ vv_tag v (w + 1) = 0 by rw [e6]) (fun t1 => ?_) (fun t1 => H2 (fun z => t1 z.2))
  refine And.intro (pk_in w 1600 (by omega)) (And.intro (pk_in (w + 1) 1600 h (nI_1 w)) ?_)
  have H' := H t0 t1
  rw [e5, e6]
  have K : ∀ y, y = nn_cb k (vv_datum v w) (vv_datum v (w + 1)) → wpX_push (fun u => post u) (cc_u b c (vv_s_values v (nI w))) 0 y := fun y hy => by
    rw [hy]
    exact cc_w_push (v := vv_s_values v (nI w)) w rfl (by omega) H'
  refine br_c (fun k0 => K _ ?_) (fun k0 => br_c (fun k1 => K _ ?_) (fun k1 => br_c (fun k2 => K _ ?_) (fun k2 => br_c (fun k3 => K _ ?_) (fun k3 => K _ ?_))))
  · rw [nn_cb, if_pos k0]
  · rw [nn_cb, if_neg k0, if_pos k1]
  · rw [nn_cb, if_neg k0, if_neg k1, if_pos k2]
  · rw [nn_cb, if_neg k0, if_neg k1, if_neg k2, if_pos k3]
  · rw [nn_cb, if_neg k0, if_neg k1, if_neg k2, if_neg k3]
end
end
section
section
variable {b : bb_T} {c : qq_T} {v : vv_T}
theorem cc_w_jz {post : Int32 → St1 → Prop} (w p : Nat) (hw : vv_values v = nI (w + 1)) (h : w < 1600) (hp : p < 128)
    (H0 : vv_tag v w = 0 → vv_datum v w = 0 → post (qq_extra c p) (cc_u b c (vv_s_values v (nI w))))
    (H1 : vv_tag v w = 0 → ¬ vv_datum v w = 0 → post (nI (p + 1)) (cc_u b c (vv_s_values v (nI w))))
    (H2 : ¬ vv_tag v w = 0 → ∀ r, post r (cc_u b c (vv_s_ended (vv_s_values v (nI w)) 2))) : wpX_jumpZero post (cc_u b c v) (nI p) := by
  have e1 : vv_values v - 1 = nI w := by rw [hw]; exact nI_pred w
  have e5 : (nI w).toNatClampNeg = w := nI_clamp (by omega)
  have e6 : (nI p).toNatClampNeg = p := nI_clamp (by omega)
  refine nm_r e1 (And.intro (pk_in w 1600 h) ?_)
  refine ek_if (show (vv_tag v (nI w).toNatClampNeg = 0) ↔ vv_tag v w = 0 by rw [e5]) (fun t0 => ?_) (fun t0 => ?_)
  · refine And.intro (pk_in w 1600 h) ?_
    refine ek_if (show (vv_datum v (nI w).toNatClampNeg = 0) ↔ vv_datum v w = 0 by rw [e5]) (fun d0 => And.intro (pk_in p 128 hp) ?_) (fun d0 => ?_)
    · rw [e6]
      exact H0 t0 d0
    · rw [nI_1]
      exact H1 t0 d0
  · refine And.intro (pk_in w 1600 h) (br_c (fun _ => And.intro (pk_in p 128 hp) ?_) (fun _ => ?_))
    · exact H2 t0 _
    · exact H2 t0 _
theorem cc_w_call {post : Int32 → St1 → Prop} {p : Int32} (w f C : Nat) (hw : vv_values v = nI (w + 2)) (h : w + 1 < 1600) (hf : vv_frames v = nI (f + 1)) (hC : vv_called v = nI C) (hC1 : C ≤ 60)
    (H1 : ¬ vv_tag v w = 1 → post p (cc_u b c (vv_s_ended (vv_s_values v (nI w)) 2)))
    (H2 : vv_tag v w = 1 → C = 60 → post p (cc_u b c (vv_s_ended (vv_s_values v (nI w)) 3)))
    (H3 : vv_tag v w = 1 → C ≠ 60 → ∃ r g : Nat, vv_datum v w = nI r ∧ r < 736 ∧ vv_co v r = nI g ∧ g < 24 ∧ f + 1 < 61 ∧ post (qq_entry c g) (cc_u b c (vv_call v w f C p))) :
    wpX_call post (cc_u b c v) p := by
  have e1 : vv_values v - 2 = nI w := by rw [hw]; exact mm_sub2 w
  have e5 : (nI w).toNatClampNeg = w := nI_clamp (by omega)
  have e6 : (nI w + 1).toNatClampNeg = w + 1 := by rw [nI_1]; exact nI_clamp (by omega)
  refine nm_r e1 (And.intro (pk_in w 1600 (by omega)) ?_)
  refine ek_if (show (vv_tag v (nI w).toNatClampNeg = 1) ↔ vv_tag v w = 1 by rw [e5]) (fun t1 => ?_) H1
  refine ek_if (show vv_called v = 60 ↔ C = 60 by rw [hC]; exact nI_eq (b := 60) (by omega) (by omega)) (H2 t1) (fun c0 => ?_)
  obtain ⟨r, g, hr, hr1, hg, hg1, hf1, H⟩ := H3 t1 c0
  have e7 : (vv_frames v).toNatClampNeg = f + 1 := by rw [hf]; exact nI_clamp (by omega)
  have e8 : vv_datum v (nI w).toNatClampNeg = nI r := by rw [e5]; exact hr
  have e9 : (nI r).toNatClampNeg = r := nI_clamp (by omega)
  have e10 : (nI g).toNatClampNeg = g := nI_clamp (by omega)
  refine nm_r (show vv_called v + 1 = nI (C + 1) by rw [hC, nI_1]) (And.intro (pk_in w 1600 (by omega)) (nm_r e8 ?_))
  have i1 : vp_in (vv_frames v) 61 := pk_in (f + 1) 61 hf1 hf
  have i2 : vp_in (nI w + 1) 1600 := pk_in (w + 1) 1600 h (nI_1 w)
  refine And.intro i1 (nm_r (congrArg (fun z => upd (vv_back v) z p) e7) (And.intro i1 (nm_r (congrArg (fun z => upd (vv_run v) z (nI r)) e7) ?_)))
  refine And.intro i2 (And.intro i1 (nm_r (show upd (vv_at v) (vv_frames v).toNatClampNeg (vv_tag v (nI w + 1).toNatClampNeg) = upd (vv_at v) (f + 1) (vv_tag v (w + 1)) by rw [e6, e7]) ?_))
  refine And.intro i2 (And.intro i1 (nm_r (show upd (vv_ad v) (vv_frames v).toNatClampNeg (vv_datum v (nI w + 1).toNatClampNeg) = upd (vv_ad v) (f + 1) (vv_datum v (w + 1)) by rw [e6, e7]) ?_))
  refine nm_r (show vv_frames v + 1 = nI (f + 2) by rw [hf, nI_1]) (And.intro (pk_in r 736 hr1) ?_)
  rw [e9]
  refine And.intro (pk_in g 24 hg1 hg) ?_
  rw [show (vv_co v r).toNatClampNeg = g by rw [hg]; exact e10]
  rw [← hr]
  exact H
theorem cc_w_mkl {post : St1 → Prop} (w f x K : Nat) (Y : Nat → ee_V) {y2 y3 y4 y5 : Int32} {k1 d1 y8 y9 y10 y11 y12 y13 y14 kt kd : Nat → Int32} (h : w < 1600) (hf : y2 = nI (f + 1)) (hf1 : f < 61) (hx : x < 24) (hK : K < 736)
    (HL : ∀ j, j < 4 → ¬ qq_gc c (x * 4 + j) < 0 → ∀ T D KT KD, (∀ i, i < K * 4 → KT i = kt i) → (∀ i, i < K * 4 → KD i = kd i) → mm_lds (nI w, y2, y3, y4, y5, T, D, y8, y9, y10, y11, y12, y13, y14, KT, KD) f (qq_gc c (x * 4 + j)) (qq_ge c (x * 4 + j)) (Y j))
    (H : ∀ T D KT KD, (∀ i, i < w → T i = k1 i) → (∀ i, i < w → D i = d1 i) → (∀ i, i < K * 4 → KT i = kt i) → (∀ i, i < K * 4 → KD i = kd i) →
      (∀ j, j < 4 → ¬ qq_gc c (x * 4 + j) < 0 → (KT (K * 4 + j), KD (K * 4 + j)) = Y j) → post (cc_u b c (vv_push (nI w, y2, y3, y4, y5, T, D, y8, y9, y10, y11, y12, y13, y14, KT, KD) w 1 (nI K)))) :
    ∀ (n j : Nat), j + n = 4 → ∀ T D KT KD, (∀ i, i < w → T i = k1 i) → (∀ i, i < w → D i = d1 i) → (∀ i, i < K * 4 → KT i = kt i) → (∀ i, i < K * 4 → KD i = kd i) →
      (∀ i, i < j → ¬ qq_gc c (x * 4 + i) < 0 → (KT (K * 4 + i), KD (K * 4 + i)) = Y i) → cc_Xm post (nI x) (nI K) (n + 1) (nI j) b c (nI w) y2 y3 y4 y5 T D y8 y9 y10 y11 y12 y13 y14 KT KD := by
  intro n
  induction n with
  | zero =>
    intro j hj T D KT KD h1 h2 h3 h4 h5
    refine pk_le 4 j (fun _ => ?_) (fun z => absurd z (by omega))
    exact cc_w_push (v := (nI w, y2, y3, y4, y5, T, D, y8, y9, y10, y11, y12, y13, y14, KT, KD)) w rfl h (H T D KT KD h1 h2 h3 h4 (fun i hi => h5 i (by omega)))
  | succ n ih =>
    intro j hj T D KT KD h1 h2 h3 h4 h5
    have e1 := mm_ix4 K j
    have e2 := mm_ix4 x j
    have e3 : (nI K * 4 + nI j).toNatClampNeg = K * 4 + j := by rw [e1]; exact nI_clamp (by omega)
    have e4 : (nI x * 4 + nI j).toNatClampNeg = x * 4 + j := by rw [e2]; exact nI_clamp (by omega)
    have i1 : vp_in (nI K * 4 + nI j) 2944 := pk_in (K * 4 + j) 2944 (by omega) e1
    have i2 : vp_in (nI x * 4 + nI j) 96 := pk_in (x * 4 + j) 96 (by omega) e2
    have u3 : ∀ i, i < K * 4 → upd KT (K * 4 + j) 2 i = kt i := fun i hi => by rw [pk_un (by omega)]; exact h3 i hi
    refine pk_le 4 j (fun z => absurd z (by omega)) (fun _ => And.intro i1 (nm_r (congrArg (fun z => upd KT z 2) e3) (And.intro i2 ?_)))
    refine ek_if (show qq_gc c (nI x * 4 + nI j).toNatClampNeg < 0 ↔ qq_gc c (x * 4 + j) < 0 by rw [e4]) (fun g0 => ?_) (fun g0 => ?_)
    · refine nm_r (nI_1 j) ?_
      refine ih (j + 1) (by omega) T D (upd KT (K * 4 + j) 2) KD h1 h2 u3 h4 (fun i hi gi => ?_)
      have : i ≠ j := fun z => gi (by rw [z]; exact g0)
      rw [pk_un (by omega)]
      exact h5 i (by omega) gi
    · refine And.intro i2 (And.intro i2 ?_)
      rw [e4]
      refine cc_w_load (v := (nI w, y2, y3, y4, y5, T, D, y8, y9, y10, y11, y12, y13, y14, upd KT (K * 4 + j) 2, KD)) w f rfl h hf hf1 (HL j (by omega) g0 T D _ KD u3 h4) ?_
      have e5 : (nI w).toNatClampNeg = w := nI_clamp (by omega)
      refine nm_r (nI_pred w) (And.intro (pk_in w 1600 h) (And.intro i1 (nm_r (show upd (upd KT (K * 4 + j) 2) (nI K * 4 + nI j).toNatClampNeg (upd T w (Y j).1 (nI w).toNatClampNeg) = upd (upd KT (K * 4 + j) 2) (K * 4 + j) (Y j).1 by rw [e3, e5, pk_us]) ?_)))
      refine And.intro (pk_in w 1600 h) (And.intro i1 (nm_r (show upd KD (nI K * 4 + nI j).toNatClampNeg (upd D w (Y j).2 (nI w).toNatClampNeg) = upd KD (K * 4 + j) (Y j).2 by rw [e3, e5, pk_us]) (nm_r (nI_1 j) ?_)))
      refine ih (j + 1) (by omega) (upd T w (Y j).1) (upd D w (Y j).2) (upd (upd KT (K * 4 + j) 2) (K * 4 + j) (Y j).1) (upd KD (K * 4 + j) (Y j).2)
        (fun i hi => by rw [pk_un (by omega)]; exact h1 i hi) (fun i hi => by rw [pk_un (by omega)]; exact h2 i hi)
        (fun i hi => by rw [pk_un (by omega)]; exact u3 i hi) (fun i hi => by rw [pk_un (by omega)]; exact h4 i hi)
        (fun i hi gi => ?_)
      by_cases ei : i = j
      · rw [ei, pk_us, pk_us]
      · rw [pk_un (by omega), pk_un (by omega), pk_un (by omega)]
        exact h5 i (by omega) gi
theorem cc_w_mk {post : St1 → Prop} (w f x K : Nat) (Y : Nat → ee_V) (hw : vv_values v = nI w) (h : w < 1600) (hf : vv_frames v = nI (f + 1)) (hf1 : f < 61) (hx : x < 24) (hK : K < 736) (hc : vv_closures v = nI K)
    (HL : ∀ j, j < 4 → ¬ qq_gc c (x * 4 + j) < 0 → ∀ v', vv_st v' = vv_st v → vv_sd v' = vv_sd v → vv_at v' = vv_at v → vv_ad v' = vv_ad v → vv_run v' = vv_run v → (∀ i, i < K * 4 → vv_kt v' i = vv_kt v i) → (∀ i, i < K * 4 → vv_kd v' i = vv_kd v i) → mm_lds v' f (qq_gc c (x * 4 + j)) (qq_ge c (x * 4 + j)) (Y j))
    (H : ∀ T D KT KD, (∀ i, i < w → T i = vv_tag v i) → (∀ i, i < w → D i = vv_datum v i) → (∀ i, i < K * 4 → KT i = vv_kt v i) → (∀ i, i < K * 4 → KD i = vv_kd v i) →
      (∀ j, j < 4 → ¬ qq_gc c (x * 4 + j) < 0 → (KT (K * 4 + j), KD (K * 4 + j)) = Y j) → post (cc_u b c (vv_push (nI w, vv_frames v, nI (K + 1), vv_called v, vv_ended v, T, D, vv_back v, vv_run v, vv_at v, vv_ad v, vv_st v, vv_sd v, upd (vv_co v) K (nI x), KT, KD) w 1 (nI K)))) :
    wpX_makeClosure post (cc_u b c v) (nI x) := by
  have e1 : (vv_closures v).toNatClampNeg = K := by rw [hc]; exact nI_clamp (by omega)
  refine nm_r (show vv_closures v + 1 = nI (K + 1) by rw [hc, nI_1]) (And.intro (pk_in K 736 hK hc) (nm_r (congrArg (fun z => upd (vv_co v) z (nI x)) e1) ?_))
  have F := cc_w_mkl (post := post) (b := b) (c := c) (y2 := vv_frames v) (y3 := nI (K + 1)) (y4 := vv_called v) (y5 := vv_ended v) (k1 := vv_tag v) (d1 := vv_datum v) (y8 := vv_back v) (y9 := vv_run v) (y10 := vv_at v) (y11 := vv_ad v) (y12 := vv_st v) (y13 := vv_sd v) (y14 := upd (vv_co v) K (nI x)) (kt := vv_kt v) (kd := vv_kd v) w f x K Y h hf hf1 hx hK
    (fun j hj gj T D KT KD k1 k2 => HL j hj gj _ rfl rfl rfl rfl rfl k1 k2) H 4 0 rfl (vv_tag v) (vv_datum v) (vv_kt v) (vv_kd v) (fun _ _ => rfl) (fun _ _ => rfl) (fun _ _ => rfl) (fun _ _ => rfl) (fun i hi => absurd hi (by omega))
  rw [← hc, ← hw] at F
  exact ⟨5, F⟩
end
end
section
def mm_LX (post : St1 → Prop) (b : bb_T) (c : qq_T) (i : Nat) (p : Int32) (v : vv_T) : Prop := cc_Xe post (8001 - i) p (nI i) b c v
theorem mm_lds_w {v : vv_T} {f : Nat} {what n : Int32} {y : ee_V} (h : mm_lds v f what n y) : 4 ≤ what ∧ ¬ what = 4 ∧ ¬ what = 16 ∧ ¬ what = 17 ∧ ¬ what = 18 ∧ ¬ what = 19 ∧ ¬ what = 20 := by
  rcases h with ⟨rfl, _⟩ | ⟨rfl, _⟩ | ⟨rfl, _⟩ | ⟨rfl, _⟩ | ⟨rfl, _⟩ | ⟨rfl, _⟩ <;> decide
section
variable {post : St1 → Prop} {b : bb_T} {c : qq_T} {v : vv_T} {i : Nat}
theorem mm_end {p : Int32} (hi : i ≤ 8000) (he : 0 ≤ vv_ended v) (H : post (cc_u b c v)) : mm_LX post b c i p v := by
  unfold mm_LX
  rw [show 8001 - i = (8000 - i) + 1 by omega]
  exact pk_le 8000 i (fun _ => H) (fun _ => br_t he H)
theorem mm_step {p : Int32} (hi : i < 8000) (he : vv_ended v = -1)
    (H : ∀ Q : Int32 → St1 → Prop, (∀ r v', mm_LX post b c (i + 1) r v' → Q r (cc_u b c v')) → wpX_step Q (cc_u b c v) p) : mm_LX post b c i p v := by
  unfold mm_LX
  rw [show 8001 - i = (8001 - (i + 1)) + 1 by omega]
  refine pk_le 8000 i (fun z => absurd z (by omega)) (fun _ => br_f (show ¬ 0 ≤ vv_ended v by rw [he]; decide) (H _ (fun r v' h' => ?_)))
  exact nm_r (nI_1 i) h'
theorem mm_i_name {what n : Int32} {y : ee_V} (p w f : Nat) (hi : i < 8000) (he : vv_ended v = -1) (hp : p < 128) (hc : qq_code c p = what) (hx : qq_extra c p = n) (hw : vv_values v = nI w) (h : w < 1600) (hf : vv_frames v = nI (f + 1)) (hf1 : f < 61) (hl : mm_lds v f what n y)
    (H2 : y.1 = 2 → post (cc_u b c (vv_s_ended (vv_push v w y.1 y.2) 2))) (H1 : ¬ y.1 = 2 → mm_LX post b c (i + 1) (nI (p + 1)) (vv_push v w y.1 y.2)) : mm_LX post b c i (nI p) v := by
  refine mm_step hi he (fun Q HQ => ?_)
  obtain ⟨q1, q2, q3, q4, q5, q6, q7⟩ := mm_lds_w hl
  have e6 : (nI p).toNatClampNeg = p := nI_clamp (by omega)
  have i1 : vp_in (nI p) 128 := pk_in p 128 hp
  refine And.intro i1 (nm_r (show qq_code c (nI p).toNatClampNeg = what by rw [e6]; exact hc) ?_)
  refine br_t q1 (br_f q2 (br_f q3 (br_f q4 (br_f q5 (br_f q6 (br_f q7 (And.intro i1 ?_)))))))
  have e7 : qq_extra c (nI p).toNatClampNeg = n := by rw [e6]; exact hx
  rw [e7, nI_1]
  exact cc_w_loadName (v := v) w f hw h hf hf1 hl (fun z => HQ _ _ (mm_end (by omega) (show (0 : Int32) ≤ 2 by decide) (H2 z))) (fun z => HQ _ _ (H1 z))
theorem mm_i_calc (p w : Nat) {k : Nat} (hk : k < 4) (hi : i < 8000) (he : vv_ended v = -1) (hp : p < 128) (hc : qq_code c p = nI k) (hw : vv_values v = nI (w + 2)) (h : w + 1 < 1600)
    (H : vv_tag v w = 0 → vv_tag v (w + 1) = 0 → mm_LX post b c (i + 1) (nI (p + 1)) (vv_push (vv_s_values v (nI w)) w 0 (nn_cb (nI k) (vv_datum v w) (vv_datum v (w + 1)))))
    (H2 : ¬ (vv_tag v w = 0 ∧ vv_tag v (w + 1) = 0) → post (cc_u b c (vv_s_ended (vv_s_values v (nI w)) 2))) : mm_LX post b c i (nI p) v := by
  refine mm_step hi he (fun Q HQ => ?_)
  have e6 : (nI p).toNatClampNeg = p := nI_clamp (by omega)
  have i1 : vp_in (nI p) 128 := pk_in p 128 hp
  refine And.intro i1 (nm_r (show qq_code c (nI p).toNatClampNeg = nI k by rw [e6]; exact hc) ?_)
  refine br_f (nI_ge (b := 4) hk (by decide)) ?_
  rw [nI_1]
  exact cc_w_calc (v := v) w hw h (fun z1 z2 => HQ _ _ (H z1 z2)) (fun z => HQ _ _ (mm_end (by omega) (show (0 : Int32) ≤ 2 by decide) (H2 z)))
theorem mm_i_call (p w f C : Nat) (hi : i < 8000) (he : vv_ended v = -1) (hp : p < 128) (hc : qq_code c p = 4) (hw : vv_values v = nI (w + 2)) (h : w + 1 < 1600) (hf : vv_frames v = nI (f + 1)) (hC : vv_called v = nI C) (hC1 : C ≤ 60)
    (H1 : ¬ vv_tag v w = 1 → post (cc_u b c (vv_s_ended (vv_s_values v (nI w)) 2)))
    (H2 : vv_tag v w = 1 → C = 60 → post (cc_u b c (vv_s_ended (vv_s_values v (nI w)) 3)))
    (H3 : vv_tag v w = 1 → C ≠ 60 → ∃ r g : Nat, vv_datum v w = nI r ∧ r < 736 ∧ vv_co v r = nI g ∧ g < 24 ∧ f + 1 < 61 ∧ mm_LX post b c (i + 1) (qq_entry c g) (vv_call v w f C (nI (p + 1)))) : mm_LX post b c i (nI p) v := by
  refine mm_step hi he (fun Q HQ => ?_)
  have e6 : (nI p).toNatClampNeg = p := nI_clamp (by omega)
  have i1 : vp_in (nI p) 128 := pk_in p 128 hp
  refine And.intro i1 (nm_r (show qq_code c (nI p).toNatClampNeg = 4 by rw [e6]; exact hc) ?_)
  refine br_t (by decide) (br_t rfl ?_)
  rw [nI_1]
  refine cc_w_call (v := v) w f C hw h hf hC hC1 (fun z => HQ _ _ (mm_end (by omega) (show (0 : Int32) ≤ 2 by decide) (H1 z))) (fun z z2 => HQ _ _ (mm_end (by omega) (show (0 : Int32) ≤ 3 by decide) (H2 z z2))) (fun z z2 => ?_)
  obtain ⟨r, g, h1, h2, h3, h4, h5, h6⟩ := H3 z z2
  exact ⟨r, g, h1, h2, h3, h4, h5, HQ _ _ h6⟩
theorem mm_i_store (p w f k : Nat) (hi : i < 8000) (he : vv_ended v = -1) (hp : p < 128) (hc : qq_code c p = 16) (hx : qq_extra c p = nI k) (hk : k < 11) (hw : vv_values v = nI (w + 1)) (h : w < 1600) (hf : vv_frames v = nI (f + 1)) (hf1 : f < 61)
    (H : mm_LX post b c (i + 1) (nI (p + 1)) (vv_s_values (vv_s_sd (vv_s_st v (upd (vv_st v) (f * 11 + k) (vv_tag v w))) (upd (vv_sd v) (f * 11 + k) (vv_datum v w))) (nI w))) : mm_LX post b c i (nI p) v := by
  refine mm_step hi he (fun Q HQ => ?_)
  have e6 : (nI p).toNatClampNeg = p := nI_clamp (by omega)
  have i1 : vp_in (nI p) 128 := pk_in p 128 hp
  refine And.intro i1 (nm_r (show qq_code c (nI p).toNatClampNeg = 16 by rw [e6]; exact hc) ?_)
  refine br_t (by decide) (br_f (by decide) (br_t rfl (And.intro i1 ?_)))
  rw [nI_1]
  exact cc_w_store (v := v) w f k hw h hf hf1 (by rw [e6]; exact hx) hk (HQ _ _ H)
theorem mm_i_make (p w f x K : Nat) (Y : Nat → ee_V) (hi : i < 8000) (he : vv_ended v = -1) (hp : p < 128) (hc : qq_code c p = 17) (hx : qq_extra c p = nI x) (hw : vv_values v = nI w) (h : w < 1600) (hf : vv_frames v = nI (f + 1)) (hf1 : f < 61) (hx1 : x < 24) (hK : K < 736) (hk : vv_closures v = nI K)
    (HL : ∀ j, j < 4 → ¬ qq_gc c (x * 4 + j) < 0 → ∀ v', vv_st v' = vv_st v → vv_sd v' = vv_sd v → vv_at v' = vv_at v → vv_ad v' = vv_ad v → vv_run v' = vv_run v → (∀ i, i < K * 4 → vv_kt v' i = vv_kt v i) → (∀ i, i < K * 4 → vv_kd v' i = vv_kd v i) → mm_lds v' f (qq_gc c (x * 4 + j)) (qq_ge c (x * 4 + j)) (Y j))
    (H : ∀ T D KT KD, (∀ i, i < w → T i = vv_tag v i) → (∀ i, i < w → D i = vv_datum v i) → (∀ i, i < K * 4 → KT i = vv_kt v i) → (∀ i, i < K * 4 → KD i = vv_kd v i) →
      (∀ j, j < 4 → ¬ qq_gc c (x * 4 + j) < 0 → (KT (K * 4 + j), KD (K * 4 + j)) = Y j) → mm_LX post b c (i + 1) (nI (p + 1)) (vv_push (nI w, vv_frames v, nI (K + 1), vv_called v, vv_ended v, T, D, vv_back v, vv_run v, vv_at v, vv_ad v, vv_st v, vv_sd v, upd (vv_co v) K (nI x), KT, KD) w 1 (nI K))) :
    mm_LX post b c i (nI p) v := by
  refine mm_step hi he (fun Q HQ => ?_)
  have e6 : (nI p).toNatClampNeg = p := nI_clamp (by omega)
  have i1 : vp_in (nI p) 128 := pk_in p 128 hp
  refine And.intro i1 (nm_r (show qq_code c (nI p).toNatClampNeg = 17 by rw [e6]; exact hc) ?_)
  refine br_t (by decide) (br_f (by decide) (br_f (by decide) (br_t rfl (And.intro i1 ?_))))
  have e7 : qq_extra c (nI p).toNatClampNeg = nI x := by rw [e6]; exact hx
  rw [e7, nI_1]
  exact cc_w_mk (v := v) w f x K Y hw h hf hf1 hx1 hK hk HL (fun T D KT KD h1 h2 h3 h4 h5 => HQ _ _ (H T D KT KD h1 h2 h3 h4 h5))
theorem mm_i_jz (p w : Nat) (hi : i < 8000) (he : vv_ended v = -1) (hp : p < 128) (hc : qq_code c p = 18) (hw : vv_values v = nI (w + 1)) (h : w < 1600)
    (H0 : vv_tag v w = 0 → vv_datum v w = 0 → mm_LX post b c (i + 1) (qq_extra c p) (vv_s_values v (nI w)))
    (H1 : vv_tag v w = 0 → ¬ vv_datum v w = 0 → mm_LX post b c (i + 1) (nI (p + 1)) (vv_s_values v (nI w)))
    (H2 : ¬ vv_tag v w = 0 → post (cc_u b c (vv_s_ended (vv_s_values v (nI w)) 2))) : mm_LX post b c i (nI p) v := by
  refine mm_step hi he (fun Q HQ => ?_)
  have e6 : (nI p).toNatClampNeg = p := nI_clamp (by omega)
  have i1 : vp_in (nI p) 128 := pk_in p 128 hp
  refine And.intro i1 (nm_r (show qq_code c (nI p).toNatClampNeg = 18 by rw [e6]; exact hc) ?_)
  refine br_t (by decide) (br_f (by decide) (br_f (by decide) (br_f (by decide) (br_t rfl ?_))))
  exact cc_w_jz (v := v) w p hw h hp (fun z1 z2 => HQ _ _ (H0 z1 z2)) (fun z1 z2 => HQ _ _ (H1 z1 z2)) (fun z r => HQ _ _ (mm_end (by omega) (show (0 : Int32) ≤ 2 by decide) (H2 z)))
theorem mm_i_jump (p : Nat) (hi : i < 8000) (he : vv_ended v = -1) (hp : p < 128) (hc : qq_code c p = 19) (H : mm_LX post b c (i + 1) (qq_extra c p) v) : mm_LX post b c i (nI p) v := by
  refine mm_step hi he (fun Q HQ => ?_)
  have e6 : (nI p).toNatClampNeg = p := nI_clamp (by omega)
  have i1 : vp_in (nI p) 128 := pk_in p 128 hp
  refine And.intro i1 (nm_r (show qq_code c (nI p).toNatClampNeg = 19 by rw [e6]; exact hc) ?_)
  refine br_t (by decide) (br_f (by decide) (br_f (by decide) (br_f (by decide) (br_f (by decide) (br_t rfl (And.intro i1 ?_))))))
  have e7 : qq_extra c (nI p).toNatClampNeg = qq_extra c p := by rw [e6]
  rw [e7]
  exact HQ _ _ H
theorem mm_i_ret (p f : Nat) (hi : i < 8000) (he : vv_ended v = -1) (hp : p < 128) (hc : qq_code c p = 20) (hf : vv_frames v = nI (f + 2)) (hf1 : f + 1 < 61)
    (H : mm_LX post b c (i + 1) (vv_back v (f + 1)) (vv_s_frames v (nI (f + 1)))) : mm_LX post b c i (nI p) v := by
  refine mm_step hi he (fun Q HQ => ?_)
  have e6 : (nI p).toNatClampNeg = p := nI_clamp (by omega)
  have i1 : vp_in (nI p) 128 := pk_in p 128 hp
  have e2 : vv_frames v - 1 = nI (f + 1) := by rw [hf]; exact nI_pred (f + 1)
  refine And.intro i1 (nm_r (show qq_code c (nI p).toNatClampNeg = 20 by rw [e6]; exact hc) ?_)
  refine br_t (by decide) (br_f (by decide) (br_f (by decide) (br_f (by decide) (br_f (by decide) (br_f (by decide) (br_t rfl (nm_r e2 (br_f (nI_ne0 (by omega) (by omega)) (And.intro (pk_in (f + 1) 61 hf1) ?_)))))))))
  have e7 : (nI (f + 1)).toNatClampNeg = f + 1 := nI_clamp (by omega)
  rw [e7]
  exact HQ _ _ H
theorem mm_i_last (p w : Nat) (hi : i < 8000) (he : vv_ended v = -1) (hp : p < 128) (hc : qq_code c p = 20) (hf : vv_frames v = nI 1) (hw : vv_values v = nI (w + 1)) (h : w < 1600) (ht : 0 ≤ vv_tag v w)
    (H : post (cc_u b c (vv_s_ended (vv_s_frames v (nI 0)) (vv_tag v w)))) : mm_LX post b c i (nI p) v := by
  refine mm_step hi he (fun Q HQ => ?_)
  have e6 : (nI p).toNatClampNeg = p := nI_clamp (by omega)
  have i1 : vp_in (nI p) 128 := pk_in p 128 hp
  have e2 : vv_frames v - 1 = nI 0 := by rw [hf]; exact nI_pred 0
  have e1 : vv_values v - 1 = nI w := by rw [hw]; exact nI_pred w
  refine And.intro i1 (nm_r (show qq_code c (nI p).toNatClampNeg = 20 by rw [e6]; exact hc) ?_)
  refine br_t (by decide) (br_f (by decide) (br_f (by decide) (br_f (by decide) (br_f (by decide) (br_f (by decide) (br_t rfl (nm_r e2 (br_t rfl (And.intro (pk_in w 1600 h e1) (nm_r (show vv_tag v (vv_values v - 1).toNatClampNeg = vv_tag v w by rw [e1, nI_clamp (by omega)]) (And.intro (pk_in 0 61 (by omega)) ?_)))))))))))
  exact HQ _ _ (mm_end (v := vv_s_ended (vv_s_frames v (nI 0)) (vv_tag v w)) (by omega) ht H)
end
end
section
def ee_vd (K : Nat) (y : ee_V) : Prop := y.1 = 0 ∨ (y.1 = 1 ∧ ∃ k : Nat, k < K ∧ y.2 = nI k) ∨ y.1 = 2
def ee_so (b : bb_T) (lo : Nat → Nat) (N : Nat) (st : ee_S) : Prop :=
  st.1 ≤ 60 ∧ ∀ k, k < st.2.1 → bb_kind b (st.2.2.1 k).1 = 7 ∧ nn_pt b lo N (st.2.2.1 k).1 (st.2.2.1 k).2 ∧ ∀ j, j < 4 → ee_vd st.2.1 (st.2.2.2 k j)
def ee_en (b : bb_T) (x : Nat) (l : List Nat) (s : Nat → ee_V) (a : ee_V) (r : Nat) (st : ee_S) : Prop :=
  (∀ k, k < nn_ba b x l → ee_vd st.2.1 (s k)) ∧ (∀ g lg, nn_en b l = some (g, lg) → ee_vd st.2.1 a ∧ r < st.2.1 ∧ st.2.2.1 r = (g, lg))
def ee_ext (st st' : ee_S) : Prop := st.1 ≤ st'.1 ∧ st.2.1 ≤ st'.2.1 ∧ ∀ k, k < st.2.1 → st'.2.2.1 k = st.2.2.1 k ∧ st'.2.2.2 k = st.2.2.2 k
def ee_pre (b : bb_T) (lo : Nat → Nat) (N n x : Nat) (l : List Nat) (s : Nat → ee_V) (a : ee_V) (r : Nat) (st : ee_S) : Prop :=
  nn_pt b lo N x l ∧ x + 24 * (60 - st.1) < n ∧ ee_so b lo N st ∧ ee_en b x l s a r st ∧ 2 * st.2.1 + (x + 1 - lo x) ≤ 24 * (st.1 + 1)
def ee_pst (b : bb_T) (lo : Nat → Nat) (N x : Nat) (st : ee_S) (R : ee_R) : Prop :=
  ee_so b lo N R.2.2 ∧ ee_ext st R.2.2 ∧ (R.1 = -1 ∨ R.1 = 2 ∨ R.1 = 3) ∧ (R.1 = 3 → R.2.2.1 = 60) ∧ (R.1 = -1 → ee_vd R.2.2.2.1 R.2.1) ∧
    2 * R.2.2.2.1 + 24 * st.1 ≤ 2 * st.2.1 + (x + 1 - lo x) + 24 * R.2.2.1
theorem ee_vd_mono {K K' : Nat} {y : ee_V} (h : K ≤ K') (hy : ee_vd K y) : ee_vd K' y := by
  rcases hy with h0 | ⟨h1, k, hk, e⟩ | h2
  · exact Or.inl h0
  · exact Or.inr (Or.inl ⟨h1, k, by omega, e⟩)
  · exact Or.inr (Or.inr h2)
theorem ee_ext_refl (st : ee_S) : ee_ext st st := ⟨Nat.le_refl _, Nat.le_refl _, fun _ _ => ⟨rfl, rfl⟩⟩
theorem ee_ext_trans {s1 s2 s3 : ee_S} (h : ee_ext s1 s2) (h' : ee_ext s2 s3) : ee_ext s1 s3 :=
  ⟨Nat.le_trans h.1 h'.1, Nat.le_trans h.2.1 h'.2.1, fun k hk =>
    have k2 : k < s2.2.1 := Nat.lt_of_lt_of_le hk h.2.1
    ⟨(h'.2.2 k k2).1.trans (h.2.2 k hk).1, (h'.2.2 k k2).2.trans (h.2.2 k hk).2⟩⟩
theorem ee_en_ext {b : bb_T} {x : Nat} {l : List Nat} {s : Nat → ee_V} {a : ee_V} {r : Nat} {st st' : ee_S} (h : ee_en b x l s a r st) (e : ee_ext st st') : ee_en b x l s a r st' :=
  ⟨fun k hk => ee_vd_mono e.2.1 (h.1 k hk), fun g lg hg => ⟨ee_vd_mono e.2.1 (h.2 g lg hg).1, Nat.lt_of_lt_of_le (h.2 g lg hg).2.1 e.2.1, ((e.2.2 r (h.2 g lg hg).2.1).1).trans (h.2 g lg hg).2.2⟩⟩
/-- a part of x that is no function and no second part of a bind: the same names -/
theorem nn_ba_c {b : bb_T} {x y : Nat} {l : List Nat} (h7 : ¬ bb_kind b x = 7) (h6 : ¬ (bb_kind b x = 6 ∧ bb_pl b y = 1)) : nn_ba b y (x :: l) = nn_ba b x l := by
  simp only [nn_ba]
  rw [if_neg h7, if_neg h6, Nat.zero_add]
theorem nn_ba_s {b : bb_T} {x y : Nat} {l : List Nat} (h6 : bb_kind b x = 6) (hp : bb_pl b y = 1) : nn_ba b y (x :: l) = nn_ba b x l + 1 := by
  simp only [nn_ba]
  rw [if_neg (by rw [h6]; decide), if_pos ⟨h6, hp⟩, Nat.add_comm]
theorem nn_ba_f {b : bb_T} {x y : Nat} {l : List Nat} (h7 : bb_kind b x = 7) : nn_ba b y (x :: l) = 0 := by
  simp only [nn_ba]
  rw [if_pos h7]
theorem nn_en_c {b : bb_T} {x : Nat} {l : List Nat} (h7 : ¬ bb_kind b x = 7) : nn_en b (x :: l) = nn_en b l := by
  simp only [nn_en]
  rw [if_neg h7]
theorem nn_en_f {b : bb_T} {x : Nat} {l : List Nat} (h7 : bb_kind b x = 7) : nn_en b (x :: l) = some (x, l) := by
  simp only [nn_en]
  rw [if_pos h7]
theorem ee_en_c {b : bb_T} {x y : Nat} {l : List Nat} {s : Nat → ee_V} {a : ee_V} {r : Nat} {st : ee_S} (h : ee_en b x l s a r st) (h7 : ¬ bb_kind b x = 7) (h6 : ¬ (bb_kind b x = 6 ∧ bb_pl b y = 1)) : ee_en b y (x :: l) s a r st := by
  unfold ee_en
  rw [nn_ba_c h7 h6, nn_en_c h7]
  exact h
theorem ee_en_s {b : bb_T} {x y : Nat} {l : List Nat} {s : Nat → ee_V} {a z : ee_V} {r : Nat} {st : ee_S} (h : ee_en b x l s a r st) (h6 : bb_kind b x = 6) (hp : bb_pl b y = 1) (hz : ee_vd st.2.1 z) : ee_en b y (x :: l) (ee_up s (nn_ba b x l) z) a r st := by
  unfold ee_en
  rw [nn_ba_s h6 hp, nn_en_c (by rw [h6]; decide)]
  refine ⟨fun k hk => ?_, h.2⟩
  by_cases e : k = nn_ba b x l
  · rw [e, ee_up_s]
    exact hz
  · rw [ee_up_n _ _ e]
    exact h.1 k (by omega)
theorem ee_en_f {b : bb_T} {x y : Nat} {l : List Nat} {s : Nat → ee_V} {a : ee_V} {r : Nat} {st : ee_S} (h7 : bb_kind b x = 7) (ha : ee_vd st.2.1 a) (hr : r < st.2.1) (he : st.2.2.1 r = (x, l)) : ee_en b y (x :: l) s a r st := by
  unfold ee_en
  rw [nn_ba_f h7, nn_en_f h7]
  refine ⟨fun k hk => absurd hk (by omega), fun g lg hg => ?_⟩
  simp only [Option.some.injEq, Prod.mk.injEq] at hg
  obtain ⟨rfl, rfl⟩ := hg
  exact ⟨ha, hr, he⟩
theorem ee_ld_vd {b : bb_T} {lo : Nat → Nat} {N x : Nat} {l : List Nat} {s : Nat → ee_V} {a : ee_V} {r : Nat} {st : ee_S} (hs : ee_so b lo N st) (hN : N ≤ 24) (hb : nn_ba b x l ≤ 24) (h : ee_en b x l s a r st) {v : Nat} (hv : v < 4) : ee_vd st.2.1 (nn_ld s a r st.2.2.2 (nn_lk b x l (nI v))) := by
  rcases nn_lk_cases b (nI v) l x with ⟨n, e, hn⟩ | ⟨e, g, lg, hg⟩ | ⟨e, g, lg, hg⟩ | ⟨g, lg, e, hg⟩ | e
  · rw [e]
    have : nn_ld s a r st.2.2.2 (11, nI n, none) = s n := by
      show s (nI n).toNatClampNeg = s n
      rw [nI_clamp (by omega)]
    rw [this]
    exact h.1 n hn
  · rw [e]
    exact (h.2 g lg hg).1
  · rw [e]
    exact Or.inr (Or.inl ⟨rfl, r, (h.2 g lg hg).2.1, rfl⟩)
  · rw [e]
    have : nn_ld s a r st.2.2.2 (14, nI v, some (g, lg)) = st.2.2.2 r v := by
      show st.2.2.2 r (nI v).toNatClampNeg = _
      rw [nI_clamp (by omega)]
    rw [this]
    exact (hs.2 r (h.2 g lg hg).2.1).2.2 v hv
  · rw [e]
    exact Or.inr (Or.inr rfl)
/-- the interpreter's clauses -/
theorem ee_8 {b : bb_T} {n x : Nat} {l : List Nat} {s : Nat → ee_V} {a : ee_V} {r : Nat} {st : ee_S} (h : bb_kind b x = 8) : ee_ev b (n + 1) x l s a r st = (-1, (0, bb_num b x), st) := by
  rw [ee_ev, if_pos h]
theorem ee_9 {b : bb_T} {n x : Nat} {l : List Nat} {s : Nat → ee_V} {a : ee_V} {r : Nat} {st : ee_S} (h : bb_kind b x = 9) : ee_ev b (n + 1) x l s a r st = (if (nn_ld s a r st.2.2.2 (nn_lk b x l (bb_num b x))).1 = 2 then (2, (2, 0), st) else (-1, nn_ld s a r st.2.2.2 (nn_lk b x l (bb_num b x)), st)) := by
  rw [ee_ev, if_neg (by rw [h]; decide), if_pos h]
theorem ee_7 {b : bb_T} {n x : Nat} {l : List Nat} {s : Nat → ee_V} {a : ee_V} {r : Nat} {st : ee_S} (h : bb_kind b x = 7) : ee_ev b (n + 1) x l s a r st =
    (-1, (1, nI st.2.1), (st.1, st.2.1 + 1, ee_up st.2.2.1 st.2.1 (x, l), ee_up st.2.2.2 st.2.1 (fun v => nn_ld s a r st.2.2.2 (nn_lk b x l (nI v))))) := by
  rw [ee_ev, if_neg (by rw [h]; decide), if_neg (by rw [h]; decide), if_pos h]
theorem ee_6 {b : bb_T} {n x : Nat} {l : List Nat} {s : Nat → ee_V} {a : ee_V} {r : Nat} {st : ee_S} {R : ee_R} {y z : Nat} (h : bb_kind b x = 6) (hy : (bb_pa b x).toNatClampNeg = y) (hz : (bb_pb b x).toNatClampNeg = z) (hR : ee_ev b n y (x :: l) s a r st = R) :
    ee_ev b (n + 1) x l s a r st = if R.1 = -1 then ee_ev b n z (x :: l) (ee_up s (nn_ba b x l) R.2.1) a r R.2.2 else R := by
  rw [ee_ev, if_neg (by rw [h]; decide), if_neg (by rw [h]; decide), if_neg (by rw [h]; decide), if_pos h, hy, hz, hR]
theorem ee_5 {b : bb_T} {n x : Nat} {l : List Nat} {s : Nat → ee_V} {a : ee_V} {r : Nat} {st : ee_S} {R : ee_R} {y z t : Nat} (h : bb_kind b x = 5) (hy : (bb_pa b x).toNatClampNeg = y) (hz : (bb_pb b x).toNatClampNeg = z) (ht : (bb_pc b x).toNatClampNeg = t) (hR : ee_ev b n y (x :: l) s a r st = R) :
    ee_ev b (n + 1) x l s a r st = if R.1 = -1 then (if R.2.1.1 = 0 then (if R.2.1.2 = 0 then ee_ev b n t (x :: l) s a r R.2.2 else ee_ev b n z (x :: l) s a r R.2.2) else (2, (2, 0), R.2.2)) else R := by
  rw [ee_ev, if_neg (by rw [h]; decide), if_neg (by rw [h]; decide), if_neg (by rw [h]; decide), if_neg (by rw [h]; decide), if_pos h, hy, hz, ht, hR]
theorem ee_k5 : ∀ k, k < 5 → ¬ nI k = 8 ∧ ¬ nI k = 9 ∧ ¬ nI k = 7 ∧ ¬ nI k = 6 ∧ ¬ nI k = 5 := by decide
theorem ee_2 {b : bb_T} {n x : Nat} {l : List Nat} {s : Nat → ee_V} {a : ee_V} {r : Nat} {st : ee_S} {R1 R2 : ee_R} {y z k : Nat} (hk : k < 5) (h : bb_kind b x = nI k) (hy : (bb_pa b x).toNatClampNeg = y) (hz : (bb_pb b x).toNatClampNeg = z)
    (hR1 : ee_ev b n y (x :: l) s a r st = R1) (hR2 : ee_ev b n z (x :: l) s a r R1.2.2 = R2) :
    ee_ev b (n + 1) x l s a r st = if R1.1 = -1 then (if R2.1 = -1 then
      (if k = 4 then
        (if R1.2.1.1 = 1 then
          (if R2.2.2.1 = 60 then (3, (2, 0), R2.2.2)
           else ee_ev b n (bb_pa b (R2.2.2.2.2.1 R1.2.1.2.toNatClampNeg).1).toNatClampNeg ((R2.2.2.2.2.1 R1.2.1.2.toNatClampNeg).1 :: (R2.2.2.2.2.1 R1.2.1.2.toNatClampNeg).2) (fun _ => (0, 0)) R2.2.1 R1.2.1.2.toNatClampNeg (R2.2.2.1 + 1, R2.2.2.2))
         else (2, (2, 0), R2.2.2))
       else if R1.2.1.1 = 0 ∧ R2.2.1.1 = 0 then (-1, (0, nn_cb (nI k) R1.2.1.2 R2.2.1.2), R2.2.2)
       else (2, (2, 0), R2.2.2)) else R2) else R1 := by
  obtain ⟨k8, k9, k7, k6, k5⟩ := ee_k5 k hk
  rw [ee_ev]
  rw [h]
  rw [if_neg k8, if_neg k9, if_neg k7, if_neg k6, if_neg k5, hy, hz]
  dsimp only
  rw [hR1, hR2]
  by_cases e : k = 4
  · subst e
    rfl
  · have e' : ¬ nI k = 4 := fun z => e ((nI_eq (b := 4) (by omega) (by omega)).mp z)
    rw [if_neg e, if_neg e']
end
section
section
variable {b : bb_T} {lo : Nat → Nat} {N n x y : Nat} {l : List Nat} {s : Nat → ee_V} {a : ee_V} {r : Nat} {st st' : ee_S}
theorem ee_pre_c (hp : ee_pre b lo N (n + 1) x l s a r st) (hc : nn_ch b lo x y) (h7 : ¬ bb_kind b x = 7) (h6 : ¬ (bb_kind b x = 6 ∧ bb_pl b y = 1)) (hs : ee_so b lo N st') (he : ee_ext st st')
    (hk : 2 * st'.2.1 + (y + 1 - lo y) ≤ 24 * (st'.1 + 1)) : ee_pre b lo N n y (x :: l) s a r st' := by
  obtain ⟨p1, p2, p3, p4, p5⟩ := hp
  refine ⟨⟨hc, p1⟩, ?_, hs, ee_en_c (ee_en_ext p4 he) h7 h6, hk⟩
  have h1 := hc.1
  have h2 := he.1
  omega
theorem ee_pre_s {z : ee_V} (hp : ee_pre b lo N (n + 1) x l s a r st) (hc : nn_ch b lo x y) (h6 : bb_kind b x = 6) (hy : bb_pl b y = 1) (hs : ee_so b lo N st') (he : ee_ext st st') (hz : ee_vd st'.2.1 z)
    (hk : 2 * st'.2.1 + (y + 1 - lo y) ≤ 24 * (st'.1 + 1)) : ee_pre b lo N n y (x :: l) (ee_up s (nn_ba b x l) z) a r st' := by
  obtain ⟨p1, p2, p3, p4, p5⟩ := hp
  refine ⟨⟨hc, p1⟩, ?_, hs, ee_en_s (ee_en_ext p4 he) h6 hy hz, hk⟩
  have h1 := hc.1
  have h2 := he.1
  omega
theorem ee_pre_f {s' : Nat → ee_V} {a' : ee_V} {r' g : Nat} {lg : List Nat} (ok : nn_ok b lo N) (hp : ee_pre b lo N (n + 1) x l s a r st) (hs : ee_so b lo N st') (he : ee_ext st st') (h60 : st'.1 ≠ 60) (hr : r' < st'.2.1) (hg : st'.2.2.1 r' = (g, lg)) (hc : nn_ch b lo g y)
    (ha : ee_vd st'.2.1 a') (hk : 2 * st'.2.1 ≤ 24 * (st'.1 + 1)) : ee_pre b lo N n y (g :: lg) s' a' r' (st'.1 + 1, st'.2) := by
  obtain ⟨p1, p2, p3, p4, p5⟩ := hp
  obtain ⟨s1, s2⟩ := hs
  obtain ⟨q1, q2, q3⟩ := s2 r' hr
  rw [hg] at q1 q2
  have h3 := nn_pt_lt q2
  have h4 := ok.1
  have h1 := hc.1
  have h2 := he.1
  refine ⟨⟨hc, q2⟩, ?_, ⟨?_, s2⟩, ee_en_f q1 ha hr hg, ?_⟩
  · show y + 24 * (60 - (st'.1 + 1)) < n
    omega
  · show st'.1 + 1 ≤ 60
    omega
  · show 2 * st'.2.1 + (y + 1 - lo y) ≤ 24 * (st'.1 + 1 + 1)
    omega
theorem ee_pst_m {R : ee_R} (h : ee_pst b lo N y st R) (ht : y + 1 - lo y ≤ x + 1 - lo x) : ee_pst b lo N x st R := by
  obtain ⟨h1, h2, h3, h4, h5, h6⟩ := h
  exact ⟨h1, h2, h3, h4, h5, by omega⟩
theorem ee_pst_q {R R' : ee_R} {z : Nat} (h : ee_pst b lo N y st R) (h' : ee_pst b lo N z R.2.2 R') (ht : (y + 1 - lo y) + (z + 1 - lo z) ≤ x + 1 - lo x) : ee_pst b lo N x st R' := by
  obtain ⟨h1, h2, h3, h4, h5, h6⟩ := h
  obtain ⟨g1, g2, g3, g4, g5, g6⟩ := h'
  exact ⟨g1, ee_ext_trans h2 g2, g3, g4, g5, by omega⟩
theorem ee_pst_e {R : ee_R} {e : Int32} {z : ee_V} (h : ee_pst b lo N x st R) (he : e = -1 ∨ e = 2 ∨ e = 3) (h3 : e = 3 → R.2.2.1 = 60) (hz : e = -1 → ee_vd R.2.2.2.1 z) : ee_pst b lo N x st (e, z, R.2.2) :=
  ⟨h.1, h.2.1, he, h3, hz, h.2.2.2.2.2⟩
end
section
variable {b : bb_T} {lo : Nat → Nat} {N : Nat}
/-- the parts of a node, with what is known of them -/
theorem nn_p1 {x c : Nat} (ok : nn_ok b lo N) (hx : x < N) (e : x = c + 1) (h : lo x = lo c) (hw : bb_wh b c = nI x) (hp : bb_pl b c = 0) : nn_ch b lo x c ∧ lo c ≤ c ∧ c < N ∧ N ≤ 24 :=
  ⟨⟨by omega, hw, by omega, fun z => absurd (hp.symm.trans z) (by decide)⟩, (ok.2 c (by omega)).1, by omega, ok.1⟩
theorem nn_p2 {x a c : Nat} (ok : nn_ok b lo N) (hx : x < N) (e : x = c + 1) (hc : lo c = a + 1) (h : lo x = lo a) (hwa : bb_wh b a = nI x) (hpa : bb_pl b a = 0) (hwc : bb_wh b c = nI x) :
    nn_ch b lo x a ∧ nn_ch b lo x c ∧ lo a ≤ a ∧ lo c ≤ c ∧ (a + 1 - lo a) + (c + 1 - lo c) + 1 = x + 1 - lo x ∧ a < N ∧ c < N ∧ N ≤ 24 := by
  have h1 := (ok.2 c (by omega)).1
  have h2 := (ok.2 a (by omega)).1
  exact ⟨⟨by omega, hwa, by omega, fun z => absurd (hpa.symm.trans z) (by decide)⟩, ⟨by omega, hwc, by omega, fun _ => by omega⟩, h2, h1, by omega, by omega, by omega, ok.1⟩
theorem nn_p3 {x a c d : Nat} (ok : nn_ok b lo N) (hx : x < N) (e : x = d + 1) (hd : lo d = c + 1) (hc : lo c = a + 1) (h : lo x = lo a) (hwa : bb_wh b a = nI x) (hpa : bb_pl b a = 0) (hwc : bb_wh b c = nI x) (hwd : bb_wh b d = nI x) :
    nn_ch b lo x a ∧ nn_ch b lo x c ∧ nn_ch b lo x d ∧ lo a ≤ a ∧ lo c ≤ c ∧ lo d ≤ d ∧ (a + 1 - lo a) + (c + 1 - lo c) + (d + 1 - lo d) + 1 = x + 1 - lo x ∧ a < N ∧ c < N ∧ d < N ∧ N ≤ 24 := by
  have h3 := (ok.2 d (by omega)).1
  have h1 := (ok.2 c (by omega)).1
  have h2 := (ok.2 a (by omega)).1
  exact ⟨⟨by omega, hwa, by omega, fun z => absurd (hpa.symm.trans z) (by decide)⟩, ⟨by omega, hwc, by omega, fun _ => by omega⟩, ⟨by omega, hwd, by omega, fun _ => by omega⟩, h2, h1, h3, by omega, by omega, by omega, by omega, ok.1⟩
theorem ee_fpart {g : Nat} (ok : nn_ok b lo N) (hg : g < N) (h7 : bb_kind b g = 7) : ∃ y, bb_pa b g = nI y ∧ g = y + 1 ∧ nn_ch b lo g y ∧ lo y ≤ y ∧ lo g = lo y := by
  obtain ⟨_, h⟩ := ok.2 g hg
  rcases h with ⟨k, _⟩ | ⟨k, _⟩ | ⟨a, k, h1, h2, h3, h4, h5, _⟩ | ⟨a, c, ⟨k, hk, k'⟩, _⟩ | ⟨a, c, k, _⟩ | ⟨a, c, e, k, _⟩
  · rw [k] at h7
    exact absurd h7 (by decide)
  · rw [k] at h7
    exact absurd h7 (by decide)
  · obtain ⟨c1, c2, _, _⟩ := nn_p1 ok hg h2 h3 h4 h5
    exact ⟨a, h1, h2, c1, c2, h3⟩
  · rw [k'] at h7
    exact absurd h7 (ee_k5 k hk).2.2.1
  · rw [k] at h7
    exact absurd h7 (by decide)
  · rw [k] at h7
    exact absurd h7 (by decide)
theorem ee_pure (ok : nn_ok b lo N) : ∀ (n x : Nat) (l : List Nat) (s : Nat → ee_V) (a : ee_V) (r : Nat) (st : ee_S), ee_pre b lo N n x l s a r st → ee_pst b lo N x st (ee_ev b n x l s a r st) := by
  intro n
  induction n with
  | zero =>
    intro x l s a r st hp
    exact absurd hp.2.1 (by omega)
  | succ n ih =>
    intro x l s a r st hp
    obtain ⟨p1, p2, p3, p4, p5⟩ := id hp
    have hx := nn_pt_lt p1
    have hb := nn_bound ok l x p1
    have hN := ok.1
    have self : ee_pst b lo N x st (-1, (0, 0), st) := ⟨p3, ee_ext_refl st, Or.inl rfl, fun z => absurd z (show ¬ (-1 : Int32) = 3 by decide), fun _ => Or.inl rfl, by dsimp only; omega⟩
    obtain ⟨hlo, hnd⟩ := ok.2 x hx
    rcases hnd with ⟨k, _⟩ | ⟨k, _, v, hv, hnum⟩ | ⟨y, k, h1, h2, h3, h4, h5, _⟩ | ⟨y, z, ⟨k, hk, k'⟩, h1, h2, h3, h4, h5, h6, h7, h8, h9⟩ | ⟨y, z, k, h1, h2, h3, h4, h5, h6, h7, h8, h9, _⟩ | ⟨y, z, t, k, h1, h2, h2', h3, h4, h4', h5, h6, h7, h8, h9, h10, h11⟩
    · rw [ee_8 k]
      exact ee_pst_e self (Or.inl rfl) (fun z => absurd z (by decide)) (fun _ => Or.inl rfl)
    · rw [ee_9 k, hnum]
      have hl := ee_ld_vd p3 hN (by omega) p4 hv
      by_cases e : (nn_ld s a r st.2.2.2 (nn_lk b x l (nI v))).1 = 2
      · rw [if_pos e]
        exact ee_pst_e self (Or.inr (Or.inl rfl)) (fun z => absurd z (by decide)) (fun z => absurd z (by decide))
      · rw [if_neg e]
        exact ee_pst_e self (Or.inl rfl) (fun z => absurd z (by decide)) (fun _ => hl)
    · rw [ee_7 k]
      obtain ⟨_, hlc, _⟩ := nn_p1 ok hx h2 h3 h4 h5
      refine ⟨⟨p3.1, fun i hi => ?_⟩, ⟨Nat.le_refl _, Nat.le_succ _, fun i hi => ?_⟩, Or.inl rfl, fun z => absurd z (show ¬ (-1 : Int32) = 3 by decide), fun _ => Or.inr (Or.inl ⟨rfl, st.2.1, Nat.lt_succ_self _, rfl⟩), ?_⟩
      · dsimp only at hi ⊢
        by_cases e : i = st.2.1
        · rw [e, ee_up_s, ee_up_s]
          exact ⟨k, p1, fun j hj => ee_vd_mono (Nat.le_succ _) (ee_ld_vd p3 hN (by omega) p4 hj)⟩
        · rw [ee_up_n _ _ e, ee_up_n _ _ e]
          obtain ⟨q1, q2, q3⟩ := p3.2 i (by omega)
          exact ⟨q1, q2, fun j hj => ee_vd_mono (Nat.le_succ _) (q3 j hj)⟩
      · dsimp only
        rw [ee_up_n _ _ (by omega), ee_up_n _ _ (by omega)]
        exact ⟨rfl, rfl⟩
      · dsimp only
        omega
    · obtain ⟨c1, c2, l1, l2, ht, l3, l4, _⟩ := nn_p2 ok hx h3 h4 h5 h6 h7 h8
      obtain ⟨k8, k9, k7, k6, k5⟩ := ee_k5 k hk
      have n7 : ¬ bb_kind b x = 7 := by rw [k']; exact k7
      have n6 : ∀ t, ¬ (bb_kind b x = 6 ∧ bb_pl b t = 1) := fun t z => k6 (k'.symm.trans z.1)
      have hy : (bb_pa b x).toNatClampNeg = y := by rw [h1]; exact nI_clamp (by omega)
      have hz : (bb_pb b x).toNatClampNeg = z := by rw [h2]; exact nI_clamp (by omega)
      have I1 := ih y (x :: l) s a r st (ee_pre_c hp c1 n7 (n6 y) p3 (ee_ext_refl st) (by omega))
      rw [ee_2 hk k' hy hz rfl rfl]
      generalize ee_ev b n y (x :: l) s a r st = R1 at I1 ⊢
      by_cases e1 : R1.1 = -1
      · rw [if_pos e1]
        have B1 := I1.2.2.2.2.2
        have I2 := ih z (x :: l) s a r R1.2.2 (ee_pre_c hp c2 n7 (n6 z) I1.1 I1.2.1 (by omega))
        generalize ee_ev b n z (x :: l) s a r R1.2.2 = R2 at I2 ⊢
        have I12 : ee_pst b lo N x st R2 := ee_pst_q I1 I2 (by omega)
        by_cases e2 : R2.1 = -1
        · rw [if_pos e2]
          by_cases k4 : k = 4
          · rw [if_pos k4]
            by_cases t1 : R1.2.1.1 = 1
            · rw [if_pos t1]
              by_cases t60 : R2.2.2.1 = 60
              · rw [if_pos t60]
                exact ee_pst_e I12 (Or.inr (Or.inr rfl)) (fun _ => t60) (fun z => absurd z (by decide))
              · rw [if_neg t60]
                rcases I1.2.2.2.2.1 e1 with v0 | ⟨_, q, hq, v1⟩ | v2
                · exact absurd (v0.symm.trans t1) (by decide)
                · have hq2 : q < R2.2.2.2.1 := Nat.lt_of_lt_of_le hq I2.2.1.2.1
                  have ecl : R1.2.1.2.toNatClampNeg = q := by
                    have := I12.2.2.2.2.2
                    have := I12.1.1
                    rw [v1]
                    exact nI_clamp (by omega)
                  rw [ecl]
                  obtain ⟨q1, q2, q3⟩ := I12.1.2 q hq2
                  rcases hgl : R2.2.2.2.2.1 q with ⟨g, lg⟩
                  rw [hgl] at q1 q2
                  dsimp only at q1 q2 ⊢
                  obtain ⟨y', f1, f2, f3, f4, f5⟩ := ee_fpart ok (nn_pt_lt q2) q1
                  have hg24 := nn_pt_lt q2
                  rw [f1, nI_clamp (show y' < 2 ^ 31 by omega)]
                  have B2 := I12.2.2.2.2.2
                  have I3 := ih y' (g :: lg) (fun _ => (0, 0)) R2.2.1 q (R2.2.2.1 + 1, R2.2.2.2) (ee_pre_f ok hp I12.1 I12.2.1 t60 hq2 hgl f3 (I2.2.2.2.2.1 e2) (by omega))
                  generalize ee_ev b n y' (g :: lg) (fun _ => (0, 0)) R2.2.1 q (R2.2.2.1 + 1, R2.2.2.2) = R3 at I3 ⊢
                  obtain ⟨g1, g2, g3, g4, g5, g6⟩ := I3
                  dsimp only at g6
                  refine ⟨g1, ee_ext_trans I12.2.1 ⟨?_, g2.2.1, g2.2.2⟩, g3, g4, g5, ?_⟩
                  · have := g2.1
                    dsimp only at this
                    omega
                  · omega
                · exact absurd (v2.symm.trans t1) (by decide)
            · rw [if_neg t1]
              exact ee_pst_e I12 (Or.inr (Or.inl rfl)) (fun z => absurd z (by decide)) (fun z => absurd z (by decide))
          · rw [if_neg k4]
            by_cases t0 : R1.2.1.1 = 0 ∧ R2.2.1.1 = 0
            · rw [if_pos t0]
              exact ee_pst_e I12 (Or.inl rfl) (fun z => absurd z (by decide)) (fun _ => Or.inl rfl)
            · rw [if_neg t0]
              exact ee_pst_e I12 (Or.inr (Or.inl rfl)) (fun z => absurd z (by decide)) (fun z => absurd z (by decide))
        · rw [if_neg e2]
          exact I12
      · rw [if_neg e1]
        exact ee_pst_m I1 (by omega)
    · obtain ⟨c1, c2, l1, l2, ht, l3, l4, _⟩ := nn_p2 ok hx h3 h4 h5 h6 h7 h8
      have n7 : ¬ bb_kind b x = 7 := by rw [k]; decide
      have hy : (bb_pa b x).toNatClampNeg = y := by rw [h1]; exact nI_clamp (by omega)
      have hz : (bb_pb b x).toNatClampNeg = z := by rw [h2]; exact nI_clamp (by omega)
      have I1 := ih y (x :: l) s a r st (ee_pre_c hp c1 n7 (fun t => absurd (h7.symm.trans t.2) (by decide)) p3 (ee_ext_refl st) (by omega))
      rw [ee_6 k hy hz rfl]
      generalize ee_ev b n y (x :: l) s a r st = R1 at I1 ⊢
      by_cases e1 : R1.1 = -1
      · rw [if_pos e1]
        have B1 := I1.2.2.2.2.2
        have I2 := ih z (x :: l) (ee_up s (nn_ba b x l) R1.2.1) a r R1.2.2 (ee_pre_s hp c2 k h9 I1.1 I1.2.1 (I1.2.2.2.2.1 e1) (by omega))
        exact ee_pst_q I1 I2 (by omega)
      · rw [if_neg e1]
        exact ee_pst_m I1 (by omega)
    · obtain ⟨c1, c2, c3, l1, l2, l3, ht, l4, l5, l6, _⟩ := nn_p3 ok hx h3 h4 h4' h5 h6 h7 h8 h10
      have n7 : ¬ bb_kind b x = 7 := by rw [k]; decide
      have n6 : ∀ t, ¬ (bb_kind b x = 6 ∧ bb_pl b t = 1) := fun t z => absurd (k.symm.trans z.1) (by decide)
      have hy : (bb_pa b x).toNatClampNeg = y := by rw [h1]; exact nI_clamp (by omega)
      have hz : (bb_pb b x).toNatClampNeg = z := by rw [h2]; exact nI_clamp (by omega)
      have ht' : (bb_pc b x).toNatClampNeg = t := by rw [h2']; exact nI_clamp (by omega)
      have I1 := ih y (x :: l) s a r st (ee_pre_c hp c1 n7 (n6 y) p3 (ee_ext_refl st) (by omega))
      rw [ee_5 k hy hz ht' rfl]
      generalize ee_ev b n y (x :: l) s a r st = R1 at I1 ⊢
      by_cases e1 : R1.1 = -1
      · rw [if_pos e1]
        have B1 := I1.2.2.2.2.2
        by_cases t0 : R1.2.1.1 = 0
        · rw [if_pos t0]
          by_cases d0 : R1.2.1.2 = 0
          · rw [if_pos d0]
            exact ee_pst_q I1 (ih t (x :: l) s a r R1.2.2 (ee_pre_c hp c3 n7 (n6 t) I1.1 I1.2.1 (by omega))) (by omega)
          · rw [if_neg d0]
            exact ee_pst_q I1 (ih z (x :: l) s a r R1.2.2 (ee_pre_c hp c2 n7 (n6 z) I1.1 I1.2.1 (by omega))) (by omega)
        · rw [if_neg t0]
          exact ee_pst_e (ee_pst_m I1 (by omega)) (Or.inr (Or.inl rfl)) (fun z => absurd z (by decide)) (fun z => absurd z (by decide))
      · rw [if_neg e1]
        exact ee_pst_m I1 (by omega)
end
end
section
/-- the code of the node x (ancestors l) lies at [p, q) -/
def kk_cd (b : bb_T) (c : qq_T) (Fn : Nat → List Nat → Prop) : Nat → Nat → List Nat → Nat → Nat → Prop
  | 0, _, _, _, _ => False
  | n + 1, x, l, p, q =>
    p < q ∧
    (bb_kind b x = 8 → qq_code c p = 10 ∧ qq_extra c p = bb_num b x ∧ q = p + 1) ∧
    (bb_kind b x = 9 → qq_code c p = (nn_lk b x l (bb_num b x)).1 ∧ qq_extra c p = (nn_lk b x l (bb_num b x)).2.1 ∧ q = p + 1 ∧ ∀ g lg, (nn_lk b x l (bb_num b x)).2.2 = some (g, lg) → ¬ qq_gc c (g * 4 + (bb_num b x).toNatClampNeg) < 0) ∧
    (bb_kind b x = 7 → qq_code c p = 17 ∧ qq_extra c p = nI x ∧ q = p + 1 ∧ Fn x l) ∧
    (bb_kind b x = 6 → ∃ m, kk_cd b c Fn n (bb_pa b x).toNatClampNeg (x :: l) p m ∧ qq_code c m = 16 ∧ qq_extra c m = nI (nn_ba b x l) ∧ kk_cd b c Fn n (bb_pb b x).toNatClampNeg (x :: l) (m + 1) q) ∧
    (bb_kind b x = 5 → ∃ m1 m2, kk_cd b c Fn n (bb_pa b x).toNatClampNeg (x :: l) p m1 ∧ qq_code c m1 = 18 ∧ qq_extra c m1 = nI (m2 + 1) ∧ kk_cd b c Fn n (bb_pb b x).toNatClampNeg (x :: l) (m1 + 1) m2 ∧ qq_code c m2 = 19 ∧ qq_extra c m2 = nI q ∧ kk_cd b c Fn n (bb_pc b x).toNatClampNeg (x :: l) (m2 + 1) q) ∧
    (∀ k, k < 5 → bb_kind b x = nI k → ∃ m1 m2, kk_cd b c Fn n (bb_pa b x).toNatClampNeg (x :: l) p m1 ∧ kk_cd b c Fn n (bb_pb b x).toNatClampNeg (x :: l) m1 m2 ∧ qq_code c m2 = nI k ∧ q = m2 + 1)
theorem kk_cd_lt {b : bb_T} {c : qq_T} {Fn : Nat → List Nat → Prop} {n x : Nat} {l : List Nat} {p q : Nat} (h : kk_cd b c Fn n x l p q) : p < q := by
  cases n with
  | zero => exact absurd h (fun z => z)
  | succ n => exact h.1
def kk_fn (b : bb_T) (c : qq_T) (Fn : Nat → List Nat → Prop) (g : Nat) (lg : List Nat) : Prop :=
  ∃ n e q, qq_entry c g = nI e ∧ kk_cd b c Fn n (bb_pa b g).toNatClampNeg (g :: lg) e q ∧ qq_code c q = 20 ∧ q < 128
def kk_G (b : bb_T) (lo : Nat → Nat) (N : Nat) (c : qq_T) : Prop :=
  ∀ g lg, bb_kind b g = 7 → nn_pt b lo N g lg → ∀ j, j < 4 → ¬ qq_gc c (g * 4 + j) < 0 →
    qq_gc c (g * 4 + j) = (nn_lk b g lg (nI j)).1 ∧ qq_ge c (g * 4 + j) = (nn_lk b g lg (nI j)).2.1 ∧ ∀ g' lg', (nn_lk b g lg (nI j)).2.2 = some (g', lg') → ¬ qq_gc c (g' * 4 + j) < 0
def mm_B (c : qq_T) (Fn : Nat → List Nat → Prop) (v : vv_T) (f w : Nat) (st : ee_S) : Prop :=
  vv_ended v = -1 ∧ vv_values v = nI w ∧ vv_frames v = nI (f + 1) ∧ vv_called v = nI st.1 ∧ vv_closures v = nI st.2.1 ∧
  ∀ k, k < st.2.1 → vv_co v k = nI (st.2.2.1 k).1 ∧ Fn (st.2.2.1 k).1 (st.2.2.1 k).2 ∧ ∀ j, j < 4 → ¬ qq_gc c ((st.2.2.1 k).1 * 4 + j) < 0 → (vv_kt v (k * 4 + j), vv_kd v (k * 4 + j)) = st.2.2.2 k j
def mm_E (b : bb_T) (v : vv_T) (f x : Nat) (l : List Nat) (s : Nat → ee_V) (a : ee_V) (r : Nat) : Prop :=
  (∀ k, k < nn_ba b x l → (vv_st v (f * 11 + k), vv_sd v (f * 11 + k)) = s k) ∧ (∀ g lg, nn_en b l = some (g, lg) → (vv_at v f, vv_ad v f) = a ∧ vv_run v f = nI r)
def mm_F (b : bb_T) (v v' : vv_T) (f w x : Nat) (l : List Nat) : Prop :=
  (∀ j, j < w → vv_tag v' j = vv_tag v j ∧ vv_datum v' j = vv_datum v j) ∧
  (∀ j, j ≤ f → vv_back v' j = vv_back v j ∧ vv_run v' j = vv_run v j ∧ vv_at v' j = vv_at v j ∧ vv_ad v' j = vv_ad v j) ∧
  (∀ j, j < f * 11 + nn_ba b x l → vv_st v' j = vv_st v j ∧ vv_sd v' j = vv_sd v j)
section
variable {b : bb_T} {c : qq_T} {Fn : Nat → List Nat → Prop} {v v' v'' : vv_T} {f w x y : Nat} {l : List Nat} {s : Nat → ee_V} {a : ee_V} {r : Nat} {st : ee_S}
theorem mm_E_F (h : mm_E b v f x l s a r) (hF : mm_F b v v' f w x l) : mm_E b v' f x l s a r := by
  obtain ⟨_, f2, f3⟩ := hF
  refine ⟨fun k hk => ?_, fun g lg hg => ?_⟩
  · rw [(f3 _ (by omega)).1, (f3 _ (by omega)).2]
    exact h.1 k hk
  · obtain ⟨_, q1, q2, q3⟩ := f2 f (Nat.le_refl f)
    rw [q1, q2, q3]
    exact h.2 g lg hg
theorem mm_E_c (h : mm_E b v f x l s a r) (h7 : ¬ bb_kind b x = 7) (h6 : ¬ (bb_kind b x = 6 ∧ bb_pl b y = 1)) : mm_E b v f y (x :: l) s a r := by
  unfold mm_E
  rw [nn_ba_c h7 h6, nn_en_c h7]
  exact h
theorem mm_F_c (h : mm_F b v v' f w y (x :: l)) (h7 : ¬ bb_kind b x = 7) : mm_F b v v' f w x l := by
  refine ⟨h.1, h.2.1, fun j hj => h.2.2 j ?_⟩
  have : nn_ba b x l ≤ nn_ba b y (x :: l) := by
    simp only [nn_ba]
    rw [if_neg h7]
    omega
  omega
theorem mm_F_t {w' : Nat} (h : mm_F b v v' f w x l) (h' : mm_F b v' v'' f w' x l) (hw : w ≤ w') : mm_F b v v'' f w x l := by
  obtain ⟨h1, h2, h3⟩ := h
  obtain ⟨g1, g2, g3⟩ := h'
  refine ⟨fun j hj => ⟨(g1 j (by omega)).1.trans (h1 j hj).1, (g1 j (by omega)).2.trans (h1 j hj).2⟩, fun j hj => ?_, fun j hj => ⟨(g3 j hj).1.trans (h3 j hj).1, (g3 j hj).2.trans (h3 j hj).2⟩⟩
  obtain ⟨a1, a2, a3, a4⟩ := h2 j hj
  obtain ⟨b1, b2, b3, b4⟩ := g2 j hj
  exact ⟨b1.trans a1, b2.trans a2, b3.trans a3, b4.trans a4⟩
theorem mm_F_r : mm_F b v v f w x l := ⟨fun _ _ => ⟨rfl, rfl⟩, fun _ _ => ⟨rfl, rfl, rfl, rfl⟩, fun _ _ => ⟨rfl, rfl⟩⟩
theorem mm_B_push {t d : Int32} (h : mm_B c Fn v f w st) : mm_B c Fn (vv_push v w t d) f (w + 1) st := ⟨h.1, rfl, h.2.2.1, h.2.2.2.1, h.2.2.2.2.1, h.2.2.2.2.2⟩
theorem mm_F_push {t d : Int32} : mm_F b v (vv_push v w t d) f w x l :=
  ⟨fun j hj => ⟨pk_un (by omega), pk_un (by omega)⟩, fun _ _ => ⟨rfl, rfl, rfl, rfl⟩, fun _ _ => ⟨rfl, rfl⟩⟩
theorem mm_T_push {t d : Int32} : (vv_tag (vv_push v w t d) w, vv_datum (vv_push v w t d) w) = (t, d) := by
  have h1 : vv_tag (vv_push v w t d) w = t := pk_us
  have h2 : vv_datum (vv_push v w t d) w = d := pk_us
  rw [h1, h2]
/-- a name's instruction loads what the interpreter loads -/
theorem mm_lds_ok {lo : Nat → Nat} {N : Nat} {j : Nat} (hj : j < 4) (hb : nn_ba b x l ≤ 11) (hK : st.2.1 < 736) (hE : mm_E b v f x l s a r) (hen : ee_en b x l s a r st)
    (hk : ∀ g lg, nn_en b l = some (g, lg) → ¬ qq_gc c (g * 4 + j) < 0 → (vv_kt v (r * 4 + j), vv_kd v (r * 4 + j)) = st.2.2.2 r j)
    (hc : ∀ g lg, (nn_lk b x l (nI j)).2.2 = some (g, lg) → ¬ qq_gc c (g * 4 + j) < 0) :
    mm_lds v f (nn_lk b x l (nI j)).1 (nn_lk b x l (nI j)).2.1 (nn_ld s a r st.2.2.2 (nn_lk b x l (nI j))) := by
  rcases nn_lk_cases b (nI j) l x with ⟨n, e, hn⟩ | ⟨e, g, lg, hg⟩ | ⟨e, g, lg, hg⟩ | ⟨g, lg, e, hg⟩ | e
  · rw [e]
    refine Or.inr (Or.inl ⟨rfl, n, rfl, by omega, ?_⟩)
    have : nn_ld s a r st.2.2.2 (11, nI n, none) = s n := by
      show s (nI n).toNatClampNeg = _
      rw [nI_clamp (by omega)]
    rw [this]
    exact (hE.1 n hn).symm
  · rw [e]
    exact Or.inr (Or.inr (Or.inl ⟨rfl, (hE.2 g lg hg).1.symm⟩))
  · rw [e]
    refine Or.inr (Or.inr (Or.inr (Or.inl ⟨rfl, ?_⟩)))
    show ((1 : Int32), nI r) = (1, vv_run v f)
    rw [(hE.2 g lg hg).2]
  · have hc' := hc g lg (by rw [e])
    rw [e]
    refine Or.inr (Or.inr (Or.inr (Or.inr (Or.inl ⟨rfl, r, j, (hE.2 g lg hg).2, Nat.lt_of_le_of_lt (Nat.le_of_lt (hen.2 g lg hg).2.1) hK, rfl, hj, ?_⟩))))
    have : nn_ld s a r st.2.2.2 (14, nI j, some (g, lg)) = st.2.2.2 r j := by
      show st.2.2.2 r (nI j).toNatClampNeg = _
      rw [nI_clamp (by omega)]
    rw [this]
    exact (hk g lg hg hc').symm
  · rw [e]
    exact Or.inr (Or.inr (Or.inr (Or.inr (Or.inr ⟨rfl, rfl⟩))))
end
end
section
section
variable {b : bb_T} {c : qq_T} {lo : Nat → Nat} {N : Nat} {Fn : Nat → List Nat → Prop} {post : St1 → Prop}
theorem mm_kb {v : vv_T} {f w : Nat} {st : ee_S} {x : Nat} {l : List Nat} {s : Nat → ee_V} {a : ee_V} {r j : Nat} (hB : mm_B c Fn v f w st) (hen : ee_en b x l s a r st) (hj : j < 4) :
    ∀ g lg, nn_en b l = some (g, lg) → ¬ qq_gc c (g * 4 + j) < 0 → (vv_kt v (r * 4 + j), vv_kd v (r * 4 + j)) = st.2.2.2 r j := by
  intro g lg hg hc
  obtain ⟨_, h2, h3⟩ := hen.2 g lg hg
  have := (hB.2.2.2.2.2 r h2).2.2 j hj
  rw [h3] at this
  exact this hc
theorem mm_vm (ok : nn_ok b lo N) (hG : kk_G b lo N c) (hFn : ∀ g lg, Fn g lg → kk_fn b c Fn g lg) :
    ∀ (n x : Nat) (l : List Nat) (s : Nat → ee_V) (a : ee_V) (r : Nat) (st : ee_S), ee_pre b lo N n x l s a r st →
    ∀ (k p q i f w : Nat) (v : vv_T), kk_cd b c Fn k x l p q → q ≤ 128 → i + q ≤ 128 * (st.1 + 1) + p → w + (x + 1 - lo x) ≤ 24 * (f + 1) → f ≤ st.1 → mm_B c Fn v f w st → mm_E b v f x l s a r →
    (¬ (ee_ev b n x l s a r st).1 = -1 → ∀ v', vv_ended v' = (ee_ev b n x l s a r st).1 → vv_called v' = nI (ee_ev b n x l s a r st).2.2.1 → vv_closures v' = nI (ee_ev b n x l s a r st).2.2.2.1 → post (cc_u b c v')) →
    ((ee_ev b n x l s a r st).1 = -1 → ∀ v' i', mm_B c Fn v' f (w + 1) (ee_ev b n x l s a r st).2.2 → mm_F b v v' f w x l → (vv_tag v' w, vv_datum v' w) = (ee_ev b n x l s a r st).2.1 →
      i' + 128 * st.1 + p ≤ i + q + 128 * (ee_ev b n x l s a r st).2.2.1 → mm_LX post b c i' (nI q) v') →
    mm_LX post b c i (nI p) v := by
  intro n
  induction n with
  | zero =>
    intro x l s a r st hp
    exact absurd hp.2.1 (by omega)
  | succ n ih =>
    intro x l s a r st hp k p q i f w v hcd hq hi hw hf hB hE HE HC
    obtain ⟨p1, p2, p3, p4, p5⟩ := id hp
    have hx := nn_pt_lt p1
    have hb := nn_bound ok l x p1
    have hN := ok.1
    have h60 := p3.1
    obtain ⟨B1, B2, B3, B4, B5, B6⟩ := id hB
    cases k with
    | zero => exact absurd hcd (fun z => z)
    | succ k =>
    obtain ⟨hpq, C8, C9, C7, C6, C5, C2⟩ := hcd
    obtain ⟨hlo, hnd⟩ := ok.2 x hx
    rcases hnd with ⟨kd, _⟩ | ⟨kd, _, vn, hv, hnum⟩ | ⟨y, kd, h1, h2, h3, h4, h5, _⟩ | ⟨y, z, ⟨ko, hk, kd⟩, h1, h2, h3, h4, h5, h6, h7, h8, h9⟩ | ⟨y, z, kd, h1, h2, h3, h4, h5, h6, h7, h8, h9, _⟩ | ⟨y, z, t, kd, h1, h2, h2', h3, h4, h4', h5, h6, h7, h8, h9, h10, h11⟩
    · obtain ⟨d1, d2, d3⟩ := C8 kd
      rw [ee_8 kd] at HC
      refine mm_i_name (y := (0, bb_num b x)) p w f (by omega) B1 (by omega) d1 d2 B2 (by omega) B3 (by omega) (Or.inl ⟨rfl, rfl⟩) (fun z => absurd z (show ¬ (0 : Int32) = 2 by decide)) (fun _ => ?_)
      rw [← d3]
      exact HC rfl _ _ (mm_B_push hB) mm_F_push mm_T_push (by dsimp only; omega)
    · obtain ⟨d1, d2, d3, d4⟩ := C9 kd
      rw [ee_9 kd] at HE HC
      rw [hnum] at d1 d2 d4 HE HC
      rw [nI_clamp (show vn < 2 ^ 31 by omega)] at d4
      have L := mm_lds_ok (N := N) (lo := lo) (c := c) hv (by omega) (by omega) hE p4 (mm_kb hB p4 hv) d4
      generalize nn_ld s a r st.2.2.2 (nn_lk b x l (nI vn)) = Y at L HE HC
      refine mm_i_name p w f (by omega) B1 (by omega) d1 d2 B2 (by omega) B3 (by omega) L (fun z => ?_) (fun z => ?_)
      · rw [if_pos z] at HE
        exact HE (show ¬ (2 : Int32) = -1 by decide) _ rfl B4 B5
      · rw [if_neg z] at HC
        rw [← d3]
        exact HC rfl _ _ (mm_B_push hB) mm_F_push mm_T_push (by dsimp only; omega)
    · obtain ⟨d1, d2, d3, d4⟩ := C7 kd
      rw [ee_7 kd] at HC
      refine mm_i_make p w f x st.2.1 (fun j => nn_ld s a r st.2.2.2 (nn_lk b x l (nI j))) (by omega) B1 (by omega) d1 d2 B2 (by omega) B3 (by omega) (by omega) (by omega) B5 ?_ ?_
      · intro j hj gj v' e1 e2 e3 e4 e5 e6 e7
        obtain ⟨g1, g2, g3⟩ := hG x l kd p1 j hj gj
        rw [g1, g2]
        refine mm_lds_ok (N := N) (lo := lo) (c := c) hj (by omega) (by omega) ?_ p4 (fun g lg hg hc => ?_) g3
        · unfold mm_E
          rw [e1, e2, e3, e4, e5]
          exact hE
        · have hr := (p4.2 g lg hg).2.1
          rw [e6 _ (by omega), e7 _ (by omega)]
          exact mm_kb hB p4 hj g lg hg hc
      · intro T D KT KD t1 t2 t3 t4 t5
        rw [← d3]
        refine HC rfl _ _ ⟨B1, rfl, B3, B4, rfl, fun i hi => ?_⟩ ⟨fun j hj => ⟨?_, ?_⟩, fun _ _ => ⟨rfl, rfl, rfl, rfl⟩, fun _ _ => ⟨rfl, rfl⟩⟩ mm_T_push (by dsimp only; omega)
        · dsimp only at hi ⊢
          by_cases e : i = st.2.1
          · rw [e, ee_up_s, ee_up_s]
            exact ⟨pk_us, d4, t5⟩
          · rw [ee_up_n _ _ e, ee_up_n _ _ e]
            obtain ⟨q1, q2, q3⟩ := B6 i (by omega)
            refine ⟨(pk_un e).trans q1, q2, fun j hj gj => ?_⟩
            have := q3 j hj gj
            rw [← t3 _ (by omega), ← t4 _ (by omega)] at this
            exact this
        · exact (pk_un (by omega)).trans (t1 j hj)
        · exact (pk_un (by omega)).trans (t2 j hj)
    · obtain ⟨c1, c2, l1, l2, ht, l3, l4, _⟩ := nn_p2 ok hx h3 h4 h5 h6 h7 h8
      obtain ⟨k8, k9, k7, k6, k5⟩ := ee_k5 ko hk
      have n7 : ¬ bb_kind b x = 7 := by rw [kd]; exact k7
      have n6 : ∀ t, ¬ (bb_kind b x = 6 ∧ bb_pl b t = 1) := fun t z => k6 (kd.symm.trans z.1)
      have hy : (bb_pa b x).toNatClampNeg = y := by rw [h1]; exact nI_clamp (by omega)
      have hz : (bb_pb b x).toNatClampNeg = z := by rw [h2]; exact nI_clamp (by omega)
      obtain ⟨m1, m2, d1, d2, d3, d4⟩ := C2 ko hk kd
      rw [hy] at d1
      rw [hz] at d2
      have m1' := kk_cd_lt d1
      have m2' := kk_cd_lt d2
      have P1 := ee_pre_c hp c1 n7 (n6 y) p3 (ee_ext_refl st) (by omega)
      have I1 := ee_pure ok n y (x :: l) s a r st P1
      have V1 := ih y (x :: l) s a r st P1 k p m1 i f w v d1 (by omega) (by omega) (by omega) hf hB (mm_E_c hE n7 (n6 y))
      rw [ee_2 hk kd hy hz rfl rfl] at HE HC
      generalize ee_ev b n y (x :: l) s a r st = R1 at I1 V1 HE HC
      by_cases e1 : R1.1 = -1
      · rw [if_pos e1] at HE HC
        refine V1 (fun z => absurd e1 z) (fun _ v1 i1 X1 F1 T1 L1 => ?_)
        have b1 := I1.2.2.2.2.2
        have g1 := I1.2.1.1
        have s1 := I1.1.1
        have F1' := mm_F_c F1 n7
        have P2 := ee_pre_c hp c2 n7 (n6 z) I1.1 I1.2.1 (by omega)
        have I2 := ee_pure ok n z (x :: l) s a r R1.2.2 P2
        have V2 := ih z (x :: l) s a r R1.2.2 P2 k m1 m2 i1 f (w + 1) v1 d2 (by omega) (by omega) (by omega) (by omega) X1 (mm_E_c (mm_E_F hE F1') n7 (n6 z))
        generalize ee_ev b n z (x :: l) s a r R1.2.2 = R2 at I2 V2 HE HC
        have I12 : ee_pst b lo N x st R2 := ee_pst_q I1 I2 (by omega)
        by_cases e2 : R2.1 = -1
        · rw [if_pos e2] at HE HC
          refine V2 (fun z => absurd e2 z) (fun _ v2 i2 X2 F2 T2 L2 => ?_)
          have b2 := I12.2.2.2.2.2
          have g2 := I2.2.1.1
          have s2 := I2.1.1
          have F2' := mm_F_c F2 n7
          obtain ⟨Y1, Y2, Y3, Y4, Y5, Y6⟩ := id X2
          have t1 : vv_tag v2 w = R1.2.1.1 := by
            rw [(F2.1 w (by omega)).1, ← T1]
          have t2 : vv_datum v2 w = R1.2.1.2 := by
            rw [(F2.1 w (by omega)).2, ← T1]
          have t3 : vv_tag v2 (w + 1) = R2.2.1.1 := by rw [← T2]
          have t4 : vv_datum v2 (w + 1) = R2.2.1.2 := by rw [← T2]
          by_cases k4 : ko = 4
          · rw [if_pos k4] at HE HC
            refine mm_i_call m2 w f R2.2.2.1 (by omega) Y1 (by omega) (by rw [d3, k4]; rfl) Y2 (by omega) Y3 Y4 s2 (fun u => ?_) (fun u u2 => ?_) (fun u u2 => ?_)
            · rw [t1] at u
              rw [if_neg u] at HE
              exact HE (show ¬ (2 : Int32) = -1 by decide) _ rfl Y4 Y5
            · rw [t1] at u
              rw [if_pos u, if_pos u2] at HE
              exact HE (show ¬ (3 : Int32) = -1 by decide) _ rfl Y4 Y5
            · rw [t1] at u
              rw [if_pos u, if_neg u2] at HE HC
              rcases I1.2.2.2.2.1 e1 with v0 | ⟨_, q', hq', vq⟩ | v2'
              · exact absurd (v0.symm.trans u) (by decide)
              · have hq2 : q' < R2.2.2.2.1 := Nat.lt_of_lt_of_le hq' I2.2.1.2.1
                have ecl : R1.2.1.2.toNatClampNeg = q' := by
                  rw [vq]
                  exact nI_clamp (by omega)
                rw [ecl] at HE HC
                obtain ⟨q1, q2, q3⟩ := I12.1.2 q' hq2
                obtain ⟨x1, x2, x3⟩ := Y6 q' hq2
                have hgl : R2.2.2.2.2.1 q' = ((R2.2.2.2.2.1 q').1, (R2.2.2.2.2.1 q').2) := rfl
                generalize (R2.2.2.2.2.1 q').1 = g at *
                generalize (R2.2.2.2.2.1 q').2 = lg at *
                obtain ⟨y', f1, f2, f3, f4, f5⟩ := ee_fpart ok (nn_pt_lt q2) q1
                have hg24 := nn_pt_lt q2
                obtain ⟨kf, ef, qf, w1, w2, w3, w4⟩ := hFn g lg x2
                rw [f1, nI_clamp (show y' < 2 ^ 31 by omega)] at w2 HE HC
                have w5 := kk_cd_lt w2
                refine ⟨q', g, t2.trans vq, by omega, x1, by omega, by omega, ?_⟩
                rw [w1]
                have P3 := ee_pre_f (s' := fun _ => (0, 0)) ok hp I12.1 I12.2.1 u2 hq2 hgl f3 (I2.2.2.2.2.1 e2) (by omega)
                have I3 := ee_pure ok n y' (g :: lg) (fun _ => (0, 0)) R2.2.1 q' (R2.2.2.1 + 1, R2.2.2.2) P3
                have E3 : mm_E b (vv_call v2 w f R2.2.2.1 (nI (m2 + 1))) (f + 1) y' (g :: lg) (fun _ => (0, 0)) R2.2.1 q' := by
                  unfold mm_E
                  rw [nn_ba_f q1]
                  refine ⟨fun k hk => absurd hk (by omega), fun _ _ _ => ⟨?_, ?_⟩⟩
                  · have a1 : vv_at (vv_call v2 w f R2.2.2.1 (nI (m2 + 1))) (f + 1) = vv_tag v2 (w + 1) := pk_us
                    have a2 : vv_ad (vv_call v2 w f R2.2.2.1 (nI (m2 + 1))) (f + 1) = vv_datum v2 (w + 1) := pk_us
                    rw [a1, a2]
                    exact T2
                  · have a1 : vv_run (vv_call v2 w f R2.2.2.1 (nI (m2 + 1))) (f + 1) = vv_datum v2 w := pk_us
                    rw [a1, t2]
                    exact vq
                refine ih y' (g :: lg) (fun _ => (0, 0)) R2.2.1 q' (R2.2.2.1 + 1, R2.2.2.2) P3 kf ef qf (i2 + 1) (f + 1) w _ w2 (by omega) (by dsimp only; omega) (by omega) (by dsimp only; omega) ⟨Y1, rfl, rfl, rfl, Y5, Y6⟩ E3 HE ?_
                generalize ee_ev b n y' (g :: lg) (fun _ => (0, 0)) R2.2.1 q' (R2.2.2.1 + 1, R2.2.2.2) = R3 at I3 HC ⊢
                intro e3 v3 i3 X3 F3 T3 L3
                have b3 := I3.2.1.1
                have s3 := I3.1.1
                dsimp only at b3 L3
                obtain ⟨Z1, Z2, Z3, Z4, Z5, Z6⟩ := id X3
                have rb : vv_back v3 (f + 1) = nI (m2 + 1) := (F3.2.1 (f + 1) (Nat.le_refl _)).1.trans pk_us
                refine mm_i_ret qf f (by omega) Z1 w4 w3 Z3 (by omega) ?_
                rw [rb, ← d4]
                refine HC e3 _ _ ⟨Z1, Z2, rfl, Z4, Z5, Z6⟩ ⟨fun j hj => ?_, fun j hj => ?_, fun j hj => ?_⟩ T3 (by omega)
                · exact ⟨(F3.1 j hj).1.trans ((F2'.1 j (by omega)).1.trans (F1'.1 j hj).1), (F3.1 j hj).2.trans ((F2'.1 j (by omega)).2.trans (F1'.1 j hj).2)⟩
                · obtain ⟨a1, a2, a3, a4⟩ := F3.2.1 j (by omega)
                  obtain ⟨a5, a6, a7, a8⟩ := F2'.2.1 j hj
                  obtain ⟨a9, a10, a11, a12⟩ := F1'.2.1 j hj
                  exact ⟨a1.trans ((pk_un (by omega)).trans (a5.trans a9)), a2.trans ((pk_un (by omega)).trans (a6.trans a10)), a3.trans ((pk_un (by omega)).trans (a7.trans a11)), a4.trans ((pk_un (by omega)).trans (a8.trans a12))⟩
                · obtain ⟨a1, a2⟩ := F3.2.2 j (by omega)
                  obtain ⟨a3, a4⟩ := F2'.2.2 j hj
                  obtain ⟨a5, a6⟩ := F1'.2.2 j hj
                  exact ⟨a1.trans (a3.trans a5), a2.trans (a4.trans a6)⟩
              · exact absurd (v2'.symm.trans u) (by decide)
          · rw [if_neg k4] at HE HC
            refine mm_i_calc m2 w (k := ko) (by omega) (by omega) Y1 (by omega) d3 Y2 (by omega) (fun u1 u2 => ?_) (fun u => ?_)
            · rw [t1] at u1
              rw [t3] at u2
              rw [if_pos ⟨u1, u2⟩] at HC
              rw [← d4, t2, t4]
              have F2w : mm_F b v1 v2 f w x l := ⟨fun j hj => F2'.1 j (by omega), F2'.2.1, F2'.2.2⟩
              have FP : mm_F b v2 (vv_push (vv_s_values v2 (nI w)) w 0 (nn_cb (nI ko) R1.2.1.2 R2.2.1.2)) f w x l := mm_F_push (v := vv_s_values v2 (nI w))
              exact HC rfl _ _ ⟨Y1, rfl, Y3, Y4, Y5, Y6⟩ (mm_F_t F1' (mm_F_t F2w FP (Nat.le_refl w)) (Nat.le_refl w)) mm_T_push (by dsimp only; omega)
            · rw [t1, t3] at u
              rw [if_neg u] at HE
              exact HE (show ¬ (2 : Int32) = -1 by decide) _ rfl Y4 Y5
        · rw [if_neg e2] at HE HC
          exact V2 HE (fun z => absurd z e2)
      · rw [if_neg e1] at HE HC
        exact V1 HE (fun z => absurd z e1)
    · obtain ⟨c1, c2, l1, l2, ht, l3, l4, _⟩ := nn_p2 ok hx h3 h4 h5 h6 h7 h8
      have n7 : ¬ bb_kind b x = 7 := by rw [kd]; decide
      have hy : (bb_pa b x).toNatClampNeg = y := by rw [h1]; exact nI_clamp (by omega)
      have hz : (bb_pb b x).toNatClampNeg = z := by rw [h2]; exact nI_clamp (by omega)
      have n6 : ¬ (bb_kind b x = 6 ∧ bb_pl b y = 1) := fun t => absurd (h7.symm.trans t.2) (by decide)
      obtain ⟨m, d1, d2, d3, d4⟩ := C6 kd
      rw [hy] at d1
      rw [hz] at d4
      have m1' := kk_cd_lt d1
      have m2' := kk_cd_lt d4
      have P1 := ee_pre_c hp c1 n7 n6 p3 (ee_ext_refl st) (by omega)
      have I1 := ee_pure ok n y (x :: l) s a r st P1
      have V1 := ih y (x :: l) s a r st P1 k p m i f w v d1 (by omega) (by omega) (by omega) hf hB (mm_E_c hE n7 n6)
      rw [ee_6 kd hy hz rfl] at HE HC
      generalize ee_ev b n y (x :: l) s a r st = R1 at I1 V1 HE HC
      by_cases e1 : R1.1 = -1
      · rw [if_pos e1] at HE HC
        refine V1 (fun z => absurd e1 z) (fun _ v1 i1 X1 F1 T1 L1 => ?_)
        have b1 := I1.2.2.2.2.2
        have g1 := I1.2.1.1
        have s1 := I1.1.1
        have F1' := mm_F_c F1 n7
        obtain ⟨Y1, Y2, Y3, Y4, Y5, Y6⟩ := id X1
        have E1 := mm_E_F hE F1'
        have P2 := ee_pre_s hp c2 kd h9 I1.1 I1.2.1 (I1.2.2.2.2.1 e1) (by omega)
        refine mm_i_store m w f (nn_ba b x l) (by omega) Y1 (by omega) d2 d3 (by omega) Y2 (by omega) Y3 (by omega) ?_
        have E2 : mm_E b (vv_s_values (vv_s_sd (vv_s_st v1 (upd (vv_st v1) (f * 11 + nn_ba b x l) (vv_tag v1 w))) (upd (vv_sd v1) (f * 11 + nn_ba b x l) (vv_datum v1 w))) (nI w)) f z (x :: l) (ee_up s (nn_ba b x l) R1.2.1) a r := by
          unfold mm_E
          rw [nn_ba_s kd h9, nn_en_c n7]
          refine ⟨fun j hj => ?_, E1.2⟩
          show (upd (vv_st v1) (f * 11 + nn_ba b x l) (vv_tag v1 w) (f * 11 + j), upd (vv_sd v1) (f * 11 + nn_ba b x l) (vv_datum v1 w) (f * 11 + j)) = _
          by_cases e : j = nn_ba b x l
          · rw [e, ee_up_s, pk_us, pk_us]
            exact T1
          · rw [ee_up_n _ _ e, pk_un (by omega), pk_un (by omega)]
            exact E1.1 j (by omega)
        have I2 := ee_pure ok n z (x :: l) (ee_up s (nn_ba b x l) R1.2.1) a r R1.2.2 P2
        refine ih z (x :: l) (ee_up s (nn_ba b x l) R1.2.1) a r R1.2.2 P2 k (m + 1) q (i1 + 1) f w _ d4 hq (by omega) (by omega) (by omega) ⟨Y1, rfl, Y3, Y4, Y5, Y6⟩ E2 HE ?_
        generalize ee_ev b n z (x :: l) (ee_up s (nn_ba b x l) R1.2.1) a r R1.2.2 = R2 at I2 HC ⊢
        intro e2 v2 i2 X2 F2 T2 L2
        have hba := nn_ba_s (l := l) kd h9
        refine HC e2 v2 i2 X2 ⟨fun j hj => ?_, fun j hj => ?_, fun j hj => ?_⟩ T2 (by omega)
        · exact ⟨(F2.1 j hj).1.trans (F1'.1 j hj).1, (F2.1 j hj).2.trans (F1'.1 j hj).2⟩
        · obtain ⟨a1, a2, a3, a4⟩ := F2.2.1 j hj
          obtain ⟨a5, a6, a7, a8⟩ := F1'.2.1 j hj
          exact ⟨a1.trans a5, a2.trans a6, a3.trans a7, a4.trans a8⟩
        · obtain ⟨a1, a2⟩ := F2.2.2 j (by omega)
          obtain ⟨a3, a4⟩ := F1'.2.2 j hj
          exact ⟨a1.trans ((pk_un (by omega)).trans a3), a2.trans ((pk_un (by omega)).trans a4)⟩
      · rw [if_neg e1] at HE HC
        exact V1 HE (fun z => absurd z e1)
    · obtain ⟨c1, c2, c3, l1, l2, l3, ht, l4, l5, l6, _⟩ := nn_p3 ok hx h3 h4 h4' h5 h6 h7 h8 h10
      have n7 : ¬ bb_kind b x = 7 := by rw [kd]; decide
      have n6 : ∀ t, ¬ (bb_kind b x = 6 ∧ bb_pl b t = 1) := fun t z => absurd (kd.symm.trans z.1) (by decide)
      have hy : (bb_pa b x).toNatClampNeg = y := by rw [h1]; exact nI_clamp (by omega)
      have hz : (bb_pb b x).toNatClampNeg = z := by rw [h2]; exact nI_clamp (by omega)
      have ht' : (bb_pc b x).toNatClampNeg = t := by rw [h2']; exact nI_clamp (by omega)
      obtain ⟨m1, m2, d1, d2, d3, d4, d5, d6, d7⟩ := C5 kd
      rw [hy] at d1
      rw [hz] at d4
      rw [ht'] at d7
      have m1' := kk_cd_lt d1
      have m2' := kk_cd_lt d4
      have m3' := kk_cd_lt d7
      have P1 := ee_pre_c hp c1 n7 (n6 y) p3 (ee_ext_refl st) (by omega)
      have I1 := ee_pure ok n y (x :: l) s a r st P1
      have V1 := ih y (x :: l) s a r st P1 k p m1 i f w v d1 (by omega) (by omega) (by omega) hf hB (mm_E_c hE n7 (n6 y))
      rw [ee_5 kd hy hz ht' rfl] at HE HC
      generalize ee_ev b n y (x :: l) s a r st = R1 at I1 V1 HE HC
      by_cases e1 : R1.1 = -1
      · rw [if_pos e1] at HE HC
        refine V1 (fun z => absurd e1 z) (fun _ v1 i1 X1 F1 T1 L1 => ?_)
        have b1 := I1.2.2.2.2.2
        have g1 := I1.2.1.1
        have s1 := I1.1.1
        have F1' := mm_F_c F1 n7
        obtain ⟨Y1, Y2, Y3, Y4, Y5, Y6⟩ := id X1
        have E1 := mm_E_F hE F1'
        have t1 : vv_tag v1 w = R1.2.1.1 := by rw [← T1]
        have t2 : vv_datum v1 w = R1.2.1.2 := by rw [← T1]
        refine mm_i_jz m1 w (by omega) Y1 (by omega) d2 Y2 (by omega) (fun u1 u2 => ?_) (fun u1 u2 => ?_) (fun u1 => ?_)
        · rw [t1] at u1
          rw [t2] at u2
          rw [if_pos u1, if_pos u2] at HE HC
          rw [d3]
          have P2 := ee_pre_c hp c3 n7 (n6 t) I1.1 I1.2.1 (by omega)
          have I2 := ee_pure ok n t (x :: l) s a r R1.2.2 P2
          refine ih t (x :: l) s a r R1.2.2 P2 k (m2 + 1) q (i1 + 1) f w _ d7 hq (by omega) (by omega) (by omega) ⟨Y1, rfl, Y3, Y4, Y5, Y6⟩ (mm_E_c (v := vv_s_values v1 (nI w)) E1 n7 (n6 t)) HE ?_
          generalize ee_ev b n t (x :: l) s a r R1.2.2 = R2 at I2 HC ⊢
          intro e2 v2 i2 X2 F2 T2 L2
          have F2' : mm_F b v1 v2 f w x l := mm_F_c F2 n7
          exact HC e2 v2 i2 X2 (mm_F_t F1' F2' (Nat.le_refl w)) T2 (by omega)
        · rw [t1] at u1
          rw [t2] at u2
          rw [if_pos u1, if_neg u2] at HE HC
          have P2 := ee_pre_c hp c2 n7 (n6 z) I1.1 I1.2.1 (by omega)
          have I2 := ee_pure ok n z (x :: l) s a r R1.2.2 P2
          refine ih z (x :: l) s a r R1.2.2 P2 k (m1 + 1) m2 (i1 + 1) f w _ d4 (by omega) (by omega) (by omega) (by omega) ⟨Y1, rfl, Y3, Y4, Y5, Y6⟩ (mm_E_c (v := vv_s_values v1 (nI w)) E1 n7 (n6 z)) HE ?_
          generalize ee_ev b n z (x :: l) s a r R1.2.2 = R2 at I2 HC ⊢
          intro e2 v2 i2 X2 F2 T2 L2
          have b2 := I2.2.1.1
          have s2 := I2.1.1
          have F2' : mm_F b v1 v2 f w x l := mm_F_c F2 n7
          refine mm_i_jump m2 (by omega) X2.1 (by omega) d5 ?_
          rw [d6]
          exact HC e2 v2 (i2 + 1) X2 (mm_F_t F1' F2' (Nat.le_refl w)) T2 (by omega)
        · rw [t1] at u1
          rw [if_neg u1] at HE
          exact HE (show ¬ (2 : Int32) = -1 by decide) _ rfl Y4 Y5
      · rw [if_neg e1] at HE HC
        exact V1 HE (fun z => absurd z e1)
end
end
section
section
variable {b : bb_T} {c : qq_T} {v : vv_T} {lo : Nat → Nat} {N : Nat}
theorem cc_w_bal {post : Int32 → Prop} (hN : N ≤ 24) : ∀ (l : List Nat) (x m i : Nat), nn_pt b lo N x l → i + l.length < 24 → post (nI (m + nn_ba b x l)) → cc_Xb post b c v (l.length + 1) (nI m) (nI x) (nI i)
  | [], x, m, i, hp, hi, H => by
    have hx : x < 24 := by have := hp.1; omega
    have ex : (nI x).toNatClampNeg = x := nI_clamp (by omega)
    have i1 : vp_in (nI x) 24 := pk_in x 24 hx
    refine pk_le 24 i (fun z => absurd z (by simp only [List.length_nil] at hi; omega)) (fun _ => And.intro i1 (br_t ?_ H))
    show bb_wh b (nI x).toNatClampNeg < 0
    rw [ex, hp.2]
    decide
  | w :: l, x, m, i, hp, hi, H => by
    simp only [List.length_cons] at hi
    have hw : w < 24 := by have := nn_pt_lt hp.2; omega
    have hx : x < 24 := by have := hp.1.1; omega
    have ex : (nI x).toNatClampNeg = x := nI_clamp (by omega)
    have ew : (nI w).toNatClampNeg = w := nI_clamp (by omega)
    have i1 : vp_in (nI x) 24 := pk_in x 24 hx
    have e6 : bb_wh b (nI x).toNatClampNeg = nI w := by rw [ex]; exact hp.1.2.1
    have i2 : vp_in (bb_wh b (nI x).toNatClampNeg) 24 := pk_in w 24 hw e6
    have e1 : bb_kind b (bb_wh b (nI x).toNatClampNeg).toNatClampNeg = bb_kind b w := by rw [e6, ew]
    have e7 : bb_pl b (nI x).toNatClampNeg = bb_pl b x := by rw [ex]
    have rc := fun m' => cc_w_bal (post := post) hN l w m' (i + 1) hp.2 (by omega)
    simp only [nn_ba] at H
    refine pk_le 24 i (fun z => absurd z (by omega)) (fun _ => And.intro i1 (br_f (show ¬ bb_wh b (nI x).toNatClampNeg < 0 by rw [e6]; exact nI_pos (by omega)) (And.intro i1 (And.intro i2 ?_))))
    by_cases k7 : bb_kind b w = 7
    · rw [if_pos k7] at H
      exact br_t (e1.trans k7) H
    · rw [if_neg k7] at H
      refine br_f (fun z => k7 (e1.symm.trans z)) (And.intro i1 (And.intro i2 ?_))
      by_cases k6 : bb_kind b w = 6
      · refine br_t (e1.trans k6) (And.intro i1 ?_)
        by_cases p1 : bb_pl b x = 1
        · rw [if_pos ⟨k6, p1⟩] at H
          exact br_t (e7.trans p1) (nm_r (nI_1 m) (And.intro i1 (nm_r e6 (nm_r (nI_1 i) (rc (m + 1) (by rw [show m + 1 + nn_ba b w l = m + (1 + nn_ba b w l) by omega]; exact H))))))
        · rw [if_neg (fun z => p1 z.2), Nat.zero_add] at H
          exact br_f (fun z => p1 (e7.symm.trans z)) (And.intro i1 (nm_r e6 (nm_r (nI_1 i) (rc m H))))
      · rw [if_neg (fun z => k6 z.1), Nat.zero_add] at H
        exact br_f (fun z => k6 (e1.symm.trans z)) (And.intro i1 (nm_r e6 (nm_r (nI_1 i) (rc m H))))
theorem cc_w_ba {post : Int32 → Prop} (hN : N ≤ 24) {l : List Nat} {x : Nat} (hp : nn_pt b lo N x l) (H : post (nI (nn_ba b x l))) : wpX_bindsAround post (cc_u b c v) (nI x) :=
  ⟨l.length + 1, cc_w_bal hN l x 0 0 hp (by have := nn_pt_N l x hp; omega) (by rw [Nat.zero_add]; exact H)⟩
theorem cc_w_lkl {post : St1 → Prop} {vn : Int32} (hN : N ≤ 24) : ∀ (l : List Nat) (x i : Nat), nn_pt b lo N x l → i + l.length < 24 → post (cc_u b (qq_lk c (nn_lk b x l vn)) v) → cc_Xl post vn b c v (l.length + 1) (nI x) (nI i)
  | [], x, i, hp, hi, H => by
    have hx : x < 24 := by have := hp.1; omega
    have ex : (nI x).toNatClampNeg = x := nI_clamp (by omega)
    have i1 : vp_in (nI x) 24 := pk_in x 24 hx
    refine pk_le 24 i (fun z => absurd z (by simp only [List.length_nil] at hi; omega)) (fun _ => And.intro i1 (br_t ?_ H))
    show bb_wh b (nI x).toNatClampNeg < 0
    rw [ex, hp.2]
    decide
  | w :: l, x, i, hp, hi, H => by
    simp only [List.length_cons] at hi
    have hw : w < 24 := by have := nn_pt_lt hp.2; omega
    have hx : x < 24 := by have := hp.1.1; omega
    have ex : (nI x).toNatClampNeg = x := nI_clamp (by omega)
    have ew : (nI w).toNatClampNeg = w := nI_clamp (by omega)
    have i1 : vp_in (nI x) 24 := pk_in x 24 hx
    have e6 : bb_wh b (nI x).toNatClampNeg = nI w := by rw [ex]; exact hp.1.2.1
    have i2 : vp_in (nI w) 24 := pk_in w 24 hw
    have e1 : bb_kind b (nI w).toNatClampNeg = bb_kind b w := by rw [ew]
    have e5 : bb_num b (nI w).toNatClampNeg = bb_num b w := by rw [ew]
    have e7 : bb_pl b (nI x).toNatClampNeg = bb_pl b x := by rw [ex]
    have rc := cc_w_lkl (post := post) (vn := vn) hN l w (i + 1) hp.2 (by omega)
    have lkw : nn_lk b x (w :: l) vn = if bb_kind b w = 6 ∧ bb_pl b x = 1 ∧ bb_num b w = vn then (11, nI (nn_ba b w l), none)
      else if bb_kind b w = 7 then (if bb_num b w &&& 3 = vn then (12, vn, none) else if bb_num b w >>> ((2 : Int32) &&& 31) = vn then (13, vn, none) else (14, vn, some (w, l))) else nn_lk b w l vn := rfl
    rw [lkw] at H
    have K95 : ¬ (bb_kind b w = 6 ∧ bb_pl b x = 1 ∧ bb_num b w = vn) → wX_lookOut_95 post (fun x3 x4 => cc_Xl post vn b c v (l.length + 1) x3 x4) vn (nI i) (nI w) (bb_count b) (bb_height b) (qq_size c) (qq_pending c) (qq_tasks c) (vv_values v) (vv_frames v) (vv_closures v) (vv_called v) (vv_ended v) 15 0 (-1) (bb_kind b) (bb_pa b) (bb_pb b) (bb_pc b) (bb_num b) (bb_wh b) (bb_pl b) (bb_stack b) (qq_code c) (qq_extra c) (qq_entry c) (qq_gc c) (qq_ge c) (qq_pf c) (qq_task c) (qq_phase c) (qq_hole c) (vv_tag v) (vv_datum v) (vv_back v) (vv_run v) (vv_at v) (vv_ad v) (vv_st v) (vv_sd v) (vv_co v) (vv_kt v) (vv_kd v) := by
      intro hn
      rw [if_neg hn] at H
      refine And.intro i2 ?_
      by_cases k7 : bb_kind b w = 7
      · rw [if_pos k7] at H
        refine br_t (e1.trans k7) (And.intro i2 ?_)
        by_cases a1 : bb_num b w &&& 3 = vn
        · rw [if_pos a1] at H
          refine br_t (show bb_num b (nI w).toNatClampNeg &&& 3 = vn by rw [e5]; exact a1) (And.intro i2 ?_)
          exact br_c (fun _ => br_f (by decide) (br_f (by decide) H)) (fun _ => br_f (by decide) (br_f (by decide) H))
        · rw [if_neg a1] at H
          refine br_f (show ¬ bb_num b (nI w).toNatClampNeg &&& 3 = vn by rw [e5]; exact a1) (And.intro i2 ?_)
          by_cases a2 : bb_num b w >>> ((2 : Int32) &&& 31) = vn
          · rw [if_pos a2] at H
            exact br_t (show bb_num b (nI w).toNatClampNeg >>> ((2 : Int32) &&& 31) = vn by rw [e5]; exact a2) (br_t rfl (br_f (by decide) (br_t rfl (br_f (by decide) H))))
          · rw [if_neg a2] at H
            exact br_f (show ¬ bb_num b (nI w).toNatClampNeg >>> ((2 : Int32) &&& 31) = vn by rw [e5]; exact a2) (br_t rfl (br_t rfl (br_t rfl (br_t rfl H))))
      · rw [if_neg k7] at H
        exact br_f (fun z => k7 (e1.symm.trans z)) (nm_r (nI_1 i) (rc H))
    refine pk_le 24 i (fun z => absurd z (by omega)) (fun _ => And.intro i1 (br_f (show ¬ bb_wh b (nI x).toNatClampNeg < 0 by rw [e6]; exact nI_pos (by omega)) (And.intro i1 (nm_r e6 (And.intro i2 ?_)))))
    by_cases k6 : bb_kind b w = 6
    · refine br_t (e1.trans k6) (And.intro i1 ?_)
      by_cases p1 : bb_pl b x = 1
      · refine br_t (e7.trans p1) (And.intro i2 ?_)
        by_cases a1 : bb_num b w = vn
        · rw [if_pos ⟨k6, p1, a1⟩] at H
          exact br_t (e5.trans a1) (cc_w_ba (c := qq_lk c (11, 0, none)) (v := v) hN hp.2 H)
        · exact br_f (fun z => a1 (e5.symm.trans z)) (K95 (fun z => a1 z.2.2))
      · exact br_f (fun z => p1 (e7.symm.trans z)) (K95 (fun z => p1 z.2.1))
    · exact br_f (fun z => k6 (e1.symm.trans z)) (K95 (fun z => k6 z.1))
theorem cc_w_lk {post : St1 → Prop} {vn : Int32} (hN : N ≤ 24) {l : List Nat} {x : Nat} (hp : nn_pt b lo N x l) (H : post (cc_u b (qq_lk c (nn_lk b x l vn)) v)) : wpX_lookOut post (cc_u b c v) (nI x) vn :=
  ⟨l.length + 1, cc_w_lkl hN l x 0 hp (by have := nn_pt_N l x hp; omega) H⟩
/-- the crossing of o is still to come -/
def kk_Go (b : bb_T) (lo : Nat → Nat) (N : Nat) (vn : Nat) (o : Option (Nat × List Nat)) (GC GE : Nat → Int32) : Prop :=
  ∀ g lg, bb_kind b g = 7 → nn_pt b lo N g lg → ∀ j, j < 4 → ¬ GC (g * 4 + j) < 0 →
    GC (g * 4 + j) = (nn_lk b g lg (nI j)).1 ∧ GE (g * 4 + j) = (nn_lk b g lg (nI j)).2.1 ∧ ∀ g' lg', (nn_lk b g lg (nI j)).2.2 = some (g', lg') → ¬ GC (g' * 4 + j) < 0 ∨ (j = vn ∧ o = some (g', lg'))
theorem nn_pt_det {b : bb_T} {lo : Nat → Nat} {N : Nat} (hN : N ≤ 24) : ∀ (l l' : List Nat) (x : Nat), nn_pt b lo N x l → nn_pt b lo N x l' → l = l'
  | [], [], _, _, _ => rfl
  | [], w :: l', x, h, h' => by
    have h1 := h.2
    have hw : w < 24 := by have := nn_pt_lt h'.2; omega
    rw [h'.1.2.1] at h1
    have := nI_pos (n := w) (by omega)
    rw [h1] at this
    exact absurd (by decide) this
  | w :: l, [], x, h, h' => by
    have h1 := h'.2
    have hw : w < 24 := by have := nn_pt_lt h.2; omega
    rw [h.1.2.1] at h1
    have := nI_pos (n := w) (by omega)
    rw [h1] at this
    exact absurd (by decide) this
  | w :: l, w' :: l', x, h, h' => by
    have hw : w < 24 := by have := nn_pt_lt h.2; omega
    have hw' : w' < 24 := by have := nn_pt_lt h'.2; omega
    have e : w = w' := (nI_eq (by omega) (by omega)).mp (h.1.2.1.symm.trans h'.1.2.1)
    subst e
    rw [nn_pt_det hN l l' w h.2 h'.2]
theorem nn_lk_code (b : bb_T) (vn : Int32) (l : List Nat) (x : Nat) : ¬ (nn_lk b x l vn).1 < 0 := by
  rcases nn_lk_cases b vn l x with ⟨n, e, _⟩ | ⟨e, _⟩ | ⟨e, _⟩ | ⟨g, lg, e, _⟩ | e
  · rw [e]
    exact (show ¬ (11 : Int32) < 0 by decide)
  · rw [e]
    exact (show ¬ (12 : Int32) < 0 by decide)
  · rw [e]
    exact (show ¬ (13 : Int32) < 0 by decide)
  · rw [e]
    exact (show ¬ (14 : Int32) < 0 by decide)
  · rw [e]
    exact (show ¬ (15 : Int32) < 0 by decide)
theorem nn_lk_cross {b : bb_T} {vn : Int32} {l : List Nat} {x g : Nat} {lg : List Nat} (h : (nn_lk b x l vn).2.2 = some (g, lg)) : nn_en b l = some (g, lg) := by
  rcases nn_lk_cases b vn l x with ⟨n, e, _⟩ | ⟨e, _⟩ | ⟨e, _⟩ | ⟨g', lg', e, h'⟩ | e
  · rw [e] at h
    exact absurd h (by simp)
  · rw [e] at h
    exact absurd h (by simp)
  · rw [e] at h
    exact absurd h (by simp)
  · rw [e] at h
    simp only [Option.some.injEq, Prod.mk.injEq] at h
    rw [h', h.1, h.2]
  · rw [e] at h
    exact absurd h (by simp)
theorem cc_w_capl {post : St1 → Prop} {vn : Nat} {fc fe : Int32} (hN : N ≤ 24) (hv : vn < 4) :
    ∀ (m i : Nat) (o : Option (Nat × List Nat)) (a1 a2 : Int32) (GC GE : Nat → Int32), i + m = 24 →
    (∀ g lg, o = some (g, lg) → bb_kind b g = 7 ∧ nn_pt b lo N g lg ∧ lg.length < m) → kk_Go b lo N vn o GC GE →
    (∀ cr GC' GE', kk_G b lo N (qq_cap c fc fe cr GC' GE') → (∀ j, ¬ GC j < 0 → ¬ GC' j < 0) → (∀ g lg, o = some (g, lg) → ¬ GC' (g * 4 + vn) < 0) → post (cc_u b (qq_cap c fc fe cr GC' GE') v)) →
    cc_Xp post (nI vn) fc fe (m + 1) (nI i) b c v a1 a2 (nn_cr o) GC GE := by
  intro m
  induction m with
  | zero =>
    intro i o a1 a2 GC GE hi ho hG H
    refine pk_le 24 i (fun _ => ?_) (fun z => absurd z (by omega))
    cases o with
    | none =>
      refine H _ GC GE (fun g lg h1 h2 j hj hc => ?_) (fun _ z => z) (fun g lg z => absurd z (by simp))
      obtain ⟨q1, q2, q3⟩ := hG g lg h1 h2 j hj hc
      exact ⟨q1, q2, fun g' lg' h' => (q3 g' lg' h').elim id (fun z => absurd z.2 (by simp))⟩
    | some y => exact absurd (ho y.1 y.2 rfl).2.2 (by omega)
  | succ m ih =>
    intro i o a1 a2 GC GE hi ho hG H
    refine pk_le 24 i (fun z => absurd z (by omega)) (fun _ => ?_)
    cases o with
    | none =>
      refine br_t (show (-1 : Int32) < 0 by decide) ?_
      refine H _ GC GE (fun g lg h1 h2 j hj hc => ?_) (fun _ z => z) (fun g lg z => absurd z (by simp))
      obtain ⟨q1, q2, q3⟩ := hG g lg h1 h2 j hj hc
      exact ⟨q1, q2, fun g' lg' h' => (q3 g' lg' h').elim id (fun z => absurd z.2 (by simp))⟩
    | some y =>
      obtain ⟨g, lg⟩ := y
      obtain ⟨o1, o2, o3⟩ := ho g lg rfl
      have hg : g < 24 := by have := nn_pt_lt o2; omega
      refine br_f (show ¬ nI g < 0 from nI_pos (by omega)) ?_
      have e1 := mm_ix4 g vn
      have e2 : (nI g * 4 + nI vn).toNatClampNeg = g * 4 + vn := by rw [e1]; exact nI_clamp (by omega)
      have i1 : vp_in (nI g * 4 + nI vn) 96 := pk_in (g * 4 + vn) 96 (by omega) e1
      refine cc_w_lk (c := qq_cap c a1 a2 (nI g) GC GE) (v := v) hN o2 ?_
      refine And.intro i1 (nm_r (congrArg (fun z => upd GC z (nn_lk b g lg (nI vn)).1) e2) (And.intro i1 (nm_r (congrArg (fun z => upd GE z (nn_lk b g lg (nI vn)).2.1) e2) (nm_r (nI_1 i) ?_))))
      have lkc := nn_lk_code b (nI vn) lg g
      refine ih (i + 1) (nn_lk b g lg (nI vn)).2.2 (nn_lk b g lg (nI vn)).1 (nn_lk b g lg (nI vn)).2.1 (upd GC (g * 4 + vn) (nn_lk b g lg (nI vn)).1) (upd GE (g * 4 + vn) (nn_lk b g lg (nI vn)).2.1) (by omega) ?_ ?_ ?_
      · intro g' lg' h'
        obtain ⟨r1, r2, r3⟩ := nn_en_pt lg g o2 g' lg' (nn_lk_cross h')
        exact ⟨r1, r2, by omega⟩
      · intro h lh h1 h2 j hj hc
        by_cases e : h * 4 + j = g * 4 + vn
        · have eh : h = g := by omega
          have ej : j = vn := by omega
          subst eh ej
          have el := nn_pt_det hN _ _ _ h2 o2
          subst el
          rw [pk_us, pk_us]
          refine ⟨rfl, rfl, fun g' lg' h' => Or.inr ⟨rfl, h'⟩⟩
        · rw [pk_un e] at hc ⊢
          rw [pk_un e]
          obtain ⟨q1, q2, q3⟩ := hG h lh h1 h2 j hj hc
          refine ⟨q1, q2, fun g' lg' h' => Or.inl ?_⟩
          by_cases e' : g' * 4 + j = g * 4 + vn
          · rw [e', pk_us]
            exact lkc
          · rw [pk_un e']
            rcases q3 g' lg' h' with z | ⟨z1, z2⟩
            · exact z
            · simp only [Option.some.injEq, Prod.mk.injEq] at z2
              exact absurd (by rw [z1, z2.1]) e'
      · intro cr GC' GE' k1 k2 k3
        refine H cr GC' GE' k1 (fun j hj => k2 j ?_) (fun g' lg' h' => k2 _ ?_)
        · by_cases e : j = g * 4 + vn
          · rw [e, pk_us]
            exact lkc
          · rw [pk_un e]
            exact hj
        · simp only [Option.some.injEq, Prod.mk.injEq] at h'
          rw [← h'.1, pk_us]
          exact lkc
theorem cc_w_cap {post : St1 → Prop} {vn : Nat} (hN : N ≤ 24) (hv : vn < 4) {l : List Nat} {x : Nat} (hp : nn_pt b lo N x l) (hG : kk_G b lo N c)
    (H : ∀ cr GC' GE', kk_G b lo N (qq_cap c (nn_lk b x l (nI vn)).1 (nn_lk b x l (nI vn)).2.1 cr GC' GE') → (∀ j, ¬ qq_gc c j < 0 → ¬ GC' j < 0) → (∀ g lg, (nn_lk b x l (nI vn)).2.2 = some (g, lg) → ¬ GC' (g * 4 + vn) < 0) →
      post (cc_u b (qq_cap c (nn_lk b x l (nI vn)).1 (nn_lk b x l (nI vn)).2.1 cr GC' GE') v)) : wpX_capture post (cc_u b c v) (nI x) (nI vn) := by
  refine cc_w_lk (c := c) (v := v) hN hp ?_
  refine ⟨25, cc_w_capl (c := c) (v := v) (GC := qq_gc c) (GE := qq_ge c) hN hv 24 0 (nn_lk b x l (nI vn)).2.2 (nn_lk b x l (nI vn)).1 (nn_lk b x l (nI vn)).2.1 (by omega) ?_ ?_ H⟩
  · intro g lg h
    obtain ⟨r1, r2, r3⟩ := nn_en_pt l x hp g lg (nn_lk_cross h)
    have := nn_pt_N lg g r2
    exact ⟨r1, r2, by omega⟩
  · intro g lg h1 h2 j hj hc
    obtain ⟨q1, q2, q3⟩ := hG g lg h1 h2 j hj hc
    exact ⟨q1, q2, fun g' lg' h' => Or.inl (q3 g' lg' h')⟩
end
end
section
def kk_LC (post : St1 → Prop) (b : bb_T) (v : vv_T) (i : Nat) (c : qq_T) : Prop := cc_Xc post (201 - i) (nI i) b c v
section
variable {post : St1 → Prop} {b : bb_T} {c : qq_T} {v : vv_T} {lo : Nat → Nat} {N : Nat}
theorem cc_w_emit {k n : Int32} (p : Nat) (hs : qq_size c = nI p) (h : p < 128) (H : post (cc_u b (qq_emit c p k n) v)) : wpX_emit post (cc_u b c v) k n :=
  And.intro (pk_in p 128 h hs) (nm_r (congrArg (fun z => upd (qq_code c) z k) (pk_cl p hs)) (And.intro (pk_in p 128 h hs) (nm_r (congrArg (fun z => upd (qq_extra c) z n) (pk_cl p hs)) (nm_r (show qq_size c + 1 = nI (p + 1) by rw [hs, nI_1]) H))))
theorem cc_w_begin {x : Int32} (t : Nat) (hs : qq_tasks c = nI t) (h : t < 32) (H : post (cc_u b (qq_begin c t x) v)) : wpX_begin post (cc_u b c v) x :=
  And.intro (pk_in t 32 h hs) (nm_r (congrArg (fun z => upd (qq_task c) z x) (pk_cl t hs)) (And.intro (pk_in t 32 h hs) (nm_r (congrArg (fun z => upd (qq_phase c) z 0) (pk_cl t hs)) (nm_r (show qq_tasks c + 1 = nI (t + 1) by rw [hs, nI_1]) H))))
theorem cc_w_leaf8 {x : Nat} (p : Nat) (hx : x < 24) (hk : bb_kind b x = 8) (hs : qq_size c = nI p) (h : p < 128) (H : post (cc_u b (qq_emit c p 10 (bb_num b x)) v)) : wpX_compileLeaf post (cc_u b c v) (nI x) := by
  have ex : (nI x).toNatClampNeg = x := nI_clamp (by omega)
  have i1 : vp_in (nI x) 24 := pk_in x 24 hx
  refine And.intro i1 (br_t (show bb_kind b (nI x).toNatClampNeg = 8 by rw [ex]; exact hk) (And.intro i1 ?_))
  rw [ex]
  exact cc_w_emit (c := c) (v := v) p hs h H
theorem cc_w_leaf9 {x vn : Nat} {l : List Nat} (p : Nat) (hN : N ≤ 24) (hp : nn_pt b lo N x l) (hk : bb_kind b x = 9) (hv : vn < 4) (hn : bb_num b x = nI vn) (hs : qq_size c = nI p) (h : p < 128) (hG : kk_G b lo N c)
    (H : ∀ cr GC' GE', kk_G b lo N (qq_cap c (nn_lk b x l (nI vn)).1 (nn_lk b x l (nI vn)).2.1 cr GC' GE') → (∀ j, ¬ qq_gc c j < 0 → ¬ GC' j < 0) → (∀ g lg, (nn_lk b x l (nI vn)).2.2 = some (g, lg) → ¬ GC' (g * 4 + vn) < 0) →
      post (cc_u b (qq_e9 c p (nn_lk b x l (nI vn)).1 (nn_lk b x l (nI vn)).2.1 cr GC' GE') v)) : wpX_compileLeaf post (cc_u b c v) (nI x) := by
  have hx : x < 24 := by have := nn_pt_lt hp; omega
  have ex : (nI x).toNatClampNeg = x := nI_clamp (by omega)
  have i1 : vp_in (nI x) 24 := pk_in x 24 hx
  have e1 : bb_kind b (nI x).toNatClampNeg = 9 := by rw [ex]; exact hk
  have e2 : bb_num b (nI x).toNatClampNeg = nI vn := by rw [ex]; exact hn
  refine And.intro i1 (br_f (show ¬ bb_kind b (nI x).toNatClampNeg = 8 by rw [e1]; decide) (And.intro i1 (br_t e1 (And.intro i1 ?_))))
  rw [e2]
  refine cc_w_cap (c := c) (v := v) hN hv hp hG (fun cr GC' GE' k1 k2 k3 => ?_)
  exact cc_w_emit (c := qq_cap c (nn_lk b x l (nI vn)).1 (nn_lk b x l (nI vn)).2.1 cr GC' GE') (v := v) p hs h (H cr GC' GE' k1 k2 k3)
theorem cc_w_leaf7 {x : Nat} (p pn : Nat) (hx : x < 24) (hk : bb_kind b x = 7) (hs : qq_size c = nI p) (h : p < 128) (hq : qq_pending c = nI pn) (hn : pn < 24)
    (H : post (cc_u b (qq_e7 c p pn 17 (nI x)) v)) : wpX_compileLeaf post (cc_u b c v) (nI x) := by
  have ex : (nI x).toNatClampNeg = x := nI_clamp (by omega)
  have i1 : vp_in (nI x) 24 := pk_in x 24 hx
  have e1 : bb_kind b (nI x).toNatClampNeg = 7 := by rw [ex]; exact hk
  refine And.intro i1 (br_f (show ¬ bb_kind b (nI x).toNatClampNeg = 8 by rw [e1]; decide) (And.intro i1 (br_f (show ¬ bb_kind b (nI x).toNatClampNeg = 9 by rw [e1]; decide) ?_)))
  refine cc_w_emit (c := c) (v := v) p hs h ?_
  exact And.intro (pk_in pn 24 hn hq) (nm_r (congrArg (fun z => upd (qq_pf c) z (nI x)) (pk_cl pn hq)) (nm_r (show qq_pending c + 1 = nI (pn + 1) by rw [hq, nI_1]) H))
/-- one step of the loop in compile -/
theorem kk_step {i : Nat} (t : Nat) (hi : i < 200) (ht : qq_tasks c = nI (t + 1)) (htt : t < 32)
    (H : ∀ Q : St1 → Prop, (∀ c', kk_LC post b v (i + 1) c' → Q (cc_u b c' v)) → wpX_compileStep Q (cc_u b c v)) : kk_LC post b v i c := by
  unfold kk_LC
  rw [show 201 - i = (201 - (i + 1)) + 1 by omega]
  refine pk_le 200 i (fun z => absurd z (by omega)) (fun _ => br_f (show ¬ qq_tasks c ≤ 0 by rw [ht]; exact nI_nle (by omega) (by omega)) (H _ (fun c' h' => ?_)))
  exact nm_r (nI_1 i) h'
theorem kk_exit {i p : Nat} (hi : i ≤ 200) (ht : qq_tasks c = nI 0) (hs : qq_size c = nI p) (h : p < 128) (H : post (cc_u b (qq_emit c p 20 0) v)) : kk_LC post b v i c := by
  unfold kk_LC
  rw [show 201 - i = (200 - i) + 1 by omega]
  have E : wpX_emit (fun u => post u) (cc_u b c v) 20 0 := cc_w_emit (c := c) (v := v) p hs h H
  exact pk_le 200 i (fun _ => E) (fun _ => br_t (show qq_tasks c ≤ 0 by rw [ht]; decide) E)
end
end
section
def qq_ph (c : qq_T) (t k : Nat) : qq_T := (qq_size c, qq_pending c, qq_tasks c, qq_fc c, qq_fe c, qq_cr c, qq_code c, qq_extra c, qq_entry c, qq_gc c, qq_ge c, qq_pf c, qq_task c, upd (qq_phase c) t (nI k), qq_hole c)
def qq_f1 (c : qq_T) (t k p : Nat) (w n : Int32) : qq_T := (nI (p + 1), qq_pending c, nI t, qq_fc c, qq_fe c, qq_cr c, upd (qq_code c) p w, upd (qq_extra c) p n, qq_entry c, qq_gc c, qq_ge c, qq_pf c, qq_task c, upd (qq_phase c) t (nI k), qq_hole c)
def qq_f7 (c : qq_T) (t k p pn : Nat) (w n : Int32) : qq_T := (nI (p + 1), nI (pn + 1), nI t, qq_fc c, qq_fe c, qq_cr c, upd (qq_code c) p w, upd (qq_extra c) p n, qq_entry c, qq_gc c, qq_ge c, upd (qq_pf c) pn n, qq_task c, upd (qq_phase c) t (nI k), qq_hole c)
def qq_f9 (c : qq_T) (t k p : Nat) (w n cr : Int32) (GC GE : Nat → Int32) : qq_T := (nI (p + 1), qq_pending c, nI t, w, n, cr, upd (qq_code c) p w, upd (qq_extra c) p n, qq_entry c, GC, GE, qq_pf c, qq_task c, upd (qq_phase c) t (nI k), qq_hole c)
def qq_b1 (c : qq_T) (t k : Nat) (y : Int32) : qq_T := (qq_size c, qq_pending c, nI (t + 1 + 1), qq_fc c, qq_fe c, qq_cr c, qq_code c, qq_extra c, qq_entry c, qq_gc c, qq_ge c, qq_pf c, upd (qq_task c) (t + 1) y, upd (upd (qq_phase c) t (nI k)) (t + 1) 0, qq_hole c)
def qq_b6 (c : qq_T) (t k p : Nat) (w n y : Int32) : qq_T := (nI (p + 1), qq_pending c, nI (t + 1 + 1), qq_fc c, qq_fe c, qq_cr c, upd (qq_code c) p w, upd (qq_extra c) p n, qq_entry c, qq_gc c, qq_ge c, qq_pf c, upd (qq_task c) (t + 1) y, upd (upd (qq_phase c) t (nI k)) (t + 1) 0, qq_hole c)
def qq_p6 (c : qq_T) (t k p : Nat) (w n : Int32) : qq_T := (nI (p + 1), qq_pending c, qq_tasks c, qq_fc c, qq_fe c, qq_cr c, upd (qq_code c) p w, upd (qq_extra c) p n, qq_entry c, qq_gc c, qq_ge c, qq_pf c, qq_task c, upd (qq_phase c) t (nI k), qq_hole c)
def qq_c6 (c : qq_T) (t k : Nat) : qq_T := (qq_size c, qq_pending c, nI t, qq_fc c, qq_fe c, qq_cr c, qq_code c, qq_extra c, qq_entry c, qq_gc c, qq_ge c, qq_pf c, qq_task c, upd (qq_phase c) t (nI k), qq_hole c)
def qq_ho (c : qq_T) (t k p : Nat) : qq_T := (qq_size c, qq_pending c, qq_tasks c, qq_fc c, qq_fe c, qq_cr c, qq_code c, qq_extra c, qq_entry c, qq_gc c, qq_ge c, qq_pf c, qq_task c, upd (qq_phase c) t (nI k), upd (qq_hole c) t (nI p))
def qq_he (c : qq_T) (t k p : Nat) (w n : Int32) : qq_T := (nI (p + 1), qq_pending c, qq_tasks c, qq_fc c, qq_fe c, qq_cr c, upd (qq_code c) p w, upd (qq_extra c) p n, qq_entry c, qq_gc c, qq_ge c, qq_pf c, qq_task c, upd (qq_phase c) t (nI k), upd (qq_hole c) t (nI p))
def qq_h1 (c : qq_T) (t k p : Nat) (w n y : Int32) : qq_T := (nI (p + 1), qq_pending c, nI (t + 1 + 1), qq_fc c, qq_fe c, qq_cr c, upd (qq_code c) p w, upd (qq_extra c) p n, qq_entry c, qq_gc c, qq_ge c, qq_pf c, upd (qq_task c) (t + 1) y, upd (upd (qq_phase c) t (nI k)) (t + 1) 0, upd (qq_hole c) t (nI p))
def qq_xo (c : qq_T) (t k m p : Nat) : qq_T := (qq_size c, qq_pending c, qq_tasks c, qq_fc c, qq_fe c, qq_cr c, qq_code c, upd (qq_extra c) m (nI (p + 1)), qq_entry c, qq_gc c, qq_ge c, qq_pf c, qq_task c, upd (qq_phase c) t (nI k), upd (qq_hole c) t (nI p))
def qq_xe (c : qq_T) (t k m p : Nat) (w n : Int32) : qq_T := (nI (p + 1), qq_pending c, qq_tasks c, qq_fc c, qq_fe c, qq_cr c, upd (qq_code c) p w, upd (upd (qq_extra c) m (nI (p + 1))) p n, qq_entry c, qq_gc c, qq_ge c, qq_pf c, qq_task c, upd (qq_phase c) t (nI k), upd (qq_hole c) t (nI p))
def qq_h2 (c : qq_T) (t k m p : Nat) (w n y : Int32) : qq_T := (nI (p + 1), qq_pending c, nI (t + 1 + 1), qq_fc c, qq_fe c, qq_cr c, upd (qq_code c) p w, upd (upd (qq_extra c) m (nI (p + 1))) p n, qq_entry c, qq_gc c, qq_ge c, qq_pf c, upd (qq_task c) (t + 1) y, upd (upd (qq_phase c) t (nI k)) (t + 1) 0, upd (qq_hole c) t (nI p))
def qq_h3 (c : qq_T) (t k m p : Nat) : qq_T := (qq_size c, qq_pending c, nI t, qq_fc c, qq_fe c, qq_cr c, qq_code c, upd (qq_extra c) m (nI p), qq_entry c, qq_gc c, qq_ge c, qq_pf c, qq_task c, upd (qq_phase c) t (nI k), qq_hole c)
section
variable {post : St1 → Prop} {b : bb_T} {c : qq_T} {v : vv_T} {lo : Nat → Nat} {N : Nat} {i : Nat}
theorem kk_s_8 (t x : Nat) (hi : i < 200) (ht : qq_tasks c = nI (t + 1)) (htt : t < 32) (hx : x < 24) (h1 : qq_task c t = nI x) (h2 : qq_phase c t = nI 0) (hk : bb_kind b x = 8) (p : Nat) (hs : qq_size c = nI p) (hp : p < 128)
    (H : kk_LC post b v (i + 1) (qq_f1 c t (0 + 1) p 10 (bb_num b x))) : kk_LC post b v i c := by
  refine kk_step t hi ht (by omega) (fun Q HQ => ?_)
  have et : (nI t).toNatClampNeg = t := nI_clamp (by omega)
  have ex : (nI x).toNatClampNeg = x := nI_clamp (by omega)
  have it : vp_in (nI t) 32 := pk_in t 32 htt
  have ix : vp_in (nI x) 24 := pk_in x 24 hx
  have e1 : qq_tasks c - 1 = nI t := by rw [ht]; exact nI_pred t
  have e2 : qq_task c (nI t).toNatClampNeg = nI x := by rw [et]; exact h1
  have e3 : qq_phase c (nI t).toNatClampNeg = nI 0 := by rw [et]; exact h2
  have e4 : upd (qq_phase c) (nI t).toNatClampNeg (nI 0 + 1) = upd (qq_phase c) t (nI (0 + 1)) := by rw [et, nI_1]
  have ek : bb_kind b (nI x).toNatClampNeg = bb_kind b x := by rw [ex]
  refine nm_r e1 (And.intro it (nm_r e2 (And.intro it (nm_r e3 (And.intro it (nm_r e4 (And.intro ix ?_)))))))
  refine br_f (show ¬ bb_kind b (nI x).toNatClampNeg < 7 by rw [ek, hk]; decide) ?_
  exact cc_w_leaf8 (c := (qq_ph c t (0 + 1))) (v := v) p hx hk hs hp (HQ _ H)
theorem kk_s_7 (t x : Nat) (hi : i < 200) (ht : qq_tasks c = nI (t + 1)) (htt : t < 32) (hx : x < 24) (h1 : qq_task c t = nI x) (h2 : qq_phase c t = nI 0) (hk : bb_kind b x = 7) (p pn : Nat) (hs : qq_size c = nI p) (hp : p < 128) (hq : qq_pending c = nI pn) (hn : pn < 24)
    (H : kk_LC post b v (i + 1) (qq_f7 c t (0 + 1) p pn 17 (nI x))) : kk_LC post b v i c := by
  refine kk_step t hi ht (by omega) (fun Q HQ => ?_)
  have et : (nI t).toNatClampNeg = t := nI_clamp (by omega)
  have ex : (nI x).toNatClampNeg = x := nI_clamp (by omega)
  have it : vp_in (nI t) 32 := pk_in t 32 htt
  have ix : vp_in (nI x) 24 := pk_in x 24 hx
  have e1 : qq_tasks c - 1 = nI t := by rw [ht]; exact nI_pred t
  have e2 : qq_task c (nI t).toNatClampNeg = nI x := by rw [et]; exact h1
  have e3 : qq_phase c (nI t).toNatClampNeg = nI 0 := by rw [et]; exact h2
  have e4 : upd (qq_phase c) (nI t).toNatClampNeg (nI 0 + 1) = upd (qq_phase c) t (nI (0 + 1)) := by rw [et, nI_1]
  have ek : bb_kind b (nI x).toNatClampNeg = bb_kind b x := by rw [ex]
  refine nm_r e1 (And.intro it (nm_r e2 (And.intro it (nm_r e3 (And.intro it (nm_r e4 (And.intro ix ?_)))))))
  refine br_f (show ¬ bb_kind b (nI x).toNatClampNeg < 7 by rw [ek, hk]; decide) ?_
  exact cc_w_leaf7 (c := (qq_ph c t (0 + 1))) (v := v) p pn hx hk hs hp hq hn (HQ _ H)
theorem kk_s_9 (t x : Nat) (hi : i < 200) (ht : qq_tasks c = nI (t + 1)) (htt : t < 32) (hx : x < 24) (h1 : qq_task c t = nI x) (h2 : qq_phase c t = nI 0) {l : List Nat} {vn : Nat} (hN : N ≤ 24) (hpt : nn_pt b lo N x l) (hk : bb_kind b x = 9) (hv : vn < 4) (hn : bb_num b x = nI vn) (p : Nat) (hs : qq_size c = nI p) (hp : p < 128) (hG : kk_G b lo N c)
    (H : ∀ cr GC' GE', kk_G b lo N (qq_f9 c t (0 + 1) p (nn_lk b x l (nI vn)).1 (nn_lk b x l (nI vn)).2.1 cr GC' GE') → (∀ j, ¬ qq_gc c j < 0 → ¬ GC' j < 0) → (∀ g lg, (nn_lk b x l (nI vn)).2.2 = some (g, lg) → ¬ GC' (g * 4 + vn) < 0) →
      kk_LC post b v (i + 1) (qq_f9 c t (0 + 1) p (nn_lk b x l (nI vn)).1 (nn_lk b x l (nI vn)).2.1 cr GC' GE')) : kk_LC post b v i c := by
  refine kk_step t hi ht (by omega) (fun Q HQ => ?_)
  have et : (nI t).toNatClampNeg = t := nI_clamp (by omega)
  have ex : (nI x).toNatClampNeg = x := nI_clamp (by omega)
  have it : vp_in (nI t) 32 := pk_in t 32 htt
  have ix : vp_in (nI x) 24 := pk_in x 24 hx
  have e1 : qq_tasks c - 1 = nI t := by rw [ht]; exact nI_pred t
  have e2 : qq_task c (nI t).toNatClampNeg = nI x := by rw [et]; exact h1
  have e3 : qq_phase c (nI t).toNatClampNeg = nI 0 := by rw [et]; exact h2
  have e4 : upd (qq_phase c) (nI t).toNatClampNeg (nI 0 + 1) = upd (qq_phase c) t (nI (0 + 1)) := by rw [et, nI_1]
  have ek : bb_kind b (nI x).toNatClampNeg = bb_kind b x := by rw [ex]
  refine nm_r e1 (And.intro it (nm_r e2 (And.intro it (nm_r e3 (And.intro it (nm_r e4 (And.intro ix ?_)))))))
  refine br_f (show ¬ bb_kind b (nI x).toNatClampNeg < 7 by rw [ek, hk]; decide) ?_
  exact cc_w_leaf9 (c := (qq_ph c t (0 + 1))) (v := v) p hN hpt hk hv hn hs hp hG (fun cr GC' GE' k1 k2 k3 => HQ _ (H cr GC' GE' k1 k2 k3))
theorem kk_s_a (t x : Nat) (hi : i < 200) (ht : qq_tasks c = nI (t + 1)) (htt : t < 32) (hx : x < 24) (h1 : qq_task c t = nI x) (h2 : qq_phase c t = nI 0) (hk7 : bb_kind b x < 7) (hk5 : ¬ bb_kind b x = 5) {y : Nat} (hy : bb_pa b x = nI y) (ht2 : t + 1 < 32)
    (H : kk_LC post b v (i + 1) (qq_b1 c t (0 + 1) (nI y))) : kk_LC post b v i c := by
  refine kk_step t hi ht (by omega) (fun Q HQ => ?_)
  have et : (nI t).toNatClampNeg = t := nI_clamp (by omega)
  have ex : (nI x).toNatClampNeg = x := nI_clamp (by omega)
  have it : vp_in (nI t) 32 := pk_in t 32 htt
  have ix : vp_in (nI x) 24 := pk_in x 24 hx
  have e1 : qq_tasks c - 1 = nI t := by rw [ht]; exact nI_pred t
  have e2 : qq_task c (nI t).toNatClampNeg = nI x := by rw [et]; exact h1
  have e3 : qq_phase c (nI t).toNatClampNeg = nI 0 := by rw [et]; exact h2
  have e4 : upd (qq_phase c) (nI t).toNatClampNeg (nI 0 + 1) = upd (qq_phase c) t (nI (0 + 1)) := by rw [et, nI_1]
  have ek : bb_kind b (nI x).toNatClampNeg = bb_kind b x := by rw [ex]
  refine nm_r e1 (And.intro it (nm_r e2 (And.intro it (nm_r e3 (And.intro it (nm_r e4 (And.intro ix ?_)))))))
  refine br_t (show bb_kind b (nI x).toNatClampNeg < 7 by rw [ek]; exact hk7) (And.intro ix (br_f (fun z => hk5 (ek.symm.trans z)) (br_t rfl (And.intro ix ?_))))
  rw [show bb_pa b (nI x).toNatClampNeg = nI y by rw [ex]; exact hy]
  exact cc_w_begin (c := (qq_ph c t (0 + 1))) (v := v) (t + 1) ht ht2 (HQ _ H)
theorem kk_s_b (t x : Nat) (hi : i < 200) (ht : qq_tasks c = nI (t + 1)) (htt : t < 32) (hx : x < 24) (h1 : qq_task c t = nI x) (h2 : qq_phase c t = nI 1) (hk7 : bb_kind b x < 7) (hk5 : ¬ bb_kind b x = 5) (hk6 : ¬ bb_kind b x = 6) {y : Nat} (hy : bb_pb b x = nI y) (ht2 : t + 1 < 32)
    (H : kk_LC post b v (i + 1) (qq_b1 c t (1 + 1) (nI y))) : kk_LC post b v i c := by
  refine kk_step t hi ht (by omega) (fun Q HQ => ?_)
  have et : (nI t).toNatClampNeg = t := nI_clamp (by omega)
  have ex : (nI x).toNatClampNeg = x := nI_clamp (by omega)
  have it : vp_in (nI t) 32 := pk_in t 32 htt
  have ix : vp_in (nI x) 24 := pk_in x 24 hx
  have e1 : qq_tasks c - 1 = nI t := by rw [ht]; exact nI_pred t
  have e2 : qq_task c (nI t).toNatClampNeg = nI x := by rw [et]; exact h1
  have e3 : qq_phase c (nI t).toNatClampNeg = nI 1 := by rw [et]; exact h2
  have e4 : upd (qq_phase c) (nI t).toNatClampNeg (nI 1 + 1) = upd (qq_phase c) t (nI (1 + 1)) := by rw [et, nI_1]
  have ek : bb_kind b (nI x).toNatClampNeg = bb_kind b x := by rw [ex]
  refine nm_r e1 (And.intro it (nm_r e2 (And.intro it (nm_r e3 (And.intro it (nm_r e4 (And.intro ix ?_)))))))
  refine br_t (show bb_kind b (nI x).toNatClampNeg < 7 by rw [ek]; exact hk7) (And.intro ix (br_f (fun z => hk5 (ek.symm.trans z)) (br_f (by decide) (br_t rfl (And.intro ix (br_f (fun z => hk6 (ek.symm.trans z)) (And.intro ix ?_)))))))
  rw [show bb_pb b (nI x).toNatClampNeg = nI y by rw [ex]; exact hy]
  exact cc_w_begin (c := (qq_ph c t (1 + 1))) (v := v) (t + 1) ht ht2 (HQ _ H)
theorem kk_s_b6 (t x : Nat) (hi : i < 200) (ht : qq_tasks c = nI (t + 1)) (htt : t < 32) (hx : x < 24) (h1 : qq_task c t = nI x) (h2 : qq_phase c t = nI 1) {l : List Nat} (hN : N ≤ 24) (hpt : nn_pt b lo N x l) (hk6 : bb_kind b x = 6) {y : Nat} (hy : bb_pb b x = nI y) (ht2 : t + 1 < 32) (p : Nat) (hs : qq_size c = nI p) (hp : p < 128)
    (H : kk_LC post b v (i + 1) (qq_b6 c t (1 + 1) p 16 (nI (nn_ba b x l)) (nI y))) : kk_LC post b v i c := by
  refine kk_step t hi ht (by omega) (fun Q HQ => ?_)
  have et : (nI t).toNatClampNeg = t := nI_clamp (by omega)
  have ex : (nI x).toNatClampNeg = x := nI_clamp (by omega)
  have it : vp_in (nI t) 32 := pk_in t 32 htt
  have ix : vp_in (nI x) 24 := pk_in x 24 hx
  have e1 : qq_tasks c - 1 = nI t := by rw [ht]; exact nI_pred t
  have e2 : qq_task c (nI t).toNatClampNeg = nI x := by rw [et]; exact h1
  have e3 : qq_phase c (nI t).toNatClampNeg = nI 1 := by rw [et]; exact h2
  have e4 : upd (qq_phase c) (nI t).toNatClampNeg (nI 1 + 1) = upd (qq_phase c) t (nI (1 + 1)) := by rw [et, nI_1]
  have ek : bb_kind b (nI x).toNatClampNeg = bb_kind b x := by rw [ex]
  refine nm_r e1 (And.intro it (nm_r e2 (And.intro it (nm_r e3 (And.intro it (nm_r e4 (And.intro ix ?_)))))))
  refine br_t (show bb_kind b (nI x).toNatClampNeg < 7 by rw [ek, hk6]; decide) (And.intro ix (br_f (show ¬ bb_kind b (nI x).toNatClampNeg = 5 by rw [ek, hk6]; decide) (br_f (by decide) (br_t rfl (And.intro ix (br_t (ek.trans hk6) ?_))))))
  refine cc_w_ba (c := (qq_ph c t (1 + 1))) (v := v) hN hpt (cc_w_emit (c := (qq_ph c t (1 + 1))) (v := v) p hs hp (And.intro ix ?_))
  rw [show bb_pb b (nI x).toNatClampNeg = nI y by rw [ex]; exact hy]
  exact cc_w_begin (c := qq_p6 c t (1 + 1) p 16 (nI (nn_ba b x l))) (v := v) (t + 1) ht ht2 (HQ _ H)
theorem kk_s_c6 (t x : Nat) (hi : i < 200) (ht : qq_tasks c = nI (t + 1)) (htt : t < 32) (hx : x < 24) (h1 : qq_task c t = nI x) (h2 : qq_phase c t = nI 2) (hk6 : bb_kind b x = 6)
    (H : kk_LC post b v (i + 1) (qq_c6 c t (2 + 1))) : kk_LC post b v i c := by
  refine kk_step t hi ht (by omega) (fun Q HQ => ?_)
  have et : (nI t).toNatClampNeg = t := nI_clamp (by omega)
  have ex : (nI x).toNatClampNeg = x := nI_clamp (by omega)
  have it : vp_in (nI t) 32 := pk_in t 32 htt
  have ix : vp_in (nI x) 24 := pk_in x 24 hx
  have e1 : qq_tasks c - 1 = nI t := by rw [ht]; exact nI_pred t
  have e2 : qq_task c (nI t).toNatClampNeg = nI x := by rw [et]; exact h1
  have e3 : qq_phase c (nI t).toNatClampNeg = nI 2 := by rw [et]; exact h2
  have e4 : upd (qq_phase c) (nI t).toNatClampNeg (nI 2 + 1) = upd (qq_phase c) t (nI (2 + 1)) := by rw [et, nI_1]
  have ek : bb_kind b (nI x).toNatClampNeg = bb_kind b x := by rw [ex]
  refine nm_r e1 (And.intro it (nm_r e2 (And.intro it (nm_r e3 (And.intro it (nm_r e4 (And.intro ix ?_)))))))
  exact br_t (show bb_kind b (nI x).toNatClampNeg < 7 by rw [ek, hk6]; decide) (And.intro ix (br_f (show ¬ bb_kind b (nI x).toNatClampNeg = 5 by rw [ek, hk6]; decide) (br_f (by decide) (br_f (by decide) (And.intro ix (br_t (ek.trans hk6) (HQ _ H)))))))
theorem kk_s_c (t x : Nat) (hi : i < 200) (ht : qq_tasks c = nI (t + 1)) (htt : t < 32) (hx : x < 24) (h1 : qq_task c t = nI x) (h2 : qq_phase c t = nI 2) (hk7 : bb_kind b x < 7) (hk5 : ¬ bb_kind b x = 5) (hk6 : ¬ bb_kind b x = 6) (p : Nat) (hs : qq_size c = nI p) (hp : p < 128)
    (H : kk_LC post b v (i + 1) (qq_f1 c t (2 + 1) p (bb_kind b x) 0)) : kk_LC post b v i c := by
  refine kk_step t hi ht (by omega) (fun Q HQ => ?_)
  have et : (nI t).toNatClampNeg = t := nI_clamp (by omega)
  have ex : (nI x).toNatClampNeg = x := nI_clamp (by omega)
  have it : vp_in (nI t) 32 := pk_in t 32 htt
  have ix : vp_in (nI x) 24 := pk_in x 24 hx
  have e1 : qq_tasks c - 1 = nI t := by rw [ht]; exact nI_pred t
  have e2 : qq_task c (nI t).toNatClampNeg = nI x := by rw [et]; exact h1
  have e3 : qq_phase c (nI t).toNatClampNeg = nI 2 := by rw [et]; exact h2
  have e4 : upd (qq_phase c) (nI t).toNatClampNeg (nI 2 + 1) = upd (qq_phase c) t (nI (2 + 1)) := by rw [et, nI_1]
  have ek : bb_kind b (nI x).toNatClampNeg = bb_kind b x := by rw [ex]
  refine nm_r e1 (And.intro it (nm_r e2 (And.intro it (nm_r e3 (And.intro it (nm_r e4 (And.intro ix ?_)))))))
  refine br_t (show bb_kind b (nI x).toNatClampNeg < 7 by rw [ek]; exact hk7) (And.intro ix (br_f (fun z => hk5 (ek.symm.trans z)) (br_f (by decide) (br_f (by decide) (And.intro ix (br_f (fun z => hk6 (ek.symm.trans z)) (And.intro ix ?_)))))))
  rw [ek]
  exact cc_w_emit (c := (qq_ph c t (2 + 1))) (v := v) p hs hp (HQ _ H)
theorem kk_s_h0 (t x : Nat) (hi : i < 200) (ht : qq_tasks c = nI (t + 1)) (htt : t < 32) (hx : x < 24) (h1 : qq_task c t = nI x) (h2 : qq_phase c t = nI 0) (hk : bb_kind b x = 5) {y : Nat} (hy : bb_pa b x = nI y) (ht2 : t + 1 < 32)
    (H : kk_LC post b v (i + 1) (qq_b1 c t (0 + 1) (nI y))) : kk_LC post b v i c := by
  refine kk_step t hi ht (by omega) (fun Q HQ => ?_)
  have et : (nI t).toNatClampNeg = t := nI_clamp (by omega)
  have ex : (nI x).toNatClampNeg = x := nI_clamp (by omega)
  have it : vp_in (nI t) 32 := pk_in t 32 htt
  have ix : vp_in (nI x) 24 := pk_in x 24 hx
  have e1 : qq_tasks c - 1 = nI t := by rw [ht]; exact nI_pred t
  have e2 : qq_task c (nI t).toNatClampNeg = nI x := by rw [et]; exact h1
  have e3 : qq_phase c (nI t).toNatClampNeg = nI 0 := by rw [et]; exact h2
  have e4 : upd (qq_phase c) (nI t).toNatClampNeg (nI 0 + 1) = upd (qq_phase c) t (nI (0 + 1)) := by rw [et, nI_1]
  have ek : bb_kind b (nI x).toNatClampNeg = bb_kind b x := by rw [ex]
  refine nm_r e1 (And.intro it (nm_r e2 (And.intro it (nm_r e3 (And.intro it (nm_r e4 (And.intro ix ?_)))))))
  refine br_t (show bb_kind b (nI x).toNatClampNeg < 7 by rw [ek, hk]; decide) (And.intro ix (br_t (ek.trans hk) ?_))
  refine br_t rfl (And.intro ix ?_)
  rw [show bb_pa b (nI x).toNatClampNeg = nI y by rw [ex]; exact hy]
  exact cc_w_begin (c := (qq_ph c t (0 + 1))) (v := v) (t + 1) ht ht2 (HQ _ H)
theorem kk_s_h1 (t x : Nat) (hi : i < 200) (ht : qq_tasks c = nI (t + 1)) (htt : t < 32) (hx : x < 24) (h1 : qq_task c t = nI x) (h2 : qq_phase c t = nI 1) (hk : bb_kind b x = 5) {y : Nat} (hy : bb_pb b x = nI y) (ht2 : t + 1 < 32) (p : Nat) (hs : qq_size c = nI p) (hp : p < 128)
    (H : kk_LC post b v (i + 1) (qq_h1 c t (1 + 1) p 18 0 (nI y))) : kk_LC post b v i c := by
  refine kk_step t hi ht (by omega) (fun Q HQ => ?_)
  have et : (nI t).toNatClampNeg = t := nI_clamp (by omega)
  have ex : (nI x).toNatClampNeg = x := nI_clamp (by omega)
  have it : vp_in (nI t) 32 := pk_in t 32 htt
  have ix : vp_in (nI x) 24 := pk_in x 24 hx
  have e1 : qq_tasks c - 1 = nI t := by rw [ht]; exact nI_pred t
  have e2 : qq_task c (nI t).toNatClampNeg = nI x := by rw [et]; exact h1
  have e3 : qq_phase c (nI t).toNatClampNeg = nI 1 := by rw [et]; exact h2
  have e4 : upd (qq_phase c) (nI t).toNatClampNeg (nI 1 + 1) = upd (qq_phase c) t (nI (1 + 1)) := by rw [et, nI_1]
  have ek : bb_kind b (nI x).toNatClampNeg = bb_kind b x := by rw [ex]
  refine nm_r e1 (And.intro it (nm_r e2 (And.intro it (nm_r e3 (And.intro it (nm_r e4 (And.intro ix ?_)))))))
  refine br_t (show bb_kind b (nI x).toNatClampNeg < 7 by rw [ek, hk]; decide) (And.intro ix (br_t (ek.trans hk) ?_))
  refine br_f (by decide) (br_t rfl (And.intro it (nm_r (show upd (qq_hole c) (nI t).toNatClampNeg (qq_size c) = upd (qq_hole c) t (nI p) by rw [et, hs]) ?_)))
  refine cc_w_emit (c := qq_ho c t (1 + 1) p) (v := v) p hs hp (And.intro ix ?_)
  rw [show bb_pb b (nI x).toNatClampNeg = nI y by rw [ex]; exact hy]
  exact cc_w_begin (c := qq_he c t (1 + 1) p 18 0) (v := v) (t + 1) ht ht2 (HQ _ H)
theorem kk_s_h2 (t x : Nat) (hi : i < 200) (ht : qq_tasks c = nI (t + 1)) (htt : t < 32) (hx : x < 24) (h1 : qq_task c t = nI x) (h2 : qq_phase c t = nI 2) (hk : bb_kind b x = 5) {y : Nat} (hy : bb_pc b x = nI y) (ht2 : t + 1 < 32) (p m : Nat) (hs : qq_size c = nI p) (hp : p < 128) (hm : qq_hole c t = nI m) (hm1 : m < 128)
    (H : kk_LC post b v (i + 1) (qq_h2 c t (2 + 1) m p 19 0 (nI y))) : kk_LC post b v i c := by
  refine kk_step t hi ht (by omega) (fun Q HQ => ?_)
  have et : (nI t).toNatClampNeg = t := nI_clamp (by omega)
  have ex : (nI x).toNatClampNeg = x := nI_clamp (by omega)
  have it : vp_in (nI t) 32 := pk_in t 32 htt
  have ix : vp_in (nI x) 24 := pk_in x 24 hx
  have e1 : qq_tasks c - 1 = nI t := by rw [ht]; exact nI_pred t
  have e2 : qq_task c (nI t).toNatClampNeg = nI x := by rw [et]; exact h1
  have e3 : qq_phase c (nI t).toNatClampNeg = nI 2 := by rw [et]; exact h2
  have e4 : upd (qq_phase c) (nI t).toNatClampNeg (nI 2 + 1) = upd (qq_phase c) t (nI (2 + 1)) := by rw [et, nI_1]
  have ek : bb_kind b (nI x).toNatClampNeg = bb_kind b x := by rw [ex]
  refine nm_r e1 (And.intro it (nm_r e2 (And.intro it (nm_r e3 (And.intro it (nm_r e4 (And.intro ix ?_)))))))
  refine br_t (show bb_kind b (nI x).toNatClampNeg < 7 by rw [ek, hk]; decide) (And.intro ix (br_t (ek.trans hk) ?_))
  have eh : qq_hole c (nI t).toNatClampNeg = nI m := by rw [et]; exact hm
  refine br_f (by decide) (br_f (by decide) (br_t rfl (And.intro it (And.intro (pk_in m 128 hm1 eh) (nm_r (show upd (qq_extra c) (qq_hole c (nI t).toNatClampNeg).toNatClampNeg (qq_size c + 1) = upd (qq_extra c) m (nI (p + 1)) by rw [eh, nI_clamp (by omega), hs, nI_1]) (And.intro it (nm_r (show upd (qq_hole c) (nI t).toNatClampNeg (qq_size c) = upd (qq_hole c) t (nI p) by rw [et, hs]) ?_)))))))
  refine cc_w_emit (c := qq_xo c t (2 + 1) m p) (v := v) p hs hp (And.intro ix ?_)
  rw [show bb_pc b (nI x).toNatClampNeg = nI y by rw [ex]; exact hy]
  exact cc_w_begin (c := qq_xe c t (2 + 1) m p 19 0) (v := v) (t + 1) ht ht2 (HQ _ H)
theorem kk_s_h3 (t x : Nat) (hi : i < 200) (ht : qq_tasks c = nI (t + 1)) (htt : t < 32) (hx : x < 24) (h1 : qq_task c t = nI x) (h2 : qq_phase c t = nI 3) (hk : bb_kind b x = 5) (p m : Nat) (hs : qq_size c = nI p) (hm : qq_hole c t = nI m) (hm1 : m < 128)
    (H : kk_LC post b v (i + 1) (qq_h3 c t (3 + 1) m p)) : kk_LC post b v i c := by
  refine kk_step t hi ht (by omega) (fun Q HQ => ?_)
  have et : (nI t).toNatClampNeg = t := nI_clamp (by omega)
  have ex : (nI x).toNatClampNeg = x := nI_clamp (by omega)
  have it : vp_in (nI t) 32 := pk_in t 32 htt
  have ix : vp_in (nI x) 24 := pk_in x 24 hx
  have e1 : qq_tasks c - 1 = nI t := by rw [ht]; exact nI_pred t
  have e2 : qq_task c (nI t).toNatClampNeg = nI x := by rw [et]; exact h1
  have e3 : qq_phase c (nI t).toNatClampNeg = nI 3 := by rw [et]; exact h2
  have e4 : upd (qq_phase c) (nI t).toNatClampNeg (nI 3 + 1) = upd (qq_phase c) t (nI (3 + 1)) := by rw [et, nI_1]
  have ek : bb_kind b (nI x).toNatClampNeg = bb_kind b x := by rw [ex]
  refine nm_r e1 (And.intro it (nm_r e2 (And.intro it (nm_r e3 (And.intro it (nm_r e4 (And.intro ix ?_)))))))
  refine br_t (show bb_kind b (nI x).toNatClampNeg < 7 by rw [ek, hk]; decide) (And.intro ix (br_t (ek.trans hk) ?_))
  have eh : qq_hole c (nI t).toNatClampNeg = nI m := by rw [et]; exact hm
  exact br_f (by decide) (br_f (by decide) (br_f (by decide) (And.intro it (And.intro (pk_in m 128 hm1 eh) (nm_r (show upd (qq_extra c) (qq_hole c (nI t).toNatClampNeg).toNatClampNeg (qq_size c) = upd (qq_extra c) m (nI p) by rw [eh, nI_clamp (by omega), hs]) (HQ _ H))))))
end
end
section
def kk_sm (lo : Nat → Nat) : List (Nat × List Nat) → Nat
  | [] => 0
  | y :: ys => (y.1 + 1 - lo y.1) + kk_sm lo ys
theorem kk_sm_app (lo : Nat → Nat) : ∀ xs ys : List (Nat × List Nat), kk_sm lo (xs ++ ys) = kk_sm lo xs + kk_sm lo ys
  | [], ys => by simp [kk_sm]
  | x :: xs, ys => by
    simp only [List.cons_append, kk_sm]
    rw [kk_sm_app lo xs ys, Nat.add_assoc]
def kk_pf (pf : Nat → Int32) : Nat → List (Nat × List Nat) → Prop
  | _, [] => True
  | n, y :: ys => pf n = nI y.1 ∧ kk_pf pf (n + 1) ys
theorem kk_pf_app (pf : Nat → Int32) : ∀ (xs ys : List (Nat × List Nat)) (n : Nat), kk_pf pf n xs → kk_pf pf (n + xs.length) ys → kk_pf pf n (xs ++ ys)
  | [], ys, n, _, h => h
  | x :: xs, ys, n, h1, h2 => ⟨h1.1, kk_pf_app pf xs ys (n + 1) h1.2 (by rw [show n + 1 + xs.length = n + (x :: xs).length by simp only [List.length_cons]; omega]; exact h2)⟩
theorem kk_pf_c {pf pf' : Nat → Int32} : ∀ (xs : List (Nat × List Nat)) (n m : Nat), n + xs.length ≤ m → (∀ j, j < m → pf' j = pf j) → kk_pf pf n xs → kk_pf pf' n xs
  | [], _, _, _, _, _ => trivial
  | x :: xs, n, m, hm, h, h1 => by
    simp only [List.length_cons] at hm
    exact ⟨(h n (by omega)).trans h1.1, kk_pf_c xs (n + 1) m (by omega) h h1.2⟩
/-- what a stretch of compiling leaves as it was -/
def kk_Fr (c c' : qq_T) (t p pn : Nat) : Prop :=
  (∀ j, j < p → qq_code c' j = qq_code c j ∧ qq_extra c' j = qq_extra c j) ∧
  (∀ j, j < t → qq_task c' j = qq_task c j ∧ qq_phase c' j = qq_phase c j ∧ qq_hole c' j = qq_hole c j) ∧
  (∀ j, j < pn → qq_pf c' j = qq_pf c j) ∧ qq_entry c' = qq_entry c ∧ (∀ j, ¬ qq_gc c j < 0 → ¬ qq_gc c' j < 0)
theorem kk_Fr_t {c c1 c2 : qq_T} {t p pn t' p' pn' : Nat} (h : kk_Fr c c1 t p pn) (h' : kk_Fr c1 c2 t' p' pn') (ht : t ≤ t') (hp : p ≤ p') (hn : pn ≤ pn') : kk_Fr c c2 t p pn := by
  obtain ⟨a1, a2, a3, a4, a5⟩ := h
  obtain ⟨b1, b2, b3, b4, b5⟩ := h'
  refine ⟨fun j hj => ?_, fun j hj => ?_, fun j hj => (b3 j (by omega)).trans (a3 j hj), b4.trans a4, fun j hj => b5 j (a5 j hj)⟩
  · obtain ⟨x1, x2⟩ := a1 j hj
    obtain ⟨y1, y2⟩ := b1 j (by omega)
    exact ⟨y1.trans x1, y2.trans x2⟩
  · obtain ⟨x1, x2, x3⟩ := a2 j hj
    obtain ⟨y1, y2, y3⟩ := b2 j (by omega)
    exact ⟨y1.trans x1, y2.trans x2, y3.trans x3⟩
def kk_K (b : bb_T) (lo : Nat → Nat) (N : Nat) (c c' : qq_T) (t p pn q : Nat) (fs : List (Nat × List Nat)) : Prop :=
  kk_Fr c c' t p pn ∧ qq_tasks c' = nI t ∧ qq_size c' = nI q ∧ qq_pending c' = nI (pn + fs.length) ∧ kk_G b lo N c' ∧ kk_pf (qq_pf c') pn fs ∧ (∀ y, y ∈ fs → bb_kind b y.1 = 7 ∧ nn_pt b lo N y.1 y.2)
theorem kk_cd_mono {b : bb_T} {c c' : qq_T} {Fn Fn' : Nat → List Nat → Prop} (hg : ∀ j, ¬ qq_gc c j < 0 → ¬ qq_gc c' j < 0) (hF : ∀ g lg, Fn g lg → Fn' g lg) :
    ∀ (n x : Nat) (l : List Nat) (p q : Nat), (∀ j, p ≤ j → j < q → qq_code c' j = qq_code c j ∧ qq_extra c' j = qq_extra c j) → kk_cd b c Fn n x l p q → kk_cd b c' Fn' n x l p q := by
  intro n
  induction n with
  | zero => exact fun _ _ _ _ _ h => h
  | succ n ih =>
    intro x l p q hc h
    obtain ⟨hpq, C8, C9, C7, C6, C5, C2⟩ := h
    refine ⟨hpq, fun k => ?_, fun k => ?_, fun k => ?_, fun k => ?_, fun k => ?_, fun k hk5 k' => ?_⟩
    · obtain ⟨d1, d2, d3⟩ := C8 k
      obtain ⟨e1, e2⟩ := hc p (Nat.le_refl p) hpq
      exact ⟨e1.trans d1, e2.trans d2, d3⟩
    · obtain ⟨d1, d2, d3, d4⟩ := C9 k
      obtain ⟨e1, e2⟩ := hc p (Nat.le_refl p) hpq
      exact ⟨e1.trans d1, e2.trans d2, d3, fun g lg h => hg _ (d4 g lg h)⟩
    · obtain ⟨d1, d2, d3, d4⟩ := C7 k
      obtain ⟨e1, e2⟩ := hc p (Nat.le_refl p) hpq
      exact ⟨e1.trans d1, e2.trans d2, d3, hF _ _ d4⟩
    · obtain ⟨m, d1, d2, d3, d4⟩ := C6 k
      have l1 := kk_cd_lt d1
      have l2 := kk_cd_lt d4
      obtain ⟨e1, e2⟩ := hc m (by omega) (by omega)
      exact ⟨m, ih _ _ _ _ (fun j h1 h2 => hc j (by omega) (by omega)) d1, e1.trans d2, e2.trans d3, ih _ _ _ _ (fun j h1 h2 => hc j (by omega) (by omega)) d4⟩
    · obtain ⟨m1, m2, d1, d2, d3, d4, d5, d6, d7⟩ := C5 k
      have l1 := kk_cd_lt d1
      have l2 := kk_cd_lt d4
      have l3 := kk_cd_lt d7
      obtain ⟨e1, e2⟩ := hc m1 (by omega) (by omega)
      obtain ⟨e3, e4⟩ := hc m2 (by omega) (by omega)
      exact ⟨m1, m2, ih _ _ _ _ (fun j h1 h2 => hc j (by omega) (by omega)) d1, e1.trans d2, e2.trans d3, ih _ _ _ _ (fun j h1 h2 => hc j (by omega) (by omega)) d4, e3.trans d5, e4.trans d6, ih _ _ _ _ (fun j h1 h2 => hc j (by omega) (by omega)) d7⟩
    · obtain ⟨m1, m2, d1, d2, d3, d4⟩ := C2 k hk5 k'
      have l1 := kk_cd_lt d1
      have l2 := kk_cd_lt d2
      obtain ⟨e1, e2⟩ := hc m2 (by omega) (by omega)
      exact ⟨m1, m2, ih _ _ _ _ (fun j h1 h2 => hc j (by omega) (by omega)) d1, ih _ _ _ _ (fun j h1 h2 => hc j (by omega) (by omega)) d2, e1.trans d3, d4⟩
section
variable {b : bb_T} {c : qq_T} {Fn : Nat → List Nat → Prop} {n x p q : Nat} {l : List Nat}
theorem kk_cd8 (k : bb_kind b x = 8) (h1 : qq_code c p = 10) (h2 : qq_extra c p = bb_num b x) : kk_cd b c Fn (n + 1) x l p (p + 1) :=
  ⟨Nat.lt_succ_self p, fun _ => ⟨h1, h2, rfl⟩, fun z => absurd (k.symm.trans z) (by decide), fun z => absurd (k.symm.trans z) (by decide), fun z => absurd (k.symm.trans z) (by decide), fun z => absurd (k.symm.trans z) (by decide), fun j hj z => absurd (z.symm.trans k) (ee_k5 j hj).1⟩
theorem kk_cd9 (k : bb_kind b x = 9) (h1 : qq_code c p = (nn_lk b x l (bb_num b x)).1) (h2 : qq_extra c p = (nn_lk b x l (bb_num b x)).2.1) (h3 : ∀ g lg, (nn_lk b x l (bb_num b x)).2.2 = some (g, lg) → ¬ qq_gc c (g * 4 + (bb_num b x).toNatClampNeg) < 0) : kk_cd b c Fn (n + 1) x l p (p + 1) :=
  ⟨Nat.lt_succ_self p, fun z => absurd (k.symm.trans z) (by decide), fun _ => ⟨h1, h2, rfl, h3⟩, fun z => absurd (k.symm.trans z) (by decide), fun z => absurd (k.symm.trans z) (by decide), fun z => absurd (k.symm.trans z) (by decide), fun j hj z => absurd (z.symm.trans k) (ee_k5 j hj).2.1⟩
theorem kk_cd7 (k : bb_kind b x = 7) (h1 : qq_code c p = 17) (h2 : qq_extra c p = nI x) (h3 : Fn x l) : kk_cd b c Fn (n + 1) x l p (p + 1) :=
  ⟨Nat.lt_succ_self p, fun z => absurd (k.symm.trans z) (by decide), fun z => absurd (k.symm.trans z) (by decide), fun _ => ⟨h1, h2, rfl, h3⟩, fun z => absurd (k.symm.trans z) (by decide), fun z => absurd (k.symm.trans z) (by decide), fun j hj z => absurd (z.symm.trans k) (ee_k5 j hj).2.2.1⟩
theorem kk_cd6 {m : Nat} (k : bb_kind b x = 6) (h1 : kk_cd b c Fn n (bb_pa b x).toNatClampNeg (x :: l) p m) (h2 : qq_code c m = 16) (h3 : qq_extra c m = nI (nn_ba b x l)) (h4 : kk_cd b c Fn n (bb_pb b x).toNatClampNeg (x :: l) (m + 1) q) : kk_cd b c Fn (n + 1) x l p q :=
  ⟨by have := kk_cd_lt h1; have := kk_cd_lt h4; omega, fun z => absurd (k.symm.trans z) (by decide), fun z => absurd (k.symm.trans z) (by decide), fun z => absurd (k.symm.trans z) (by decide), fun _ => ⟨m, h1, h2, h3, h4⟩, fun z => absurd (k.symm.trans z) (by decide), fun j hj z => absurd (z.symm.trans k) (ee_k5 j hj).2.2.2.1⟩
theorem kk_cd5 {m1 m2 : Nat} (k : bb_kind b x = 5) (h1 : kk_cd b c Fn n (bb_pa b x).toNatClampNeg (x :: l) p m1) (h2 : qq_code c m1 = 18) (h3 : qq_extra c m1 = nI (m2 + 1)) (h4 : kk_cd b c Fn n (bb_pb b x).toNatClampNeg (x :: l) (m1 + 1) m2) (h5 : qq_code c m2 = 19) (h6 : qq_extra c m2 = nI q) (h7 : kk_cd b c Fn n (bb_pc b x).toNatClampNeg (x :: l) (m2 + 1) q) : kk_cd b c Fn (n + 1) x l p q :=
  ⟨by have := kk_cd_lt h1; have := kk_cd_lt h4; have := kk_cd_lt h7; omega, fun z => absurd (k.symm.trans z) (by decide), fun z => absurd (k.symm.trans z) (by decide), fun z => absurd (k.symm.trans z) (by decide), fun z => absurd (k.symm.trans z) (by decide), fun _ => ⟨m1, m2, h1, h2, h3, h4, h5, h6, h7⟩, fun j hj z => absurd (z.symm.trans k) (ee_k5 j hj).2.2.2.2⟩
theorem kk_cd2 {m1 m2 k : Nat} (hk : k < 5) (kd : bb_kind b x = nI k) (h1 : kk_cd b c Fn n (bb_pa b x).toNatClampNeg (x :: l) p m1) (h2 : kk_cd b c Fn n (bb_pb b x).toNatClampNeg (x :: l) m1 m2) (h3 : qq_code c m2 = nI k) : kk_cd b c Fn (n + 1) x l p (m2 + 1) := by
  obtain ⟨k8, k9, k7, k6, k5⟩ := ee_k5 k hk
  refine ⟨by have := kk_cd_lt h1; have := kk_cd_lt h2; omega, fun z => absurd (kd.symm.trans z) k8, fun z => absurd (kd.symm.trans z) k9, fun z => absurd (kd.symm.trans z) k7, fun z => absurd (kd.symm.trans z) k6, fun z => absurd (kd.symm.trans z) k5, fun j hj z => ?_⟩
  have e : k = j := (nI_eq (by omega) (by omega)).mp (kd.symm.trans z)
  subst e
  exact ⟨m1, m2, h1, h2, h3, rfl⟩
end
end
section
section
variable {b : bb_T} {lo : Nat → Nat} {N : Nat} {c : qq_T} {t p q pn : Nat} {k' n y : Int32}
theorem kk_len (ok : nn_ok b lo N) : ∀ fs : List (Nat × List Nat), (∀ y, y ∈ fs → bb_kind b y.1 = 7 ∧ nn_pt b lo N y.1 y.2) → fs.length ≤ kk_sm lo fs
  | [], _ => Nat.le_refl _
  | y :: ys, h => by
    have h1 := kk_len ok ys (fun z hz => h z (List.mem_cons_of_mem _ hz))
    have h2 := (ok.2 y.1 (nn_pt_lt (h y List.mem_cons_self).2)).1
    simp only [List.length_cons, kk_sm]
    omega
theorem kk_Fr_b {k : Nat} : kk_Fr c (qq_b1 c t k y) t p pn :=
  ⟨fun _ _ => ⟨rfl, rfl⟩, fun j hj => ⟨pk_un (by omega), (pk_un (by omega)).trans (pk_un (by omega)), rfl⟩, fun _ _ => rfl, rfl, fun _ h => h⟩
theorem kk_Fr_e {k : Nat} (h : p ≤ q) : kk_Fr c (qq_f1 c t k q k' n) t p pn :=
  ⟨fun j hj => ⟨pk_un (by omega), pk_un (by omega)⟩, fun j hj => ⟨rfl, pk_un (by omega), rfl⟩, fun _ _ => rfl, rfl, fun _ h => h⟩
theorem kk_Fr_s {k : Nat} : kk_Fr c (qq_c6 c t k) t p pn :=
  ⟨fun j hj => ⟨rfl, rfl⟩, fun j hj => ⟨rfl, pk_un (by omega), rfl⟩, fun _ _ => rfl, rfl, fun _ h => h⟩
theorem kk_Fr_eb {k : Nat} (h : p ≤ q) : kk_Fr c (qq_b6 c t k q k' n y) t p pn :=
  ⟨fun j hj => ⟨pk_un (by omega), pk_un (by omega)⟩, fun j hj => ⟨pk_un (by omega), (pk_un (by omega)).trans (pk_un (by omega)), rfl⟩, fun _ _ => rfl, rfl, fun _ h => h⟩
theorem kk_Fr_h1 {k : Nat} (h : p ≤ q) : kk_Fr c (qq_h1 c t k q k' n y) t p pn :=
  ⟨fun j hj => ⟨pk_un (by omega), pk_un (by omega)⟩, fun j hj => ⟨pk_un (by omega), (pk_un (by omega)).trans (pk_un (by omega)), pk_un (by omega)⟩, fun _ _ => rfl, rfl, fun _ h => h⟩
theorem kk_Fr_h2 {k m : Nat} (h : p ≤ q) (hm : p ≤ m) : kk_Fr c (qq_h2 c t k m q k' n y) t p pn :=
  ⟨fun j hj => ⟨pk_un (by omega), (pk_un (by omega)).trans (pk_un (by omega))⟩, fun j hj => ⟨pk_un (by omega), (pk_un (by omega)).trans (pk_un (by omega)), pk_un (by omega)⟩, fun _ _ => rfl, rfl, fun _ h => h⟩
theorem kk_Fr_h3 {k m : Nat} (hm : p ≤ m) : kk_Fr c (qq_h3 c t k m q) t p pn :=
  ⟨fun j hj => ⟨rfl, pk_un (by omega)⟩, fun j hj => ⟨rfl, pk_un (by omega), rfl⟩, fun _ _ => rfl, rfl, fun _ h => h⟩
end
theorem kk_lt5 : ∀ k, k < 5 → nI k < 7 := by decide
theorem kk_node {post : St1 → Prop} {b : bb_T} {v : vv_T} {lo : Nat → Nat} {N : Nat} (ok : nn_ok b lo N) : ∀ (n x : Nat) (l : List Nat), x < n → nn_pt b lo N x l → ∀ (i t p pn : Nat) (c : qq_T),
    qq_tasks c = nI (t + 1) → qq_task c t = nI x → qq_phase c t = nI 0 → qq_size c = nI p → qq_pending c = nI pn → kk_G b lo N c → t + x < 31 → p + 2 * (x + 1 - lo x) < 128 → pn + (x + 1 - lo x) ≤ 24 → i + 4 * (x + 1 - lo x) ≤ 200 →
    (∀ c' q fs i', kk_K b lo N c c' t p pn q fs → kk_cd b c' (fun g lg => (g, lg) ∈ fs) n x l p q → q + 2 * kk_sm lo fs ≤ p + 2 * (x + 1 - lo x) + fs.length → kk_sm lo fs ≤ x + 1 - lo x → i' ≤ i + 4 * (x + 1 - lo x) → kk_LC post b v i' c') →
    kk_LC post b v i c := by
  intro n
  induction n with
  | zero => exact fun x l h => absurd h (by omega)
  | succ n ih =>
    intro x l hxn hp i t p pn c ht htx hph hs hn hG bt bp bn bi H
    have hx := nn_pt_lt hp
    have hN := ok.1
    obtain ⟨hlo, hnd⟩ := ok.2 x hx
    rcases hnd with ⟨kd, _⟩ | ⟨kd, _, vn, hv, hnum⟩ | ⟨y, kd, h1, h2, h3, h4, h5, _⟩ | ⟨y, z, ⟨ko, hk, kd⟩, h1, h2, h3, h4, h5, h6, h7, h8, h9⟩ | ⟨y, z, kd, h1, h2, h3, h4, h5, h6, h7, h8, h9, _⟩ | ⟨y, z, u, kd, h1, h2, h2', h3, h4, h4', h5, h6, h7, h8, h9, h10, h11⟩
    · refine kk_s_8 t x (by omega) ht (by omega) (by omega) htx hph kd p hs (by omega) ?_
      refine H _ (p + 1) [] (i + 1) ⟨kk_Fr_e (Nat.le_refl p), rfl, rfl, hn, hG, trivial, fun y hy => absurd hy (by simp)⟩ (kk_cd8 kd pk_us pk_us) ?_ ?_ (by omega)
      · simp only [kk_sm, List.length_nil]
        omega
      · simp only [kk_sm]
        omega
    · refine kk_s_9 (lo := lo) (N := N) t x (by omega) ht (by omega) (by omega) htx hph hN hp kd hv hnum p hs (by omega) hG (fun cr GC GE g1 g2 g3 => ?_)
      refine H _ (p + 1) [] (i + 1) ⟨?_, rfl, rfl, hn, g1, trivial, fun y hy => absurd hy (by simp)⟩ (kk_cd9 kd ?_ ?_ ?_) ?_ ?_ (by omega)
      · exact ⟨fun j hj => ⟨pk_un (by omega), pk_un (by omega)⟩, fun j hj => ⟨rfl, pk_un (by omega), rfl⟩, fun _ _ => rfl, rfl, g2⟩
      · rw [hnum]
        exact pk_us
      · rw [hnum]
        exact pk_us
      · rw [hnum, nI_clamp (show vn < 2 ^ 31 by omega)]
        exact g3
      · simp only [kk_sm, List.length_nil]
        omega
      · simp only [kk_sm]
        omega
    · obtain ⟨_, hlc, _⟩ := nn_p1 ok hx h2 h3 h4 h5
      refine kk_s_7 t x (by omega) ht (by omega) (by omega) htx hph kd p pn hs (by omega) hn (by omega) ?_
      refine H _ (p + 1) [(x, l)] (i + 1) ⟨?_, rfl, rfl, rfl, hG, ⟨pk_us, trivial⟩, fun y hy => ?_⟩ (kk_cd7 kd pk_us pk_us List.mem_cons_self) ?_ ?_ (by omega)
      · exact ⟨fun j hj => ⟨pk_un (by omega), pk_un (by omega)⟩, fun j hj => ⟨rfl, pk_un (by omega), rfl⟩, fun j hj => pk_un (by omega), rfl, fun _ h => h⟩
      · rw [List.mem_singleton] at hy
        rw [hy]
        exact ⟨kd, hp⟩
      · simp only [kk_sm, List.length_cons, List.length_nil]
        omega
      · simp only [kk_sm]
        omega
    · obtain ⟨c1, c2, l1, l2, htt, l3, l4, _⟩ := nn_p2 ok hx h3 h4 h5 h6 h7 h8
      obtain ⟨k8, k9, k7, k6, k5⟩ := ee_k5 ko hk
      have q7 : bb_kind b x < 7 := by rw [kd]; exact kk_lt5 ko hk
      have n6 : ¬ bb_kind b x = 6 := by rw [kd]; exact k6
      have n5 : ¬ bb_kind b x = 5 := by rw [kd]; exact k5
      have hy : (bb_pa b x).toNatClampNeg = y := by rw [h1]; exact nI_clamp (by omega)
      have hz : (bb_pb b x).toNatClampNeg = z := by rw [h2]; exact nI_clamp (by omega)
      refine kk_s_a t x (by omega) ht (by omega) (by omega) htx hph q7 n5 h1 (by omega) ?_
      refine ih y (x :: l) (by omega) ⟨c1, hp⟩ (i + 1) (t + 1) p pn _ rfl pk_us pk_us hs hn hG (by omega) (by omega) (by omega) (by omega) (fun c2' q1 fs1 i1 K1 D1 S1 S1' L1 => ?_)
      obtain ⟨Fr1, a1, a2, a3, a4, a5, a6⟩ := K1
      have len1 := kk_len ok fs1 a6
      have tx1 : qq_task c2' t = nI x := (Fr1.2.1 t (by omega)).1.trans ((pk_un (by omega)).trans htx)
      have ph1 : qq_phase c2' t = nI 1 := (Fr1.2.1 t (by omega)).2.1.trans ((pk_un (by omega)).trans pk_us)
      have G1 := kk_cd_lt D1
      refine kk_s_b t x (by omega) a1 (by omega) (by omega) tx1 ph1 q7 n5 n6 h2 (by omega) ?_
      refine ih z (x :: l) (by omega) ⟨c2, hp⟩ (i1 + 1) (t + 1) q1 (pn + fs1.length) _ rfl pk_us pk_us a2 a3 a4 (by omega) (by omega) (by omega) (by omega) (fun c4 q2 fs2 i2 K2 D2 S2 S2' L2 => ?_)
      obtain ⟨Fr2, b1, b2, b3, b4, b5, b6⟩ := K2
      have len2 := kk_len ok fs2 b6
      have tx2 : qq_task c4 t = nI x := (Fr2.2.1 t (by omega)).1.trans ((pk_un (by omega)).trans tx1)
      have ph2 : qq_phase c4 t = nI 2 := (Fr2.2.1 t (by omega)).2.1.trans ((pk_un (by omega)).trans pk_us)
      have G2 := kk_cd_lt D2
      refine kk_s_c t x (by omega) b1 (by omega) (by omega) tx2 ph2 q7 n5 n6 q2 b2 (by omega) ?_
      have Fa := kk_Fr_t (c := c) (t := t) (p := p) (pn := pn) kk_Fr_b Fr1 (by omega) (Nat.le_refl _) (Nat.le_refl _)
      have Fb : kk_Fr c2' (qq_f1 c4 t (2 + 1) q2 (bb_kind b x) 0) t q1 (pn + fs1.length) :=
        kk_Fr_t (kk_Fr_t kk_Fr_b Fr2 (by omega) (Nat.le_refl _) (Nat.le_refl _)) (kk_Fr_e (Nat.le_refl q2)) (Nat.le_refl t) (by omega) (Nat.le_refl _)
      refine H _ (q2 + 1) (fs1 ++ fs2) (i2 + 1) ⟨kk_Fr_t Fa Fb (Nat.le_refl t) (by omega) (by omega), rfl, rfl, ?_, b4, kk_pf_app _ fs1 fs2 pn ?_ b5, fun w hw => ?_⟩ (kk_cd2 (m1 := q1) hk kd ?_ ?_ ?_) ?_ ?_ (by omega)
      · rw [List.length_append, ← Nat.add_assoc]
        exact b3
      · exact kk_pf_c fs1 pn (pn + fs1.length) (Nat.le_refl _) Fb.2.2.1 a5
      · rcases List.mem_append.mp hw with hw | hw
        · exact a6 w hw
        · exact b6 w hw
      · rw [hy]
        exact kk_cd_mono Fb.2.2.2.2 (fun g lg hg => List.mem_append_left _ hg) _ _ _ _ _ (fun j _ hj => Fb.1 j hj) D1
      · rw [hz]
        exact kk_cd_mono (c := c4) (c' := qq_f1 c4 t (2 + 1) q2 (bb_kind b x) 0) (fun _ hj => hj) (fun g lg hg => List.mem_append_right _ hg) _ _ _ _ _ (fun j _ hj => ⟨pk_un (by omega), pk_un (by omega)⟩) D2
      · exact pk_us.trans kd
      · rw [kk_sm_app, List.length_append]
        omega
      · rw [kk_sm_app]
        omega
    · obtain ⟨c1, c2, l1, l2, htt, l3, l4, _⟩ := nn_p2 ok hx h3 h4 h5 h6 h7 h8
      have q7 : bb_kind b x < 7 := by rw [kd]; decide
      have n5 : ¬ bb_kind b x = 5 := by rw [kd]; decide
      have hy : (bb_pa b x).toNatClampNeg = y := by rw [h1]; exact nI_clamp (by omega)
      have hz : (bb_pb b x).toNatClampNeg = z := by rw [h2]; exact nI_clamp (by omega)
      refine kk_s_a t x (by omega) ht (by omega) (by omega) htx hph q7 n5 h1 (by omega) ?_
      refine ih y (x :: l) (by omega) ⟨c1, hp⟩ (i + 1) (t + 1) p pn _ rfl pk_us pk_us hs hn hG (by omega) (by omega) (by omega) (by omega) (fun c2' q1 fs1 i1 K1 D1 S1 S1' L1 => ?_)
      obtain ⟨Fr1, a1, a2, a3, a4, a5, a6⟩ := K1
      have len1 := kk_len ok fs1 a6
      have tx1 : qq_task c2' t = nI x := (Fr1.2.1 t (by omega)).1.trans ((pk_un (by omega)).trans htx)
      have ph1 : qq_phase c2' t = nI 1 := (Fr1.2.1 t (by omega)).2.1.trans ((pk_un (by omega)).trans pk_us)
      have G1 := kk_cd_lt D1
      refine kk_s_b6 (lo := lo) (N := N) t x (by omega) a1 (by omega) (by omega) tx1 ph1 hN hp kd h2 (by omega) q1 a2 (by omega) ?_
      refine ih z (x :: l) (by omega) ⟨c2, hp⟩ (i1 + 1) (t + 1) (q1 + 1) (pn + fs1.length) _ rfl pk_us pk_us rfl a3 a4 (by omega) (by omega) (by omega) (by omega) (fun c4 q2 fs2 i2 K2 D2 S2 S2' L2 => ?_)
      obtain ⟨Fr2, b1, b2, b3, b4, b5, b6⟩ := K2
      have len2 := kk_len ok fs2 b6
      have tx2 : qq_task c4 t = nI x := (Fr2.2.1 t (by omega)).1.trans ((pk_un (by omega)).trans tx1)
      have ph2 : qq_phase c4 t = nI 2 := (Fr2.2.1 t (by omega)).2.1.trans ((pk_un (by omega)).trans pk_us)
      have G2 := kk_cd_lt D2
      refine kk_s_c6 t x (by omega) b1 (by omega) (by omega) tx2 ph2 kd ?_
      have Fa := kk_Fr_t (c := c) (t := t) (p := p) (pn := pn) kk_Fr_b Fr1 (by omega) (Nat.le_refl _) (Nat.le_refl _)
      have Fb : kk_Fr c2' (qq_c6 c4 t (2 + 1)) t q1 (pn + fs1.length) :=
        kk_Fr_t (kk_Fr_t (kk_Fr_eb (Nat.le_refl q1)) Fr2 (by omega) (by omega) (Nat.le_refl _)) kk_Fr_s (Nat.le_refl t) (Nat.le_refl q1) (Nat.le_refl _)
      have E1 : qq_code c4 q1 = 16 ∧ qq_extra c4 q1 = nI (nn_ba b x l) := ⟨(Fr2.1 q1 (by omega)).1.trans pk_us, (Fr2.1 q1 (by omega)).2.trans pk_us⟩
      refine H _ q2 (fs1 ++ fs2) (i2 + 1) ⟨kk_Fr_t Fa Fb (Nat.le_refl t) (by omega) (by omega), rfl, b2, ?_, b4, kk_pf_app _ fs1 fs2 pn ?_ b5, fun w hw => ?_⟩ (kk_cd6 kd ?_ E1.1 E1.2 ?_) ?_ ?_ (by omega)
      · rw [List.length_append, ← Nat.add_assoc]
        exact b3
      · exact kk_pf_c fs1 pn (pn + fs1.length) (Nat.le_refl _) Fb.2.2.1 a5
      · rcases List.mem_append.mp hw with hw | hw
        · exact a6 w hw
        · exact b6 w hw
      · rw [hy]
        exact kk_cd_mono Fb.2.2.2.2 (fun g lg hg => List.mem_append_left _ hg) _ _ _ _ _ (fun j _ hj => Fb.1 j hj) D1
      · rw [hz]
        exact kk_cd_mono (c := c4) (c' := qq_c6 c4 t (2 + 1)) (fun _ hj => hj) (fun g lg hg => List.mem_append_right _ hg) _ _ _ _ _ (fun j _ hj => ⟨rfl, rfl⟩) D2
      · rw [kk_sm_app, List.length_append]
        omega
      · rw [kk_sm_app]
        omega
    · obtain ⟨c1, c2, c3, l1, l2, l3, htt, l4, l5, l6, _⟩ := nn_p3 ok hx h3 h4 h4' h5 h6 h7 h8 h10
      have hy : (bb_pa b x).toNatClampNeg = y := by rw [h1]; exact nI_clamp (by omega)
      have hz : (bb_pb b x).toNatClampNeg = z := by rw [h2]; exact nI_clamp (by omega)
      have hu : (bb_pc b x).toNatClampNeg = u := by rw [h2']; exact nI_clamp (by omega)
      refine kk_s_h0 t x (by omega) ht (by omega) (by omega) htx hph kd h1 (by omega) ?_
      refine ih y (x :: l) (by omega) ⟨c1, hp⟩ (i + 1) (t + 1) p pn _ rfl pk_us pk_us hs hn hG (by omega) (by omega) (by omega) (by omega) (fun c2' q1 fs1 i1 K1 D1 S1 S1' L1 => ?_)
      obtain ⟨Fr1, a1, a2, a3, a4, a5, a6⟩ := K1
      have len1 := kk_len ok fs1 a6
      have tx1 : qq_task c2' t = nI x := (Fr1.2.1 t (by omega)).1.trans ((pk_un (by omega)).trans htx)
      have ph1 : qq_phase c2' t = nI 1 := (Fr1.2.1 t (by omega)).2.1.trans ((pk_un (by omega)).trans pk_us)
      have G1 := kk_cd_lt D1
      refine kk_s_h1 t x (by omega) a1 (by omega) (by omega) tx1 ph1 kd h2 (by omega) q1 a2 (by omega) ?_
      refine ih z (x :: l) (by omega) ⟨c2, hp⟩ (i1 + 1) (t + 1) (q1 + 1) (pn + fs1.length) _ rfl pk_us pk_us rfl a3 a4 (by omega) (by omega) (by omega) (by omega) (fun c4 q2 fs2 i2 K2 D2 S2 S2' L2 => ?_)
      obtain ⟨Fr2, b1, b2, b3, b4, b5, b6⟩ := K2
      have len2 := kk_len ok fs2 b6
      have tx2 : qq_task c4 t = nI x := (Fr2.2.1 t (by omega)).1.trans ((pk_un (by omega)).trans tx1)
      have ph2 : qq_phase c4 t = nI 2 := (Fr2.2.1 t (by omega)).2.1.trans ((pk_un (by omega)).trans pk_us)
      have ho2 : qq_hole c4 t = nI q1 := (Fr2.2.1 t (by omega)).2.2.trans pk_us
      have G2 := kk_cd_lt D2
      refine kk_s_h2 t x (by omega) b1 (by omega) (by omega) tx2 ph2 kd h2' (by omega) q2 q1 b2 (by omega) ho2 (by omega) ?_
      refine ih u (x :: l) (by omega) ⟨c3, hp⟩ (i2 + 1) (t + 1) (q2 + 1) (pn + fs1.length + fs2.length) _ rfl pk_us pk_us rfl b3 b4 (by omega) (by omega) (by omega) (by omega) (fun c6 q3 fs3 i3 K3 D3 S3 S3' L3 => ?_)
      obtain ⟨Fr3, d1, d2, d3, d4, d5, d6⟩ := K3
      have len3 := kk_len ok fs3 d6
      have tx3 : qq_task c6 t = nI x := (Fr3.2.1 t (by omega)).1.trans ((pk_un (by omega)).trans tx2)
      have ph3 : qq_phase c6 t = nI 3 := (Fr3.2.1 t (by omega)).2.1.trans ((pk_un (by omega)).trans pk_us)
      have ho3 : qq_hole c6 t = nI q2 := (Fr3.2.1 t (by omega)).2.2.trans pk_us
      have G3 := kk_cd_lt D3
      refine kk_s_h3 t x (by omega) d1 (by omega) (by omega) tx3 ph3 kd q3 q2 d2 ho3 (by omega) ?_
      have Fa := kk_Fr_t (c := c) (t := t) (p := p) (pn := pn) kk_Fr_b Fr1 (by omega) (Nat.le_refl _) (Nat.le_refl _)
      have Fc : kk_Fr c4 (qq_h3 c6 t (3 + 1) q2 q3) t q1 (pn + fs1.length + fs2.length) :=
        kk_Fr_t (kk_Fr_t (kk_Fr_h2 (by omega) (Nat.le_refl q1)) Fr3 (by omega) (by omega) (Nat.le_refl _)) (kk_Fr_h3 (by omega)) (Nat.le_refl t) (Nat.le_refl q1) (Nat.le_refl _)
      have Fb : kk_Fr c2' (qq_h3 c6 t (3 + 1) q2 q3) t q1 (pn + fs1.length) :=
        kk_Fr_t (kk_Fr_t (kk_Fr_h1 (Nat.le_refl q1)) Fr2 (by omega) (by omega) (Nat.le_refl _)) Fc (Nat.le_refl t) (Nat.le_refl q1) (by omega)
      have E1 : qq_code c6 q1 = 18 := (Fr3.1 q1 (by omega)).1.trans ((pk_un (by omega)).trans ((Fr2.1 q1 (by omega)).1.trans pk_us))
      have E2 : qq_extra c6 q1 = nI (q2 + 1) := (Fr3.1 q1 (by omega)).2.trans ((pk_un (by omega)).trans pk_us)
      have E3 : qq_code c6 q2 = 19 := (Fr3.1 q2 (by omega)).1.trans pk_us
      have agree : ∀ j, q1 + 1 ≤ j → j < q2 → qq_code (qq_h3 c6 t (3 + 1) q2 q3) j = qq_code c4 j ∧ qq_extra (qq_h3 c6 t (3 + 1) q2 q3) j = qq_extra c4 j :=
        fun j j1 j2 => ⟨(Fr3.1 j (by omega)).1.trans (pk_un (by omega)), (pk_un (by omega)).trans ((Fr3.1 j (by omega)).2.trans ((pk_un (by omega)).trans (pk_un (by omega))))⟩
      refine H _ q3 (fs1 ++ (fs2 ++ fs3)) (i3 + 1) ⟨kk_Fr_t Fa Fb (Nat.le_refl t) (by omega) (by omega), rfl, d2, ?_, d4, kk_pf_app _ fs1 (fs2 ++ fs3) pn ?_ (kk_pf_app _ fs2 fs3 (pn + fs1.length) ?_ d5), fun w hw => ?_⟩ (kk_cd5 kd ?_ E1 ((pk_un (by omega)).trans E2) ?_ E3 pk_us ?_) ?_ ?_ (by omega)
      · rw [List.length_append, List.length_append, ← Nat.add_assoc, ← Nat.add_assoc]
        exact d3
      · exact kk_pf_c fs1 pn (pn + fs1.length) (Nat.le_refl _) Fb.2.2.1 a5
      · exact kk_pf_c fs2 (pn + fs1.length) (pn + fs1.length + fs2.length) (Nat.le_refl _) Fc.2.2.1 b5
      · rcases List.mem_append.mp hw with hw | hw
        · exact a6 w hw
        · rcases List.mem_append.mp hw with hw | hw
          · exact b6 w hw
          · exact d6 w hw
      · rw [hy]
        exact kk_cd_mono Fb.2.2.2.2 (fun g lg hg => List.mem_append_left _ hg) _ _ _ _ _ (fun j _ hj => Fb.1 j hj) D1
      · rw [hz]
        exact kk_cd_mono Fc.2.2.2.2 (fun g lg hg => List.mem_append_right _ (List.mem_append_left _ hg)) _ _ _ _ _ agree D2
      · rw [hu]
        exact kk_cd_mono (c := c6) (c' := qq_h3 c6 t (3 + 1) q2 q3) (fun _ hj => hj) (fun g lg hg => List.mem_append_right _ (List.mem_append_right _ hg)) _ _ _ _ _ (fun j j1 j2 => ⟨rfl, pk_un (by omega)⟩) D3
      · rw [kk_sm_app, kk_sm_app, List.length_append, List.length_append]
        omega
      · rw [kk_sm_app, kk_sm_app]
        omega
end
section
theorem kk_pf_at (pf : Nat → Int32) : ∀ (ds es : List (Nat × List Nat)) (y : Nat × List Nat) (n : Nat), kk_pf pf n (ds ++ y :: es) → pf (n + ds.length) = nI y.1
  | [], es, y, n, h => h.1
  | d :: ds, es, y, n, h => by
    have := kk_pf_at pf ds es y (n + 1) h.2
    rw [show n + (d :: ds).length = n + 1 + ds.length by simp only [List.length_cons]; omega]
    exact this
section
variable {post : St1 → Prop} {b : bb_T} {v : vv_T} {lo : Nat → Nat} {N : Nat}
theorem cc_w_compile (ok : nn_ok b lo N) {c : qq_T} {x : Nat} {l : List Nat} (p pn : Nat) (hp : nn_pt b lo N x l) (hs : qq_size c = nI p) (hn : qq_pending c = nI pn) (hG : kk_G b lo N c) (bp : p + 2 * (x + 1 - lo x) < 128) (bn : pn + (x + 1 - lo x) ≤ 24)
    (H : ∀ c' q fs, kk_Fr c c' 0 p pn → qq_size c' = nI (q + 1) → qq_pending c' = nI (pn + fs.length) → kk_G b lo N c' → kk_pf (qq_pf c') pn fs → (∀ y, y ∈ fs → bb_kind b y.1 = 7 ∧ nn_pt b lo N y.1 y.2) →
      kk_cd b c' (fun g lg => (g, lg) ∈ fs) 24 x l p q → qq_code c' q = 20 → q + 2 * kk_sm lo fs ≤ p + 2 * (x + 1 - lo x) + fs.length → kk_sm lo fs ≤ x + 1 - lo x → post (cc_u b c' v)) :
    wpX_compile post (cc_u b c v) (nI x) := by
  have hx := nn_pt_lt hp
  have hN := ok.1
  unfold wpX_compile cc_u
  dsimp only
  refine cc_w_begin (b := b) (c := qq_s_tasks c 0) (v := v) 0 rfl (by omega) ?_
  refine ⟨201, ?_⟩
  refine kk_node (post := post) (v := v) ok 24 x l (by omega) hp 0 0 p pn (qq_begin (qq_s_tasks c 0) 0 (nI x)) rfl (show upd (qq_task c) 0 (nI x) 0 = nI x from pk_us) (show upd (qq_phase c) 0 0 0 = nI 0 from pk_us) hs hn hG (by omega) bp bn (by omega) (fun c' q fs i' K D S S' L => ?_)
  obtain ⟨Fr, a1, a2, a3, a4, a5, a6⟩ := K
  have len := kk_len ok fs a6
  refine kk_exit (by omega) a1 a2 (by omega) ?_
  have G := kk_cd_lt D
  refine H _ q fs ?_ rfl a3 a4 a5 a6 (kk_cd_mono (c := c') (c' := qq_emit c' q 20 0) (fun _ h => h) (fun _ _ h => h) _ _ _ _ _ (fun j _ hj => ⟨pk_un (by omega), pk_un (by omega)⟩) D) pk_us S S'
  obtain ⟨f1, f2, f3, f4, f5⟩ := Fr
  exact ⟨fun j hj => ⟨(pk_un (by omega)).trans (f1 j hj).1, (pk_un (by omega)).trans (f1 j hj).2⟩, fun j hj => absurd hj (by omega), f3, f4, f5⟩
/-- all that compileAll leaves for the machine -/
def kk_prog (b : bb_T) (lo : Nat → Nat) (N : Nat) (c : qq_T) (x : Nat) : Prop :=
  kk_G b lo N c ∧ ∃ Fn : Nat → List Nat → Prop, (∀ g lg, Fn g lg → kk_fn b c Fn g lg) ∧ ∃ n q, kk_cd b c Fn n x [] 0 q ∧ qq_code c q = 20 ∧ q < 128
theorem cc_w_pend (ok : nn_ok b lo N) {x : Nat} : ∀ (m : Nat) (ds es : List (Nat × List Nat)) (c : qq_T) (p : Nat), ds.length + m = 24 →
    qq_pending c = nI (ds ++ es).length → kk_pf (qq_pf c) 0 (ds ++ es) → kk_G b lo N c → qq_size c = nI p → (∀ y, y ∈ ds ++ es → bb_kind b y.1 = 7 ∧ nn_pt b lo N y.1 y.2) →
    (∀ y, y ∈ ds → ∃ n e q, qq_entry c y.1 = nI e ∧ kk_cd b c (fun g lg => (g, lg) ∈ ds ++ es) n (bb_pa b y.1).toNatClampNeg (y.1 :: y.2) e q ∧ qq_code c q = 20 ∧ q < p) →
    (∃ n q, kk_cd b c (fun g lg => (g, lg) ∈ ds ++ es) n x [] 0 q ∧ qq_code c q = 20 ∧ q < p) →
    p + 2 * kk_sm lo es ≤ 49 + es.length → ds.length + kk_sm lo es ≤ 24 →
    (∀ c', kk_prog b lo N c' x → post (cc_u b c' v)) → cc_Xa post (m + 1) (nI ds.length) b c v := by
  intro m
  induction m with
  | zero =>
    intro ds es c p hm hpe hpf hG hs hl hd htop cost cost2 H
    have len := kk_len ok es (fun y hy => hl y (List.mem_append_right _ hy))
    have e0 : es = [] := by
      cases es with
      | nil => rfl
      | cons y ys =>
        simp only [List.length_cons] at len
        omega
    subst e0
    rw [List.append_nil] at hpe hd htop
    have hp' : p < 128 := by simp only [kk_sm, List.length_nil] at cost; omega
    refine pk_le ds.length ds.length (fun _ => H c ⟨hG, fun g lg => (g, lg) ∈ ds, fun g lg hg => ?_, ?_⟩) (fun z => absurd z (by omega)) hpe
    · obtain ⟨n, e, q, q1, q2, q3, q4⟩ := hd (g, lg) hg
      exact ⟨n, e, q, q1, q2, q3, by omega⟩
    · obtain ⟨n, q, q1, q2, q3⟩ := htop
      exact ⟨n, q, q1, q2, by omega⟩
  | succ m ih =>
    intro ds es c p hm hpe hpf hG hs hl hd htop cost cost2 H
    have hN := ok.1
    cases es with
    | nil =>
      rw [List.append_nil] at hpe hd htop
      have hp' : p < 128 := by simp only [kk_sm, List.length_nil] at cost; omega
      refine pk_le ds.length ds.length (fun _ => H c ⟨hG, fun g lg => (g, lg) ∈ ds, fun g lg hg => ?_, ?_⟩) (fun z => absurd z (by omega)) hpe
      · obtain ⟨n, e, q, q1, q2, q3, q4⟩ := hd (g, lg) hg
        exact ⟨n, e, q, q1, q2, q3, by omega⟩
      · obtain ⟨n, q, q1, q2, q3⟩ := htop
        exact ⟨n, q, q1, q2, by omega⟩
    | cons y es =>
      obtain ⟨f, lf⟩ := y
      have hpl : (ds ++ (f, lf) :: es).length = ds.length + (es.length + 1) := by simp only [List.length_append, List.length_cons]
      have len := kk_len ok es (fun y hy => hl y (List.mem_append_right _ (List.mem_cons_of_mem _ hy)))
      simp only [kk_sm, List.length_cons] at cost cost2
      obtain ⟨kf, pf⟩ := hl (f, lf) (List.mem_append_right _ List.mem_cons_self)
      dsimp only at kf pf
      have hf := nn_pt_lt pf
      obtain ⟨y, y1, y2, y3, y4, y5⟩ := ee_fpart ok hf kf
      have hy : (bb_pa b f).toNatClampNeg = y := by rw [y1]; exact nI_clamp (by omega)
      have at0 := kk_pf_at (qq_pf c) ds es (f, lf) 0 hpf
      rw [Nat.zero_add] at at0
      have ed : (nI ds.length).toNatClampNeg = ds.length := nI_clamp (by omega)
      have ef : (nI f).toNatClampNeg = f := nI_clamp (by omega)
      have i1 : vp_in (nI f) 24 := pk_in f 24 (by omega)
      rw [hpl] at hpe
      refine pk_le (ds.length + (es.length + 1)) ds.length (fun z => absurd z (by omega)) (fun _ => And.intro (pk_in ds.length 24 (by omega)) (nm_r (show qq_pf c (nI ds.length).toNatClampNeg = nI f by rw [ed]; exact at0) (And.intro i1 (nm_r (show upd (qq_entry c) (nI f).toNatClampNeg (qq_size c) = upd (qq_entry c) f (nI p) by rw [ef, hs]) (And.intro i1 ?_))))) hpe
      rw [show bb_pa b (nI f).toNatClampNeg = nI y by rw [ef]; exact y1]
      refine cc_w_compile (c := qq_s_entry c (upd (qq_entry c) f (nI p))) ok (l := f :: lf) p (ds.length + (es.length + 1)) ⟨y3, pf⟩ hs hpe hG (by omega) (by omega) (fun c' q fs Fr z1 z2 z3 z4 z5 z6 z7 z8 z9 => ?_)
      obtain ⟨f1, f2, f3, f4, f5⟩ := Fr
      have lt := kk_cd_lt z6
      have lenf := kk_len ok fs z5
      have eq1 : (ds ++ [(f, lf)]) ++ (es ++ fs) = (ds ++ (f, lf) :: es) ++ fs := by simp
      have eq2 : (ds ++ [(f, lf)]).length = ds.length + 1 := by simp
      refine nm_r (nI_1 ds.length) ?_
      rw [← eq2]
      have sub1 : ∀ g lg, (g, lg) ∈ ds ++ (f, lf) :: es → (g, lg) ∈ (ds ++ [(f, lf)]) ++ (es ++ fs) := fun g lg h => by
        rw [eq1]
        exact List.mem_append_left _ h
      refine ih (ds ++ [(f, lf)]) (es ++ fs) c' (q + 1) (by omega) ?_ ?_ z3 z1 ?_ ?_ ?_ ?_ ?_ H
      · rw [eq1, List.length_append, hpl]
        exact z2
      · rw [eq1]
        refine kk_pf_app _ _ _ 0 ?_ ?_
        · exact kk_pf_c _ 0 (ds.length + (es.length + 1)) (by rw [hpl]; omega) f3 hpf
        · rw [hpl, Nat.zero_add]
          exact z4
      · rw [eq1]
        intro w hw
        rcases List.mem_append.mp hw with hw | hw
        · exact hl w hw
        · exact z5 w hw
      · intro w hw
        have new : ∃ n e q', qq_entry c' f = nI e ∧ kk_cd b c' (fun g lg => (g, lg) ∈ (ds ++ [(f, lf)]) ++ (es ++ fs)) n (bb_pa b f).toNatClampNeg (f :: lf) e q' ∧ qq_code c' q' = 20 ∧ q' < q + 1 := by
          refine ⟨24, p, q, ?_, ?_, z7, by omega⟩
          · rw [f4]
            exact pk_us
          · rw [hy]
            exact kk_cd_mono (fun _ h => h) (fun g lg h => List.mem_append_right _ (List.mem_append_right _ h)) _ _ _ _ _ (fun j _ _ => ⟨rfl, rfl⟩) z6
        by_cases ew : w.1 = f
        · have pw := (hl w (by
            rcases List.mem_append.mp hw with hw | hw
            · exact List.mem_append_left _ hw
            · rw [List.mem_singleton] at hw
              rw [hw]
              exact List.mem_append_right _ List.mem_cons_self)).2
          have el := nn_pt_det hN w.2 lf f (by rw [← ew]; exact pw) pf
          rw [ew, el]
          exact new
        · rcases List.mem_append.mp hw with hw | hw
          · obtain ⟨n, e, q', q1, q2, q3, q4⟩ := hd w hw
            have lt2 := kk_cd_lt q2
            refine ⟨n, e, q', ?_, ?_, ((f1 q' (by omega)).1).trans q3, by omega⟩
            · rw [f4]
              exact (pk_un ew).trans q1
            · exact kk_cd_mono (c := c) (c' := c') f5 sub1 _ _ _ _ _ (fun j _ hj => f1 j (by omega)) q2
          · rw [List.mem_singleton] at hw
            rw [hw] at ew
            exact absurd rfl ew
      · obtain ⟨n, q', q1, q2, q3⟩ := htop
        have lt2 := kk_cd_lt q1
        exact ⟨n, q', kk_cd_mono (c := c) (c' := c') f5 sub1 _ _ _ _ _ (fun j _ hj => f1 j (by omega)) q1, ((f1 q' (by omega)).1).trans q2, by omega⟩
      · rw [kk_sm_app, List.length_append]
        omega
      · rw [eq2, kk_sm_app]
        omega
theorem cc_w_gcl {x : Int32} {c : qq_T} (H : ∀ GC, (∀ j, j < 96 → GC j = -1) → ∀ Q : St1 → Prop, (∀ c', (∃ fu, cc_Xa post fu 0 b c' v) → Q (cc_u b c' v)) → wpX_compile Q (cc_u b (qq_s_gc c GC) v) x) :
    ∀ (m i : Nat) (GC : Nat → Int32), i + m = 96 → (∀ j, j < i → GC j = -1) → cc_Xg post x (m + 1) (nI i) b c v GC := by
  intro m
  induction m with
  | zero =>
    intro i GC hi h
    exact pk_le 96 i (fun _ => H GC (fun j hj => h j (by omega)) _ (fun c' h' => h')) (fun z => absurd z (by omega))
  | succ m ih =>
    intro i GC hi h
    refine pk_le 96 i (fun z => absurd z (by omega)) (fun _ => And.intro (pk_in i 96 (by omega)) (nm_r (congrArg (fun z => upd GC z (-1)) (nI_clamp (show i < 2 ^ 31 by omega))) (nm_r (nI_1 i) ?_)))
    refine ih (i + 1) (upd GC i (-1)) (by omega) (fun j hj => ?_)
    by_cases e : j = i
    · rw [e, pk_us]
    · rw [pk_un e]
      exact h j (by omega)
theorem cc_w_all (ok : nn_ok b lo N) {c : qq_T} {x : Nat} (hx : nn_pt b lo N x []) (H : ∀ c', kk_prog b lo N c' x → post (cc_u b c' v)) : wpX_compileAll post (cc_u b c v) (nI x) := by
  have hN := ok.1
  have hx' := nn_pt_lt hx
  refine ⟨97, ?_⟩
  refine cc_w_gcl (post := post) (b := b) (v := v) (c := qq_s_pending (qq_s_size c 0) 0) (x := nI x) (fun GC hGC Q HQ => ?_) 96 0 (qq_gc c) (by omega) (fun j hj => absurd hj (by omega))
  refine cc_w_compile (c := qq_s_gc (qq_s_pending (qq_s_size c 0) 0) GC) ok 0 0 hx rfl rfl ?_ (by omega) (by omega) (fun c' q fs Fr z1 z2 z3 z4 z5 z6 z7 z8 z9 => ?_)
  · intro g lg h1 h2 j hj hc
    have hg := nn_pt_lt h2
    have e : qq_gc (qq_s_gc (qq_s_pending (qq_s_size c 0) 0) GC) (g * 4 + j) = -1 := hGC _ (by omega)
    rw [e] at hc
    exact absurd (by decide) hc
  · have lenf := kk_len ok fs z5
    rw [Nat.zero_add] at z2
    exact HQ c' ⟨25, cc_w_pend (post := post) (v := v) ok (x := x) 24 [] fs c' (q + 1) rfl z2 z4 z3 z1 z5 (fun y hy => absurd hy (by simp)) ⟨24, q, z6, z7, by omega⟩ (by omega) (by simp only [List.length_nil]; omega) H⟩
end
end
section
def ee_s0 : ee_S := (0, 0, fun _ => (0, []), fun _ _ => (0, 0))
def ee_run (b : bb_T) (x : Nat) : ee_R := ee_ev b 1500 x [] (fun _ => (0, 0)) (0, 0) 0 ee_s0
def ee_end (b : bb_T) (x : Nat) : Int32 := if (ee_run b x).1 = -1 then (ee_run b x).2.1.1 else (ee_run b x).1
theorem ee_pre0 {b : bb_T} {lo : Nat → Nat} {N x : Nat} (ok : nn_ok b lo N) (hx : nn_pt b lo N x []) : ee_pre b lo N 1500 x [] (fun _ => (0, 0)) (0, 0) 0 ee_s0 := by
  have hN := ok.1
  have hx' := nn_pt_lt hx
  refine ⟨hx, ?_, ⟨by decide, fun k hk => absurd hk (Nat.not_lt_zero k)⟩, ⟨fun k hk => absurd hk (Nat.not_lt_zero k), fun g lg hg => absurd hg (by simp [nn_en])⟩, ?_⟩
  · show x + 24 * (60 - 0) < 1500
    omega
  · show 2 * 0 + (x + 1 - lo x) ≤ 24 * (0 + 1)
    omega
theorem ee_vd_tag {K : Nat} {y : ee_V} (h : ee_vd K y) : y.1 = 0 ∨ y.1 = 1 ∨ y.1 = 2 := by
  rcases h with h | ⟨h, _⟩ | h
  · exact Or.inl h
  · exact Or.inr (Or.inl h)
  · exact Or.inr (Or.inr h)
section
variable {b : bb_T} {c : qq_T} {v : vv_T} {lo : Nat → Nat} {N : Nat}
theorem cc_w_exec {post : St1 → Prop} (ok : nn_ok b lo N) (h x : Nat) (hh : bb_height b = nI (h + 1)) (h6 : h < 6) (hs : bb_stack b h = nI x) (hx : nn_pt b lo N x [])
    (H : ∀ c' v', vv_ended v' = ee_end b x → vv_called v' = nI (ee_run b x).2.2.1 → vv_closures v' = nI (ee_run b x).2.2.2.1 → (ee_end b x = 0 → vv_values v' = nI 1 ∧ vv_datum v' 0 = (ee_run b x).2.1.2) → post (cc_u b c' v')) :
    wpX_execute post (cc_u b c v) := by
  have hN := ok.1
  have hx' := nn_pt_lt hx
  have e1 : bb_height b - 1 = nI h := by rw [hh]; exact nI_pred h
  refine And.intro (pk_in h 6 h6 e1) ?_
  rw [show bb_stack b (bb_height b - 1).toNatClampNeg = nI x by rw [e1, nI_clamp (by omega)]; exact hs]
  refine cc_w_all ok hx (fun c' hprog => ?_)
  obtain ⟨hG, Fn, hFn, n, q, hcd, hc20, hq⟩ := hprog
  refine nm_e (nm_e ⟨8001, ?_⟩)
  have P := ee_pre0 ok hx
  have I := ee_pure ok 1500 x [] (fun _ => (0, 0)) (0, 0) 0 ee_s0 P
  have lt := kk_cd_lt hcd
  have I60 := I.1.1
  refine mm_vm (post := post) ok hG hFn 1500 x [] (fun _ => (0, 0)) (0, 0) 0 ee_s0 P n 0 q 0 0 0
    (vv_s_values (vv_s_frames (vv_s_closures (vv_s_called (vv_s_ended (vv_s_back (vv_s_run v (upd (vv_run v) 0 0)) (upd (vv_back v) 0 0)) (-1)) 0) 0) 1) 0) hcd (by omega) (by show 0 + q ≤ 128 * (0 + 1) + 0; omega) (by omega) (Nat.le_refl 0)
    ⟨rfl, rfl, rfl, rfl, rfl, fun k hk => absurd hk (Nat.not_lt_zero k)⟩ ⟨fun k hk => absurd hk (Nat.not_lt_zero k), fun g lg hg => absurd hg (by simp [nn_en])⟩ ?_ ?_
  · intro e v' q1 q2 q3
    have eE : ee_end b x = (ee_run b x).1 := if_neg e
    refine H c' v' (q1.trans eE.symm) q2 q3 (fun z => ?_)
    rw [eE] at z
    rcases I.2.2.1 with y | y | y
    · exact absurd y e
    · exact absurd (y.symm.trans z) (by decide)
    · exact absurd (y.symm.trans z) (by decide)
  · intro e v' i' X F T L
    have eE : ee_end b x = (ee_run b x).2.1.1 := if_pos e
    obtain ⟨X1, X2, X3, X4, X5, X6⟩ := X
    have t1 : vv_tag v' 0 = (ee_run b x).2.1.1 := by
      show _ = (ee_ev b 1500 x [] (fun _ => (0, 0)) (0, 0) 0 ee_s0).2.1.1
      rw [← T]
    have t2 : vv_datum v' 0 = (ee_run b x).2.1.2 := by
      show _ = (ee_ev b 1500 x [] (fun _ => (0, 0)) (0, 0) 0 ee_s0).2.1.2
      rw [← T]
    have L' : i' + 0 + 0 ≤ 0 + q + 128 * (ee_ev b 1500 x [] (fun _ => (0, 0)) (0, 0) 0 ee_s0).2.2.1 := L
    refine mm_i_last q 0 (by omega) X1 hq hc20 X3 X2 (by omega) ?_ ?_
    · rw [t1]
      rcases ee_vd_tag (I.2.2.2.2.1 e) with y | y | y
      · rw [show (ee_run b x).2.1.1 = 0 from y]
        decide
      · rw [show (ee_run b x).2.1.1 = 1 from y]
        decide
      · rw [show (ee_run b x).2.1.1 = 2 from y]
        decide
    · exact H c' _ (t1.trans eE.symm) X4 X5 (fun _ => ⟨X2, t2⟩)
theorem cc_w_run {post : Int32 → St1 → Prop} (ok : nn_ok b lo N) (h x : Nat) (hh : bb_height b = nI (h + 1)) (h6 : h < 6) (hs : bb_stack b h = nI x) (hx : nn_pt b lo N x [])
    (H : ∀ c' v', post (ee_end b x) (cc_u b c' v')) : wpX_run post (cc_u b c v) := by
  refine br_f (show ¬ bb_height b = 0 by rw [hh]; exact nI_ne0 (by omega) (by omega)) (cc_w_exec (c := c) (v := v) ok h x hh h6 hs hx (fun c' v' q1 q2 q3 q4 => ?_))
  have := H c' v'
  rw [← q1] at this
  exact this
theorem cc_w_calls {post : Int32 → St1 → Prop} (ok : nn_ok b lo N) (h x : Nat) (hh : bb_height b = nI (h + 1)) (h6 : h < 6) (hs : bb_stack b h = nI x) (hx : nn_pt b lo N x [])
    (H : ∀ c' v', post (nI (ee_run b x).2.2.1) (cc_u b c' v')) : wpX_calls post (cc_u b c v) := by
  refine br_f (show ¬ bb_height b = 0 by rw [hh]; exact nI_ne0 (by omega) (by omega)) (cc_w_exec (c := c) (v := v) ok h x hh h6 hs hx (fun c' v' q1 q2 q3 q4 => ?_))
  have := H c' v'
  rw [← q2] at this
  exact this
theorem cc_w_closures {post : Int32 → St1 → Prop} (ok : nn_ok b lo N) (h x : Nat) (hh : bb_height b = nI (h + 1)) (h6 : h < 6) (hs : bb_stack b h = nI x) (hx : nn_pt b lo N x [])
    (H : ∀ c' v', post (nI (ee_run b x).2.2.2.1) (cc_u b c' v')) : wpX_closures post (cc_u b c v) := by
  refine br_f (show ¬ bb_height b = 0 by rw [hh]; exact nI_ne0 (by omega) (by omega)) (cc_w_exec (c := c) (v := v) ok h x hh h6 hs hx (fun c' v' q1 q2 q3 q4 => ?_))
  have := H c' v'
  rw [← q3] at this
  exact this
def ee_val (b : bb_T) (x : Nat) : Int32 := if ee_end b x = 0 then (ee_run b x).2.1.2 else 0
theorem cc_w_value {post : Int32 → St1 → Prop} (ok : nn_ok b lo N) (h x : Nat) (hh : bb_height b = nI (h + 1)) (h6 : h < 6) (hs : bb_stack b h = nI x) (hx : nn_pt b lo N x [])
    (H : ∀ c' v', post (ee_val b x) (cc_u b c' v')) : wpX_value post (cc_u b c v) := by
  refine br_f (show ¬ bb_height b = 0 by rw [hh]; exact nI_ne0 (by omega) (by omega)) (cc_w_exec (c := c) (v := v) ok h x hh h6 hs hx (fun c' v' q1 q2 q3 q4 => ?_))
  have := H c' v'
  unfold ee_val at this
  refine ek_if (show vv_ended v' = 0 ↔ ee_end b x = 0 by rw [q1]) (fun z => ?_) (fun z => ?_)
  · obtain ⟨r1, r2⟩ := q4 z
    have e1 : vv_values v' - 1 = nI 0 := by rw [r1]; exact nI_pred 0
    refine And.intro (pk_in 0 1600 (by omega) e1) ?_
    rw [show vv_datum v' (vv_values v' - 1).toNatClampNeg = (ee_run b x).2.1.2 by rw [e1, nI_clamp (by omega)]; exact r2]
    rw [if_pos z] at this
    exact this
  · rw [if_neg z] at this
    exact this
end
end
section
/-- nothing around x gives the name v its meaning -/
def nn_fr (b : bb_T) : Nat → List Nat → Int32 → Bool
  | _, [], _ => true
  | x, w :: l, v =>
    if bb_kind b w = 6 ∧ bb_pl b x = 1 ∧ bb_num b w = v then false
    else if bb_kind b w = 7 then
      (if bb_num b w &&& 3 = v then false
       else if bb_num b w >>> ((2 : Int32) &&& 31) = v then false
       else nn_fr b w l v)
    else nn_fr b w l v
theorem nn_fr_lk (b : bb_T) (v : Int32) : ∀ (l : List Nat) (x : Nat),
    ((nn_lk b x l v).2.2 = none → ((nn_lk b x l v).1 = 15 ↔ nn_fr b x l v = true)) ∧ (∀ g lg, (nn_lk b x l v).2.2 = some (g, lg) → nn_fr b x l v = nn_fr b g lg v)
  | [], x => ⟨fun _ => ⟨fun _ => rfl, fun _ => rfl⟩, fun g lg h => absurd h (by simp [nn_lk])⟩
  | w :: l, x => by
    have ih := nn_fr_lk b v l w
    simp only [nn_lk, nn_fr]
    by_cases k6 : bb_kind b w = 6 ∧ bb_pl b x = 1 ∧ bb_num b w = v
    · rw [if_pos k6, if_pos k6]
      refine ⟨fun _ => ⟨fun z => absurd z (show ¬ (11 : Int32) = 15 by decide), fun z => absurd z (by decide)⟩, fun g lg h => absurd h (by simp)⟩
    · rw [if_neg k6, if_neg k6]
      by_cases k7 : bb_kind b w = 7
      · rw [if_pos k7, if_pos k7]
        by_cases c1 : bb_num b w &&& 3 = v
        · rw [if_pos c1, if_pos c1]
          refine ⟨fun _ => ⟨fun z => absurd z (show ¬ (12 : Int32) = 15 by decide), fun z => absurd z (by decide)⟩, fun g lg h => absurd h (by simp)⟩
        · rw [if_neg c1, if_neg c1]
          by_cases c2 : bb_num b w >>> ((2 : Int32) &&& 31) = v
          · rw [if_pos c2, if_pos c2]
            refine ⟨fun _ => ⟨fun z => absurd z (show ¬ (13 : Int32) = 15 by decide), fun z => absurd z (by decide)⟩, fun g lg h => absurd h (by simp)⟩
          · rw [if_neg c2, if_neg c2]
            refine ⟨fun h => absurd h (by simp), fun g lg h => ?_⟩
            simp only [Option.some.injEq, Prod.mk.injEq] at h
            rw [h.1, h.2]
      · rw [if_neg k7, if_neg k7]
        exact ih
def nn_an (b : bb_T) : Nat → Nat → List Nat
  | 0, _ => []
  | m + 1, x => if bb_wh b x < 0 then [] else (bb_wh b x).toNatClampNeg :: nn_an b m (bb_wh b x).toNatClampNeg
theorem nn_an_pt {b : bb_T} {lo : Nat → Nat} {N : Nat} (hN : N ≤ 24) : ∀ (m : Nat) (l : List Nat) (x : Nat), nn_pt b lo N x l → l.length ≤ m → nn_an b m x = l
  | 0, [], _, _, _ => rfl
  | 0, w :: l, _, _, h => absurd h (by simp)
  | m + 1, [], x, h, _ => by
    rw [nn_an, if_pos]
    rw [h.2]
    decide
  | m + 1, w :: l, x, h, hm => by
    simp only [List.length_cons] at hm
    have hw : w < 24 := by have := nn_pt_lt h.2; omega
    have e := nn_an_pt hN m l w h.2 (by omega)
    rw [nn_an, h.1.2.1, if_neg (nI_pos (by omega)), nI_clamp (by omega), e]
def nn_fb (b : bb_T) (t x : Nat) : Bool := decide (bb_kind b x = 9) && decide (t ∈ x :: nn_an b 24 x) && nn_fr b x (nn_an b 24 x) (bb_num b x)
def nn_mk (b : bb_T) (t : Nat) : Nat → Int32
  | 0 => 0
  | x + 1 => if nn_fb b t x = true then nn_mk b t x ||| ((1 : Int32) <<< (bb_num b x &&& 31)) else nn_mk b t x
section
variable {b : bb_T} {c : qq_T} {v : vv_T} {lo : Nat → Nat} {N : Nat}
theorem cc_w_inl {post : Int32 → Prop} {t : Nat} (hN : N ≤ 24) (ht : t < 24) : ∀ (l : List Nat) (x i : Nat), nn_pt b lo N x l → i + l.length < 24 → post (if t ∈ x :: l then 1 else 0) → cc_Xi post (nI t) b c v (l.length + 1) (nI x) (nI i)
  | [], x, i, hp, hi, H => by
    simp only [List.length_nil] at hi
    have hx : x < 24 := by have := hp.1; omega
    have ex : (nI x).toNatClampNeg = x := nI_clamp (by omega)
    have i1 : vp_in (nI x) 24 := pk_in x 24 hx
    refine pk_le 24 i (fun z => absurd z (by omega)) (fun _ => ?_)
    by_cases e : x = t
    · rw [if_pos (by rw [e]; exact List.mem_cons_self)] at H
      exact br_t (congrArg nI e) (br_t (congrArg nI e) H)
    · rw [if_neg (by simp only [List.mem_cons, List.not_mem_nil, or_false]; exact fun z => e z.symm)] at H
      have e' : ¬ nI x = nI t := fun z => e ((nI_eq (by omega) (by omega)).mp z)
      refine br_f e' (And.intro i1 (br_t ?_ (br_f e' H)))
      show bb_wh b (nI x).toNatClampNeg < 0
      rw [ex, hp.2]
      decide
  | w :: l, x, i, hp, hi, H => by
    simp only [List.length_cons] at hi
    have hw : w < 24 := by have := nn_pt_lt hp.2; omega
    have hx : x < 24 := by have := hp.1.1; omega
    have ex : (nI x).toNatClampNeg = x := nI_clamp (by omega)
    have i1 : vp_in (nI x) 24 := pk_in x 24 hx
    have e6 : bb_wh b (nI x).toNatClampNeg = nI w := by rw [ex]; exact hp.1.2.1
    refine pk_le 24 i (fun z => absurd z (by omega)) (fun _ => ?_)
    by_cases e : x = t
    · rw [if_pos (by rw [e]; exact List.mem_cons_self)] at H
      exact br_t (congrArg nI e) (br_t (congrArg nI e) H)
    · have e' : ¬ nI x = nI t := fun z => e ((nI_eq (by omega) (by omega)).mp z)
      refine br_f e' (And.intro i1 (br_f (show ¬ bb_wh b (nI x).toNatClampNeg < 0 by rw [e6]; exact nI_pos (by omega)) (And.intro i1 (nm_r e6 (nm_r (nI_1 i) ?_)))))
      refine cc_w_inl hN ht l w (i + 1) hp.2 (by omega) ?_
      have eq : (t ∈ x :: w :: l) = (t ∈ w :: l) := by
        apply propext
        constructor
        · intro z
          rcases List.mem_cons.mp z with z | z
          · exact absurd z.symm e
          · exact z
        · exact fun z => List.mem_cons_of_mem _ z
      by_cases z : t ∈ w :: l
      · rw [if_pos z]
        rw [if_pos (List.mem_cons_of_mem _ z)] at H
        exact H
      · rw [if_neg z]
        rw [if_neg (by rw [eq]; exact z)] at H
        exact H
theorem cc_w_in {post : Int32 → Prop} {t : Nat} (hN : N ≤ 24) (ht : t < 24) {l : List Nat} {x : Nat} (hp : nn_pt b lo N x l) (H : post (if t ∈ x :: l then 1 else 0)) : wpX_inside post (cc_u b c v) (nI x) (nI t) :=
  ⟨l.length + 1, cc_w_inl hN ht l x 0 hp (by have := nn_pt_N l x hp; omega) H⟩
theorem cc_w_f99 {post : Int32 → St1 → Prop} {t set : Int32} {n x : Nat} {q : Int32 × Int32 × Option (Nat × List Nat)} {B : Bool} (hx : x < 24) (hq : q.1 = 15 ↔ B = true)
    (H : ∀ c', cc_Xf post t n (if B = true then set ||| ((1 : Int32) <<< (bb_num b x &&& 31)) else set) (nI (x + 1)) b c' v) :
    (qq_fc (qq_lk c q) = 15 → (vp_in (nI x) 24 ∧ (∀ y : Int32, y = set ||| ((1 : Int32) <<< ((bb_num b (nI x).toNatClampNeg) &&& 31)) → (∀ z : Int32, z = nI x + 1 → cc_Xf post t n y z b (qq_lk c q) v)))) ∧
    (¬ qq_fc (qq_lk c q) = 15 → (∀ z : Int32, z = nI x + 1 → cc_Xf post t n set z b (qq_lk c q) v)) := by
  have H' := H (qq_lk c q)
  refine ek_if (show qq_fc (qq_lk c q) = 15 ↔ B = true from hq) (fun z => ?_) (fun z => ?_)
  · rw [if_pos z] at H'
    refine And.intro (pk_in x 24 hx) (nm_r (show _ = set ||| ((1 : Int32) <<< (bb_num b x &&& 31)) by rw [nI_clamp (by omega)]) (nm_r (nI_1 x) H'))
  · rw [if_neg z] at H'
    exact nm_r (nI_1 x) H'
theorem cc_w_f65 {post : Int32 → St1 → Prop} {t set : Int32} {n x : Nat} {l : List Nat} (hN : N ≤ 24) (hx : x < 24)
    (H : ∀ c', cc_Xf post t n (if nn_fr b x l (bb_num b x) = true then set ||| ((1 : Int32) <<< (bb_num b x &&& 31)) else set) (nI (x + 1)) b c' v) :
    ∀ (m i y : Nat) (ly : List Nat) (c : qq_T), i + m = 24 → nn_pt b lo N y ly → (∀ g lg, (nn_lk b y ly (bb_num b x)).2.2 = some (g, lg) → lg.length < m) → nn_fr b x l (bb_num b x) = nn_fr b y ly (bb_num b x) →
    cc_Xh post t n set (nI x) (m + 1) (nI i) b (qq_lk c (nn_lk b y ly (bb_num b x))) v := by
  intro m
  induction m with
  | zero =>
    intro i y ly c hi hp hc he
    rw [he] at H
    have none : (nn_lk b y ly (bb_num b x)).2.2 = none := by
      cases hh : (nn_lk b y ly (bb_num b x)).2.2 with
      | none => rfl
      | some z => exact absurd (hc z.1 z.2 hh) (by omega)
    exact pk_le 24 i (fun _ => cc_w_f99 hx ((nn_fr_lk b _ ly y).1 none) H) (fun z => absurd z (by omega))
  | succ m ih =>
    intro i y ly c hi hp hc he
    refine pk_le 24 i (fun z => absurd z (by omega)) (fun _ => ?_)
    have hcr : qq_cr (qq_lk c (nn_lk b y ly (bb_num b x))) = nn_cr (nn_lk b y ly (bb_num b x)).2.2 := rfl
    cases hh : (nn_lk b y ly (bb_num b x)).2.2 with
    | none =>
      rw [hh] at hcr
      refine br_t (show qq_cr (qq_lk c (nn_lk b y ly (bb_num b x))) < 0 by rw [hcr]; decide) ?_
      rw [he] at H
      exact cc_w_f99 hx ((nn_fr_lk b _ ly y).1 hh) H
    | some z =>
      obtain ⟨g, lg⟩ := z
      rw [hh] at hcr
      obtain ⟨r1, r2, r3⟩ := nn_en_pt ly y hp g lg (nn_lk_cross hh)
      have hg := nn_pt_lt r2
      refine br_f (show ¬ qq_cr (qq_lk c (nn_lk b y ly (bb_num b x))) < 0 by rw [hcr]; exact nI_pos (by omega)) (And.intro (pk_in x 24 hx) ?_)
      have hl := hc g lg hh
      have F := ih (i + 1) g lg (qq_lk c (nn_lk b y ly (bb_num b x))) (by omega) r2 (fun g' lg' h' => by
        have := (nn_en_pt lg g r2 g' lg' (nn_lk_cross h')).2.2
        omega) (he.trans ((nn_fr_lk b _ ly y).2 g lg hh))
      have e2 : bb_num b (nI x).toNatClampNeg = bb_num b x := by rw [nI_clamp (by omega)]
      have key : ∀ (Q : St1 → Prop) (a n' : Int32), a = nI g → n' = bb_num b x → Q (cc_u b (qq_lk (qq_lk c (nn_lk b y ly (bb_num b x))) (nn_lk b g lg (bb_num b x))) v) → wpX_lookOut Q (cc_u b (qq_lk c (nn_lk b y ly (bb_num b x))) v) a n' := by
        intro Q a n' ha hn hQ
        rw [ha, hn]
        exact cc_w_lk (c := qq_lk c (nn_lk b y ly (bb_num b x))) (v := v) hN r2 hQ
      exact key _ _ _ hcr e2 (nm_r (nI_1 i) F)
theorem cc_w_freel {post : Int32 → St1 → Prop} {t : Nat} (hN : N ≤ 24) (ht : t < N) (hup : ∀ x, x < N → ∃ l, nn_pt b lo N x l) (H : ∀ c', post (nn_mk b t (t + 1)) (cc_u b c' v)) :
    ∀ (m i : Nat) (c : qq_T), i + m = t + 1 → cc_Xf post (nI t) (m + 1) (nn_mk b t i) (nI i) b c v := by
  intro m
  induction m with
  | zero =>
    intro i c hi
    have e : i = t + 1 := by omega
    subst e
    exact pk_lt t (t + 1) (fun _ => H c) (fun z => absurd z (by omega))
  | succ m ih =>
    intro i c hi
    obtain ⟨l, hp⟩ := hup i (by omega)
    have ex : (nI i).toNatClampNeg = i := nI_clamp (by omega)
    have i1 : vp_in (nI i) 24 := pk_in i 24 (by omega)
    have ek : bb_kind b (nI i).toNatClampNeg = bb_kind b i := by rw [ex]
    have len := nn_pt_N l i hp
    have ean := nn_an_pt hN 24 l i hp (by omega)
    have step : nn_mk b t (i + 1) = if nn_fb b t i = true then nn_mk b t i ||| ((1 : Int32) <<< (bb_num b i &&& 31)) else nn_mk b t i := rfl
    refine pk_lt t i (fun z => absurd z (by omega)) (fun _ => And.intro i1 ?_)
    by_cases k9 : bb_kind b i = 9
    · refine br_t (ek.trans k9) ?_
      refine cc_w_in (c := c) (v := v) hN (by omega) hp ?_
      by_cases hin : t ∈ i :: l
      · rw [if_pos hin]
        refine br_f (by decide) (And.intro i1 ?_)
        have efb : nn_fb b t i = nn_fr b i l (bb_num b i) := by
          unfold nn_fb
          rw [ean, decide_eq_true k9, decide_eq_true hin]
          rfl
        rw [efb] at step
        have key : ∀ (Q : St1 → Prop) (n' : Int32), n' = bb_num b i → Q (cc_u b (qq_lk c (nn_lk b i l (bb_num b i))) v) → wpX_lookOut Q (cc_u b c v) (nI i) n' := by
          intro Q n' hn hQ
          rw [hn]
          exact cc_w_lk (c := c) (v := v) hN hp hQ
        refine key _ _ (by rw [ex]) ?_
        refine ⟨25, cc_w_f65 (post := post) (t := nI t) (set := nn_mk b t i) (n := m + 1) (x := i) (l := l) hN (by omega) (fun c' => ?_) 24 0 i l c (by omega) hp (fun g lg h' => ?_) rfl⟩
        · rw [← step]
          exact ih (i + 1) c' (by omega)
        · have := (nn_en_pt l i hp g lg (nn_lk_cross h')).2.2
          omega
      · rw [if_neg hin]
        refine br_t rfl (nm_r (nI_1 i) ?_)
        have efb : nn_fb b t i = false := by
          unfold nn_fb
          rw [ean, decide_eq_false hin]
          simp
        rw [efb, if_neg (by decide)] at step
        rw [← step]
        exact ih (i + 1) c (by omega)
    · refine br_f (fun z => k9 (ek.symm.trans z)) (nm_r (nI_1 i) ?_)
      have efb : nn_fb b t i = false := by
        unfold nn_fb
        rw [decide_eq_false k9]
        simp
      rw [efb, if_neg (by decide)] at step
      rw [← step]
      exact ih (i + 1) c (by omega)
theorem cc_w_free {post : Int32 → St1 → Prop} (hN : N ≤ 24) (h x : Nat) (hh : bb_height b = nI (h + 1)) (h6 : h < 6) (hs : bb_stack b h = nI x) (hx : x < N) (hup : ∀ x, x < N → ∃ l, nn_pt b lo N x l)
    (H : ∀ c', post (nn_mk b x (x + 1)) (cc_u b c' v)) : wpX_free post (cc_u b c v) := by
  have e1 : bb_height b - 1 = nI h := by rw [hh]; exact nI_pred h
  refine br_f (show ¬ bb_height b = 0 by rw [hh]; exact nI_ne0 (by omega) (by omega)) (And.intro (pk_in h 6 h6 e1) (nm_r (show bb_stack b (bb_height b - 1).toNatClampNeg = nI x by rw [e1, nI_clamp (by omega)]; exact hs) ?_))
  exact ⟨x + 2, cc_w_freel (post := post) (v := v) hN hx hup H (x + 1) 0 c (by omega)⟩
end
end
section
/-- the tables b' hold those of b below N; the tree of t is the body of the function N there, whose names are M -/
def rr_T (b b' : bb_T) (N t : Nat) (M : Int32) : Prop :=
  (∀ x, x < N → bb_kind b' x = bb_kind b x ∧ bb_pa b' x = bb_pa b x ∧ bb_pb b' x = bb_pb b x ∧ bb_pc b' x = bb_pc b x ∧ bb_num b' x = bb_num b x ∧ (x ≠ t → bb_pl b' x = bb_pl b x)) ∧ bb_kind b' N = 7 ∧ bb_num b' N = M
def rr_rt (t : Nat) : Nat → List Nat → Prop
  | x, [] => x = t
  | _, w :: l => rr_rt t w l
def rr_x (N : Nat) (l : List Nat) : List Nat := l ++ [N, N + 2]
theorem rr_rt_le {b : bb_T} {lo : Nat → Nat} {N t : Nat} : ∀ (l : List Nat) (x : Nat), nn_pt b lo N x l → rr_rt t x l → x ≤ t
  | [], x, _, h => Nat.le_of_eq h
  | w :: l, x, hp, h => by
    have := rr_rt_le l w hp.2 h
    have := hp.1.1
    omega
section
variable {b b' : bb_T} {lo : Nat → Nat} {N t : Nat} {M : Int32}
theorem rr_ba (hT : rr_T b b' N t M) : ∀ (l : List Nat) (x : Nat), nn_pt b lo N x l → rr_rt t x l → nn_ba b' x (rr_x N l) = nn_ba b x l
  | [], x, _, _ => by
    show nn_ba b' x [N, N + 2] = 0
    rw [nn_ba, if_pos hT.2.1]
  | w :: l, x, hp, h => by
    have ih := rr_ba hT l w hp.2 h
    have hw := nn_pt_lt hp.2
    have l1 := rr_rt_le l w hp.2 h
    have l2 := hp.1.1
    have h1 := (hT.1 w hw).1
    have h2 := (hT.1 x (by omega)).2.2.2.2.2 (by omega)
    show nn_ba b' x (w :: rr_x N l) = nn_ba b x (w :: l)
    rw [nn_ba, nn_ba, h1, h2, ih]
def rr_q (N : Nat) (M v : Int32) (q : Int32 × Int32 × Option (Nat × List Nat)) : Int32 × Int32 × Option (Nat × List Nat) :=
  if q.1 = 15 then (if M &&& 3 = v then (12, v, none) else if M >>> ((2 : Int32) &&& 31) = v then (13, v, none) else (14, v, some (N, [N + 2])))
  else (q.1, q.2.1, q.2.2.map (fun y => (y.1, rr_x N y.2)))
theorem rr_lk (hT : rr_T b b' N t M) (v : Int32) : ∀ (l : List Nat) (x : Nat), nn_pt b lo N x l → rr_rt t x l → nn_lk b' x (rr_x N l) v = rr_q N M v (nn_lk b x l v)
  | [], x, _, _ => by
    have E : nn_lk b' x [N, N + 2] v = (if M &&& 3 = v then (12, v, none) else if M >>> ((2 : Int32) &&& 31) = v then (13, v, none) else (14, v, some (N, [N + 2]))) := by
      rw [nn_lk, if_neg (show ¬ (bb_kind b' N = 6 ∧ bb_pl b' x = 1 ∧ bb_num b' N = v) from fun z => absurd (hT.2.1.symm.trans z.1) (by decide)), if_pos hT.2.1, hT.2.2]
    exact E
  | w :: l, x, hp, h => by
    have ih := rr_lk hT v l w hp.2 h
    have hb := rr_ba hT l w hp.2 h
    have hw := nn_pt_lt hp.2
    have l1 := rr_rt_le l w hp.2 h
    have l2 := hp.1.1
    obtain ⟨h1, _, _, _, h5, _⟩ := hT.1 w hw
    have h2 := (hT.1 x (by omega)).2.2.2.2.2 (by omega)
    show nn_lk b' x (w :: rr_x N l) v = _
    by_cases k6 : bb_kind b w = 6 ∧ bb_pl b x = 1 ∧ bb_num b w = v
    · have E1 : nn_lk b x (w :: l) v = (11, nI (nn_ba b w l), none) := by rw [nn_lk, if_pos k6]
      have E2 : nn_lk b' x (w :: rr_x N l) v = (11, nI (nn_ba b w l), none) := by rw [nn_lk, h1, h2, h5, if_pos k6, hb]
      rw [E1, E2]
      exact (if_neg (show ¬ (11 : Int32) = 15 by decide)).symm
    · by_cases k7 : bb_kind b w = 7
      · by_cases c1 : bb_num b w &&& 3 = v
        · have E1 : nn_lk b x (w :: l) v = (12, v, none) := by rw [nn_lk, if_neg k6, if_pos k7, if_pos c1]
          have E2 : nn_lk b' x (w :: rr_x N l) v = (12, v, none) := by rw [nn_lk, h1, h2, h5, if_neg k6, if_pos k7, if_pos c1]
          rw [E1, E2]
          exact (if_neg (show ¬ (12 : Int32) = 15 by decide)).symm
        · by_cases c2 : bb_num b w >>> ((2 : Int32) &&& 31) = v
          · have E1 : nn_lk b x (w :: l) v = (13, v, none) := by rw [nn_lk, if_neg k6, if_pos k7, if_neg c1, if_pos c2]
            have E2 : nn_lk b' x (w :: rr_x N l) v = (13, v, none) := by rw [nn_lk, h1, h2, h5, if_neg k6, if_pos k7, if_neg c1, if_pos c2]
            rw [E1, E2]
            exact (if_neg (show ¬ (13 : Int32) = 15 by decide)).symm
          · have E1 : nn_lk b x (w :: l) v = (14, v, some (w, l)) := by rw [nn_lk, if_neg k6, if_pos k7, if_neg c1, if_neg c2]
            have E2 : nn_lk b' x (w :: rr_x N l) v = (14, v, some (w, rr_x N l)) := by rw [nn_lk, h1, h2, h5, if_neg k6, if_pos k7, if_neg c1, if_neg c2]
            rw [E1, E2]
            exact (if_neg (show ¬ (14 : Int32) = 15 by decide)).symm
      · have E1 : nn_lk b x (w :: l) v = nn_lk b w l v := by rw [nn_lk, if_neg k6, if_neg k7]
        have E2 : nn_lk b' x (w :: rr_x N l) v = nn_lk b' w (rr_x N l) v := by rw [nn_lk, h1, h2, h5, if_neg k6, if_neg k7]
        rw [E1, E2]
        exact ih
theorem rr_lk15 (v : Int32) : ∀ (l : List Nat) (x : Nat), (nn_lk b x l v).1 = 15 → nn_en b l = none
  | [], _, _ => rfl
  | w :: l, x, h => by
    have ih := rr_lk15 v l w
    simp only [nn_lk] at h
    simp only [nn_en]
    by_cases k6 : bb_kind b w = 6 ∧ bb_pl b x = 1 ∧ bb_num b w = v
    · rw [if_pos k6] at h
      exact absurd h (show ¬ (11 : Int32) = 15 by decide)
    · rw [if_neg k6] at h
      by_cases k7 : bb_kind b w = 7
      · rw [if_pos k7] at h
        by_cases c1 : bb_num b w &&& 3 = v
        · rw [if_pos c1] at h
          exact absurd h (show ¬ (12 : Int32) = 15 by decide)
        · rw [if_neg c1] at h
          by_cases c2 : bb_num b w >>> ((2 : Int32) &&& 31) = v
          · rw [if_pos c2] at h
            exact absurd h (show ¬ (13 : Int32) = 15 by decide)
          · rw [if_neg c2] at h
            exact absurd h (show ¬ (14 : Int32) = 15 by decide)
      · rw [if_neg k7] at h ⊢
        exact ih h
def rr_sh (y : ee_V) : ee_V := if y.1 = 1 then (1, y.2 + 1) else y
theorem rr_sh1 (y : ee_V) : (rr_sh y).1 = y.1 := by
  unfold rr_sh
  by_cases h : y.1 = 1
  · rw [if_pos h, h]
  · rw [if_neg h]
theorem rr_sh2 {y : ee_V} (h : ¬ y.1 = 1) : rr_sh y = y := if_neg h
/-- the name j is not taken by the function N, or it means something inside -/
def rr_ok (b : bb_T) (M : Int32) (x : Nat) (l : List Nat) (j : Nat) : Prop := nn_fr b x l (nI j) = true → ¬ M &&& 3 = nI j ∧ ¬ M >>> ((2 : Int32) &&& 31) = nI j
def rr_S (b : bb_T) (N t : Nat) (M : Int32) (st st' : ee_S) : Prop :=
  st'.1 = st.1 + 1 ∧ st'.2.1 = st.2.1 + 1 ∧ (∀ j, j < 4 → st'.2.2.2 0 j = (2, 0)) ∧
  ∀ k, k < st.2.1 → st'.2.2.1 (k + 1) = ((st.2.2.1 k).1, rr_x N (st.2.2.1 k).2) ∧ rr_rt t (st.2.2.1 k).1 (st.2.2.1 k).2 ∧ ∀ j, j < 4 → rr_ok b M (st.2.2.1 k).1 (st.2.2.1 k).2 j → st'.2.2.2 (k + 1) j = rr_sh (st.2.2.2 k j)
def rr_E (b : bb_T) (x : Nat) (l : List Nat) (s : Nat → ee_V) (a : ee_V) (r : Nat) (s' : Nat → ee_V) (a' : ee_V) (r' : Nat) : Prop :=
  (∀ k, k < nn_ba b x l → s' k = rr_sh (s k)) ∧ (∀ g lg, nn_en b l = some (g, lg) → a' = rr_sh a ∧ r' = r + 1) ∧ (nn_en b l = none → r' = 0)
theorem rr_E_c {x y : Nat} {l : List Nat} {s : Nat → ee_V} {a : ee_V} {r : Nat} {s' : Nat → ee_V} {a' : ee_V} {r' : Nat} (h : rr_E b x l s a r s' a' r') (h7 : ¬ bb_kind b x = 7) (h6 : ¬ (bb_kind b x = 6 ∧ bb_pl b y = 1)) : rr_E b y (x :: l) s a r s' a' r' := by
  unfold rr_E
  rw [nn_ba_c h7 h6, nn_en_c h7]
  exact h
theorem rr_E_s {x y : Nat} {l : List Nat} {s : Nat → ee_V} {a z : ee_V} {r : Nat} {s' : Nat → ee_V} {a' : ee_V} {r' : Nat} (h : rr_E b x l s a r s' a' r') (h6 : bb_kind b x = 6) (hp : bb_pl b y = 1) : rr_E b y (x :: l) (ee_up s (nn_ba b x l) z) a r (ee_up s' (nn_ba b x l) (rr_sh z)) a' r' := by
  unfold rr_E
  rw [nn_ba_s h6 hp, nn_en_c (by rw [h6]; decide)]
  refine ⟨fun k hk => ?_, h.2⟩
  by_cases e : k = nn_ba b x l
  · rw [e, ee_up_s, ee_up_s]
  · rw [ee_up_n _ _ e, ee_up_n _ _ e]
    exact h.1 k (by omega)
theorem rr_E_f {x y : Nat} {l : List Nat} {s : Nat → ee_V} {a : ee_V} {r : Nat} {s' : Nat → ee_V} (h7 : bb_kind b x = 7) : rr_E b y (x :: l) s a r s' (rr_sh a) (r + 1) := by
  unfold rr_E
  rw [nn_ba_f h7, nn_en_f h7]
  exact ⟨fun k hk => absurd hk (by omega), fun _ _ _ => ⟨rfl, rfl⟩, fun z => absurd z (by simp)⟩
/-- a name means the same in both -/
theorem rr_ld (hT : rr_T b b' N t M) {x : Nat} {l : List Nat} {s : Nat → ee_V} {a : ee_V} {r : Nat} {s' : Nat → ee_V} {a' : ee_V} {r' : Nat} {st st' : ee_S} {j : Nat} (hj : j < 4) (hp : nn_pt b lo N x l) (hr : rr_rt t x l) (hb : nn_ba b x l ≤ 24)
    (hE : rr_E b x l s a r s' a' r') (hS : rr_S b N t M st st') (hen : ee_en b x l s a r st) (hok : rr_ok b M x l j) :
    nn_ld s' a' r' st'.2.2.2 (nn_lk b' x (rr_x N l) (nI j)) = rr_sh (nn_ld s a r st.2.2.2 (nn_lk b x l (nI j))) := by
  have fr := nn_fr_lk b (nI j) l x
  rw [rr_lk hT (nI j) l x hp hr]
  rcases nn_lk_cases b (nI j) l x with ⟨n, e, hn⟩ | ⟨e, g, lg, hg⟩ | ⟨e, g, lg, hg⟩ | ⟨g, lg, e, hg⟩ | e
  · have E : rr_q N M (nI j) (11, nI n, none) = (11, nI n, none) := if_neg (show ¬ (11 : Int32) = 15 by decide)
    rw [e, E]
    show s' (nI n).toNatClampNeg = rr_sh (s (nI n).toNatClampNeg)
    rw [nI_clamp (by omega)]
    exact hE.1 n hn
  · have E : rr_q N M (nI j) (12, nI j, none) = (12, nI j, none) := if_neg (show ¬ (12 : Int32) = 15 by decide)
    rw [e, E]
    exact (hE.2.1 g lg hg).1
  · have E : rr_q N M (nI j) (13, nI j, none) = (13, nI j, none) := if_neg (show ¬ (13 : Int32) = 15 by decide)
    rw [e, E]
    show ((1 : Int32), nI r') = rr_sh (1, nI r)
    rw [(hE.2.1 g lg hg).2, rr_sh, if_pos rfl, nI_1]
  · have f2 := fr.2 g lg (by rw [e])
    have E : rr_q N M (nI j) (14, nI j, some (g, lg)) = (14, nI j, some (g, rr_x N lg)) := if_neg (show ¬ (14 : Int32) = 15 by decide)
    rw [e, E]
    show st'.2.2.2 r' (nI j).toNatClampNeg = rr_sh (st.2.2.2 r (nI j).toNatClampNeg)
    rw [nI_clamp (by omega), (hE.2.1 g lg hg).2]
    obtain ⟨_, q2, q3⟩ := hen.2 g lg hg
    have := (hS.2.2.2 r q2).2.2 j hj
    rw [q3] at this
    exact this (fun z => hok (f2.trans z))
  · have f1 := (fr.1 (by rw [e])).mp (by rw [e])
    obtain ⟨n1, n2⟩ := hok f1
    have en0 := rr_lk15 (nI j) l x (by rw [e])
    have E : rr_q N M (nI j) (15, 0, none) = (if M &&& 3 = nI j then (12, nI j, none) else if M >>> ((2 : Int32) &&& 31) = nI j then (13, nI j, none) else (14, nI j, some (N, [N + 2]))) := if_pos rfl
    rw [e, E, if_neg n1, if_neg n2]
    show st'.2.2.2 r' (nI j).toNatClampNeg = rr_sh (2, 0)
    rw [nI_clamp (by omega), hE.2.2 en0, hS.2.2.1 j hj]
    exact (rr_sh2 (by decide)).symm
end
end
section
section
variable {b b' : bb_T} {lo : Nat → Nat} {N t : Nat} {M : Int32}
theorem rr_main (ok : nn_ok b lo N) (hT : rr_T b b' N t M) (hM : ∀ x l j, nn_pt b lo N x l → rr_rt t x l → bb_kind b x = 9 → j < 4 → bb_num b x = nI j → rr_ok b M x l j) :
    ∀ (n x : Nat) (l : List Nat) (s : Nat → ee_V) (a : ee_V) (r : Nat) (st : ee_S), ee_pre b lo N n x l s a r st → rr_rt t x l → (ee_ev b n x l s a r st).2.2.1 ≤ 59 →
    ∀ (m : Nat) (s' : Nat → ee_V) (a' : ee_V) (r' : Nat) (st' : ee_S), x + 24 * (60 - st'.1) < m → rr_E b x l s a r s' a' r' → rr_S b N t M st st' →
    (ee_ev b' m x (rr_x N l) s' a' r' st').1 = (ee_ev b n x l s a r st).1 ∧
    ((ee_ev b n x l s a r st).1 = -1 → (ee_ev b' m x (rr_x N l) s' a' r' st').2.1 = rr_sh (ee_ev b n x l s a r st).2.1) ∧
    rr_S b N t M (ee_ev b n x l s a r st).2.2 (ee_ev b' m x (rr_x N l) s' a' r' st').2.2 := by
  intro n
  induction n with
  | zero =>
    intro x l s a r st hp
    exact absurd hp.2.1 (by omega)
  | succ n ih =>
    intro x l s a r st hp hr h59 m s' a' r' st' hm hE hS
    obtain ⟨p1, p2, p3, p4, p5⟩ := id hp
    have hx := nn_pt_lt p1
    have hb := nn_bound ok l x p1
    have hN := ok.1
    obtain ⟨m, rfl⟩ : ∃ m', m = m' + 1 := ⟨m - 1, by omega⟩
    obtain ⟨T1, T2, T3, T4, T5, _⟩ := hT.1 x hx
    have hba := rr_ba hT l x p1 hr
    obtain ⟨hlo, hnd⟩ := ok.2 x hx
    rcases hnd with ⟨k, _⟩ | ⟨k, _, vn, hv, hnum⟩ | ⟨y, k, h1, h2, h3, h4, h5, _⟩ | ⟨y, z, ⟨k, hk, k'⟩, h1, h2, h3, h4, h5, h6, h7, h8, h9⟩ | ⟨y, z, k, h1, h2, h3, h4, h5, h6, h7, h8, h9, _⟩ | ⟨y, z, u, k, h1, h2, h2', h3, h4, h4', h5, h6, h7, h8, h9, h10, h11⟩
    · rw [ee_8 k, ee_8 (T1.trans k), T5]
      exact ⟨rfl, fun _ => (rr_sh2 (y := (0, bb_num b x)) (show ¬ (0 : Int32) = 1 by decide)).symm, hS⟩
    · rw [ee_9 k, ee_9 (T1.trans k), T5, hnum]
      have L := rr_ld hT hv p1 hr (by omega) hE hS p4 (hM x l vn p1 hr k hv hnum)
      rw [L, rr_sh1]
      by_cases e : (nn_ld s a r st.2.2.2 (nn_lk b x l (nI vn))).1 = 2
      · rw [if_pos e, if_pos e]
        exact ⟨rfl, fun z => absurd z (show ¬ (2 : Int32) = -1 by decide), hS⟩
      · rw [if_neg e, if_neg e]
        exact ⟨rfl, fun _ => rfl, hS⟩
    · rw [ee_7 k, ee_7 (T1.trans k)]
      obtain ⟨S1, S2, S3, S4⟩ := hS
      refine ⟨rfl, fun _ => ?_, S1, ?_, ?_, ?_⟩
      · show ((1 : Int32), nI st'.2.1) = rr_sh (1, nI st.2.1)
        rw [rr_sh, if_pos rfl, S2, nI_1]
      · show st'.2.1 + 1 = st.2.1 + 1 + 1
        rw [S2]
      · intro j hj
        show ee_up st'.2.2.2 st'.2.1 _ 0 j = _
        rw [ee_up_n _ _ (by omega)]
        exact S3 j hj
      · intro i hi
        dsimp only at hi ⊢
        by_cases e : i = st.2.1
        · have e' : i + 1 = st'.2.1 := by omega
          rw [e', ee_up_s, ee_up_s, e, ee_up_s, ee_up_s]
          exact ⟨rfl, hr, fun j hj hok => rr_ld hT hj p1 hr (by omega) hE ⟨S1, S2, S3, S4⟩ p4 hok⟩
        · rw [ee_up_n _ _ e, ee_up_n _ _ e, ee_up_n _ _ (show i + 1 ≠ st'.2.1 by omega), ee_up_n _ _ (show i + 1 ≠ st'.2.1 by omega)]
          exact S4 i (by omega)
    · obtain ⟨c1, c2, l1, l2, ht, l3, l4, _⟩ := nn_p2 ok hx h3 h4 h5 h6 h7 h8
      obtain ⟨k8, k9, k7, k6, k5⟩ := ee_k5 k hk
      have n7 : ¬ bb_kind b x = 7 := by rw [k']; exact k7
      have n6 : ∀ t, ¬ (bb_kind b x = 6 ∧ bb_pl b t = 1) := fun t z => k6 (k'.symm.trans z.1)
      have hy : (bb_pa b x).toNatClampNeg = y := by rw [h1]; exact nI_clamp (by omega)
      have hz : (bb_pb b x).toNatClampNeg = z := by rw [h2]; exact nI_clamp (by omega)
      have P1 := ee_pre_c hp c1 n7 (n6 y) p3 (ee_ext_refl st) (by omega)
      have I1 := ee_pure ok n y (x :: l) s a r st P1
      have J1 := ih y (x :: l) s a r st P1 hr
      rw [ee_2 hk k' hy hz rfl rfl] at h59 ⊢
      rw [ee_2 hk (T1.trans k') (show (bb_pa b' x).toNatClampNeg = y by rw [T2]; exact hy) (show (bb_pb b' x).toNatClampNeg = z by rw [T3]; exact hz) rfl rfl]
      generalize ee_ev b n y (x :: l) s a r st = R1 at I1 J1 h59 ⊢
      by_cases e1 : R1.1 = -1
      · rw [if_pos e1] at h59
        have b1 := I1.2.2.2.2.2
        have P2 := ee_pre_c hp c2 n7 (n6 z) I1.1 I1.2.1 (by omega)
        have I2 := ee_pure ok n z (x :: l) s a r R1.2.2 P2
        have J2 := ih z (x :: l) s a r R1.2.2 P2 hr
        generalize ee_ev b n z (x :: l) s a r R1.2.2 = R2 at I2 J2 h59 ⊢
        have I12 : ee_pst b lo N x st R2 := ee_pst_q I1 I2 (by omega)
        have b2 := I12.2.2.2.2.2
        have g12 := I2.2.1.1
        -- the number of calls so far
        have h59' : R2.2.2.1 ≤ 59 := by
          by_cases e2 : R2.1 = -1
          · rw [if_pos e2] at h59
            by_cases k4 : k = 4
            · rw [if_pos k4] at h59
              by_cases t1 : R1.2.1.1 = 1
              · rw [if_pos t1] at h59
                by_cases t60 : R2.2.2.1 = 60
                · rw [if_pos t60] at h59
                  exact h59
                · have := I12.1.1
                  omega
              · rw [if_neg t1] at h59
                exact h59
            · rw [if_neg k4] at h59
              by_cases t0 : R1.2.1.1 = 0 ∧ R2.2.1.1 = 0
              · rw [if_pos t0] at h59
                exact h59
              · rw [if_neg t0] at h59
                exact h59
          · rw [if_neg e2] at h59
            exact h59
        have Q1 := J1 (by omega) m s' a' r' st' (by omega) (rr_E_c hE n7 (n6 y)) hS
        rw [show rr_x N (x :: l) = x :: rr_x N l from rfl] at Q1 J2
        obtain ⟨A1, A2, A3⟩ := Q1
        generalize ee_ev b' m y (x :: rr_x N l) s' a' r' st' = R1' at A1 A2 A3 ⊢
        have A2' := A2 e1
        have Q2 := J2 h59' m s' a' r' R1'.2.2 (by have := A3.1; have := hS.1; have := I1.2.1.1; omega) (rr_E_c hE n7 (n6 z)) A3
        obtain ⟨B1, B2, B3⟩ := Q2
        generalize ee_ev b' m z (x :: rr_x N l) s' a' r' R1'.2.2 = R2' at B1 B2 B3 ⊢
        rw [if_pos e1, if_pos (A1.trans e1)]
        by_cases e2 : R2.1 = -1
        · rw [if_pos e2] at h59
          rw [if_pos e2, if_pos (B1.trans e2)]
          have B2' := B2 e2
          have tg1 : R1'.2.1.1 = R1.2.1.1 := by rw [A2', rr_sh1]
          have tg2 : R2'.2.1.1 = R2.2.1.1 := by rw [B2', rr_sh1]
          by_cases k4 : k = 4
          · rw [if_pos k4] at h59
            rw [if_pos k4, if_pos k4, tg1]
            by_cases t1 : R1.2.1.1 = 1
            · rw [if_pos t1] at h59
              rw [if_pos t1, if_pos t1, if_neg (show ¬ R2.2.2.1 = 60 by omega)]
              rw [if_neg (show ¬ R2.2.2.1 = 60 by omega)] at h59
              rcases I1.2.2.2.2.1 e1 with v0 | ⟨_, q, hq, v1⟩ | v2
              · exact absurd (v0.symm.trans t1) (by decide)
              · have hq2 : q < R2.2.2.2.1 := Nat.lt_of_lt_of_le hq I2.2.1.2.1
                have s2 := I12.1.1
                have ecl : R1.2.1.2.toNatClampNeg = q := by
                  rw [v1]
                  exact nI_clamp (by omega)
                have ecl' : R1'.2.1.2.toNatClampNeg = q + 1 := by
                  rw [A2', rr_sh, if_pos t1]
                  show (R1.2.1.2 + 1).toNatClampNeg = q + 1
                  rw [v1, nI_1]
                  exact nI_clamp (by omega)
                rw [ecl] at h59 ⊢
                rw [ecl']
                obtain ⟨q1, q2, q3⟩ := I12.1.2 q hq2
                obtain ⟨x1, x2, x3⟩ := B3.2.2.2 q hq2
                rw [x1]
                have hgl : R2.2.2.2.2.1 q = ((R2.2.2.2.2.1 q).1, (R2.2.2.2.2.1 q).2) := rfl
                generalize (R2.2.2.2.2.1 q).1 = g at *
                generalize (R2.2.2.2.2.1 q).2 = lg at *
                obtain ⟨y', f1, f2, f3, f4, f5⟩ := ee_fpart ok (nn_pt_lt q2) q1
                have hg24 := nn_pt_lt q2
                dsimp only
                rw [(hT.1 g hg24).2.1]
                rw [f1, nI_clamp (show y' < 2 ^ 31 by omega)] at h59 ⊢
                have P3 := ee_pre_f (s' := fun _ => (0, 0)) ok hp I12.1 I12.2.1 (show R2.2.2.1 ≠ 60 by omega) hq2 hgl f3 (I2.2.2.2.2.1 e2) (by omega)
                have I3 := ee_pure ok n y' (g :: lg) (fun _ => (0, 0)) R2.2.1 q (R2.2.2.1 + 1, R2.2.2.2) P3
                have I3c := I3.2.1.1
                dsimp only at I3c
                have J3 := ih y' (g :: lg) (fun _ => (0, 0)) R2.2.1 q (R2.2.2.1 + 1, R2.2.2.2) P3 x2 h59 m (fun _ => (0, 0)) (rr_sh R2.2.1) (q + 1) (R2'.2.2.1 + 1, R2'.2.2.2)
                  (by dsimp only; have := B3.1; have := A3.1; have := hS.1; have := I12.2.1.1; omega) (rr_E_f q1) ⟨by dsimp only; rw [B3.1], B3.2.1, B3.2.2.1, B3.2.2.2⟩
                rw [B2', if_neg (show ¬ R2'.2.2.1 = 60 by have := B3.1; omega)]
                exact J3
              · exact absurd (v2.symm.trans t1) (by decide)
            · rw [if_neg t1, if_neg t1]
              exact ⟨rfl, fun z => absurd z (show ¬ (2 : Int32) = -1 by decide), B3⟩
          · rw [if_neg k4, if_neg k4, tg1, tg2]
            by_cases t0 : R1.2.1.1 = 0 ∧ R2.2.1.1 = 0
            · rw [if_pos t0, if_pos t0]
              refine ⟨rfl, fun _ => ?_, B3⟩
              rw [A2', B2', rr_sh2 (y := R1.2.1) (by rw [t0.1]; decide), rr_sh2 (y := R2.2.1) (by rw [t0.2]; decide)]
              exact (rr_sh2 (show ¬ (0 : Int32) = 1 by decide)).symm
            · rw [if_neg t0, if_neg t0]
              exact ⟨rfl, fun z => absurd z (show ¬ (2 : Int32) = -1 by decide), B3⟩
        · rw [if_neg e2, if_neg (fun z => e2 (B1.symm.trans z))]
          exact ⟨B1, fun z => absurd z e2, B3⟩
      · rw [if_neg e1] at h59
        have Q1 := J1 h59 m s' a' r' st' (by omega) (rr_E_c hE n7 (n6 y)) hS
        rw [show rr_x N (x :: l) = x :: rr_x N l from rfl] at Q1
        obtain ⟨A1, A2, A3⟩ := Q1
        rw [if_neg e1, if_neg (fun z => e1 (A1.symm.trans z))]
        exact ⟨A1, fun z => absurd z e1, A3⟩
    · obtain ⟨c1, c2, l1, l2, ht, l3, l4, _⟩ := nn_p2 ok hx h3 h4 h5 h6 h7 h8
      have n7 : ¬ bb_kind b x = 7 := by rw [k]; decide
      have n6 : ¬ (bb_kind b x = 6 ∧ bb_pl b y = 1) := fun t => absurd (h7.symm.trans t.2) (by decide)
      have hy : (bb_pa b x).toNatClampNeg = y := by rw [h1]; exact nI_clamp (by omega)
      have hz : (bb_pb b x).toNatClampNeg = z := by rw [h2]; exact nI_clamp (by omega)
      have P1 := ee_pre_c hp c1 n7 n6 p3 (ee_ext_refl st) (by omega)
      have I1 := ee_pure ok n y (x :: l) s a r st P1
      have J1 := ih y (x :: l) s a r st P1 hr
      rw [ee_6 k hy hz rfl] at h59 ⊢
      rw [ee_6 (T1.trans k) (show (bb_pa b' x).toNatClampNeg = y by rw [T2]; exact hy) (show (bb_pb b' x).toNatClampNeg = z by rw [T3]; exact hz) rfl, hba]
      generalize ee_ev b n y (x :: l) s a r st = R1 at I1 J1 h59 ⊢
      by_cases e1 : R1.1 = -1
      · rw [if_pos e1] at h59
        have b1 := I1.2.2.2.2.2
        have P2 := ee_pre_s hp c2 k h9 I1.1 I1.2.1 (I1.2.2.2.2.1 e1) (by omega)
        have I2 := ee_pure ok n z (x :: l) (ee_up s (nn_ba b x l) R1.2.1) a r R1.2.2 P2
        have J2 := ih z (x :: l) (ee_up s (nn_ba b x l) R1.2.1) a r R1.2.2 P2 hr h59
        have g12 := I2.2.1.1
        have Q1 := J1 (by omega) m s' a' r' st' (by omega) (rr_E_c hE n7 n6) hS
        rw [show rr_x N (x :: l) = x :: rr_x N l from rfl] at Q1 J2
        obtain ⟨A1, A2, A3⟩ := Q1
        generalize ee_ev b' m y (x :: rr_x N l) s' a' r' st' = R1' at A1 A2 A3 ⊢
        have A2' := A2 e1
        rw [if_pos e1, if_pos (A1.trans e1), A2']
        exact J2 m (ee_up s' (nn_ba b x l) (rr_sh R1.2.1)) a' r' R1'.2.2 (by have := A3.1; have := hS.1; have := I1.2.1.1; omega) (rr_E_s hE k h9) A3
      · rw [if_neg e1] at h59
        have Q1 := J1 h59 m s' a' r' st' (by omega) (rr_E_c hE n7 n6) hS
        rw [show rr_x N (x :: l) = x :: rr_x N l from rfl] at Q1
        obtain ⟨A1, A2, A3⟩ := Q1
        rw [if_neg e1, if_neg (fun z => e1 (A1.symm.trans z))]
        exact ⟨A1, fun z => absurd z e1, A3⟩
    · obtain ⟨c1, c2, c3, l1, l2, l3, ht, l4, l5, l6, _⟩ := nn_p3 ok hx h3 h4 h4' h5 h6 h7 h8 h10
      have n7 : ¬ bb_kind b x = 7 := by rw [k]; decide
      have n6 : ∀ t, ¬ (bb_kind b x = 6 ∧ bb_pl b t = 1) := fun t z => absurd (k.symm.trans z.1) (by decide)
      have hy : (bb_pa b x).toNatClampNeg = y := by rw [h1]; exact nI_clamp (by omega)
      have hz : (bb_pb b x).toNatClampNeg = z := by rw [h2]; exact nI_clamp (by omega)
      have hu : (bb_pc b x).toNatClampNeg = u := by rw [h2']; exact nI_clamp (by omega)
      have P1 := ee_pre_c hp c1 n7 (n6 y) p3 (ee_ext_refl st) (by omega)
      have I1 := ee_pure ok n y (x :: l) s a r st P1
      have J1 := ih y (x :: l) s a r st P1 hr
      rw [ee_5 k hy hz hu rfl] at h59 ⊢
      rw [ee_5 (T1.trans k) (show (bb_pa b' x).toNatClampNeg = y by rw [T2]; exact hy) (show (bb_pb b' x).toNatClampNeg = z by rw [T3]; exact hz) (show (bb_pc b' x).toNatClampNeg = u by rw [T4]; exact hu) rfl]
      generalize ee_ev b n y (x :: l) s a r st = R1 at I1 J1 h59 ⊢
      by_cases e1 : R1.1 = -1
      · rw [if_pos e1] at h59
        have b1 := I1.2.2.2.2.2
        have fin : R1.2.2.1 ≤ 59 → _ := fun h => J1 h m s' a' r' st' (by omega) (rr_E_c hE n7 (n6 y)) hS
        rw [show rr_x N (x :: l) = x :: rr_x N l from rfl] at fin
        by_cases t0 : R1.2.1.1 = 0
        · rw [if_pos t0] at h59
          by_cases d0 : R1.2.1.2 = 0
          · rw [if_pos d0] at h59
            have P2 := ee_pre_c hp c3 n7 (n6 u) I1.1 I1.2.1 (by omega)
            have g12 := (ee_pure ok n u (x :: l) s a r R1.2.2 P2).2.1.1
            have J2 := ih u (x :: l) s a r R1.2.2 P2 hr h59
            obtain ⟨A1, A2, A3⟩ := fin (by omega)
            generalize ee_ev b' m y (x :: rr_x N l) s' a' r' st' = R1' at A1 A2 A3 ⊢
            have A2' := A2 e1
            rw [rr_sh2 (y := R1.2.1) (by rw [t0]; decide)] at A2'
            rw [if_pos e1, if_pos (A1.trans e1), A2', if_pos t0, if_pos t0, if_pos d0, if_pos d0]
            exact J2 m s' a' r' R1'.2.2 (by have := A3.1; have := hS.1; have := I1.2.1.1; omega) (rr_E_c hE n7 (n6 u)) A3
          · rw [if_neg d0] at h59
            have P2 := ee_pre_c hp c2 n7 (n6 z) I1.1 I1.2.1 (by omega)
            have g12 := (ee_pure ok n z (x :: l) s a r R1.2.2 P2).2.1.1
            have J2 := ih z (x :: l) s a r R1.2.2 P2 hr h59
            obtain ⟨A1, A2, A3⟩ := fin (by omega)
            generalize ee_ev b' m y (x :: rr_x N l) s' a' r' st' = R1' at A1 A2 A3 ⊢
            have A2' := A2 e1
            rw [rr_sh2 (y := R1.2.1) (by rw [t0]; decide)] at A2'
            rw [if_pos e1, if_pos (A1.trans e1), A2', if_pos t0, if_pos t0, if_neg d0, if_neg d0]
            exact J2 m s' a' r' R1'.2.2 (by have := A3.1; have := hS.1; have := I1.2.1.1; omega) (rr_E_c hE n7 (n6 z)) A3
        · rw [if_neg t0] at h59
          obtain ⟨A1, A2, A3⟩ := fin h59
          generalize ee_ev b' m y (x :: rr_x N l) s' a' r' st' = R1' at A1 A2 A3 ⊢
          have A2' := A2 e1
          rw [if_pos e1, if_pos (A1.trans e1), A2', rr_sh1, if_neg t0, if_neg t0]
          exact ⟨rfl, fun z => absurd z (show ¬ (2 : Int32) = -1 by decide), A3⟩
      · rw [if_neg e1] at h59
        have Q1 := J1 h59 m s' a' r' st' (by omega) (rr_E_c hE n7 (n6 y)) hS
        rw [show rr_x N (x :: l) = x :: rr_x N l from rfl] at Q1
        obtain ⟨A1, A2, A3⟩ := Q1
        rw [if_neg e1, if_neg (fun z => e1 (A1.symm.trans z))]
        exact ⟨A1, fun z => absurd z e1, A3⟩
end
end
section
section
variable {b : bb_T} {lo : Nat → Nat} {N : Nat}
/-- a tree without an apply makes no call -/
theorem rr_noapp (ok : nn_ok b lo N) (h4 : ∀ x, x < N → ¬ bb_kind b x = 4) : ∀ (n x : Nat) (l : List Nat) (s : Nat → ee_V) (a : ee_V) (r : Nat) (st : ee_S), x < N → (ee_ev b n x l s a r st).2.2.1 = st.1 := by
  intro n
  induction n with
  | zero => exact fun _ _ _ _ _ _ _ => rfl
  | succ n ih =>
    intro x l s a r st hx
    have hN := ok.1
    obtain ⟨hlo, hnd⟩ := ok.2 x hx
    rcases hnd with ⟨k, _⟩ | ⟨k, _, vn, hv, hnum⟩ | ⟨y, k, h1, h2, h3, h4, h5, _⟩ | ⟨y, z, ⟨k, hk, k'⟩, h1, h2, h3, h4', h5, h6, h7, h8, h9⟩ | ⟨y, z, k, h1, h2, h3, h4', h5, h6, h7, h8, h9, _⟩ | ⟨y, z, u, k, h1, h2, h2', h3, h4', h4'', h5, h6, h7, h8, h9, h10, h11⟩
    · rw [ee_8 k]
    · rw [ee_9 k]
      split
      · rfl
      · rfl
    · rw [ee_7 k]
    · obtain ⟨c1, c2, l1, l2, ht, l3, l4, _⟩ := nn_p2 ok hx h3 h4' h5 h6 h7 h8
      have hy : (bb_pa b x).toNatClampNeg = y := by rw [h1]; exact nI_clamp (by omega)
      have hz : (bb_pb b x).toNatClampNeg = z := by rw [h2]; exact nI_clamp (by omega)
      have k4 : ¬ k = 4 := fun e => h4 x hx (by rw [k', e]; rfl)
      rw [ee_2 hk k' hy hz rfl rfl]
      have I1 := ih y (x :: l) s a r st l3
      generalize ee_ev b n y (x :: l) s a r st = R1 at I1 ⊢
      have I2 := ih z (x :: l) s a r R1.2.2 l4
      generalize ee_ev b n z (x :: l) s a r R1.2.2 = R2 at I2 ⊢
      rw [if_neg k4]
      split
      · split
        · split
          · exact I2.trans I1
          · exact I2.trans I1
        · exact I2.trans I1
      · exact I1
    · obtain ⟨c1, c2, l1, l2, ht, l3, l4, _⟩ := nn_p2 ok hx h3 h4' h5 h6 h7 h8
      have hy : (bb_pa b x).toNatClampNeg = y := by rw [h1]; exact nI_clamp (by omega)
      have hz : (bb_pb b x).toNatClampNeg = z := by rw [h2]; exact nI_clamp (by omega)
      rw [ee_6 k hy hz rfl]
      have I1 := ih y (x :: l) s a r st l3
      generalize ee_ev b n y (x :: l) s a r st = R1 at I1 ⊢
      split
      · exact (ih z (x :: l) _ a r R1.2.2 l4).trans I1
      · exact I1
    · obtain ⟨c1, c2, c3, l1, l2, l3, ht, l4, l5, l6, _⟩ := nn_p3 ok hx h3 h4' h4'' h5 h6 h7 h8 h10
      have hy : (bb_pa b x).toNatClampNeg = y := by rw [h1]; exact nI_clamp (by omega)
      have hz : (bb_pb b x).toNatClampNeg = z := by rw [h2]; exact nI_clamp (by omega)
      have hu : (bb_pc b x).toNatClampNeg = u := by rw [h2']; exact nI_clamp (by omega)
      rw [ee_5 k hy hz hu rfl]
      have I1 := ih y (x :: l) s a r st l4
      generalize ee_ev b n y (x :: l) s a r st = R1 at I1 ⊢
      split
      · split
        · split
          · exact (ih u (x :: l) s a r R1.2.2 l6).trans I1
          · exact (ih z (x :: l) s a r R1.2.2 l5).trans I1
        · exact I1
      · exact I1
theorem rr_num (ok : nn_ok b lo N) {x : Nat} (hx : x < N) (h9 : bb_kind b x = 9) : ∃ v : Nat, v < 4 ∧ bb_num b x = nI v := by
  obtain ⟨_, h⟩ := ok.2 x hx
  rcases h with ⟨k, _⟩ | ⟨k, _, h⟩ | ⟨a, k, _⟩ | ⟨a, c, ⟨k, hk, k'⟩, _⟩ | ⟨a, c, k, _⟩ | ⟨a, c, e, k, _⟩
  · rw [k] at h9
    exact absurd h9 (by decide)
  · exact h
  · rw [k] at h9
    exact absurd h9 (by decide)
  · rw [k'] at h9
    exact absurd h9 (ee_k5 k hk).2.1
  · rw [k] at h9
    exact absurd h9 (by decide)
  · rw [k] at h9
    exact absurd h9 (by decide)
theorem rr_or : ∀ m, m < 16 → ∀ n, n < 4 → ∃ m' : Nat, m' < 16 ∧ nI m ||| ((1 : Int32) <<< (nI n &&& 31)) = nI m' ∧ ((nI m' >>> (nI n &&& 31)) &&& 1) = 1 ∧ ∀ k, k < 4 → ((nI m >>> (nI k &&& 31)) &&& 1) = 1 → ((nI m' >>> (nI k &&& 31)) &&& 1) = 1 := by
  intro m hm n hn
  refine ⟨m ||| 2 ^ n, ?_⟩
  revert m n
  decide +kernel
theorem rr_fb9 {t x : Nat} (h : nn_fb b t x = true) : bb_kind b x = 9 := by
  unfold nn_fb at h
  simp only [Bool.and_eq_true, decide_eq_true_eq] at h
  exact h.1.1
theorem rr_mask (ok : nn_ok b lo N) {t : Nat} : ∀ i, i ≤ N → ∃ m : Nat, m < 16 ∧ nn_mk b t i = nI m ∧ ∀ x k, x < i → k < 4 → nn_fb b t x = true → bb_num b x = nI k → ((nI m >>> (nI k &&& 31)) &&& 1) = 1 := by
  intro i
  induction i with
  | zero => exact fun _ => ⟨0, by omega, rfl, fun x k hx => absurd hx (by omega)⟩
  | succ i ih =>
    intro hi
    obtain ⟨m, hm, e, h⟩ := ih (by omega)
    by_cases f : nn_fb b t i = true
    · obtain ⟨n, hn, en⟩ := rr_num ok (show i < N by omega) (rr_fb9 f)
      obtain ⟨m', hm', e1, e2, e3⟩ := rr_or m hm n hn
      refine ⟨m', hm', ?_, fun x k hx hk fx ex => ?_⟩
      · rw [nn_mk, if_pos f, e, en]
        exact e1
      · by_cases xi : x = i
        · subst xi
          have : n = k := (nI_eq (by omega) (by omega)).mp (en.symm.trans ex)
          subst this
          exact e2
        · exact e3 k hk (h x k (by omega) hk fx ex)
    · refine ⟨m, hm, ?_, fun x k hx hk fx ex => ?_⟩
      · rw [nn_mk, if_neg f]
        exact e
      · by_cases xi : x = i
        · subst xi
          exact absurd fx f
        · exact h x k (by omega) hk fx ex
theorem rr_mask0 {t : Nat} (h : ∀ x, x < N → ¬ bb_kind b x = 9) : ∀ i, i ≤ N → nn_mk b t i = 0 := by
  intro i
  induction i with
  | zero => exact fun _ => rfl
  | succ i ih =>
    intro hi
    rw [nn_mk, if_neg (fun z => h i (by omega) (rr_fb9 z))]
    exact ih (by omega)
theorem rr_rt_mem {t : Nat} : ∀ (l : List Nat) (x : Nat), rr_rt t x l → t ∈ x :: l
  | [], x, h => by rw [h]; exact List.mem_cons_self
  | w :: l, x, h => List.mem_cons_of_mem _ (rr_rt_mem l w h)
theorem rr_mem_rt {t : Nat} (ht : bb_wh b t = -1) (hN : N ≤ 24) : ∀ (l : List Nat) (x : Nat), nn_pt b lo N x l → t ∈ x :: l → rr_rt t x l
  | [], x, _, h => by
    simp only [List.mem_cons, List.not_mem_nil, or_false] at h
    exact h.symm
  | w :: l, x, hp, h => by
    rcases List.mem_cons.mp h with e | e
    · have h1 := hp.1.2.1
      have hw : w < 24 := by have := nn_pt_lt hp.2; omega
      rw [← e, ht] at h1
      have := nI_pos (n := w) (by omega)
      rw [← h1] at this
      exact absurd (by decide) this
    · exact rr_mem_rt ht hN l w hp.2 e
/-- a bit that is not set: the name is free nowhere in the tree -/
theorem rr_bit (ok : nn_ok b lo N) {t k : Nat} (htN : t < N) (hk : k < 4) (hf : ¬ ((nn_mk b t (t + 1) >>> (nI k &&& 31)) &&& 1) = 1) :
    ∀ x l, nn_pt b lo N x l → rr_rt t x l → bb_kind b x = 9 → bb_num b x = nI k → ¬ nn_fr b x l (nI k) = true := by
  intro x l hp hr h9 hn hfr
  obtain ⟨m, hm, e, h⟩ := rr_mask ok (t := t) (t + 1) (by omega)
  rw [e] at hf
  refine hf (h x k ?_ hk ?_ hn)
  · have := rr_rt_le l x hp hr
    omega
  · have len := nn_pt_N l x hp
    have hN := ok.1
    unfold nn_fb
    rw [nn_an_pt ok.1 24 l x hp (by omega), decide_eq_true h9, decide_eq_true (rr_rt_mem l x hr), hn, hfr]
    rfl
end
end
section
/-- the rest of what is known of the wrapped tables -/
def rr_W (b b' : bb_T) (N t : Nat) : Prop :=
  (∀ x, x < N → x ≠ t → bb_wh b' x = bb_wh b x) ∧ bb_wh b' t = nI N ∧ bb_wh b' N = nI (N + 2) ∧ bb_wh b' (N + 2) = -1 ∧ bb_kind b' (N + 1) = 8 ∧ bb_kind b' (N + 2) = 4 ∧
  bb_pa b' N = nI t ∧ bb_pa b' (N + 2) = nI N ∧ bb_pb b' (N + 2) = nI (N + 1)
section
variable {b b' : bb_T} {lo : Nat → Nat} {N t : Nat} {M : Int32}
theorem rr_an (hN : N ≤ 21) (ht : t < N) (hW : rr_W b b' N t) (htw : bb_wh b t = -1) : ∀ (l : List Nat) (x : Nat), nn_pt b lo N x l →
    (rr_rt t x l → ∀ m, l.length + 2 ≤ m → nn_an b' m x = rr_x N l) ∧ (¬ rr_rt t x l → ∀ m, l.length ≤ m → nn_an b' m x = l)
  | [], x, hp => by
    obtain ⟨w1, w2, w3, w4, _⟩ := hW
    refine ⟨fun h m hm => ?_, fun h m hm => ?_⟩
    · obtain ⟨m, rfl⟩ : ∃ m', m = m' + 2 := ⟨m - 2, by simp only [List.length_nil] at hm; omega⟩
      have h' : x = t := h
      subst h'
      rw [nn_an, w2, if_neg (nI_pos (by omega)), nI_clamp (by omega), nn_an, w3, if_neg (nI_pos (by omega)), nI_clamp (by omega)]
      have : nn_an b' m (N + 2) = [] := by
        cases m with
        | zero => rfl
        | succ m =>
          rw [nn_an, w4]
          rfl
      rw [this]
      rfl
    · have h' : ¬ x = t := h
      cases m with
      | zero => rfl
      | succ m =>
        rw [nn_an, w1 x hp.1 h', hp.2]
        rfl
  | w :: l, x, hp => by
    have ih := rr_an hN ht hW htw l w hp.2
    obtain ⟨w1, _⟩ := hW
    have hw := nn_pt_lt hp.2
    have hx : x < N := by have := hp.1.1; omega
    have xt : x ≠ t := fun e => by
      have h1 := hp.1.2.1
      rw [e, htw] at h1
      have := nI_pos (n := w) (by omega)
      rw [← h1] at this
      exact absurd (by decide) this
    refine ⟨fun h m hm => ?_, fun h m hm => ?_⟩
    · simp only [List.length_cons] at hm
      obtain ⟨m, rfl⟩ : ∃ m', m = m' + 1 := ⟨m - 1, by omega⟩
      rw [nn_an, w1 x hx xt, hp.1.2.1, if_neg (nI_pos (by omega)), nI_clamp (by omega), ih.1 h m (by omega)]
      rfl
    · simp only [List.length_cons] at hm
      obtain ⟨m, rfl⟩ : ∃ m', m = m' + 1 := ⟨m - 1, by omega⟩
      rw [nn_an, w1 x hx xt, hp.1.2.1, if_neg (nI_pos (by omega)), nI_clamp (by omega), ih.2 h m (by omega)]
theorem rr_fr (hT : rr_T b b' N t M) (v : Int32) (h1 : ¬ M &&& 3 = v) (h2 : ¬ M >>> ((2 : Int32) &&& 31) = v) (k2 : bb_kind b' (N + 2) = 4) : ∀ (l : List Nat) (x : Nat), nn_pt b lo N x l → rr_rt t x l → nn_fr b' x (rr_x N l) v = nn_fr b x l v
  | [], x, _, _ => by
    show nn_fr b' x [N, N + 2] v = true
    rw [nn_fr, if_neg (fun z => absurd (hT.2.1.symm.trans z.1) (by decide)), if_pos hT.2.1, hT.2.2, if_neg h1, if_neg h2]
    rw [nn_fr, if_neg (fun z => absurd (k2.symm.trans z.1) (by decide)), if_neg (fun z => absurd (k2.symm.trans z) (by decide))]
    rfl
  | w :: l, x, hp, h => by
    have ih := rr_fr hT v h1 h2 k2 l w hp.2 h
    have hw := nn_pt_lt hp.2
    have l1 := rr_rt_le l w hp.2 h
    have l2 := hp.1.1
    obtain ⟨t1, _, _, _, t5, _⟩ := hT.1 w hw
    have t2 := (hT.1 x (by omega)).2.2.2.2.2 (by omega)
    show nn_fr b' x (w :: rr_x N l) v = nn_fr b x (w :: l) v
    rw [nn_fr, nn_fr, t1, t2, t5, ih]
theorem rr_fr_le (hT : rr_T b b' N t M) (v : Int32) : ∀ (l : List Nat) (x : Nat), nn_pt b lo N x l → rr_rt t x l → nn_fr b x l v = false → nn_fr b' x (rr_x N l) v = false
  | [], x, _, _, h => absurd h (by simp [nn_fr])
  | w :: l, x, hp, h, hf => by
    have ih := rr_fr_le hT v l w hp.2 h
    have hw := nn_pt_lt hp.2
    have l1 := rr_rt_le l w hp.2 h
    have l2 := hp.1.1
    obtain ⟨t1, _, _, _, t5, _⟩ := hT.1 w hw
    have t2 := (hT.1 x (by omega)).2.2.2.2.2 (by omega)
    show nn_fr b' x (w :: rr_x N l) v = false
    rw [nn_fr] at hf
    rw [nn_fr, t1, t2, t5]
    by_cases k6 : bb_kind b w = 6 ∧ bb_pl b x = 1 ∧ bb_num b w = v
    · rw [if_pos k6]
    · rw [if_neg k6] at hf ⊢
      by_cases k7 : bb_kind b w = 7
      · rw [if_pos k7] at hf ⊢
        by_cases c1 : bb_num b w &&& 3 = v
        · rw [if_pos c1]
        · rw [if_neg c1] at hf ⊢
          by_cases c2 : bb_num b w >>> ((2 : Int32) &&& 31) = v
          · rw [if_pos c2]
          · rw [if_neg c2] at hf ⊢
            exact ih hf
      · rw [if_neg k7] at hf ⊢
        exact ih hf
theorem rr_all_lt : ∀ (l : List Nat) (x y : Nat), nn_pt b lo N x l → y ∈ x :: l → y < N
  | [], x, y, hp, h => by
    simp only [List.mem_cons, List.not_mem_nil, or_false] at h
    rw [h]
    exact hp.1
  | w :: l, x, y, hp, h => by
    rcases List.mem_cons.mp h with e | e
    · rw [e]
      exact nn_pt_lt hp
    · exact rr_all_lt l w y hp.2 e
theorem rr_mkeq (ok : nn_ok b lo N) (hN : N ≤ 21) (ht : t + 1 = N) (hT : rr_T b b' N t M) (hW : rr_W b b' N t) (htw : bb_wh b t = -1) (hup : ∀ x, x < N → ∃ l, nn_pt b lo N x l)
    (hM : ∀ x l j, nn_pt b lo N x l → rr_rt t x l → bb_kind b x = 9 → j < 4 → bb_num b x = nI j → rr_ok b M x l j) : nn_mk b' (N + 2) (N + 2 + 1) = nn_mk b t (t + 1) := by
  have fb : ∀ x, x < N → nn_fb b' (N + 2) x = nn_fb b t x := by
    intro x hx
    obtain ⟨l, hp⟩ := hup x hx
    have len := nn_pt_N l x hp
    obtain ⟨a1, a2⟩ := rr_an hN (by omega) hW htw l x hp
    have ean := nn_an_pt ok.1 24 l x hp (by omega)
    obtain ⟨t1, _, _, _, t5, _⟩ := hT.1 x hx
    unfold nn_fb
    rw [t1, t5, ean]
    by_cases k9 : bb_kind b x = 9
    · by_cases hr : rr_rt t x l
      · rw [a1 hr 24 (by omega), decide_eq_true (rr_rt_mem l x hr)]
        have m1 : N + 2 ∈ x :: rr_x N l := List.mem_cons_of_mem _ (List.mem_append_right _ (List.mem_cons_of_mem _ List.mem_cons_self))
        rw [decide_eq_true m1]
        obtain ⟨j, hj, ej⟩ := rr_num ok hx k9
        congr 1
        by_cases f : nn_fr b x l (bb_num b x) = true
        · rw [ej] at f
          obtain ⟨n1, n2⟩ := hM x l j hp hr k9 hj ej f
          rw [ej]
          exact rr_fr hT (nI j) n1 n2 hW.2.2.2.2.2.1 l x hp hr
        · have f' : nn_fr b x l (bb_num b x) = false := by
            cases hh : nn_fr b x l (bb_num b x) with
            | false => rfl
            | true => exact absurd hh f
          rw [f']
          exact rr_fr_le hT _ l x hp hr f'
      · rw [a2 hr 24 (by omega)]
        have m1 : ¬ N + 2 ∈ x :: l := fun z => by
          have := rr_all_lt l x (N + 2) hp z
          omega
        have m2 : ¬ t ∈ x :: l := fun z => hr (rr_mem_rt htw (by omega) l x hp z)
        rw [decide_eq_false m1, decide_eq_false m2]
        simp
    · rw [decide_eq_false k9]
      simp
  have ind : ∀ i, i ≤ N → nn_mk b' (N + 2) i = nn_mk b t i := by
    intro i
    induction i with
    | zero => exact fun _ => rfl
    | succ i ih =>
      intro hi
      rw [nn_mk, nn_mk, fb i (by omega), ih (by omega), (hT.1 i (by omega)).2.2.2.2.1]
  have nof : ∀ x, ¬ bb_kind b' x = 9 → ¬ nn_fb b' (N + 2) x = true := fun x h z => h (rr_fb9 z)
  rw [nn_mk, if_neg (nof _ (by rw [hW.2.2.2.2.2.1]; decide)), nn_mk, if_neg (nof _ (by rw [hW.2.2.2.2.1]; decide)), nn_mk, if_neg (nof _ (by rw [hT.2.1]; decide)), ind N (Nat.le_refl N), ht]
theorem rr_wrap (ok : nn_ok b lo N) (hN : N ≤ 21) (htN : t < N) (hT : rr_T b b' N t M) (hW : rr_W b b' N t) (htw : bb_wh b t = -1) (h59 : (ee_run b t).2.2.1 ≤ 59)
    (hM : ∀ x l j, nn_pt b lo N x l → rr_rt t x l → bb_kind b x = 9 → j < 4 → bb_num b x = nI j → rr_ok b M x l j) :
    ee_end b' (N + 2) = ee_end b t ∧ ee_val b' (N + 2) = ee_val b t ∧ (ee_run b' (N + 2)).2.2.1 = (ee_run b t).2.2.1 + 1 ∧ (ee_run b' (N + 2)).2.2.2.1 = (ee_run b t).2.2.2.1 + 1 := by
  obtain ⟨w1, w2, w3, w4, w5, w6, w7, w8, w9⟩ := hW
  have hp : nn_pt b lo N t [] := ⟨htN, htw⟩
  have lk0 : ∀ v : Int32, nn_lk b' N [N + 2] v = (15, 0, none) := fun v => by
    rw [nn_lk, if_neg (fun z => absurd (w6.symm.trans z.1) (by decide)), if_neg (fun z => absurd (w6.symm.trans z) (by decide))]
    rfl
  have E : ee_run b' (N + 2) = ee_ev b' 1499 t (rr_x N []) (fun _ => (0, 0)) (0, bb_num b' (N + 1)) 0 (1, 1, ee_up (fun _ => (0, [])) 0 (N, [N + 2]), ee_up (fun _ _ => (0, 0)) 0 (fun _ => (2, 0))) := by
    unfold ee_run
    rw [ee_2 (k := 4) (by omega) w6 (by rw [w8]; exact nI_clamp (by omega)) (by rw [w9]; exact nI_clamp (by omega)) (ee_7 hT.2.1) (ee_8 w5)]
    rw [if_pos rfl, if_pos rfl, if_pos rfl, if_pos rfl]
    have e0 : (nI 0).toNatClampNeg = 0 := nI_clamp (by omega)
    have kk : (fun v => nn_ld (fun _ => (0, 0)) (0, 0) 0 ee_s0.2.2.2 (nn_lk b' N [N + 2] (nI v))) = (fun _ => ((2 : Int32), (0 : Int32))) := by
      funext v
      rw [lk0]
      rfl
    have e1 : ee_s0.2.1 = 0 := rfl
    dsimp only
    rw [if_neg (by decide), e1, e0, ee_up_s]
    dsimp only
    rw [w7, nI_clamp (by omega), kk]
    rfl
  have P := ee_pre0 ok hp
  have J := rr_main ok hT hM 1500 t [] (fun _ => (0, 0)) (0, 0) 0 ee_s0 P rfl h59 1499 (fun _ => (0, 0)) (0, bb_num b' (N + 1)) 0 (1, 1, ee_up (fun _ => (0, [])) 0 (N, [N + 2]), ee_up (fun _ _ => (0, 0)) 0 (fun _ => (2, 0)))
    (by show t + 24 * (60 - 1) < 1499; omega) ⟨fun k hk => absurd hk (Nat.not_lt_zero k), fun g lg hg => absurd hg (by simp [nn_en]), fun _ => rfl⟩
    ⟨rfl, rfl, fun j _ => congrFun (ee_up_s (fun _ _ => (0, 0)) 0 (fun _ => (2, 0))) j, fun k hk => absurd hk (Nat.not_lt_zero k)⟩
  rw [← E] at J
  have J' : (ee_run b' (N + 2)).1 = (ee_run b t).1 ∧ ((ee_run b t).1 = -1 → (ee_run b' (N + 2)).2.1 = rr_sh (ee_run b t).2.1) ∧ rr_S b N t M (ee_run b t).2.2 (ee_run b' (N + 2)).2.2 := J
  obtain ⟨j1, j2, j3⟩ := J'
  have eE : ee_end b' (N + 2) = ee_end b t := by
    unfold ee_end
    rw [j1]
    by_cases e : (ee_run b t).1 = -1
    · rw [if_pos e, if_pos e, j2 e, rr_sh1]
    · rw [if_neg e, if_neg e]
  refine ⟨eE, ?_, j3.1, j3.2.1⟩
  unfold ee_val
  rw [eE]
  by_cases z : ee_end b t = 0
  · rw [if_pos z, if_pos z]
    have I := ee_pure ok 1500 t [] (fun _ => (0, 0)) (0, 0) 0 ee_s0 P
    by_cases e : (ee_run b t).1 = -1
    · rw [j2 e]
      unfold ee_end at z
      rw [if_pos e] at z
      rw [rr_sh2 (by rw [z]; decide)]
    · unfold ee_end at z
      rw [if_neg e] at z
      rcases I.2.2.1 with y | y | y
      · exact absurd y e
      · exact absurd (z.symm.trans y) (by decide)
      · exact absurd (z.symm.trans y) (by decide)
  · rw [if_neg z, if_neg z]
end
end
section
def bb_g (b : bb_T) (C H : Int32) (N : Nat) (k p1 p2 p3 : Int32) (W P : Nat → Int32) : bb_T := (C, H, upd (bb_kind b) N k, upd (bb_pa b) N p1, upd (bb_pb b) N p2, upd (bb_pc b) N p3, bb_num b, W, P, bb_stack b)
def bb_leaf (b : bb_T) (N h : Nat) (k n : Int32) : bb_T := (nI (N + 1), nI (h + 1), upd (bb_kind b) N k, upd (bb_pa b) N (-1), upd (bb_pb b) N (-1), upd (bb_pc b) N (-1), upd (bb_num b) N n, upd (bb_wh b) N (-1), bb_pl b, upd (bb_stack b) h (nI N))
def bb_fun (b : bb_T) (N h a : Nat) (n : Int32) : bb_T := (nI (N + 1), bb_height b, upd (bb_kind b) N 7, upd (bb_pa b) N (nI a), upd (bb_pb b) N (-1), upd (bb_pc b) N (-1), upd (bb_num b) N n, upd (upd (bb_wh b) N (-1)) a (nI N), upd (bb_pl b) a 0, upd (bb_stack b) h (nI N))
def bb_two (b : bb_T) (N h : Nat) (k : Int32) (a e : Nat) : bb_T := (nI (N + 1), nI (h + 1), upd (bb_kind b) N k, upd (bb_pa b) N (nI a), upd (bb_pb b) N (nI e), upd (bb_pc b) N (-1), bb_num b, upd (upd (upd (bb_wh b) N (-1)) a (nI N)) e (nI N), upd (upd (bb_pl b) a 0) e 1, upd (bb_stack b) h (nI N))
def bb_bind (b : bb_T) (N h : Nat) (n : Int32) (a e : Nat) : bb_T := (nI (N + 1), nI (h + 1), upd (bb_kind b) N 6, upd (bb_pa b) N (nI a), upd (bb_pb b) N (nI e), upd (bb_pc b) N (-1), upd (bb_num b) N n, upd (upd (upd (bb_wh b) N (-1)) a (nI N)) e (nI N), upd (upd (bb_pl b) a 0) e 1, upd (bb_stack b) h (nI N))
def bb_cho (b : bb_T) (N h : Nat) (a e d : Nat) : bb_T := (nI (N + 1), nI (h + 1), upd (bb_kind b) N 5, upd (bb_pa b) N (nI a), upd (bb_pb b) N (nI e), upd (bb_pc b) N (nI d), bb_num b, upd (upd (upd (upd (bb_wh b) N (-1)) a (nI N)) e (nI N)) d (nI N), upd (upd (upd (bb_pl b) a 0) e 1) d 2, upd (bb_stack b) h (nI N))
section
variable {b : bb_T} {c : qq_T} {v : vv_T}
theorem cc_w_ad0 {post : St1 → Prop} {k : Int32} (H : post (cc_u b c v)) : wpX_adopt post (cc_u b c v) (-1) k := br_t (by decide) H
theorem cc_w_ad0' {post : St1 → Prop} {k : Int32} (H : post (cc_u b c v)) : wpX_adopt_2 post (cc_u b c v) (-1) k := br_t (by decide) H
theorem cc_w_ad1 {post : St1 → Prop} {kk H k p1 p2 p3 : Int32} {W P : Nat → Int32} {N a : Nat} (hc : bb_count b = nI N) (ha : a < 24) (Hp : post (cc_u (bb_g b (bb_count b) H N k p1 p2 p3 (upd W a (nI N)) (upd P a kk)) c v)) : wpX_adopt post (cc_u (bb_g b (bb_count b) H N k p1 p2 p3 W P) c v) (nI a) kk := by
  have e : (nI a).toNatClampNeg = a := nI_clamp (by omega)
  have i1 : vp_in (nI a) 24 := pk_in a 24 ha
  exact br_f (nI_pos (by omega)) (And.intro i1 (nm_r (show upd W (nI a).toNatClampNeg (bb_count b) = upd W a (nI N) by rw [e, hc]) (And.intro i1 (nm_r (show upd P (nI a).toNatClampNeg kk = upd P a kk by rw [e]) Hp))))
theorem cc_w_ad1' {post : St1 → Prop} {kk H k p1 p2 p3 : Int32} {W P : Nat → Int32} {N a : Nat} (hc : bb_count b = nI N) (ha : a < 24) (Hp : post (cc_u (bb_g b (bb_count b) H N k p1 p2 p3 (upd W a (nI N)) (upd P a kk)) c v)) : wpX_adopt_2 post (cc_u (bb_g b (bb_count b) H N k p1 p2 p3 W P) c v) (nI a) kk := by
  have e : (nI a).toNatClampNeg = a := nI_clamp (by omega)
  have i1 : vp_in (nI a) 24 := pk_in a 24 ha
  exact br_f (nI_pos (by omega)) (And.intro i1 (nm_r (show upd W (nI a).toNatClampNeg (bb_count b) = upd W a (nI N) by rw [e, hc]) (And.intro i1 (nm_r (show upd P (nI a).toNatClampNeg kk = upd P a kk by rw [e]) Hp))))
theorem cc_w_mk0 {post : Int32 → St1 → Prop} {Hh k : Int32} (N  : Nat) (hc : bb_count b = nI N) (hN : N < 24)  (H : post (nI N) (cc_u (bb_g b (nI (N + 1)) Hh N k (-1) (-1) (-1) (upd (bb_wh b) N (-1)) (bb_pl b)) c v)) : wpX_make post (cc_u (bb_s_height b Hh) c v) k (-1) (-1) (-1) := by
  have e0 : (bb_count b).toNatClampNeg = N := by rw [hc]; exact nI_clamp (by omega)
  have i1 : vp_in (bb_count b) 24 := pk_in N 24 hN hc
  refine And.intro i1 (nm_r (congrArg (fun z => upd (bb_kind b) z k) e0) (And.intro i1 (nm_r (congrArg (fun z => upd (bb_pa b) z (-1)) e0) (And.intro i1 (nm_r (congrArg (fun z => upd (bb_pb b) z (-1)) e0) (And.intro i1 (nm_r (congrArg (fun z => upd (bb_pc b) z (-1)) e0) (And.intro i1 (nm_r (congrArg (fun z => upd (bb_wh b) z (-1)) e0) ?_)))))))))
  refine cc_w_ad0 (b := bb_g b (bb_count b) Hh N k (-1) (-1) (-1) (upd (bb_wh b) N (-1)) (bb_pl b)) (c := c) (v := v) ?_
  refine cc_w_ad0 (b := bb_g b (bb_count b) Hh N k (-1) (-1) (-1) (upd (bb_wh b) N (-1)) (bb_pl b)) (c := c) (v := v) ?_
  refine cc_w_ad0 (b := bb_g b (bb_count b) Hh N k (-1) (-1) (-1) (upd (bb_wh b) N (-1)) (bb_pl b)) (c := c) (v := v) ?_
  refine nm_r (show bb_count b + 1 = nI (N + 1) by rw [hc, nI_1]) ?_
  rw [nI_pred]
  exact H
theorem cc_w_mk1 {post : Int32 → St1 → Prop} {Hh k : Int32} (N a : Nat) (hc : bb_count b = nI N) (hN : N < 24) (ha : a < 24) (H : post (nI N) (cc_u (bb_g b (nI (N + 1)) Hh N k (nI a) (-1) (-1) (upd (upd (bb_wh b) N (-1)) a (nI N)) (upd (bb_pl b) a 0)) c v)) : wpX_make post (cc_u (bb_s_height b Hh) c v) k (nI a) (-1) (-1) := by
  have e0 : (bb_count b).toNatClampNeg = N := by rw [hc]; exact nI_clamp (by omega)
  have i1 : vp_in (bb_count b) 24 := pk_in N 24 hN hc
  refine And.intro i1 (nm_r (congrArg (fun z => upd (bb_kind b) z k) e0) (And.intro i1 (nm_r (congrArg (fun z => upd (bb_pa b) z (nI a)) e0) (And.intro i1 (nm_r (congrArg (fun z => upd (bb_pb b) z (-1)) e0) (And.intro i1 (nm_r (congrArg (fun z => upd (bb_pc b) z (-1)) e0) (And.intro i1 (nm_r (congrArg (fun z => upd (bb_wh b) z (-1)) e0) ?_)))))))))
  refine cc_w_ad1 (b := b) (c := c) (v := v) (H := Hh) (k := k) (p1 := (nI a)) (p2 := (-1)) (p3 := (-1)) (W := (upd (bb_wh b) N (-1))) (P := (bb_pl b)) hc ha ?_
  refine cc_w_ad0 (b := bb_g b (bb_count b) Hh N k (nI a) (-1) (-1) (upd (upd (bb_wh b) N (-1)) a (nI N)) (upd (bb_pl b) a 0)) (c := c) (v := v) ?_
  refine cc_w_ad0 (b := bb_g b (bb_count b) Hh N k (nI a) (-1) (-1) (upd (upd (bb_wh b) N (-1)) a (nI N)) (upd (bb_pl b) a 0)) (c := c) (v := v) ?_
  refine nm_r (show bb_count b + 1 = nI (N + 1) by rw [hc, nI_1]) ?_
  rw [nI_pred]
  exact H
theorem cc_w_mk2 {post : Int32 → St1 → Prop} {Hh k : Int32} (N a e : Nat) (hc : bb_count b = nI N) (hN : N < 24) (ha : a < 24) (he : e < 24) (H : post (nI N) (cc_u (bb_g b (nI (N + 1)) Hh N k (nI a) (nI e) (-1) (upd (upd (upd (bb_wh b) N (-1)) a (nI N)) e (nI N)) (upd (upd (bb_pl b) a 0) e 1)) c v)) : wpX_make post (cc_u (bb_s_height b Hh) c v) k (nI a) (nI e) (-1) := by
  have e0 : (bb_count b).toNatClampNeg = N := by rw [hc]; exact nI_clamp (by omega)
  have i1 : vp_in (bb_count b) 24 := pk_in N 24 hN hc
  refine And.intro i1 (nm_r (congrArg (fun z => upd (bb_kind b) z k) e0) (And.intro i1 (nm_r (congrArg (fun z => upd (bb_pa b) z (nI a)) e0) (And.intro i1 (nm_r (congrArg (fun z => upd (bb_pb b) z (nI e)) e0) (And.intro i1 (nm_r (congrArg (fun z => upd (bb_pc b) z (-1)) e0) (And.intro i1 (nm_r (congrArg (fun z => upd (bb_wh b) z (-1)) e0) ?_)))))))))
  refine cc_w_ad1 (b := b) (c := c) (v := v) (H := Hh) (k := k) (p1 := (nI a)) (p2 := (nI e)) (p3 := (-1)) (W := (upd (bb_wh b) N (-1))) (P := (bb_pl b)) hc ha ?_
  refine cc_w_ad1 (b := b) (c := c) (v := v) (H := Hh) (k := k) (p1 := (nI a)) (p2 := (nI e)) (p3 := (-1)) (W := (upd (upd (bb_wh b) N (-1)) a (nI N))) (P := (upd (bb_pl b) a 0)) hc he ?_
  refine cc_w_ad0 (b := bb_g b (bb_count b) Hh N k (nI a) (nI e) (-1) (upd (upd (upd (bb_wh b) N (-1)) a (nI N)) e (nI N)) (upd (upd (bb_pl b) a 0) e 1)) (c := c) (v := v) ?_
  refine nm_r (show bb_count b + 1 = nI (N + 1) by rw [hc, nI_1]) ?_
  rw [nI_pred]
  exact H
theorem cc_w_mk2' {post : Int32 → St1 → Prop} {Hh k : Int32} (N a e : Nat) (hc : bb_count b = nI N) (hN : N < 24) (ha : a < 24) (he : e < 24) (H : post (nI N) (cc_u (bb_g b (nI (N + 1)) Hh N k (nI a) (nI e) (-1) (upd (upd (upd (bb_wh b) N (-1)) a (nI N)) e (nI N)) (upd (upd (bb_pl b) a 0) e 1)) c v)) : wpX_make_2 post (cc_u (bb_s_height b Hh) c v) k (nI a) (nI e) (-1) := by
  have e0 : (bb_count b).toNatClampNeg = N := by rw [hc]; exact nI_clamp (by omega)
  have i1 : vp_in (bb_count b) 24 := pk_in N 24 hN hc
  refine And.intro i1 (nm_r (congrArg (fun z => upd (bb_kind b) z k) e0) (And.intro i1 (nm_r (congrArg (fun z => upd (bb_pa b) z (nI a)) e0) (And.intro i1 (nm_r (congrArg (fun z => upd (bb_pb b) z (nI e)) e0) (And.intro i1 (nm_r (congrArg (fun z => upd (bb_pc b) z (-1)) e0) (And.intro i1 (nm_r (congrArg (fun z => upd (bb_wh b) z (-1)) e0) ?_)))))))))
  refine cc_w_ad1' (b := b) (c := c) (v := v) (H := Hh) (k := k) (p1 := (nI a)) (p2 := (nI e)) (p3 := (-1)) (W := (upd (bb_wh b) N (-1))) (P := (bb_pl b)) hc ha ?_
  refine cc_w_ad1' (b := b) (c := c) (v := v) (H := Hh) (k := k) (p1 := (nI a)) (p2 := (nI e)) (p3 := (-1)) (W := (upd (upd (bb_wh b) N (-1)) a (nI N))) (P := (upd (bb_pl b) a 0)) hc he ?_
  refine cc_w_ad0' (b := bb_g b (bb_count b) Hh N k (nI a) (nI e) (-1) (upd (upd (upd (bb_wh b) N (-1)) a (nI N)) e (nI N)) (upd (upd (bb_pl b) a 0) e 1)) (c := c) (v := v) ?_
  refine nm_r (show bb_count b + 1 = nI (N + 1) by rw [hc, nI_1]) ?_
  rw [nI_pred]
  exact H
theorem cc_w_mk3' {post : Int32 → St1 → Prop} {Hh k : Int32} (N a e d : Nat) (hc : bb_count b = nI N) (hN : N < 24) (ha : a < 24) (he : e < 24) (hd : d < 24) (H : post (nI N) (cc_u (bb_g b (nI (N + 1)) Hh N k (nI a) (nI e) (nI d) (upd (upd (upd (upd (bb_wh b) N (-1)) a (nI N)) e (nI N)) d (nI N)) (upd (upd (upd (bb_pl b) a 0) e 1) d 2)) c v)) : wpX_make_2 post (cc_u (bb_s_height b Hh) c v) k (nI a) (nI e) (nI d) := by
  have e0 : (bb_count b).toNatClampNeg = N := by rw [hc]; exact nI_clamp (by omega)
  have i1 : vp_in (bb_count b) 24 := pk_in N 24 hN hc
  refine And.intro i1 (nm_r (congrArg (fun z => upd (bb_kind b) z k) e0) (And.intro i1 (nm_r (congrArg (fun z => upd (bb_pa b) z (nI a)) e0) (And.intro i1 (nm_r (congrArg (fun z => upd (bb_pb b) z (nI e)) e0) (And.intro i1 (nm_r (congrArg (fun z => upd (bb_pc b) z (nI d)) e0) (And.intro i1 (nm_r (congrArg (fun z => upd (bb_wh b) z (-1)) e0) ?_)))))))))
  refine cc_w_ad1' (b := b) (c := c) (v := v) (H := Hh) (k := k) (p1 := (nI a)) (p2 := (nI e)) (p3 := (nI d)) (W := (upd (bb_wh b) N (-1))) (P := (bb_pl b)) hc ha ?_
  refine cc_w_ad1' (b := b) (c := c) (v := v) (H := Hh) (k := k) (p1 := (nI a)) (p2 := (nI e)) (p3 := (nI d)) (W := (upd (upd (bb_wh b) N (-1)) a (nI N))) (P := (upd (bb_pl b) a 0)) hc he ?_
  refine cc_w_ad1' (b := b) (c := c) (v := v) (H := Hh) (k := k) (p1 := (nI a)) (p2 := (nI e)) (p3 := (nI d)) (W := (upd (upd (upd (bb_wh b) N (-1)) a (nI N)) e (nI N))) (P := (upd (upd (bb_pl b) a 0) e 1)) hc hd ?_
  refine nm_r (show bb_count b + 1 = nI (N + 1) by rw [hc, nI_1]) ?_
  rw [nI_pred]
  exact H
theorem cc_w_leaf {post : Int32 → St1 → Prop} {k n : Int32} (N h : Nat) (hc : bb_count b = nI N) (hN : N < 24) (hh : bb_height b = nI h) (h6 : h < 6) (H : post (nI (h + 1)) (cc_u (bb_leaf b N h k n) c v)) : wpX_leaf post (cc_u b c v) k n := by
  have n1 : ¬ bb_count b = 24 := by rw [hc]; exact fun z => absurd ((nI_eq (b := 24) (by omega) (by omega)).mp z) (by omega)
  have n2 : ¬ bb_height b = 6 := by rw [hh]; exact fun z => absurd ((nI_eq (b := 6) (by omega) (by omega)).mp z) (by omega)
  have eN : (nI N).toNatClampNeg = N := nI_clamp (by omega)
  have eh : (bb_height b).toNatClampNeg = h := by rw [hh]; exact nI_clamp (by omega)
  refine br_f n1 (br_f n2 (cc_w_mk0 (b := b) (c := c) (v := v) (Hh := bb_height b) N hc hN ?_))
  exact And.intro (pk_in N 24 hN) (nm_r (show upd (bb_num b) (nI N).toNatClampNeg n = upd (bb_num b) N n by rw [eN]) (And.intro (pk_in h 6 h6 hh) (nm_r (show upd (bb_stack b) (bb_height b).toNatClampNeg (nI N) = upd (bb_stack b) h (nI N) by rw [eh]) (nm_r (show bb_height b + 1 = nI (h + 1) by rw [hh, nI_1]) H))))
theorem cc_w_fun {post : Int32 → St1 → Prop} (N h a f n : Nat) (hf : f < 4) (hn : n < 4) (hc : bb_count b = nI N) (hN : N < 24) (hh : bb_height b = nI (h + 1)) (h6 : h < 6) (hs : bb_stack b h = nI a) (ha : a < 24) (H : post (nI (h + 1)) (cc_u (bb_fun b N h a (nI (4 * f + n))) c v)) : wpX_function post (cc_u b c v) (nI f) (nI n) := by
  have n1 : ¬ bb_count b = 24 := by rw [hc]; exact fun z => absurd ((nI_eq (b := 24) (by omega) (by omega)).mp z) (by omega)
  have n2 : ¬ bb_height b = 0 := by rw [hh]; exact nI_ne0 (by omega) (by omega)
  have eN : (nI N).toNatClampNeg = N := nI_clamp (by omega)
  have e1 : bb_height b - 1 = nI h := by rw [hh]; exact nI_pred h
  have eh : (bb_height b - 1).toNatClampNeg = h := by rw [e1]; exact nI_clamp (by omega)
  have es : bb_stack b (bb_height b - 1).toNatClampNeg = nI a := by rw [eh]; exact hs
  have e4 : 4 * nI f + nI n = nI (4 * f + n) := by
    show nI 4 * nI f + nI n = _
    rw [pk_mul, nI_add]
  have H' : post (bb_height b) (cc_u (bb_fun b N h a (nI (4 * f + n))) c v) := by rw [hh]; exact H
  have key : ∀ (Q : Int32 → St1 → Prop) (x : Int32), x = nI a → Q (nI N) (cc_u (bb_g b (nI (N + 1)) (bb_height b) N 7 (nI a) (-1) (-1) (upd (upd (bb_wh b) N (-1)) a (nI N)) (upd (bb_pl b) a 0)) c v) → wpX_make Q (cc_u (bb_s_height b (bb_height b)) c v) 7 x (-1) (-1) := by
    intro Q x hx hQ
    rw [hx]
    exact cc_w_mk1 N a hc hN ha hQ
  refine br_f (nI_pos (by omega)) (br_t (nI_lt (b := 4) hf (by omega)) (br_t rfl (br_f (nI_pos (by omega)) (br_t (nI_lt (b := 4) hn (by omega)) (br_t rfl (br_f n1 (br_f n2 (And.intro (pk_in h 6 h6 e1) (key _ _ es ?_)))))))))
  exact And.intro (pk_in N 24 hN) (nm_r (show upd (bb_num b) (nI N).toNatClampNeg (4 * nI f + nI n) = upd (bb_num b) N (nI (4 * f + n)) by rw [eN, e4]) (And.intro (pk_in h 6 h6 e1) (nm_r (show upd (bb_stack b) (bb_height b - 1).toNatClampNeg (nI N) = upd (bb_stack b) h (nI N) by rw [eh]) H')))
theorem cc_w_two {post : Int32 → St1 → Prop} (N h k a e : Nat) (hk : k < 5) (hc : bb_count b = nI N) (hN : N < 24) (hh : bb_height b = nI (h + 2)) (h6 : h + 1 < 6) (hs : bb_stack b h = nI a) (hs2 : bb_stack b (h + 1) = nI e) (ha : a < 24) (he : e < 24) (H : post (nI (h + 1)) (cc_u (bb_two b N h (nI k) a e) c v)) : wpX_two post (cc_u b c v) (nI k) := by
  have n1 : ¬ bb_count b = 24 := by rw [hc]; exact fun z => absurd ((nI_eq (b := 24) (by omega) (by omega)).mp z) (by omega)
  have e1 : bb_height b - 1 = nI (h + 1) := by rw [hh]; exact nI_pred (h + 1)
  have eh : (nI (h + 1) - 1).toNatClampNeg = h := by rw [nI_pred]; exact nI_clamp (by omega)
  have i1 : vp_in (nI (h + 1) - 1) 6 := pk_in h 6 (by omega) (nI_pred h)
  have key : ∀ (Q : Int32 → St1 → Prop) (x y : Int32), x = nI a → y = nI e → Q (nI N) (cc_u (bb_g b (nI (N + 1)) (nI (h + 1)) N (nI k) (nI a) (nI e) (-1) (upd (upd (upd (bb_wh b) N (-1)) a (nI N)) e (nI N)) (upd (upd (bb_pl b) a 0) e 1)) c v) → wpX_make_2 Q (cc_u (bb_s_height b (nI (h + 1))) c v) (nI k) x y (-1) := by
    intro Q x y hx hy hQ
    rw [hx, hy]
    exact cc_w_mk2' N a e hc hN ha he hQ
  refine br_f (nI_pos (by omega)) (br_t (nI_le (b := 4) (by omega) (by omega)) (br_f n1 (br_t (show 2 ≤ bb_height b by rw [hh]; exact nI_le (a := 2) (by omega) (by omega)) (nm_r e1 (And.intro i1 (And.intro (pk_in (h + 1) 6 h6) (key _ _ _ (by rw [eh]; exact hs) (by rw [nI_clamp (show h + 1 < 2 ^ 31 by omega)]; exact hs2) ?_)))))))
  exact And.intro i1 (nm_r (show upd (bb_stack b) (nI (h + 1) - 1).toNatClampNeg (nI N) = upd (bb_stack b) h (nI N) by rw [eh]) H)
theorem cc_w_bind {post : Int32 → St1 → Prop} (N h n a e : Nat) (hn : n < 4) (hc : bb_count b = nI N) (hN : N < 24) (hh : bb_height b = nI (h + 2)) (h6 : h + 1 < 6) (hs : bb_stack b h = nI a) (hs2 : bb_stack b (h + 1) = nI e) (ha : a < 24) (he : e < 24) (H : post (nI (h + 1)) (cc_u (bb_bind b N h (nI n) a e) c v)) : wpX_bind post (cc_u b c v) (nI n) := by
  have n1 : ¬ bb_count b = 24 := by rw [hc]; exact fun z => absurd ((nI_eq (b := 24) (by omega) (by omega)).mp z) (by omega)
  have e1 : bb_height b - 1 = nI (h + 1) := by rw [hh]; exact nI_pred (h + 1)
  have eh : (nI (h + 1) - 1).toNatClampNeg = h := by rw [nI_pred]; exact nI_clamp (by omega)
  have eN : (nI N).toNatClampNeg = N := nI_clamp (by omega)
  have i1 : vp_in (nI (h + 1) - 1) 6 := pk_in h 6 (by omega) (nI_pred h)
  have key : ∀ (Q : Int32 → St1 → Prop) (x y : Int32), x = nI a → y = nI e → Q (nI N) (cc_u (bb_g b (nI (N + 1)) (nI (h + 1)) N 6 (nI a) (nI e) (-1) (upd (upd (upd (bb_wh b) N (-1)) a (nI N)) e (nI N)) (upd (upd (bb_pl b) a 0) e 1)) c v) → wpX_make Q (cc_u (bb_s_height b (nI (h + 1))) c v) 6 x y (-1) := by
    intro Q x y hx hy hQ
    rw [hx, hy]
    exact cc_w_mk2 N a e hc hN ha he hQ
  refine br_f (nI_pos (by omega)) (br_t (nI_lt (b := 4) hn (by omega)) (br_t rfl (br_f n1 (br_t (show 2 ≤ bb_height b by rw [hh]; exact nI_le (a := 2) (by omega) (by omega)) (nm_r e1 (And.intro i1 (And.intro (pk_in (h + 1) 6 h6) (key _ _ _ (by rw [eh]; exact hs) (by rw [nI_clamp (show h + 1 < 2 ^ 31 by omega)]; exact hs2) ?_))))))))
  exact And.intro (pk_in N 24 hN) (nm_r (show upd (bb_num b) (nI N).toNatClampNeg (nI n) = upd (bb_num b) N (nI n) by rw [eN]) (And.intro i1 (nm_r (show upd (bb_stack b) (nI (h + 1) - 1).toNatClampNeg (nI N) = upd (bb_stack b) h (nI N) by rw [eh]) H)))
theorem cc_w_cho {post : Int32 → St1 → Prop} (N h a e d : Nat) (hc : bb_count b = nI N) (hN : N < 24) (hh : bb_height b = nI (h + 3)) (h6 : h + 2 < 6) (hs : bb_stack b h = nI a) (hs2 : bb_stack b (h + 1) = nI e) (hs3 : bb_stack b (h + 2) = nI d) (ha : a < 24) (he : e < 24) (hd : d < 24) (H : post (nI (h + 1)) (cc_u (bb_cho b N h a e d) c v)) : wpX_choose post (cc_u b c v) := by
  have n1 : ¬ bb_count b = 24 := by rw [hc]; exact fun z => absurd ((nI_eq (b := 24) (by omega) (by omega)).mp z) (by omega)
  have e1 : bb_height b - 2 = nI (h + 1) := by rw [hh]; exact mm_sub2 (h + 1)
  have eh : (nI (h + 1) - 1).toNatClampNeg = h := by rw [nI_pred]; exact nI_clamp (by omega)
  have eh2 : (nI (h + 1) + 1).toNatClampNeg = h + 2 := by rw [nI_1]; exact nI_clamp (by omega)
  have i1 : vp_in (nI (h + 1) - 1) 6 := pk_in h 6 (by omega) (nI_pred h)
  have key : ∀ (Q : Int32 → St1 → Prop) (x y z : Int32), x = nI a → y = nI e → z = nI d → Q (nI N) (cc_u (bb_g b (nI (N + 1)) (nI (h + 1)) N 5 (nI a) (nI e) (nI d) (upd (upd (upd (upd (bb_wh b) N (-1)) a (nI N)) e (nI N)) d (nI N)) (upd (upd (upd (bb_pl b) a 0) e 1) d 2)) c v) → wpX_make_2 Q (cc_u (bb_s_height b (nI (h + 1))) c v) 5 x y z := by
    intro Q x y z hx hy hz hQ
    rw [hx, hy, hz]
    exact cc_w_mk3' N a e d hc hN ha he hd hQ
  refine br_f n1 (br_t (show 3 ≤ bb_height b by rw [hh]; exact nI_le (a := 3) (by omega) (by omega)) (nm_r e1 (And.intro i1 (And.intro (pk_in (h + 1) 6 (by omega)) (And.intro (pk_in (h + 2) 6 h6 (nI_1 (h + 1))) (key _ _ _ _ (by rw [eh]; exact hs) (by rw [nI_clamp (show h + 1 < 2 ^ 31 by omega)]; exact hs2) (by rw [eh2]; exact hs3) ?_))))))
  exact And.intro i1 (nm_r (show upd (bb_stack b) (nI (h + 1) - 1).toNatClampNeg (nI N) = upd (bb_stack b) h (nI N) by rw [eh]) H)
theorem cc_w_leafF {post : Int32 → St1 → Prop} {k n : Int32} (N h : Nat) (hc : bb_count b = nI N) (hN : N ≤ 24) (hh : bb_height b = nI h) (h6 : h ≤ 6) (hf : N = 24 ∨ h = 6) (H : post (-2) (cc_u b c v)) : wpX_leaf post (cc_u b c v) k n := by
  rcases hf with e | e
  · exact br_t (by show bb_count b = 24; rw [hc, e]; rfl) H
  · exact br_c (fun _ => H) (fun _ => br_t (by show bb_height b = 6; rw [hh, e]; rfl) H)
theorem cc_w_funF1 {post : Int32 → St1 → Prop} (f n : Nat) (hf : f < 4) (hn : n < 4) (e : bb_count b = 24) (H : post (-2) (cc_u b c v)) : wpX_function post (cc_u b c v) (nI f) (nI n) :=
  br_f (nI_pos (by omega)) (br_t (nI_lt (b := 4) hf (by omega)) (br_t rfl (br_f (nI_pos (by omega)) (br_t (nI_lt (b := 4) hn (by omega)) (br_t rfl (br_t e H))))))
theorem cc_w_funF2 {post : Int32 → St1 → Prop} (f n : Nat) (hf : f < 4) (hn : n < 4) (n1 : ¬ bb_count b = 24) (e : bb_height b = 0) (H : post (-3) (cc_u b c v)) : wpX_function post (cc_u b c v) (nI f) (nI n) :=
  br_f (nI_pos (by omega)) (br_t (nI_lt (b := 4) hf (by omega)) (br_t rfl (br_f (nI_pos (by omega)) (br_t (nI_lt (b := 4) hn (by omega)) (br_t rfl (br_f n1 (br_t e H)))))))
theorem cc_w_twoF1 {post : Int32 → St1 → Prop} (k : Nat) (hk : k < 5) (e : bb_count b = 24) (H : post (-2) (cc_u b c v)) : wpX_two post (cc_u b c v) (nI k) :=
  br_f (nI_pos (by omega)) (br_t (nI_le (b := 4) (by omega) (by omega)) (br_t e H))
theorem cc_w_twoF2 {post : Int32 → St1 → Prop} (k : Nat) (hk : k < 5) (n1 : ¬ bb_count b = 24) (e : ¬ 2 ≤ bb_height b) (H : post (-3) (cc_u b c v)) : wpX_two post (cc_u b c v) (nI k) :=
  br_f (nI_pos (by omega)) (br_t (nI_le (b := 4) (by omega) (by omega)) (br_f n1 (br_f e H)))
theorem cc_w_bindF1 {post : Int32 → St1 → Prop} (n : Nat) (hn : n < 4) (e : bb_count b = 24) (H : post (-2) (cc_u b c v)) : wpX_bind post (cc_u b c v) (nI n) :=
  br_f (nI_pos (by omega)) (br_t (nI_lt (b := 4) hn (by omega)) (br_t rfl (br_t e H)))
theorem cc_w_bindF2 {post : Int32 → St1 → Prop} (n : Nat) (hn : n < 4) (n1 : ¬ bb_count b = 24) (e : ¬ 2 ≤ bb_height b) (H : post (-3) (cc_u b c v)) : wpX_bind post (cc_u b c v) (nI n) :=
  br_f (nI_pos (by omega)) (br_t (nI_lt (b := 4) hn (by omega)) (br_t rfl (br_f n1 (br_f e H))))
theorem cc_w_choF1 {post : Int32 → St1 → Prop} (e : bb_count b = 24) (H : post (-2) (cc_u b c v)) : wpX_choose post (cc_u b c v) := br_t e H
theorem cc_w_choF2 {post : Int32 → St1 → Prop} (n1 : ¬ bb_count b = 24) (e : ¬ 3 ≤ bb_height b) (H : post (-3) (cc_u b c v)) : wpX_choose post (cc_u b c v) := br_f n1 (br_f e H)
end
end
section
/-- the tables are a forest of N nodes, its h trees lie one behind another; tp: their roots -/
def ii_I (b : bb_T) (lo : Nat → Nat) (N h : Nat) (tp : Nat → Nat) : Prop :=
  bb_count b = nI N ∧ bb_height b = nI h ∧ h ≤ 6 ∧ nn_ok b lo N ∧ (∀ x, x < N → bb_wh b x = -1 ∨ ∃ w, w < N ∧ nn_ch b lo w x) ∧
  (∀ i, i < h → bb_stack b i = nI (tp i) ∧ tp i < N ∧ bb_wh b (tp i) = -1) ∧ (∀ i, i + 1 < h → lo (tp (i + 1)) = tp i + 1) ∧ (∀ i, i + 1 = h → tp i + 1 = N) ∧ (h = 0 → N = 0)
theorem ii_mono {b : bb_T} {lo : Nat → Nat} {N h : Nat} {tp : Nat → Nat} (hI : ii_I b lo N h tp) : ∀ j, j < h → ∀ i, i < j → tp i < tp j := by
  obtain ⟨_, _, _, h4, _, h6, h7, _⟩ := hI
  intro j
  induction j with
  | zero => exact fun _ i hi => absurd hi (by omega)
  | succ j ih =>
    intro hj i hi
    have e := h7 j hj
    have l := (h4.2 (tp (j + 1)) (h6 (j + 1) hj).2.1).1
    by_cases ij : i = j
    · rw [ij]
      omega
    · have := ih (by omega) i (by omega)
      omega
theorem ii_path {b : bb_T} {lo : Nat → Nat} {N : Nat} (hu : ∀ x, x < N → bb_wh b x = -1 ∨ ∃ w, w < N ∧ nn_ch b lo w x) : ∀ (m x : Nat), x < N → N ≤ x + m → ∃ l, nn_pt b lo N x l := by
  intro m
  induction m with
  | zero => exact fun x h1 h2 => absurd h1 (by omega)
  | succ m ih =>
    intro x h1 h2
    rcases hu x h1 with e | ⟨w, hw, hc⟩
    · exact ⟨[], h1, e⟩
    · obtain ⟨l, hl⟩ := ih w hw (by have := hc.1; omega)
      exact ⟨w :: l, hc, hl⟩
theorem ii_nI1 {n : Nat} (h : n < 2 ^ 31) : ¬ nI n = -1 := fun z => by
  have := nI_pos h
  rw [z] at this
  exact absurd (by decide) this
/-- a new node N on the stack's place k -/
theorem ii_new {b b' : bb_T} {lo : Nat → Nat} {N h k L : Nat} {tp : Nat → Nat} (hI : ii_I b lo N h tp) (hN : N < 24) (hk : k ≤ h) (hk6 : k < 6)
    (c1 : bb_count b' = nI (N + 1)) (c2 : bb_height b' = nI (k + 1)) (c3 : bb_stack b' = upd (bb_stack b) k (nI N))
    (old : ∀ x, x < N → bb_kind b' x = bb_kind b x ∧ bb_pa b' x = bb_pa b x ∧ bb_pb b' x = bb_pb b x ∧ bb_pc b' x = bb_pc b x ∧ bb_num b' x = bb_num b x ∧ (¬ bb_wh b x = -1 → bb_wh b' x = bb_wh b x ∧ bb_pl b' x = bb_pl b x))
    (nd : nn_nd b' (ee_up lo N L) N) (wN : bb_wh b' N = -1)
    (rt : ∀ x, x < N → bb_wh b x = -1 → bb_wh b' x = -1 ∨ nn_ch b' (ee_up lo N L) N x)
    (hL : 0 < k → L = tp (k - 1) + 1) (wr : ∀ i, i < k → bb_wh b' (tp i) = -1) : ii_I b' (ee_up lo N L) (N + 1) (k + 1) (ee_up tp k N) := by
  obtain ⟨i1, i2, i3, i4, i5, i6, i7, i8, i9⟩ := hI
  have lo' : ∀ x, x < N → ee_up lo N L x = lo x := fun x hx => ee_up_n _ _ (by omega)
  refine ⟨c1, c2, by omega, ⟨by omega, fun x hx => ?_⟩, fun x hx => ?_, fun i hi => ?_, fun i hi => ?_, fun i hi => ?_, fun z => absurd z (by omega)⟩
  · by_cases e : x = N
    · rw [e]
      exact nd
    · have hx' : x < N := by omega
      obtain ⟨o1, o2, o3, o4, o5, _⟩ := old x hx'
      obtain ⟨hlo, hnd⟩ := i4.2 x hx'
      have kid : ∀ y, y < x → bb_wh b y = nI x → bb_wh b' y = nI x ∧ bb_pl b' y = bb_pl b y := fun y hy hw => by
        obtain ⟨q1, q2⟩ := (old y (by omega)).2.2.2.2.2 (by rw [hw]; exact ii_nI1 (by omega))
        exact ⟨q1.trans hw, q2⟩
      unfold nn_nd
      rw [o1, o2, o3, o4, o5, lo' x hx']
      refine ⟨hlo, ?_⟩
      rcases hnd with k | k | ⟨a, k, h1, h2, h3, h4, h5, h6⟩ | ⟨a, c, k, h1, h2, h3, h4, h5, h6, h7, h8, h9⟩ | ⟨a, c, k, h1, h2, h3, h4, h5, h6, h7, h8, h9, h10⟩ | ⟨a, c, e, k, h1, h2, h2', h3, h4, h4', h5, h6, h7, h8, h9, h10, h11⟩
      · exact Or.inl k
      · exact Or.inr (Or.inl k)
      · obtain ⟨q1, q2⟩ := kid a (by omega) h4
        refine Or.inr (Or.inr (Or.inl ⟨a, k, h1, h2, ?_, q1, q2.trans h5, h6⟩))
        rw [lo' a (by omega)]
        exact h3
      · obtain ⟨_, _, l1, l2, _⟩ := nn_p2 i4 hx' h3 h4 h5 h6 h7 h8
        obtain ⟨q1, q2⟩ := kid a (by omega) h6
        obtain ⟨q3, q4⟩ := kid c (by omega) h8
        refine Or.inr (Or.inr (Or.inr (Or.inl ⟨a, c, k, h1, h2, h3, ?_, ?_, q1, q2.trans h7, q3, q4.trans h9⟩)))
        · rw [lo' c (by omega)]
          exact h4
        · rw [lo' a (by omega)]
          exact h5
      · obtain ⟨_, _, l1, l2, _⟩ := nn_p2 i4 hx' h3 h4 h5 h6 h7 h8
        obtain ⟨q1, q2⟩ := kid a (by omega) h6
        obtain ⟨q3, q4⟩ := kid c (by omega) h8
        refine Or.inr (Or.inr (Or.inr (Or.inr (Or.inl ⟨a, c, k, h1, h2, h3, ?_, ?_, q1, q2.trans h7, q3, q4.trans h9, h10⟩))))
        · rw [lo' c (by omega)]
          exact h4
        · rw [lo' a (by omega)]
          exact h5
      · obtain ⟨_, _, _, l1, l2, l3, _⟩ := nn_p3 i4 hx' h3 h4 h4' h5 h6 h7 h8 h10
        obtain ⟨q1, q2⟩ := kid a (by omega) h6
        obtain ⟨q3, q4⟩ := kid c (by omega) h8
        obtain ⟨q5, q6⟩ := kid e (by omega) h10
        refine Or.inr (Or.inr (Or.inr (Or.inr (Or.inr ⟨a, c, e, k, h1, h2, h2', h3, ?_, ?_, ?_, q1, q2.trans h7, q3, q4.trans h9, q5, q6.trans h11⟩))))
        · rw [lo' e (by omega)]
          exact h4
        · rw [lo' c (by omega)]
          exact h4'
        · rw [lo' a (by omega)]
          exact h5
  · by_cases e : x = N
    · rw [e]
      exact Or.inl wN
    · have hx' : x < N := by omega
      by_cases r : bb_wh b x = -1
      · rcases rt x hx' r with z | z
        · exact Or.inl z
        · exact Or.inr ⟨N, by omega, z⟩
      · rcases i5 x hx' with z | ⟨w, hw, c1', c2', c3', c4'⟩
        · exact absurd z r
        · obtain ⟨q1, q2⟩ := (old x hx').2.2.2.2.2 r
          refine Or.inr ⟨w, by omega, c1', q1.trans c2', ?_, fun z => ?_⟩
          · rw [lo' w hw, lo' x hx']
            exact c3'
          · rw [lo' w hw, lo' x hx']
            exact c4' (q2.symm.trans z)
  · by_cases e : i = k
    · rw [e, ee_up_s, c3, pk_us]
      exact ⟨rfl, by omega, wN⟩
    · rw [ee_up_n _ _ e, c3, pk_un e]
      obtain ⟨q1, q2, q3⟩ := i6 i (by omega)
      exact ⟨q1, by omega, wr i (by omega)⟩
  · have e1 : i ≠ k := by omega
    rw [ee_up_n tp N e1]
    by_cases e : i + 1 = k
    · rw [e, ee_up_s, ee_up_s, hL (by omega)]
      rw [show k - 1 = i by omega]
    · rw [ee_up_n _ _ e, lo' _ (i6 (i + 1) (by omega)).2.1]
      exact i7 i (by omega)
  · have e : i = k := by omega
    rw [e, ee_up_s]
section
variable {b : bb_T} {lo : Nat → Nat} {N h : Nat} {tp : Nat → Nat}
theorem ii_leaf {k n : Int32} (hI : ii_I b lo N h tp) (hN : N < 24) (h6 : h < 6) (hk : k = 8 ∨ (k = 9 ∧ ∃ v : Nat, v < 4 ∧ n = nI v)) : ii_I (bb_leaf b N h k n) (ee_up lo N N) (N + 1) (h + 1) (ee_up tp h N) := by
  obtain ⟨i1, i2, i3, i4, i5, i6, i7, i8, i9⟩ := id hI
  refine ii_new hI hN (Nat.le_refl h) h6 rfl rfl rfl (fun x hx => ⟨pk_un (by omega), pk_un (by omega), pk_un (by omega), pk_un (by omega), pk_un (by omega), fun _ => ⟨pk_un (by omega), rfl⟩⟩) ⟨?_, ?_⟩ pk_us (fun x hx r => Or.inl ((pk_un (by omega)).trans r)) (fun z => (i8 (h - 1) (by omega)).symm) (fun i hi => (pk_un (by have := (i6 i hi).2.1; omega)).trans (i6 i hi).2.2)
  · rw [ee_up_s]
    exact Nat.le_refl N
  · rw [ee_up_s]
    rcases hk with hk | ⟨hk, w, hw, hn⟩
    · exact Or.inl ⟨(pk_us).trans hk, rfl⟩
    · exact Or.inr (Or.inl ⟨(pk_us).trans hk, rfl, w, hw, (pk_us).trans hn⟩)
theorem ii_fun {m : Nat} (hI : ii_I b lo N (h + 1) tp) (hN : N < 24) (hm : m < 16) : ii_I (bb_fun b N h (tp h) (nI m)) (ee_up lo N (lo (tp h))) (N + 1) (h + 1) (ee_up tp h N) := by
  obtain ⟨i1, i2, i3, i4, i5, i6, i7, i8, i9⟩ := id hI
  have ha := i6 h (by omega)
  have hl := (i4.2 (tp h) ha.2.1).1
  have ht := i8 h rfl
  refine ii_new hI hN (by omega) (by omega) rfl i2 rfl (fun x hx => ⟨pk_un (by omega), pk_un (by omega), pk_un (by omega), pk_un (by omega), pk_un (by omega), fun r => ?_⟩) ⟨?_, ?_⟩ ?_ (fun x hx r => ?_) (fun z => ?_) (fun i hi => ?_)
  · have : x ≠ tp h := fun z => r (by rw [z]; exact ha.2.2)
    exact ⟨(pk_un this).trans (pk_un (by omega)), pk_un this⟩
  · rw [ee_up_s]
    omega
  · rw [ee_up_s]
    refine Or.inr (Or.inr (Or.inl ⟨tp h, pk_us, pk_us, ht.symm, ?_, pk_us, pk_us, m, hm, pk_us⟩))
    rw [ee_up_n _ _ (by omega)]
  · exact (pk_un (by omega)).trans pk_us
  · by_cases e : x = tp h
    · subst e
      refine Or.inr ⟨hx, pk_us, ?_, fun z => absurd ((pk_us (f := bb_pl b) (k := tp h) (x := 0)).symm.trans z) (by decide)⟩
      rw [ee_up_s, ee_up_n _ _ (by omega)]
      exact Nat.le_refl _
    · exact Or.inl ((pk_un e).trans ((pk_un (by omega)).trans r))
  · have := i7 (h - 1) (by omega)
    rw [show h - 1 + 1 = h by omega] at this
    exact this
  · have := ii_mono hI h (by omega) i hi
    obtain ⟨_, q2, q3⟩ := i6 i (by omega)
    exact (pk_un (by omega)).trans ((pk_un (by omega)).trans q3)
/-- two trees joined, whatever the kind and the number -/
theorem ii_join {b' : bb_T} (hI : ii_I b lo N (h + 2) tp) (hN : N < 24) (c1 : bb_count b' = nI (N + 1)) (c2 : bb_height b' = nI (h + 1)) (c3 : bb_stack b' = upd (bb_stack b) h (nI N))
    (k1 : ∀ x, x < N → bb_kind b' x = bb_kind b x) (k2 : bb_pa b' = upd (bb_pa b) N (nI (tp h))) (k3 : bb_pb b' = upd (bb_pb b) N (nI (tp (h + 1)))) (k4 : bb_pc b' = upd (bb_pc b) N (-1)) (k5 : ∀ x, x < N → bb_num b' x = bb_num b x)
    (k6 : bb_wh b' = upd (upd (upd (bb_wh b) N (-1)) (tp h) (nI N)) (tp (h + 1)) (nI N)) (k7 : bb_pl b' = upd (upd (bb_pl b) (tp h) 0) (tp (h + 1)) 1)
    (hk : (∃ k : Nat, k < 5 ∧ bb_kind b' N = nI k) ∨ (bb_kind b' N = 6 ∧ ∃ v : Nat, v < 4 ∧ bb_num b' N = nI v)) : ii_I b' (ee_up lo N (lo (tp h))) (N + 1) (h + 1) (ee_up tp h N) := by
  obtain ⟨i1, i2, i3, i4, i5, i6, i7, i8, i9⟩ := id hI
  have ha := i6 h (by omega)
  have he := i6 (h + 1) (by omega)
  have hl := (i4.2 (tp h) ha.2.1).1
  have ht := i8 (h + 1) rfl
  have hm := ii_mono hI (h + 1) (by omega) h (by omega)
  have h7 := i7 h (by omega)
  have w1 : bb_wh b' (tp h) = nI N := by rw [k6, pk_un (by omega), pk_us]
  have w2 : bb_wh b' (tp (h + 1)) = nI N := by rw [k6, pk_us]
  have p1 : bb_pl b' (tp h) = 0 := by rw [k7, pk_un (by omega), pk_us]
  have p2 : bb_pl b' (tp (h + 1)) = 1 := by rw [k7, pk_us]
  refine ii_new hI hN (by omega) (by omega) c1 c2 c3 (fun x hx => ⟨k1 x hx, by rw [k2]; exact pk_un (by omega), by rw [k3]; exact pk_un (by omega), by rw [k4]; exact pk_un (by omega), k5 x hx, fun r => ?_⟩) ⟨?_, ?_⟩ ?_ (fun x hx r => ?_) (fun z => ?_) (fun i hi => ?_)
  · have n1 : x ≠ tp h := fun z => r (by rw [z]; exact ha.2.2)
    have n2 : x ≠ tp (h + 1) := fun z => r (by rw [z]; exact he.2.2)
    rw [k6, k7]
    exact ⟨(pk_un n2).trans ((pk_un n1).trans (pk_un (by omega))), (pk_un n2).trans (pk_un n1)⟩
  · rw [ee_up_s]
    omega
  · rw [ee_up_s]
    have x1 : bb_pa b' N = nI (tp h) := by rw [k2]; exact pk_us
    have x2 : bb_pb b' N = nI (tp (h + 1)) := by rw [k3]; exact pk_us
    have x3 : ee_up lo N (lo (tp h)) (tp (h + 1)) = tp h + 1 := by rw [ee_up_n _ _ (by omega)]; exact h7
    have x4 : lo (tp h) = ee_up lo N (lo (tp h)) (tp h) := by rw [ee_up_n _ _ (by omega)]
    rcases hk with hk | ⟨hk, hk'⟩
    · exact Or.inr (Or.inr (Or.inr (Or.inl ⟨tp h, tp (h + 1), hk, x1, x2, ht.symm, x3, x4, w1, p1, w2, p2⟩)))
    · exact Or.inr (Or.inr (Or.inr (Or.inr (Or.inl ⟨tp h, tp (h + 1), hk, x1, x2, ht.symm, x3, x4, w1, p1, w2, p2, hk'⟩))))
  · rw [k6, pk_un (by omega), pk_un (by omega), pk_us]
  · by_cases e : x = tp h
    · subst e
      refine Or.inr ⟨hx, w1, ?_, fun z => absurd (p1.symm.trans z) (by decide)⟩
      rw [ee_up_s, ee_up_n _ _ (by omega)]
      exact Nat.le_refl _
    · by_cases e2 : x = tp (h + 1)
      · subst e2
        refine Or.inr ⟨hx, w2, ?_, fun z => ?_⟩
        · rw [ee_up_s, ee_up_n _ _ (by omega)]
          omega
        · rw [ee_up_s, ee_up_n _ _ (by omega)]
          omega
      · rw [k6]
        exact Or.inl ((pk_un e2).trans ((pk_un e).trans ((pk_un (by omega)).trans r)))
  · have := i7 (h - 1) (by omega)
    rw [show h - 1 + 1 = h by omega] at this
    exact this
  · have m1 := ii_mono hI h (by omega) i hi
    obtain ⟨_, q2, q3⟩ := i6 i (by omega)
    rw [k6]
    exact (pk_un (by omega)).trans ((pk_un (by omega)).trans ((pk_un (by omega)).trans q3))
theorem ii_two {k : Nat} (hI : ii_I b lo N (h + 2) tp) (hN : N < 24) (hk : k < 5) : ii_I (bb_two b N h (nI k) (tp h) (tp (h + 1))) (ee_up lo N (lo (tp h))) (N + 1) (h + 1) (ee_up tp h N) :=
  ii_join hI hN rfl rfl rfl (fun x hx => pk_un (by omega)) rfl rfl rfl (fun _ _ => rfl) rfl rfl (Or.inl ⟨k, hk, pk_us⟩)
theorem ii_bind {n : Nat} (hI : ii_I b lo N (h + 2) tp) (hN : N < 24) (hn : n < 4) : ii_I (bb_bind b N h (nI n) (tp h) (tp (h + 1))) (ee_up lo N (lo (tp h))) (N + 1) (h + 1) (ee_up tp h N) :=
  ii_join hI hN rfl rfl rfl (fun x hx => pk_un (by omega)) rfl rfl rfl (fun x hx => pk_un (by omega)) rfl rfl (Or.inr ⟨pk_us, n, hn, pk_us⟩)
theorem ii_cho (hI : ii_I b lo N (h + 3) tp) (hN : N < 24) : ii_I (bb_cho b N h (tp h) (tp (h + 1)) (tp (h + 2))) (ee_up lo N (lo (tp h))) (N + 1) (h + 1) (ee_up tp h N) := by
  obtain ⟨i1, i2, i3, i4, i5, i6, i7, i8, i9⟩ := id hI
  have ha := i6 h (by omega)
  have he := i6 (h + 1) (by omega)
  have hd := i6 (h + 2) (by omega)
  have hl := (i4.2 (tp h) ha.2.1).1
  have hl2 := (i4.2 (tp (h + 1)) he.2.1).1
  have ht := i8 (h + 2) rfl
  have hm := ii_mono hI (h + 1) (by omega) h (by omega)
  have hm2 := ii_mono hI (h + 2) (by omega) (h + 1) (by omega)
  have h7 := i7 h (by omega)
  have h7' : lo (tp (h + 2)) = tp (h + 1) + 1 := i7 (h + 1) (by omega)
  have k6 : bb_wh (bb_cho b N h (tp h) (tp (h + 1)) (tp (h + 2))) = upd (upd (upd (upd (bb_wh b) N (-1)) (tp h) (nI N)) (tp (h + 1)) (nI N)) (tp (h + 2)) (nI N) := rfl
  have k7 : bb_pl (bb_cho b N h (tp h) (tp (h + 1)) (tp (h + 2))) = upd (upd (upd (bb_pl b) (tp h) 0) (tp (h + 1)) 1) (tp (h + 2)) 2 := rfl
  have w1 : bb_wh (bb_cho b N h (tp h) (tp (h + 1)) (tp (h + 2))) (tp h) = nI N := by rw [k6, pk_un (by omega), pk_un (by omega), pk_us]
  have w2 : bb_wh (bb_cho b N h (tp h) (tp (h + 1)) (tp (h + 2))) (tp (h + 1)) = nI N := by rw [k6, pk_un (by omega), pk_us]
  have w3 : bb_wh (bb_cho b N h (tp h) (tp (h + 1)) (tp (h + 2))) (tp (h + 2)) = nI N := by rw [k6, pk_us]
  have p1 : bb_pl (bb_cho b N h (tp h) (tp (h + 1)) (tp (h + 2))) (tp h) = 0 := by rw [k7, pk_un (by omega), pk_un (by omega), pk_us]
  have p2 : bb_pl (bb_cho b N h (tp h) (tp (h + 1)) (tp (h + 2))) (tp (h + 1)) = 1 := by rw [k7, pk_un (by omega), pk_us]
  have p3 : bb_pl (bb_cho b N h (tp h) (tp (h + 1)) (tp (h + 2))) (tp (h + 2)) = 2 := by rw [k7, pk_us]
  refine ii_new hI hN (by omega) (by omega) rfl rfl rfl (fun x hx => ⟨pk_un (by omega), pk_un (by omega), pk_un (by omega), pk_un (by omega), rfl, fun r => ?_⟩) ⟨?_, ?_⟩ ?_ (fun x hx r => ?_) (fun z => ?_) (fun i hi => ?_)
  · have n1 : x ≠ tp h := fun z => r (by rw [z]; exact ha.2.2)
    have n2 : x ≠ tp (h + 1) := fun z => r (by rw [z]; exact he.2.2)
    have n3 : x ≠ tp (h + 2) := fun z => r (by rw [z]; exact hd.2.2)
    rw [k6, k7]
    exact ⟨(pk_un n3).trans ((pk_un n2).trans ((pk_un n1).trans (pk_un (by omega)))), (pk_un n3).trans ((pk_un n2).trans (pk_un n1))⟩
  · rw [ee_up_s]
    omega
  · rw [ee_up_s]
    have x3 : ee_up lo N (lo (tp h)) (tp (h + 1)) = tp h + 1 := by rw [ee_up_n _ _ (by omega)]; exact h7
    have x3' : ee_up lo N (lo (tp h)) (tp (h + 2)) = tp (h + 1) + 1 := by rw [ee_up_n _ _ (by omega)]; exact h7'
    have x4 : lo (tp h) = ee_up lo N (lo (tp h)) (tp h) := by rw [ee_up_n _ _ (by omega)]
    exact Or.inr (Or.inr (Or.inr (Or.inr (Or.inr ⟨tp h, tp (h + 1), tp (h + 2), pk_us, pk_us, pk_us, pk_us, ht.symm, x3', x3, x4, w1, p1, w2, p2, w3, p3⟩))))
  · rw [k6, pk_un (by omega), pk_un (by omega), pk_un (by omega), pk_us]
  · by_cases e : x = tp h
    · subst e
      refine Or.inr ⟨hx, w1, ?_, fun z => absurd (p1.symm.trans z) (by decide)⟩
      rw [ee_up_s, ee_up_n _ _ (by omega)]
      exact Nat.le_refl _
    · by_cases e2 : x = tp (h + 1)
      · subst e2
        refine Or.inr ⟨hx, w2, ?_, fun z => ?_⟩
        · rw [ee_up_s, ee_up_n _ _ (by omega)]
          omega
        · rw [ee_up_s, ee_up_n _ _ (by omega)]
          omega
      · by_cases e3 : x = tp (h + 2)
        · subst e3
          refine Or.inr ⟨hx, w3, ?_, fun z => absurd (p3.symm.trans z) (by decide)⟩
          rw [ee_up_s, ee_up_n _ _ (by omega)]
          omega
        · rw [k6]
          exact Or.inl ((pk_un e3).trans ((pk_un e2).trans ((pk_un e).trans ((pk_un (by omega)).trans r))))
  · have := i7 (h - 1) (by omega)
    rw [show h - 1 + 1 = h by omega] at this
    exact this
  · have m1 := ii_mono hI h (by omega) i hi
    obtain ⟨_, q2, q3⟩ := i6 i (by omega)
    rw [k6]
    exact (pk_un (by omega)).trans ((pk_un (by omega)).trans ((pk_un (by omega)).trans ((pk_un (by omega)).trans q3)))
end
end
section
/-- what a builder's call did: nothing, or a node N of the kind k -/
def ii_R (b : bb_T) (N : Nat) (k : Int32) (b' : bb_T) (N' : Nat) (r : Int32) : Prop :=
  (N' = N ∧ b' = b) ∨ (N' = N + 1 ∧ 0 < r ∧ bb_kind b' N = k ∧ ∀ x, x < N → bb_kind b' x = bb_kind b x)
section
variable {b : bb_T} {lo : Nat → Nat} {N h : Nat} {tp : Nat → Nat}
theorem ii_c24 (hI : ii_I b lo N h tp) (e : N = 24) : bb_count b = 24 := by rw [hI.1, e]; rfl
theorem ii_n24 (hI : ii_I b lo N h tp) (e : ¬ N = 24) : ¬ bb_count b = 24 := by
  have := hI.2.2.2.1.1
  rw [hI.1]
  exact fun z => e ((nI_eq (b := 24) (by omega) (by omega)).mp z)
theorem ii_r (h : Nat) (hh : h < 6) : (0 : Int32) < nI (h + 1) := nI_lt (a := 0) (by omega) (by omega)
theorem ii_tleaf (hI : ii_I b lo N h tp) {k n : Int32} (hk : k = 8 ∨ (k = 9 ∧ ∃ v : Nat, v < 4 ∧ n = nI v)) :
    ∃ b' lo' N' h' tp' r, ii_I b' lo' N' h' tp' ∧ ii_R b N k b' N' r ∧ ∀ (post : Int32 → St1 → Prop) c v, post r (cc_u b' c v) → wpX_leaf post (cc_u b c v) k n := by
  have hN := hI.2.2.2.1.1
  have h6 := hI.2.2.1
  by_cases e : N = 24 ∨ h = 6
  · exact ⟨b, lo, N, h, tp, -2, hI, Or.inl ⟨rfl, rfl⟩, fun post c v H => cc_w_leafF N h hI.1 hN hI.2.1 h6 e H⟩
  · exact ⟨_, _, _, _, _, nI (h + 1), ii_leaf hI (by omega) (by omega) hk, Or.inr ⟨rfl, ii_r h (by omega), pk_us, fun x hx => pk_un (by omega)⟩, fun post c v H => cc_w_leaf N h hI.1 (by omega) hI.2.1 (by omega) H⟩
theorem ii_tnum (hI : ii_I b lo N h tp) {n : Int32} (h1 : ¬ n < (-9)) (h2 : n ≤ 9) :
    ∃ b' lo' N' h' tp' r, ii_I b' lo' N' h' tp' ∧ ii_R b N 8 b' N' r ∧ ∀ (post : Int32 → St1 → Prop) c v, post r (cc_u b' c v) → wpX_number post (cc_u b c v) n := by
  obtain ⟨b', lo', N', h', tp', r, q1, q2, q3⟩ := ii_tleaf hI (k := 8) (n := n) (Or.inl rfl)
  exact ⟨b', lo', N', h', tp', r, q1, q2, fun post c v H => br_f h1 (br_t h2 (q3 _ c v H))⟩
theorem ii_tname (hI : ii_I b lo N h tp) {n : Nat} (hn : n < 4) :
    ∃ b' lo' N' h' tp' r, ii_I b' lo' N' h' tp' ∧ ii_R b N 9 b' N' r ∧ ∀ (post : Int32 → St1 → Prop) c v, post r (cc_u b' c v) → wpX_name post (cc_u b c v) (nI n) := by
  obtain ⟨b', lo', N', h', tp', r, q1, q2, q3⟩ := ii_tleaf hI (k := 9) (n := nI n) (Or.inr ⟨rfl, n, hn, rfl⟩)
  exact ⟨b', lo', N', h', tp', r, q1, q2, fun post c v H => br_f (nI_pos (by omega)) (br_t (nI_lt (b := 4) hn (by omega)) (br_t rfl (q3 _ c v H)))⟩
theorem ii_ttwo (hI : ii_I b lo N h tp) {k : Nat} (hk : k < 5) :
    ∃ b' lo' N' h' tp' r, ii_I b' lo' N' h' tp' ∧ ii_R b N (nI k) b' N' r ∧ ∀ (post : Int32 → St1 → Prop) c v, post r (cc_u b' c v) → wpX_two post (cc_u b c v) (nI k) := by
  have hN := hI.2.2.2.1.1
  have h6 := hI.2.2.1
  by_cases e : N = 24
  · exact ⟨b, lo, N, h, tp, -2, hI, Or.inl ⟨rfl, rfl⟩, fun post c v H => cc_w_twoF1 k hk (ii_c24 hI e) H⟩
  · by_cases e2 : h < 2
    · exact ⟨b, lo, N, h, tp, -3, hI, Or.inl ⟨rfl, rfl⟩, fun post c v H => cc_w_twoF2 k hk (ii_n24 hI e) (by rw [hI.2.1]; exact nI_ge (b := 2) e2 (by omega)) H⟩
    · obtain ⟨h, rfl⟩ : ∃ h', h = h' + 2 := ⟨h - 2, by omega⟩
      have s1 := hI.2.2.2.2.2.1 h (by omega)
      have s2 := hI.2.2.2.2.2.1 (h + 1) (by omega)
      exact ⟨_, _, _, _, _, nI (h + 1), ii_two hI (by omega) hk, Or.inr ⟨rfl, ii_r h (by omega), pk_us, fun x hx => pk_un (by omega)⟩, fun post c v H => cc_w_two N h k (tp h) (tp (h + 1)) hk hI.1 (by omega) hI.2.1 (by omega) s1.1 s2.1 (by omega) (by omega) H⟩
theorem ii_tbind (hI : ii_I b lo N h tp) {n : Nat} (hn : n < 4) :
    ∃ b' lo' N' h' tp' r, ii_I b' lo' N' h' tp' ∧ ii_R b N 6 b' N' r ∧ ∀ (post : Int32 → St1 → Prop) c v, post r (cc_u b' c v) → wpX_bind post (cc_u b c v) (nI n) := by
  have hN := hI.2.2.2.1.1
  have h6 := hI.2.2.1
  by_cases e : N = 24
  · exact ⟨b, lo, N, h, tp, -2, hI, Or.inl ⟨rfl, rfl⟩, fun post c v H => cc_w_bindF1 n hn (ii_c24 hI e) H⟩
  · by_cases e2 : h < 2
    · exact ⟨b, lo, N, h, tp, -3, hI, Or.inl ⟨rfl, rfl⟩, fun post c v H => cc_w_bindF2 n hn (ii_n24 hI e) (by rw [hI.2.1]; exact nI_ge (b := 2) e2 (by omega)) H⟩
    · obtain ⟨h, rfl⟩ : ∃ h', h = h' + 2 := ⟨h - 2, by omega⟩
      have s1 := hI.2.2.2.2.2.1 h (by omega)
      have s2 := hI.2.2.2.2.2.1 (h + 1) (by omega)
      exact ⟨_, _, _, _, _, nI (h + 1), ii_bind hI (by omega) hn, Or.inr ⟨rfl, ii_r h (by omega), pk_us, fun x hx => pk_un (by omega)⟩, fun post c v H => cc_w_bind N h n (tp h) (tp (h + 1)) hn hI.1 (by omega) hI.2.1 (by omega) s1.1 s2.1 (by omega) (by omega) H⟩
theorem ii_tcho (hI : ii_I b lo N h tp) :
    ∃ b' lo' N' h' tp' r, ii_I b' lo' N' h' tp' ∧ ii_R b N 5 b' N' r ∧ ∀ (post : Int32 → St1 → Prop) c v, post r (cc_u b' c v) → wpX_choose post (cc_u b c v) := by
  have hN := hI.2.2.2.1.1
  have h6 := hI.2.2.1
  by_cases e : N = 24
  · exact ⟨b, lo, N, h, tp, -2, hI, Or.inl ⟨rfl, rfl⟩, fun post c v H => cc_w_choF1 (ii_c24 hI e) H⟩
  · by_cases e2 : h < 3
    · exact ⟨b, lo, N, h, tp, -3, hI, Or.inl ⟨rfl, rfl⟩, fun post c v H => cc_w_choF2 (ii_n24 hI e) (by rw [hI.2.1]; exact nI_ge (b := 3) e2 (by omega)) H⟩
    · obtain ⟨h, rfl⟩ : ∃ h', h = h' + 3 := ⟨h - 3, by omega⟩
      have s1 := hI.2.2.2.2.2.1 h (by omega)
      have s2 := hI.2.2.2.2.2.1 (h + 1) (by omega)
      have s3 := hI.2.2.2.2.2.1 (h + 2) (by omega)
      exact ⟨_, _, _, _, _, nI (h + 1), ii_cho hI (by omega), Or.inr ⟨rfl, ii_r h (by omega), pk_us, fun x hx => pk_un (by omega)⟩, fun post c v H => cc_w_cho N h (tp h) (tp (h + 1)) (tp (h + 2)) hI.1 (by omega) hI.2.1 (by omega) s1.1 s2.1 s3.1 (by omega) (by omega) (by omega) H⟩
theorem ii_tfun (hI : ii_I b lo N h tp) {f n : Nat} (hf : f < 4) (hn : n < 4) :
    ∃ b' lo' N' h' tp' r, ii_I b' lo' N' h' tp' ∧ ii_R b N 7 b' N' r ∧ ∀ (post : Int32 → St1 → Prop) c v, post r (cc_u b' c v) → wpX_function post (cc_u b c v) (nI f) (nI n) := by
  have hN := hI.2.2.2.1.1
  have h6 := hI.2.2.1
  by_cases e : N = 24
  · exact ⟨b, lo, N, h, tp, -2, hI, Or.inl ⟨rfl, rfl⟩, fun post c v H => cc_w_funF1 f n hf hn (ii_c24 hI e) H⟩
  · by_cases e2 : h = 0
    · exact ⟨b, lo, N, h, tp, -3, hI, Or.inl ⟨rfl, rfl⟩, fun post c v H => cc_w_funF2 f n hf hn (ii_n24 hI e) (by rw [hI.2.1, e2]; rfl) H⟩
    · obtain ⟨h, rfl⟩ : ∃ h', h = h' + 1 := ⟨h - 1, by omega⟩
      have s1 := hI.2.2.2.2.2.1 h (by omega)
      exact ⟨_, _, _, _, _, nI (h + 1), ii_fun hI (by omega) (show 4 * f + n < 16 by omega), Or.inr ⟨rfl, ii_r h (by omega), pk_us, fun x hx => pk_un (by omega)⟩, fun post c v H => cc_w_fun N h (tp h) f n hf hn hI.1 (by omega) hI.2.1 (by omega) s1.1 (by omega) H⟩
/-- no names, no applies -/
def ii_no (b : bb_T) (N : Nat) : Prop := ∀ x, x < N → ¬ bb_kind b x = 9 ∧ ¬ bb_kind b x = 4
theorem ii_no_R {k : Int32} {b' : bb_T} {N' : Nat} {r : Int32} (hR : ii_R b N k b' N' r) (h9 : ¬ k = 9) (h4 : ¬ k = 4) (hn : ii_no b N) : ii_no b' N' := by
  rcases hR with ⟨rfl, rfl⟩ | ⟨rfl, _, e, o⟩
  · exact hn
  · intro x hx
    by_cases ex : x = N
    · rw [ex, e]
      exact ⟨h9, h4⟩
    · rw [o x (by omega)]
      exact hn x (by omega)
theorem ii_no_r {k : Int32} {b' : bb_T} {N' : Nat} {r : Int32} (hR : ii_R b N k b' N' r) (hr : ¬ 0 < r) (hn : ii_no b N) : ii_no b' N' := by
  rcases hR with ⟨rfl, rfl⟩ | ⟨_, e, _⟩
  · exact hn
  · exact absurd e hr
theorem ii_m3 : ∀ y, y < 8 → ¬ (nI y - 3) < (-9) ∧ nI y - 3 ≤ 9 := by decide
theorem ii_turn (hI : ii_I b lo N h tp) (p1 p2 : Int32) :
    ∃ b' lo' N' h' tp' r, ii_I b' lo' N' h' tp' ∧ (ii_no b N → ¬ (0 < r ∧ ((¬ (p1 &&& 31) ≤ 4 ∧ (p1 &&& 31) < 11) ∨ (¬ (p1 &&& 31) ≤ 10 ∧ ¬ 18 ≤ (p1 &&& 31) ∧ ¬ (p2 &&& 7) ≤ 3))) → ii_no b' N') ∧
      ∀ (post : Int32 → St1 → Prop) c v, post r (cc_u b' c v) → wpL_turn post (cc_u b c v) p1 p2 := by
  obtain ⟨o, ho, eo⟩ := pk_andE p1 (m := 31) 5 (by decide)
  obtain ⟨y, hy, ey⟩ := pk_andE p2 (m := 7) 3 (by decide)
  obtain ⟨y1, hy1, ey1⟩ := pk_andE p2 (m := 1) 1 (by decide)
  obtain ⟨y2, hy2, ey2⟩ := pk_andE (p2 >>> ((2 : Int32) &&& 31)) (m := 1) 1 (by decide)
  rw [eo, ey]
  by_cases o5 : o < 5
  · obtain ⟨m1, m2⟩ := ii_m3 y hy
    obtain ⟨b', lo', N', h', tp', r, q1, q2, q3⟩ := ii_tnum hI m1 m2
    refine ⟨b', lo', N', h', tp', r, q1, fun hn _ => ii_no_R q2 (by decide) (by decide) hn, fun post c v H => nm_r eo (br_f (nI_ge (b := 5) o5 (by omega)) ?_)⟩
    rw [ey]
    exact q3 _ c v H
  · by_cases o11 : o < 11
    · obtain ⟨b', lo', N', h', tp', r, q1, q2, q3⟩ := ii_tname hI (n := y1) (by omega)
      refine ⟨b', lo', N', h', tp', r, q1, fun hn hc => ii_no_r q2 (fun z => hc ⟨z, Or.inl ⟨nI_ge (a := 4) (by omega) (by omega), nI_lt (b := 11) o11 (by omega)⟩⟩) hn, fun post c v H => nm_r eo (br_t (nI_le (a := 5) (by omega) (by omega)) (br_f (nI_ge (b := 11) o11 (by omega)) ?_))⟩
      rw [ey1]
      exact q3 _ c v H
    · by_cases o18 : o < 18
      · have hk : (if y ≤ 4 then y else 4) < 5 := by split <;> omega
        obtain ⟨b', lo', N', h', tp', r, q1, q2, q3⟩ := ii_ttwo hI hk
        refine ⟨b', lo', N', h', tp', r, q1, fun hn hc => ?_, fun post c v H => nm_r eo (br_t (nI_le (a := 5) (by omega) (by omega)) (br_t (nI_le (a := 11) (by omega) (by omega)) (br_f (nI_ge (b := 18) o18 (by omega)) ?_)))⟩
        · by_cases y3 : y ≤ 3
          · refine ii_no_R q2 (ee_k5 _ hk).2.1 ?_ hn
            rw [if_pos (by omega)]
            exact fun z => absurd ((nI_eq (b := 4) (by omega) (by omega)).mp z) (by omega)
          · exact ii_no_r q2 (fun z => hc ⟨z, Or.inr ⟨nI_ge (a := 10) (by omega) (by omega), nI_ge (b := 18) o18 (by omega), nI_ge (a := 3) (by omega) (by omega)⟩⟩) hn
        · rw [ey]
          by_cases y4 : y ≤ 4
          · rw [if_pos y4] at q3
            exact br_t (nI_le (b := 4) y4 (by omega)) (q3 _ c v H)
          · rw [if_neg y4] at q3
            exact br_f (nI_ge (a := 4) (by omega) (by omega)) (q3 _ c v H)
      · by_cases o20 : o < 20
        · obtain ⟨b', lo', N', h', tp', r, q1, q2, q3⟩ := ii_tcho hI
          exact ⟨b', lo', N', h', tp', r, q1, fun hn _ => ii_no_R q2 (by decide) (by decide) hn, fun post c v H => nm_r eo (br_t (nI_le (a := 5) (by omega) (by omega)) (br_t (nI_le (a := 11) (by omega) (by omega)) (br_t (nI_le (a := 18) (by omega) (by omega)) (br_f (nI_ge (b := 20) o20 (by omega)) (q3 _ c v H)))))⟩
        · by_cases o24 : o < 24
          · obtain ⟨b', lo', N', h', tp', r, q1, q2, q3⟩ := ii_tbind hI (n := y1) (by omega)
            refine ⟨b', lo', N', h', tp', r, q1, fun hn _ => ii_no_R q2 (by decide) (by decide) hn, fun post c v H => nm_r eo (br_t (nI_le (a := 5) (by omega) (by omega)) (br_t (nI_le (a := 11) (by omega) (by omega)) (br_t (nI_le (a := 18) (by omega) (by omega)) (br_t (nI_le (a := 20) (by omega) (by omega)) (br_f (nI_ge (b := 24) o24 (by omega)) ?_)))))⟩
            rw [ey1]
            exact q3 _ c v H
          · by_cases o31 : o < 31
            · by_cases z2 : p2 &&& 2 = 0
              · obtain ⟨b', lo', N', h', tp', r, q1, q2, q3⟩ := ii_tfun hI (f := 2) (n := y2) (by omega) (by omega)
                refine ⟨b', lo', N', h', tp', r, q1, fun hn _ => ii_no_R q2 (by decide) (by decide) hn, fun post c v H => nm_r eo (br_t (nI_le (a := 5) (by omega) (by omega)) (br_t (nI_le (a := 11) (by omega) (by omega)) (br_t (nI_le (a := 18) (by omega) (by omega)) (br_t (nI_le (a := 20) (by omega) (by omega)) (br_t (nI_le (a := 24) (by omega) (by omega)) (br_f (nI_ge (b := 31) o31 (by omega)) (br_t z2 ?_)))))))⟩
                unfold wL_turn_107
                rw [ey2]
                exact q3 _ c v H
              · obtain ⟨b', lo', N', h', tp', r, q1, q2, q3⟩ := ii_tfun hI (f := y1) (n := y2) (by omega) (by omega)
                refine ⟨b', lo', N', h', tp', r, q1, fun hn _ => ii_no_R q2 (by decide) (by decide) hn, fun post c v H => nm_r eo (br_t (nI_le (a := 5) (by omega) (by omega)) (br_t (nI_le (a := 11) (by omega) (by omega)) (br_t (nI_le (a := 18) (by omega) (by omega)) (br_t (nI_le (a := 20) (by omega) (by omega)) (br_t (nI_le (a := 24) (by omega) (by omega)) (br_f (nI_ge (b := 31) o31 (by omega)) (br_f z2 ?_)))))))⟩
                unfold wL_turn_107
                rw [ey1, ey2]
                exact q3 _ c v H
            · by_cases z7 : y = 0
              · refine ⟨bb_s_count (bb_s_height b 0) 0, lo, 0, 0, tp, 0, ⟨rfl, rfl, by omega, ⟨by omega, fun x hx => absurd hx (by omega)⟩, fun x hx => absurd hx (by omega), fun i hi => absurd hi (by omega), fun i hi => absurd hi (by omega), fun i hi => absurd hi (by omega), fun _ => rfl⟩, fun _ _ x hx => absurd hx (by omega), fun post c v H => nm_r eo (br_t (nI_le (a := 5) (by omega) (by omega)) (br_t (nI_le (a := 11) (by omega) (by omega)) (br_t (nI_le (a := 18) (by omega) (by omega)) (br_t (nI_le (a := 20) (by omega) (by omega)) (br_t (nI_le (a := 24) (by omega) (by omega)) (br_t (nI_le (a := 31) (by omega) (by omega)) (br_t ?_ H)))))))⟩
                rw [ey, z7]
                rfl
              · refine ⟨b, lo, N, h, tp, 0, hI, fun hn _ => hn, fun post c v H => nm_r eo (br_t (nI_le (a := 5) (by omega) (by omega)) (br_t (nI_le (a := 11) (by omega) (by omega)) (br_t (nI_le (a := 18) (by omega) (by omega)) (br_t (nI_le (a := 20) (by omega) (by omega)) (br_t (nI_le (a := 24) (by omega) (by omega)) (br_t (nI_le (a := 31) (by omega) (by omega)) (br_f ?_ H)))))))⟩
                rw [ey]
                exact nI_ne0 (by omega) (by omega)
end
end
section
def ll_35 (post : Int32 → Prop) (L : Nat) (xs : Nat → Int32) (x3 : Int32) (kc ks n : Nat) (x4 x5 : Int32) (b : bb_T) (c : qq_T) (v : vv_T) (b1 : bb_T) (c1 : qq_T) (v1 : vv_T) : Prop := wL_law_35 post L xs x3 kc ks n x4 x5 (bb_count b) (bb_height b) (qq_size c) (qq_pending c) (qq_tasks c) (vv_values v) (vv_frames v) (vv_closures v) (vv_called v) (vv_ended v) (qq_fc c) (qq_fe c) (qq_cr c) (bb_kind b) (bb_pa b) (bb_pb b) (bb_pc b) (bb_num b) (bb_wh b) (bb_pl b) (bb_stack b) (qq_code c) (qq_extra c) (qq_entry c) (qq_gc c) (qq_ge c) (qq_pf c) (qq_task c) (qq_phase c) (qq_hole c) (vv_tag v) (vv_datum v) (vv_back v) (vv_run v) (vv_at v) (vv_ad v) (vv_st v) (vv_sd v) (vv_co v) (vv_kt v) (vv_kd v) (bb_count b1) (bb_height b1) (qq_size c1) (qq_pending c1) (qq_tasks c1) (vv_values v1) (vv_frames v1) (vv_closures v1) (vv_called v1) (vv_ended v1) (qq_fc c1) (qq_fe c1) (qq_cr c1) (bb_kind b1) (bb_pa b1) (bb_pb b1) (bb_pc b1) (bb_num b1) (bb_wh b1) (bb_pl b1) (bb_stack b1) (qq_code c1) (qq_extra c1) (qq_entry c1) (qq_gc c1) (qq_ge c1) (qq_pf c1) (qq_task c1) (qq_phase c1) (qq_hole c1) (vv_tag v1) (vv_datum v1) (vv_back v1) (vv_run v1) (vv_at v1) (vv_ad v1) (vv_st v1) (vv_sd v1) (vv_co v1) (vv_kt v1) (vv_kd v1)
def ll_390 (post : Int32 → Prop) (L : Nat) (xs : Nat → Int32) (kc ks : Nat) (b : bb_T) (c : qq_T) (v : vv_T) : Prop := wL_law_390 post L xs kc ks (bb_count b) (bb_height b) (qq_size c) (qq_pending c) (qq_tasks c) (vv_values v) (vv_frames v) (vv_closures v) (vv_called v) (vv_ended v) (qq_fc c) (qq_fe c) (qq_cr c) (bb_kind b) (bb_pa b) (bb_pb b) (bb_pc b) (bb_num b) (bb_wh b) (bb_pl b) (bb_stack b) (qq_code c) (qq_extra c) (qq_entry c) (qq_gc c) (qq_ge c) (qq_pf c) (qq_task c) (qq_phase c) (qq_hole c) (vv_tag v) (vv_datum v) (vv_back v) (vv_run v) (vv_at v) (vv_ad v) (vv_st v) (vv_sd v) (vv_co v) (vv_kt v) (vv_kd v)
def ll_304 (post : Int32 → Prop) (L : Nat) (xs : Nat → Int32) (x3 x5 x6 x7 x8 x9 : Int32) (kc ks : Nat) (b : bb_T) (c : qq_T) (v : vv_T) (b1 : bb_T) (c1 : qq_T) (v1 : vv_T) : Prop := wL_law_304 post L xs x3 x5 x6 x7 x8 x9 kc ks (bb_count b) (bb_height b) (qq_size c) (qq_pending c) (qq_tasks c) (vv_values v) (vv_frames v) (vv_closures v) (vv_called v) (vv_ended v) (qq_fc c) (qq_fe c) (qq_cr c) (bb_kind b) (bb_pa b) (bb_pb b) (bb_pc b) (bb_num b) (bb_wh b) (bb_pl b) (bb_stack b) (qq_code c) (qq_extra c) (qq_entry c) (qq_gc c) (qq_ge c) (qq_pf c) (qq_task c) (qq_phase c) (qq_hole c) (vv_tag v) (vv_datum v) (vv_back v) (vv_run v) (vv_at v) (vv_ad v) (vv_st v) (vv_sd v) (vv_co v) (vv_kt v) (vv_kd v) (bb_count b1) (bb_height b1) (qq_size c1) (qq_pending c1) (qq_tasks c1) (vv_values v1) (vv_frames v1) (vv_closures v1) (vv_called v1) (vv_ended v1) (qq_fc c1) (qq_fe c1) (qq_cr c1) (bb_kind b1) (bb_pa b1) (bb_pb b1) (bb_pc b1) (bb_num b1) (bb_wh b1) (bb_pl b1) (bb_stack b1) (qq_code c1) (qq_extra c1) (qq_entry c1) (qq_gc c1) (qq_ge c1) (qq_pf c1) (qq_task c1) (qq_phase c1) (qq_hole c1) (vv_tag v1) (vv_datum v1) (vv_back v1) (vv_run v1) (vv_at v1) (vv_ad v1) (vv_st v1) (vv_sd v1) (vv_co v1) (vv_kt v1) (vv_kd v1)
def ll_233 (post : Int32 → Prop) (L : Nat) (xs : Nat → Int32) (x3 x4 x5 x6 x7 x8 x9 : Int32) (kc ks : Nat) (b : bb_T) (c : qq_T) (v : vv_T) (b1 : bb_T) (c1 : qq_T) (v1 : vv_T) : Prop := wL_law_233 post L xs x3 x4 x5 x6 x7 x8 x9 kc ks (bb_count b) (bb_height b) (qq_size c) (qq_pending c) (qq_tasks c) (vv_values v) (vv_frames v) (vv_closures v) (vv_called v) (vv_ended v) (qq_fc c) (qq_fe c) (qq_cr c) (bb_kind b) (bb_pa b) (bb_pb b) (bb_pc b) (bb_num b) (bb_wh b) (bb_pl b) (bb_stack b) (qq_code c) (qq_extra c) (qq_entry c) (qq_gc c) (qq_ge c) (qq_pf c) (qq_task c) (qq_phase c) (qq_hole c) (vv_tag v) (vv_datum v) (vv_back v) (vv_run v) (vv_at v) (vv_ad v) (vv_st v) (vv_sd v) (vv_co v) (vv_kt v) (vv_kd v) (bb_count b1) (bb_height b1) (qq_size c1) (qq_pending c1) (qq_tasks c1) (vv_values v1) (vv_frames v1) (vv_closures v1) (vv_called v1) (vv_ended v1) (qq_fc c1) (qq_fe c1) (qq_cr c1) (bb_kind b1) (bb_pa b1) (bb_pb b1) (bb_pc b1) (bb_num b1) (bb_wh b1) (bb_pl b1) (bb_stack b1) (qq_code c1) (qq_extra c1) (qq_entry c1) (qq_gc c1) (qq_ge c1) (qq_pf c1) (qq_task c1) (qq_phase c1) (qq_hole c1) (vv_tag v1) (vv_datum v1) (vv_back v1) (vv_run v1) (vv_at v1) (vv_ad v1) (vv_st v1) (vv_sd v1) (vv_co v1) (vv_kt v1) (vv_kd v1)
def ll_243 (post : Int32 → Prop) (L : Nat) (xs : Nat → Int32) (x3 x4 x5 x6 x7 x8 x9 : Int32) (kc ks : Nat) (b : bb_T) (c : qq_T) (v : vv_T) (b1 : bb_T) (c1 : qq_T) (v1 : vv_T) : Prop := wL_law_243 post L xs x3 x4 x5 x6 x7 x8 x9 kc ks (bb_count b) (bb_height b) (qq_size c) (qq_pending c) (qq_tasks c) (vv_values v) (vv_frames v) (vv_closures v) (vv_called v) (vv_ended v) (qq_fc c) (qq_fe c) (qq_cr c) (bb_kind b) (bb_pa b) (bb_pb b) (bb_pc b) (bb_num b) (bb_wh b) (bb_pl b) (bb_stack b) (qq_code c) (qq_extra c) (qq_entry c) (qq_gc c) (qq_ge c) (qq_pf c) (qq_task c) (qq_phase c) (qq_hole c) (vv_tag v) (vv_datum v) (vv_back v) (vv_run v) (vv_at v) (vv_ad v) (vv_st v) (vv_sd v) (vv_co v) (vv_kt v) (vv_kd v) (bb_count b1) (bb_height b1) (qq_size c1) (qq_pending c1) (qq_tasks c1) (vv_values v1) (vv_frames v1) (vv_closures v1) (vv_called v1) (vv_ended v1) (qq_fc c1) (qq_fe c1) (qq_cr c1) (bb_kind b1) (bb_pa b1) (bb_pb b1) (bb_pc b1) (bb_num b1) (bb_wh b1) (bb_pl b1) (bb_stack b1) (qq_code c1) (qq_extra c1) (qq_entry c1) (qq_gc c1) (qq_ge c1) (qq_pf c1) (qq_task c1) (qq_phase c1) (qq_hole c1) (vv_tag v1) (vv_datum v1) (vv_back v1) (vv_run v1) (vv_at v1) (vv_ad v1) (vv_st v1) (vv_sd v1) (vv_co v1) (vv_kt v1) (vv_kd v1)
def ll_151 (post : Int32 → Prop) (L : Nat) (xs : Nat → Int32) (x3 x5 z0 : Int32) (kc ks n : Nat) (b : bb_T) (c : qq_T) (v : vv_T) (b1 : bb_T) (c1 : qq_T) (v1 : vv_T) : Prop := wL_law_151 post L xs (wL_law_35 post L xs x3 kc ks n) x3 x5 z0 kc ks (bb_count b) (bb_height b) (qq_size c) (qq_pending c) (qq_tasks c) (vv_values v) (vv_frames v) (vv_closures v) (vv_called v) (vv_ended v) (qq_fc c) (qq_fe c) (qq_cr c) (bb_kind b) (bb_pa b) (bb_pb b) (bb_pc b) (bb_num b) (bb_wh b) (bb_pl b) (bb_stack b) (qq_code c) (qq_extra c) (qq_entry c) (qq_gc c) (qq_ge c) (qq_pf c) (qq_task c) (qq_phase c) (qq_hole c) (vv_tag v) (vv_datum v) (vv_back v) (vv_run v) (vv_at v) (vv_ad v) (vv_st v) (vv_sd v) (vv_co v) (vv_kt v) (vv_kd v) (bb_count b1) (bb_height b1) (qq_size c1) (qq_pending c1) (qq_tasks c1) (vv_values v1) (vv_frames v1) (vv_closures v1) (vv_called v1) (vv_ended v1) (qq_fc c1) (qq_fe c1) (qq_cr c1) (bb_kind b1) (bb_pa b1) (bb_pb b1) (bb_pc b1) (bb_num b1) (bb_wh b1) (bb_pl b1) (bb_stack b1) (qq_code c1) (qq_extra c1) (qq_entry c1) (qq_gc c1) (qq_ge c1) (qq_pf c1) (qq_task c1) (qq_phase c1) (qq_hole c1) (vv_tag v1) (vv_datum v1) (vv_back v1) (vv_run v1) (vv_at v1) (vv_ad v1) (vv_st v1) (vv_sd v1) (vv_co v1) (vv_kt v1) (vv_kd v1)
def ll_116 (post : Int32 → Prop) (L : Nat) (xs : Nat → Int32) (x3 x4 x5 x6 x7 z0 : Int32) (kc ks n : Nat) (b : bb_T) (c : qq_T) (v : vv_T) (b1 : bb_T) (c1 : qq_T) (v1 : vv_T) : Prop := wL_law_116 post L xs (wL_law_35 post L xs x3 kc ks n) x3 x4 x5 x6 x7 z0 kc ks (bb_count b) (bb_height b) (qq_size c) (qq_pending c) (qq_tasks c) (vv_values v) (vv_frames v) (vv_closures v) (vv_called v) (vv_ended v) (qq_fc c) (qq_fe c) (qq_cr c) (bb_kind b) (bb_pa b) (bb_pb b) (bb_pc b) (bb_num b) (bb_wh b) (bb_pl b) (bb_stack b) (qq_code c) (qq_extra c) (qq_entry c) (qq_gc c) (qq_ge c) (qq_pf c) (qq_task c) (qq_phase c) (qq_hole c) (vv_tag v) (vv_datum v) (vv_back v) (vv_run v) (vv_at v) (vv_ad v) (vv_st v) (vv_sd v) (vv_co v) (vv_kt v) (vv_kd v) (bb_count b1) (bb_height b1) (qq_size c1) (qq_pending c1) (qq_tasks c1) (vv_values v1) (vv_frames v1) (vv_closures v1) (vv_called v1) (vv_ended v1) (qq_fc c1) (qq_fe c1) (qq_cr c1) (bb_kind b1) (bb_pa b1) (bb_pb b1) (bb_pc b1) (bb_num b1) (bb_wh b1) (bb_pl b1) (bb_stack b1) (qq_code c1) (qq_extra c1) (qq_entry c1) (qq_gc c1) (qq_ge c1) (qq_pf c1) (qq_task c1) (qq_phase c1) (qq_hole c1) (vv_tag v1) (vv_datum v1) (vv_back v1) (vv_run v1) (vv_at v1) (vv_ad v1) (vv_st v1) (vv_sd v1) (vv_co v1) (vv_kt v1) (vv_kd v1)
end
section
section
variable {L : Nat} {xs : Nat → Int32} {kc ks : Nat}
theorem ll_t390 {b : bb_T} {c : qq_T} {v : vv_T} {N h : Nat} (hc : bb_count b = nI N) (hh : bb_height b = nI h) (hN : N ≤ 24) (e : 21 < N ∨ h = 6) : ll_390 (fun r => r = 1) L xs kc ks b c v := by
  rcases e with e | e
  · exact br_t (show 21 < bb_count b by rw [hc]; exact nI_lt (a := 21) e (by omega)) rfl
  · exact br_c (fun _ => rfl) (fun _ => br_t (show bb_height b = 6 by rw [hh, e]; rfl) rfl)
theorem ll_M3 : ∀ f, f < 4 → ∀ n, n < 4 → nI (4 * f + n) &&& 3 = nI n ∧ nI (4 * f + n) >>> ((2 : Int32) &&& 31) = nI f := by decide +kernel
theorem ll_m8 : ∀ k, k < 8 → ¬ nI k < (-9) ∧ nI k ≤ 9 := by decide
/-- the wrapped tables -/
theorem ll_wrap {b : bb_T} {lo : Nat → Nat} {N h t : Nat} {M k : Int32} (hN : N ≤ 21) (ht : t < N) : rr_T b (bb_two (bb_leaf (bb_fun b N h t M) (N + 1) (h + 1) 8 k) (N + 2) h (nI 4) N (N + 1)) N t M ∧ rr_W b (bb_two (bb_leaf (bb_fun b N h t M) (N + 1) (h + 1) 8 k) (N + 2) h (nI 4) N (N + 1)) N t := by
  refine ⟨⟨fun x hx => ⟨?_, ?_, ?_, ?_, ?_, fun hn => ?_⟩, ?_, ?_⟩, fun x hx hn => ?_, ?_, ?_, ?_, ?_, ?_, ?_, ?_, ?_⟩
  · exact (pk_un (by omega)).trans ((pk_un (by omega)).trans (pk_un (by omega)))
  · exact (pk_un (by omega)).trans ((pk_un (by omega)).trans (pk_un (by omega)))
  · exact (pk_un (by omega)).trans ((pk_un (by omega)).trans (pk_un (by omega)))
  · exact (pk_un (by omega)).trans ((pk_un (by omega)).trans (pk_un (by omega)))
  · exact (pk_un (by omega)).trans (pk_un (by omega))
  · exact (pk_un (by omega)).trans ((pk_un (by omega)).trans (pk_un hn))
  · exact (pk_un (by omega)).trans ((pk_un (by omega)).trans pk_us)
  · exact (pk_un (by omega)).trans pk_us
  · exact (pk_un (by omega)).trans ((pk_un (by omega)).trans ((pk_un (by omega)).trans ((pk_un (by omega)).trans ((pk_un hn).trans (pk_un (by omega))))))
  · exact (pk_un (by omega)).trans ((pk_un (by omega)).trans ((pk_un (by omega)).trans ((pk_un (by omega)).trans pk_us)))
  · exact (pk_un (by omega)).trans pk_us
  · exact (pk_un (by omega)).trans ((pk_un (by omega)).trans pk_us)
  · exact (pk_un (by omega)).trans pk_us
  · exact pk_us
  · exact (pk_un (by omega)).trans ((pk_un (by omega)).trans pk_us)
  · exact pk_us
  · exact pk_us
theorem ll_t304 {b : bb_T} {lo : Nat → Nat} {N h : Nat} {tp : Nat → Nat} (hI : ii_I b lo N (h + 1) tp) (c : qq_T) (v : vv_T) (c' : qq_T) (v' : vv_T) (x3 : Int32) :
    ll_304 (fun r => r = 1) L xs x3 (ee_end b (tp h)) (nI (ee_run b (tp h)).2.2.1) (ee_val b (tp h)) (nI (ee_run b (tp h)).2.2.2.1) (nn_mk b (tp h) (tp h + 1)) kc ks b c v b c' v' := by
  obtain ⟨i1, i2, i3, i4, i5, i6, i7, i8, i9⟩ := id hI
  have hN := i4.1
  obtain ⟨s1, s2, s3⟩ := i6 h (by omega)
  have ht := i8 h rfl
  obtain ⟨f, hf, ef⟩ := pk_andE x3 (m := 3) 2 (by decide)
  obtain ⟨n, hn, en⟩ := pk_andE (x3 >>> ((2 : Int32) &&& 31)) (m := 3) 2 (by decide)
  obtain ⟨k, hk, ek⟩ := pk_andE (x3 >>> ((4 : Int32) &&& 31)) (m := 7) 3 (by decide)
  have hp : nn_pt b lo N (tp h) [] := ⟨s2, s3⟩
  have I := ee_pure i4 1500 (tp h) [] (fun _ => (0, 0)) (0, 0) 0 ee_s0 (ee_pre0 i4 hp)
  have I60 : (ee_run b (tp h)).2.2.1 ≤ 60 := I.1.1
  have hup : ∀ x, x < N → ∃ l, nn_pt b lo N x l := fun x hx => ii_path i5 N x hx (by omega)
  refine nm_r ef (nm_r en (br_c (fun _ => rfl) (fun b1 => br_c (fun _ => rfl) (fun b2 => pk_le (ee_run b (tp h)).2.2.1 59 (fun h59 => ?_) (fun _ => rfl)))))
  obtain ⟨M1, M2⟩ := ll_M3 f hf n hn
  have hM : ∀ x l j, nn_pt b lo N x l → rr_rt (tp h) x l → bb_kind b x = 9 → j < 4 → bb_num b x = nI j → rr_ok b (nI (4 * f + n)) x l j := by
    intro x l j q1 q2 q3 hj q4 q5
    rw [M1, M2]
    refine ⟨fun z => ?_, fun z => ?_⟩
    · have : n = j := (nI_eq (by omega) (by omega)).mp z
      subst this
      exact rr_bit i4 s2 hn b2 x l q1 q2 q3 q4 q5
    · have : f = j := (nI_eq (by omega) (by omega)).mp z
      subst this
      exact rr_bit i4 s2 hf b1 x l q1 q2 q3 q4 q5
  obtain ⟨m1, m2⟩ := ll_m8 k hk
  have T390 : (21 < N ∨ h + 1 = 6) → ll_390 (fun r => r = 1) L xs kc ks b c v := fun e => ll_t390 i1 i2 hN e
  by_cases e24 : N = 24
  · refine cc_w_funF1 (b := b) (c := c') (v := v') f n hf hn (ii_c24 hI e24) ?_
    refine sb_at (P := fun z => wpX_number _ (cc_u b c' v') z) ek (br_f m1 (br_t m2 (cc_w_leafF (b := b) (c := c') (v := v') N (h + 1) i1 hN i2 i3 (Or.inl e24) ?_)))
    refine cc_w_twoF1 (b := b) (c := c') (v := v') 4 (by omega) (ii_c24 hI e24) ?_
    exact br_t (by decide) (T390 (Or.inl (by omega)))
  · refine cc_w_fun (b := b) (c := c') (v := v') N h (tp h) f n hf hn i1 (by omega) i2 (by omega) s1 (by omega) ?_
    have I1 := ii_fun hI (show N < 24 by omega) (show 4 * f + n < 16 by omega)
    by_cases e23 : N = 23
    · refine sb_at (P := fun z => wpX_number _ (cc_u (bb_fun b N h (tp h) (nI (4 * f + n))) c' v') z) ek (br_f m1 (br_t m2 (cc_w_leafF (b := bb_fun b N h (tp h) (nI (4 * f + n))) (c := c') (v := v') (N + 1) (h + 1) I1.1 (by omega) I1.2.1 i3 (Or.inl (by omega)) ?_)))
      refine cc_w_twoF1 (b := bb_fun b N h (tp h) (nI (4 * f + n))) (c := c') (v := v') 4 (by omega) (ii_c24 I1 (by omega)) ?_
      exact br_t (by decide) (T390 (Or.inl (by omega)))
    · by_cases h5 : h = 5
      · refine sb_at (P := fun z => wpX_number _ (cc_u (bb_fun b N h (tp h) (nI (4 * f + n))) c' v') z) ek (br_f m1 (br_t m2 (cc_w_leafF (b := bb_fun b N h (tp h) (nI (4 * f + n))) (c := c') (v := v') (N + 1) (h + 1) I1.1 (by omega) I1.2.1 i3 (Or.inr (by omega)) ?_)))
        subst h5
        have r1 := I1.2.2.2.2.2.1 4 (by omega)
        have r2 := I1.2.2.2.2.2.1 5 (by omega)
        refine cc_w_two (b := bb_fun b N 5 (tp 5) (nI (4 * f + n))) (c := c') (v := v') (N + 1) 4 4 _ _ (by omega) I1.1 (by omega) I1.2.1 (by omega) r1.1 r2.1 (by omega) (by omega) ?_
        refine br_f (by decide) (br_f ?_ (T390 (Or.inr rfl)))
        show ¬ nI (4 + 1) = bb_height b
        rw [i2]
        decide
      · refine sb_at (P := fun z => wpX_number _ (cc_u (bb_fun b N h (tp h) (nI (4 * f + n))) c' v') z) ek (br_f m1 (br_t m2 (cc_w_leaf (b := bb_fun b N h (tp h) (nI (4 * f + n))) (c := c') (v := v') (N + 1) (h + 1) I1.1 (by omega) I1.2.1 (by omega) ?_)))
        have I2 := ii_leaf (k := 8) (n := nI k) I1 (show N + 1 < 24 by omega) (show h + 1 < 6 by omega) (Or.inl rfl)
        by_cases e22 : N = 22
        · refine cc_w_twoF1 (b := bb_leaf (bb_fun b N h (tp h) (nI (4 * f + n))) (N + 1) (h + 1) 8 (nI k)) (c := c') (v := v') 4 (by omega) (ii_c24 I2 (by omega)) ?_
          exact br_t (by decide) (T390 (Or.inl (by omega)))
        · have r1 := I2.2.2.2.2.2.1 h (by omega)
          have r2 := I2.2.2.2.2.2.1 (h + 1) (by omega)
          have I3 := ii_two (k := 4) I2 (show N + 1 + 1 < 24 by omega) (by omega)
          have e1 : ee_up (ee_up tp h N) (h + 1) (N + 1) h = N := by rw [ee_up_n _ _ (by omega), ee_up_s]
          have e2 : ee_up (ee_up tp h N) (h + 1) (N + 1) (h + 1) = N + 1 := ee_up_s _ _ _
          rw [e1] at r1
          rw [e2] at r2
          refine cc_w_two (b := bb_leaf (bb_fun b N h (tp h) (nI (4 * f + n))) (N + 1) (h + 1) 8 (nI k)) (c := c') (v := v') (N + 2) h 4 N (N + 1) (by omega) I2.1 (by omega) I2.2.1 (by omega) r1.1 r2.1 (by omega) (by omega) ?_
          rw [e1, e2] at I3
          have W := ll_wrap (b := b) (lo := lo) (h := h) (M := nI (4 * f + n)) (k := nI k) (show N ≤ 21 by omega) s2
          refine br_f (nI_pos (by omega)) (br_t (show nI (h + 1) = bb_height b by rw [i2]) ?_)
          obtain ⟨W1, W2⟩ := W
          obtain ⟨j1, j2, j3, j4, j5, j6, j7, j8, j9⟩ := id I3
          have j6' := j6 h (by omega)
          rw [ee_up_s] at j6'
          have hup' : ∀ x, x < N + 1 + 1 + 1 → ∃ l, nn_pt _ _ (N + 1 + 1 + 1) x l := fun x hx => ii_path j5 (N + 1 + 1 + 1) x hx (by omega)
          generalize hb' : bb_two (bb_leaf (bb_fun b N h (tp h) (nI (4 * f + n))) (N + 1) (h + 1) 8 (nI k)) (N + 2) h (nI 4) N (N + 1) = b' at *
          obtain ⟨z1, z2, z3, z4⟩ := rr_wrap i4 (show N ≤ 21 by omega) s2 W1 W2 s3 h59 hM
          have z5 := rr_mkeq i4 (show N ≤ 21 by omega) ht W1 W2 s3 hup hM
          refine cc_w_run (c := c') (v := v') j4 h (N + 2) j2 (by omega) j6'.1 ⟨j6'.2.1, j6'.2.2⟩ (fun c1 v1 => br_t z1 ?_)
          refine cc_w_value (c := c1) (v := v1) j4 h (N + 2) j2 (by omega) j6'.1 ⟨j6'.2.1, j6'.2.2⟩ (fun c2 v2 => br_t z2 ?_)
          refine cc_w_calls (c := c2) (v := v2) j4 h (N + 2) j2 (by omega) j6'.1 ⟨j6'.2.1, j6'.2.2⟩ (fun c3 v3 => br_t (by rw [z3, nI_1]) ?_)
          refine cc_w_closures (c := c3) (v := v3) j4 h (N + 2) j2 (by omega) j6'.1 ⟨j6'.2.1, j6'.2.2⟩ (fun c4 v4 => br_t (by rw [z4, nI_1]) ?_)
          exact cc_w_free (c := c4) (v := v4) j4.1 h (N + 2) j2 (by omega) j6'.1 j6'.2.1 hup' (fun c5 => br_t z5 rfl)
end
end
section
section
variable {L : Nat} {xs : Nat → Int32} {kc ks : Nat}
theorem ll_t116 {b : bb_T} {c : qq_T} {v : vv_T} {N n : Nat} {x3 x4 x5 x6 x7 z0 : Int32} (hc : bb_count b = nI N) (hN : N ≤ 24) (H1 : ll_35 (fun r => r = 1) L xs x3 kc ks n 1 (x5 + 2) b c v b c v)
    (H0 : (N = 0 ∨ (x4 = 0 ∧ ¬ (0 < x7 ∧ ((¬ x6 ≤ 4 ∧ x6 < 11) ∨ ¬ z0 = 0)))) → ll_35 (fun r => r = 1) L xs x3 kc ks n 0 (x5 + 2) b c v b c v) : ll_116 (fun r => r = 1) L xs x3 x4 x5 x6 x7 z0 kc ks n b c v b c v := by
  have A : ll_151 (fun r => r = 1) L xs x3 x5 1 kc ks n b c v b c v := by
    refine br_f (by decide) ?_
    by_cases e : N = 0
    · exact br_t (show bb_count b ≤ 0 by rw [hc, e]; decide) (nm_e (H0 (Or.inl e)))
    · exact br_f (show ¬ bb_count b ≤ 0 by rw [hc]; exact nI_nle (by omega) (by omega)) (nm_e H1)
  have B : (x4 = 0 ∧ ¬ (0 < x7 ∧ ((¬ x6 ≤ 4 ∧ x6 < 11) ∨ ¬ z0 = 0))) → ll_151 (fun r => r = 1) L xs x3 x5 0 kc ks n b c v b c v := fun e => br_t rfl (nm_e (H0 (Or.inr e)))
  have le0 : x7 ≤ 0 → ¬ 0 < x7 := fun h z => absurd (Int32.lt_of_lt_of_le z h) (by decide)
  refine br_c (fun e4 => br_c (fun e7 => B ⟨e4, fun z => le0 e7 z.1⟩) (fun e7 => br_c (fun e6 => br_c (fun ez => B ⟨e4, fun z => z.2.elim (fun w => w.1 e6) (fun w => w ez)⟩) (fun ez => A)) (fun e6 => br_c (fun e11 => A) (fun e11 => br_c (fun ez => B ⟨e4, fun z => z.2.elim (fun w => e11 w.2) (fun w => w ez)⟩) (fun ez => A))))) (fun e4 => A)
/-- after the loop -/
theorem ll_tend {b : bb_T} {lo : Nat → Nat} {N h : Nat} {tp : Nat → Nat} (hI : ii_I b lo N h tp) (c : qq_T) (v : vv_T) (x3 x4 k : Int32) (n : Nat) (hk : Int32.ofNat L ≤ k + 1) (hno : x4 = 0 → ii_no b N) :
    ll_35 (fun r => r = 1) L xs x3 kc ks (n + 1) x4 k b c v b c v := by
  obtain ⟨i1, i2, i3, i4, i5, i6, i7, i8, i9⟩ := id hI
  refine br_t hk ?_
  by_cases e0 : h = 0
  · have hz : bb_height b = 0 := by rw [i2, e0]; rfl
    refine br_t hz (br_t hz (br_t hz (br_t hz (br_t hz ?_))))
    exact br_f (by decide) (br_f (by decide) (br_f (by decide) (br_f (by decide) (br_t rfl (br_t (by decide) (br_t hz (br_t rfl (br_t rfl (br_t rfl (br_t rfl rfl))))))))))
  · obtain ⟨h, rfl⟩ : ∃ h', h = h' + 1 := ⟨h - 1, by omega⟩
    obtain ⟨s1, s2, s3⟩ := i6 h (by omega)
    have hp : nn_pt b lo N (tp h) [] := ⟨s2, s3⟩
    have hup : ∀ x, x < N → ∃ l, nn_pt b lo N x l := fun x hx => ii_path i5 N x hx (by omega)
    have I := ee_pure i4 1500 (tp h) [] (fun _ => (0, 0)) (0, 0) 0 ee_s0 (ee_pre0 i4 hp)
    have I60 : (ee_run b (tp h)).2.2.1 ≤ 60 := I.1.1
    have IK : 2 * (ee_run b (tp h)).2.2.2.1 + 24 * 0 ≤ 2 * 0 + (tp h + 1 - lo (tp h)) + 24 * (ee_run b (tp h)).2.2.1 := I.2.2.2.2.2
    have hN := i4.1
    refine cc_w_run (c := c) (v := v) i4 h (tp h) i2 (by omega) s1 hp (fun c1 v1 => ?_)
    refine cc_w_calls (c := c1) (v := v1) i4 h (tp h) i2 (by omega) s1 hp (fun c2 v2 => ?_)
    refine cc_w_value (c := c2) (v := v2) i4 h (tp h) i2 (by omega) s1 hp (fun c3 v3 => ?_)
    refine cc_w_closures (c := c3) (v := v3) i4 h (tp h) i2 (by omega) s1 hp (fun c4 v4 => ?_)
    refine cc_w_free (c := c4) (v := v4) hN h (tp h) i2 (by omega) s1 s2 hup (fun c5 => ?_)
    have K304 := ll_t304 (L := L) (xs := xs) (kc := kc) (ks := ks) hI c5 v4 c v x3
    have K233 : ll_233 (fun r => r = 1) L xs x3 x4 (ee_end b (tp h)) (nI (ee_run b (tp h)).2.2.1) (ee_val b (tp h)) (nI (ee_run b (tp h)).2.2.2.1) (nn_mk b (tp h) (tp h + 1)) kc ks b c5 v4 b c v := by
      have K243 : ll_243 (fun r => r = 1) L xs x3 x4 (ee_end b (tp h)) (nI (ee_run b (tp h)).2.2.1) (ee_val b (tp h)) (nI (ee_run b (tp h)).2.2.2.1) (nn_mk b (tp h) (tp h + 1)) kc ks b c5 v4 b c v := br_t (nI_pos' (by omega)) (br_f (show ¬ bb_height b = 0 by rw [i2]; exact nI_ne0 (by omega) (by omega)) (br_c (fun e4 => br_t (rr_mask0 (fun x hx => (hno e4 x hx).1) (tp h + 1) (by omega)) (br_t (congrArg nI (rr_noapp i4 (fun x hx => (hno e4 x hx).2) 1500 (tp h) [] (fun _ => (0, 0)) (0, 0) 0 ee_s0 s2)) K304)) (fun e4 => K304)))
      refine br_c (fun e5 => K243) (fun e5 => br_t ?_ K243)
      unfold ee_val
      rw [if_neg e5]
    refine br_f (show ¬ 60 < nI (ee_run b (tp h)).2.2.1 from nI_nlt (b := (ee_run b (tp h)).2.2.1) (a := 60) I60 (by omega)) (br_f (nI_pos (by omega)) (br_c (fun e3 => br_t ?_ K233) (fun e3 => K233)))
    have : (ee_run b (tp h)).2.2.1 = 60 := by
      unfold ee_end at e3
      by_cases e : (ee_run b (tp h)).1 = -1
      · rw [if_pos e] at e3
        rcases ee_vd_tag (I.2.2.2.2.1 e) with y | y | y
        · exact absurd (y.symm.trans e3) (by decide)
        · exact absurd (y.symm.trans e3) (by decide)
        · exact absurd (y.symm.trans e3) (by decide)
      · rw [if_neg e] at e3
        exact I.2.2.2.1 e3
    rw [this]
    rfl
theorem ll_loop (hL : L ≤ 260) (x3 : Int32) (c : qq_T) (v : vv_T) : ∀ (m k : Nat) (x4 : Int32) (b : bb_T) (lo : Nat → Nat) (N h : Nat) (tp : Nat → Nat), L ≤ k + 1 + 2 * m → ii_I b lo N h tp → (x4 = 0 → ii_no b N) → k ≤ 300 →
    ll_35 (fun r => r = 1) L xs x3 kc ks (m + 1) x4 (nI k) b c v b c v := by
  intro m
  induction m with
  | zero =>
    intro k x4 b lo N h tp hm hI hno hk
    exact ll_tend hI c v x3 x4 (nI k) 0 (by rw [nI_1]; exact nI_le (by omega) (by omega)) hno
  | succ m ih =>
    intro k x4 b lo N h tp hm hI hno hk
    by_cases e : L ≤ k + 1
    · exact ll_tend hI c v x3 x4 (nI k) (m + 1) (by rw [nI_1]; exact nI_le e (by omega)) hno
    · have ek : (nI k).toNatClampNeg = k := nI_clamp (by omega)
      have ek1 : (nI k + 1).toNatClampNeg = k + 1 := by rw [nI_1]; exact nI_clamp (by omega)
      have j1 : vp_in (nI k) L := pk_in k L (by omega)
      have j2 : vp_in (nI k + 1) L := pk_in (k + 1) L (by omega) (nI_1 k)
      obtain ⟨b', lo', N', h', tp', r, q1, q2, q3⟩ := ii_turn hI (xs (nI k).toNatClampNeg) (xs (nI k + 1).toNatClampNeg)
      have hN' := q1.2.2.2.1.1
      have e2 : nI k + 2 = nI (k + 2) := by
        show nI k + nI 2 = _
        rw [nI_add]
      have next : ∀ nm : Int32, (nm = 0 → ii_no b' N') → ll_35 (fun r => r = 1) L xs x3 kc ks (m + 1) nm (nI k + 2) b' c v b' c v := fun nm hnm => by
        rw [e2]
        exact ih (k + 2) nm b' lo' N' h' tp' (by omega) q1 hnm (by omega)
      have G : ∀ z0 : Int32, (z0 = 0 → ¬ (¬ (xs (nI k).toNatClampNeg &&& 31) ≤ 10 ∧ ¬ 18 ≤ (xs (nI k).toNatClampNeg &&& 31) ∧ ¬ (xs (nI k + 1).toNatClampNeg &&& 7) ≤ 3)) → ll_116 (fun r => r = 1) L xs x3 x4 (nI k) (xs (nI k).toNatClampNeg &&& 31) r z0 kc ks (m + 1) b' c v b' c v := fun z0 hz0 =>
        ll_t116 q1.1 hN' (next 1 (fun z => absurd z (by decide))) (fun hh => next 0 (fun _ => by
          rcases hh with h0 | ⟨a1, a2⟩
          · intro x hx
            exact absurd hx (by omega)
          · refine q2 (hno a1) (fun z => a2 ⟨z.1, z.2.elim Or.inl (fun w => Or.inr (fun z00 => hz0 z00 w))⟩)))
      refine br_f (show ¬ Int32.ofNat L ≤ nI k + 1 by rw [nI_1]; exact nI_ge (by omega) (by omega)) (And.intro j1 (nm_e (And.intro j1 (And.intro j2 (q3 _ c v (And.intro j1 (And.intro j2 (q3 _ c v ?_))))))))
      refine br_c (fun u1 => G 0 (fun _ z => z.1 u1)) (fun u1 => br_c (fun u2 => G 0 (fun _ z => z.2.1 u2)) (fun u2 => And.intro j2 (br_c (fun u3 => G 0 (fun _ z => z.2.2 u3)) (fun u3 => G 1 (fun z => absurd z (by decide))))))
end
def ll_b0 : bb_T := (0, 0, (fun _ => 0), (fun _ => 0), (fun _ => 0), (fun _ => 0), (fun _ => 0), (fun _ => 0), (fun _ => 0), (fun _ => 0))
def ll_c0 : qq_T := (0, 0, 0, 0, 0, 0, (fun _ => 0), (fun _ => 0), (fun _ => 0), (fun _ => 0), (fun _ => 0), (fun _ => 0), (fun _ => 0), (fun _ => 0), (fun _ => 0))
def ll_v0 : vv_T := (0, 0, 0, 0, 0, (fun _ => 0), (fun _ => 0), (fun _ => 0), (fun _ => 0), (fun _ => 0), (fun _ => 0), (fun _ => 0), (fun _ => 0), (fun _ => 0), (fun _ => 0), (fun _ => 0))
theorem ll_init {post : St1 → Prop} (H : post (cc_u ll_b0 ll_c0 ll_v0)) : wpX_init post 28 12176 (0, 0, 0, 0, 0, 0, 0, 0, 0, 0, 0, 0, 0) := by
  unfold wpX_init
  dsimp only
  repeat (first | exact H | refine And.intro (by decide) ?_)
theorem ll_I0 : ii_I ll_b0 (fun _ => 0) 0 0 (fun _ => 0) :=
  ⟨rfl, rfl, by omega, ⟨by omega, fun x hx => absurd hx (by omega)⟩, fun x hx => absurd hx (by omega), fun i hi => absurd hi (by omega), fun i hi => absurd hi (by omega), fun i hi => absurd hi (by omega), fun _ => rfl⟩
theorem i_vc (xs : Nat → Int32) (L : Nat) (hL : L ≤ 260) : wpL_law (fun r => r = 1) L xs := by
  have F : ∀ x3 : Int32, ∃ fu, ll_35 (fun r => r = 1) L xs x3 (1 + 28 + 1 + 28) (41 + 12176 + 41 + 12176) fu 0 1 ll_b0 ll_c0 ll_v0 ll_b0 ll_c0 ll_v0 := fun x3 =>
    ⟨131, ll_loop hL x3 ll_c0 ll_v0 130 1 0 ll_b0 (fun _ => 0) 0 0 (fun _ => 0) (by omega) ll_I0 (fun _ x hx => absurd hx (by omega)) (by omega)⟩
  refine ⟨28, 12176, by omega, by omega, ll_init ?_⟩
  refine And.intro (by omega) (And.intro (by omega) ⟨28, 12176, by omega, by omega, ll_init ?_⟩)
  by_cases e : L = 0
  · exact br_t (show Int32.ofNat L ≤ 0 by rw [e]; decide) (F 0)
  · exact br_f (show ¬ Int32.ofNat L ≤ 0 from nI_nle (by omega) (by omega)) (And.intro (pk_in 0 L (by omega)) (nm_e (F _)))
end
