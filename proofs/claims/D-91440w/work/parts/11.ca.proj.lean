set_option maxRecDepth 100000
/-! reading after writing -/
theorem sx_s_us (S : ds_S) (k : Nat) (v : Int32) (a : Nat) : ds_s (ds_us S k v) a = if a = k then v else ds_s S a := rfl
theorem sx_p_us (S : ds_S) (k : Nat) (v : Int32) : ds_p (ds_us S k v) = ds_p S := rfl
theorem sx_d_us (S : ds_S) (k : Nat) (v : Int32) : ds_d (ds_us S k v) = ds_d S := rfl
theorem sx_l_us (S : ds_S) (k : Nat) (v : Int32) : ds_l (ds_us S k v) = ds_l S := rfl
theorem sx_t_us (S : ds_S) (k : Nat) (v : Int32) : ds_t (ds_us S k v) = ds_t S := rfl
theorem sx_r_us (S : ds_S) (k : Nat) (v : Int32) : ds_r (ds_us S k v) = ds_r S := rfl
theorem sx_a_us (S : ds_S) (k : Nat) (v : Int32) : ds_a (ds_us S k v) = ds_a S := rfl
theorem sx_b_us (S : ds_S) (k : Nat) (v : Int32) : ds_b (ds_us S k v) = ds_b S := rfl
theorem sx_s_upp (S : ds_S) (k i : Nat) (v : Int32) : ds_s (ds_upp S k i v) = ds_s S := rfl
theorem sx_p_upp (S : ds_S) (k i : Nat) (v : Int32) (a b : Nat) : ds_p (ds_upp S k i v) a b = if a = k ∧ b = i then v else ds_p S a b := rfl
theorem sx_d_upp (S : ds_S) (k i : Nat) (v : Int32) : ds_d (ds_upp S k i v) = ds_d S := rfl
theorem sx_l_upp (S : ds_S) (k i : Nat) (v : Int32) : ds_l (ds_upp S k i v) = ds_l S := rfl
theorem sx_t_upp (S : ds_S) (k i : Nat) (v : Int32) : ds_t (ds_upp S k i v) = ds_t S := rfl
theorem sx_r_upp (S : ds_S) (k i : Nat) (v : Int32) : ds_r (ds_upp S k i v) = ds_r S := rfl
theorem sx_a_upp (S : ds_S) (k i : Nat) (v : Int32) : ds_a (ds_upp S k i v) = ds_a S := rfl
theorem sx_b_upp (S : ds_S) (k i : Nat) (v : Int32) : ds_b (ds_upp S k i v) = ds_b S := rfl
theorem sx_s_ud (S : ds_S) (k i : Nat) (v : Int32) : ds_s (ds_ud S k i v) = ds_s S := rfl
theorem sx_p_ud (S : ds_S) (k i : Nat) (v : Int32) : ds_p (ds_ud S k i v) = ds_p S := rfl
theorem sx_d_ud (S : ds_S) (k i : Nat) (v : Int32) (a b : Nat) : ds_d (ds_ud S k i v) a b = if a = k ∧ b = i then v else ds_d S a b := rfl
theorem sx_l_ud (S : ds_S) (k i : Nat) (v : Int32) : ds_l (ds_ud S k i v) = ds_l S := rfl
theorem sx_t_ud (S : ds_S) (k i : Nat) (v : Int32) : ds_t (ds_ud S k i v) = ds_t S := rfl
theorem sx_r_ud (S : ds_S) (k i : Nat) (v : Int32) : ds_r (ds_ud S k i v) = ds_r S := rfl
theorem sx_a_ud (S : ds_S) (k i : Nat) (v : Int32) : ds_a (ds_ud S k i v) = ds_a S := rfl
theorem sx_b_ud (S : ds_S) (k i : Nat) (v : Int32) : ds_b (ds_ud S k i v) = ds_b S := rfl
theorem sx_s_ul (S : ds_S) (k i : Nat) (v : Int32) : ds_s (ds_ul S k i v) = ds_s S := rfl
theorem sx_p_ul (S : ds_S) (k i : Nat) (v : Int32) : ds_p (ds_ul S k i v) = ds_p S := rfl
theorem sx_d_ul (S : ds_S) (k i : Nat) (v : Int32) : ds_d (ds_ul S k i v) = ds_d S := rfl
theorem sx_l_ul (S : ds_S) (k i : Nat) (v : Int32) (a b : Nat) : ds_l (ds_ul S k i v) a b = if a = k ∧ b = i then v else ds_l S a b := rfl
theorem sx_t_ul (S : ds_S) (k i : Nat) (v : Int32) : ds_t (ds_ul S k i v) = ds_t S := rfl
theorem sx_r_ul (S : ds_S) (k i : Nat) (v : Int32) : ds_r (ds_ul S k i v) = ds_r S := rfl
theorem sx_a_ul (S : ds_S) (k i : Nat) (v : Int32) : ds_a (ds_ul S k i v) = ds_a S := rfl
theorem sx_b_ul (S : ds_S) (k i : Nat) (v : Int32) : ds_b (ds_ul S k i v) = ds_b S := rfl
theorem sx_s_ut (S : ds_S) (i : Nat) (v : Int32) : ds_s (ds_ut S i v) = ds_s S := rfl
theorem sx_p_ut (S : ds_S) (i : Nat) (v : Int32) : ds_p (ds_ut S i v) = ds_p S := rfl
theorem sx_d_ut (S : ds_S) (i : Nat) (v : Int32) : ds_d (ds_ut S i v) = ds_d S := rfl
theorem sx_l_ut (S : ds_S) (i : Nat) (v : Int32) : ds_l (ds_ut S i v) = ds_l S := rfl
theorem sx_t_ut (S : ds_S) (i : Nat) (v : Int32) (a : Nat) : ds_t (ds_ut S i v) a = if a = i then v else ds_t S a := rfl
theorem sx_r_ut (S : ds_S) (i : Nat) (v : Int32) : ds_r (ds_ut S i v) = ds_r S := rfl
theorem sx_a_ut (S : ds_S) (i : Nat) (v : Int32) : ds_a (ds_ut S i v) = ds_a S := rfl
theorem sx_b_ut (S : ds_S) (i : Nat) (v : Int32) : ds_b (ds_ut S i v) = ds_b S := rfl
theorem sx_s_ur (S : ds_S) (i : Nat) (v : Int32) : ds_s (ds_ur S i v) = ds_s S := rfl
theorem sx_p_ur (S : ds_S) (i : Nat) (v : Int32) : ds_p (ds_ur S i v) = ds_p S := rfl
theorem sx_d_ur (S : ds_S) (i : Nat) (v : Int32) : ds_d (ds_ur S i v) = ds_d S := rfl
theorem sx_l_ur (S : ds_S) (i : Nat) (v : Int32) : ds_l (ds_ur S i v) = ds_l S := rfl
theorem sx_t_ur (S : ds_S) (i : Nat) (v : Int32) : ds_t (ds_ur S i v) = ds_t S := rfl
theorem sx_r_ur (S : ds_S) (i : Nat) (v : Int32) (a : Nat) : ds_r (ds_ur S i v) a = if a = i then v else ds_r S a := rfl
theorem sx_a_ur (S : ds_S) (i : Nat) (v : Int32) : ds_a (ds_ur S i v) = ds_a S := rfl
theorem sx_b_ur (S : ds_S) (i : Nat) (v : Int32) : ds_b (ds_ur S i v) = ds_b S := rfl
theorem sx_s_ua (S : ds_S) (k i : Nat) (v : Int32) : ds_s (ds_ua S k i v) = ds_s S := rfl
theorem sx_p_ua (S : ds_S) (k i : Nat) (v : Int32) : ds_p (ds_ua S k i v) = ds_p S := rfl
theorem sx_d_ua (S : ds_S) (k i : Nat) (v : Int32) : ds_d (ds_ua S k i v) = ds_d S := rfl
theorem sx_l_ua (S : ds_S) (k i : Nat) (v : Int32) : ds_l (ds_ua S k i v) = ds_l S := rfl
theorem sx_t_ua (S : ds_S) (k i : Nat) (v : Int32) : ds_t (ds_ua S k i v) = ds_t S := rfl
theorem sx_r_ua (S : ds_S) (k i : Nat) (v : Int32) : ds_r (ds_ua S k i v) = ds_r S := rfl
theorem sx_a_ua (S : ds_S) (k i : Nat) (v : Int32) (a b : Nat) : ds_a (ds_ua S k i v) a b = if a = k ∧ b = i then v else ds_a S a b := rfl
theorem sx_b_ua (S : ds_S) (k i : Nat) (v : Int32) : ds_b (ds_ua S k i v) = ds_b S := rfl
theorem sx_s_ub (S : ds_S) (k i : Nat) (v : Int64) : ds_s (ds_ub S k i v) = ds_s S := rfl
theorem sx_p_ub (S : ds_S) (k i : Nat) (v : Int64) : ds_p (ds_ub S k i v) = ds_p S := rfl
theorem sx_d_ub (S : ds_S) (k i : Nat) (v : Int64) : ds_d (ds_ub S k i v) = ds_d S := rfl
theorem sx_l_ub (S : ds_S) (k i : Nat) (v : Int64) : ds_l (ds_ub S k i v) = ds_l S := rfl
theorem sx_t_ub (S : ds_S) (k i : Nat) (v : Int64) : ds_t (ds_ub S k i v) = ds_t S := rfl
theorem sx_r_ub (S : ds_S) (k i : Nat) (v : Int64) : ds_r (ds_ub S k i v) = ds_r S := rfl
theorem sx_a_ub (S : ds_S) (k i : Nat) (v : Int64) : ds_a (ds_ub S k i v) = ds_a S := rfl
theorem sx_b_ub (S : ds_S) (k i : Nat) (v : Int64) (a b : Nat) : ds_b (ds_ub S k i v) a b = if a = k ∧ b = i then v else ds_b S a b := rfl
theorem sx_s_fa (S : ds_S) (j L : Nat) (v : Int32) : ds_s (ds_fa S j L v) = ds_s S := rfl
theorem sx_p_fa (S : ds_S) (j L : Nat) (v : Int32) : ds_p (ds_fa S j L v) = ds_p S := rfl
theorem sx_d_fa (S : ds_S) (j L : Nat) (v : Int32) : ds_d (ds_fa S j L v) = ds_d S := rfl
theorem sx_l_fa (S : ds_S) (j L : Nat) (v : Int32) : ds_l (ds_fa S j L v) = ds_l S := rfl
theorem sx_t_fa (S : ds_S) (j L : Nat) (v : Int32) : ds_t (ds_fa S j L v) = ds_t S := rfl
theorem sx_r_fa (S : ds_S) (j L : Nat) (v : Int32) : ds_r (ds_fa S j L v) = ds_r S := rfl
theorem sx_a_fa (S : ds_S) (j L : Nat) (v : Int32) (a b : Nat) : ds_a (ds_fa S j L v) a b = if a = j ∧ b < L then v else ds_a S a b := rfl
theorem sx_b_fa (S : ds_S) (j L : Nat) (v : Int32) : ds_b (ds_fa S j L v) = ds_b S := rfl
theorem sx_s_fb (S : ds_S) (j L : Nat) (v : Int64) : ds_s (ds_fb S j L v) = ds_s S := rfl
theorem sx_p_fb (S : ds_S) (j L : Nat) (v : Int64) : ds_p (ds_fb S j L v) = ds_p S := rfl
theorem sx_d_fb (S : ds_S) (j L : Nat) (v : Int64) : ds_d (ds_fb S j L v) = ds_d S := rfl
theorem sx_l_fb (S : ds_S) (j L : Nat) (v : Int64) : ds_l (ds_fb S j L v) = ds_l S := rfl
theorem sx_t_fb (S : ds_S) (j L : Nat) (v : Int64) : ds_t (ds_fb S j L v) = ds_t S := rfl
theorem sx_r_fb (S : ds_S) (j L : Nat) (v : Int64) : ds_r (ds_fb S j L v) = ds_r S := rfl
theorem sx_a_fb (S : ds_S) (j L : Nat) (v : Int64) : ds_a (ds_fb S j L v) = ds_a S := rfl
theorem sx_b_fb (S : ds_S) (j L : Nat) (v : Int64) (a b : Nat) : ds_b (ds_fb S j L v) a b = if a = j ∧ b < L then v else ds_b S a b := rfl
