section
def gt_w (u : St1) : Int32 := u.1
def gt_h (u : St1) : Int32 := u.2.1
def gt_aw (u : St1) : Int32 := u.2.2.1
def gt_ah (u : St1) : Int32 := u.2.2.2.1
def gt_fw (u : St1) : Int32 := u.2.2.2.2.1
def gt_fh (u : St1) : Int32 := u.2.2.2.2.2.1
def gt_col (u : St1) : Int32 := u.2.2.2.2.2.2.1
def gt_oc (u : St1) : Int32 := u.2.2.2.2.2.2.2.1
def gt_lim (u : St1) : Int32 := u.2.2.2.2.2.2.2.2.1
def gt_low (u : St1) : Int64 := u.2.2.2.2.2.2.2.2.2.1
def gt_rng (u : St1) : Int64 := u.2.2.2.2.2.2.2.2.2.2.1
def gt_code (u : St1) : Int64 := u.2.2.2.2.2.2.2.2.2.2.2.1
def gt_held (u : St1) : Int32 := u.2.2.2.2.2.2.2.2.2.2.2.2.1
def gt_wait (u : St1) : Int32 := u.2.2.2.2.2.2.2.2.2.2.2.2.2.1
def gt_src (u : St1) : Int32 := u.2.2.2.2.2.2.2.2.2.2.2.2.2.2.1
def gt_end (u : St1) : Int32 := u.2.2.2.2.2.2.2.2.2.2.2.2.2.2.2.1
def gt_crc (u : St1) : Int32 := u.2.2.2.2.2.2.2.2.2.2.2.2.2.2.2.2.1
def gt_hand (u : St1) : Nat → Int32 := u.2.2.2.2.2.2.2.2.2.2.2.2.2.2.2.2.2.1
def gt_aside (u : St1) : Nat → Int32 := u.2.2.2.2.2.2.2.2.2.2.2.2.2.2.2.2.2.2.1
def gt_first (u : St1) : Nat → Int32 := u.2.2.2.2.2.2.2.2.2.2.2.2.2.2.2.2.2.2.2.1
def gt_by (u : St1) : Nat → Int32 := u.2.2.2.2.2.2.2.2.2.2.2.2.2.2.2.2.2.2.2.2.1
def gt_used (u : St1) : Nat → Int32 := u.2.2.2.2.2.2.2.2.2.2.2.2.2.2.2.2.2.2.2.2.2.1
def gt_tb (u : St1) : Nat → Int32 := u.2.2.2.2.2.2.2.2.2.2.2.2.2.2.2.2.2.2.2.2.2.2.1
def gt_pw (u : St1) : Nat → Int32 := u.2.2.2.2.2.2.2.2.2.2.2.2.2.2.2.2.2.2.2.2.2.2.2.1
def gt_ph (u : St1) : Nat → Int32 := u.2.2.2.2.2.2.2.2.2.2.2.2.2.2.2.2.2.2.2.2.2.2.2.2.1
def gt_ps (u : St1) : Nat → Int32 := u.2.2.2.2.2.2.2.2.2.2.2.2.2.2.2.2.2.2.2.2.2.2.2.2.2.1
def gt_num (u : St1) : Nat → Int32 := u.2.2.2.2.2.2.2.2.2.2.2.2.2.2.2.2.2.2.2.2.2.2.2.2.2.2.1
def gt_lg (u : St1) : Nat → Int32 := u.2.2.2.2.2.2.2.2.2.2.2.2.2.2.2.2.2.2.2.2.2.2.2.2.2.2.2.1
def gt_sm (u : St1) : Nat → Int32 := u.2.2.2.2.2.2.2.2.2.2.2.2.2.2.2.2.2.2.2.2.2.2.2.2.2.2.2.2.1
def gt_clr (u : St1) : Nat → Int32 := u.2.2.2.2.2.2.2.2.2.2.2.2.2.2.2.2.2.2.2.2.2.2.2.2.2.2.2.2.2.1
def gt_ch (u : St1) : Nat → Int32 := u.2.2.2.2.2.2.2.2.2.2.2.2.2.2.2.2.2.2.2.2.2.2.2.2.2.2.2.2.2.2.1
def gt_out (u : St1) : Nat → Int32 := u.2.2.2.2.2.2.2.2.2.2.2.2.2.2.2.2.2.2.2.2.2.2.2.2.2.2.2.2.2.2.2
def st_w (u : St1) (x : Int32) : St1 := (x, u.2)
def st_h (u : St1) (x : Int32) : St1 := (u.1, x, u.2.2)
def st_aw (u : St1) (x : Int32) : St1 := (u.1, u.2.1, x, u.2.2.2)
def st_ah (u : St1) (x : Int32) : St1 := (u.1, u.2.1, u.2.2.1, x, u.2.2.2.2)
def st_fw (u : St1) (x : Int32) : St1 := (u.1, u.2.1, u.2.2.1, u.2.2.2.1, x, u.2.2.2.2.2)
def st_fh (u : St1) (x : Int32) : St1 := (u.1, u.2.1, u.2.2.1, u.2.2.2.1, u.2.2.2.2.1, x, u.2.2.2.2.2.2)
def st_col (u : St1) (x : Int32) : St1 := (u.1, u.2.1, u.2.2.1, u.2.2.2.1, u.2.2.2.2.1, u.2.2.2.2.2.1, x, u.2.2.2.2.2.2.2)
def st_oc (u : St1) (x : Int32) : St1 := (u.1, u.2.1, u.2.2.1, u.2.2.2.1, u.2.2.2.2.1, u.2.2.2.2.2.1, u.2.2.2.2.2.2.1, x, u.2.2.2.2.2.2.2.2)
def st_lim (u : St1) (x : Int32) : St1 := (u.1, u.2.1, u.2.2.1, u.2.2.2.1, u.2.2.2.2.1, u.2.2.2.2.2.1, u.2.2.2.2.2.2.1, u.2.2.2.2.2.2.2.1, x, u.2.2.2.2.2.2.2.2.2)
def st_low (u : St1) (x : Int64) : St1 := (u.1, u.2.1, u.2.2.1, u.2.2.2.1, u.2.2.2.2.1, u.2.2.2.2.2.1, u.2.2.2.2.2.2.1, u.2.2.2.2.2.2.2.1, u.2.2.2.2.2.2.2.2.1, x, u.2.2.2.2.2.2.2.2.2.2)
def st_rng (u : St1) (x : Int64) : St1 := (u.1, u.2.1, u.2.2.1, u.2.2.2.1, u.2.2.2.2.1, u.2.2.2.2.2.1, u.2.2.2.2.2.2.1, u.2.2.2.2.2.2.2.1, u.2.2.2.2.2.2.2.2.1, u.2.2.2.2.2.2.2.2.2.1, x, u.2.2.2.2.2.2.2.2.2.2.2)
def st_code (u : St1) (x : Int64) : St1 := (u.1, u.2.1, u.2.2.1, u.2.2.2.1, u.2.2.2.2.1, u.2.2.2.2.2.1, u.2.2.2.2.2.2.1, u.2.2.2.2.2.2.2.1, u.2.2.2.2.2.2.2.2.1, u.2.2.2.2.2.2.2.2.2.1, u.2.2.2.2.2.2.2.2.2.2.1, x, u.2.2.2.2.2.2.2.2.2.2.2.2)
def st_held (u : St1) (x : Int32) : St1 := (u.1, u.2.1, u.2.2.1, u.2.2.2.1, u.2.2.2.2.1, u.2.2.2.2.2.1, u.2.2.2.2.2.2.1, u.2.2.2.2.2.2.2.1, u.2.2.2.2.2.2.2.2.1, u.2.2.2.2.2.2.2.2.2.1, u.2.2.2.2.2.2.2.2.2.2.1, u.2.2.2.2.2.2.2.2.2.2.2.1, x, u.2.2.2.2.2.2.2.2.2.2.2.2.2)
def st_wait (u : St1) (x : Int32) : St1 := (u.1, u.2.1, u.2.2.1, u.2.2.2.1, u.2.2.2.2.1, u.2.2.2.2.2.1, u.2.2.2.2.2.2.1, u.2.2.2.2.2.2.2.1, u.2.2.2.2.2.2.2.2.1, u.2.2.2.2.2.2.2.2.2.1, u.2.2.2.2.2.2.2.2.2.2.1, u.2.2.2.2.2.2.2.2.2.2.2.1, u.2.2.2.2.2.2.2.2.2.2.2.2.1, x, u.2.2.2.2.2.2.2.2.2.2.2.2.2.2)
def st_src (u : St1) (x : Int32) : St1 := (u.1, u.2.1, u.2.2.1, u.2.2.2.1, u.2.2.2.2.1, u.2.2.2.2.2.1, u.2.2.2.2.2.2.1, u.2.2.2.2.2.2.2.1, u.2.2.2.2.2.2.2.2.1, u.2.2.2.2.2.2.2.2.2.1, u.2.2.2.2.2.2.2.2.2.2.1, u.2.2.2.2.2.2.2.2.2.2.2.1, u.2.2.2.2.2.2.2.2.2.2.2.2.1, u.2.2.2.2.2.2.2.2.2.2.2.2.2.1, x, u.2.2.2.2.2.2.2.2.2.2.2.2.2.2.2)
def st_end (u : St1) (x : Int32) : St1 := (u.1, u.2.1, u.2.2.1, u.2.2.2.1, u.2.2.2.2.1, u.2.2.2.2.2.1, u.2.2.2.2.2.2.1, u.2.2.2.2.2.2.2.1, u.2.2.2.2.2.2.2.2.1, u.2.2.2.2.2.2.2.2.2.1, u.2.2.2.2.2.2.2.2.2.2.1, u.2.2.2.2.2.2.2.2.2.2.2.1, u.2.2.2.2.2.2.2.2.2.2.2.2.1, u.2.2.2.2.2.2.2.2.2.2.2.2.2.1, u.2.2.2.2.2.2.2.2.2.2.2.2.2.2.1, x, u.2.2.2.2.2.2.2.2.2.2.2.2.2.2.2.2)
def st_crc (u : St1) (x : Int32) : St1 := (u.1, u.2.1, u.2.2.1, u.2.2.2.1, u.2.2.2.2.1, u.2.2.2.2.2.1, u.2.2.2.2.2.2.1, u.2.2.2.2.2.2.2.1, u.2.2.2.2.2.2.2.2.1, u.2.2.2.2.2.2.2.2.2.1, u.2.2.2.2.2.2.2.2.2.2.1, u.2.2.2.2.2.2.2.2.2.2.2.1, u.2.2.2.2.2.2.2.2.2.2.2.2.1, u.2.2.2.2.2.2.2.2.2.2.2.2.2.1, u.2.2.2.2.2.2.2.2.2.2.2.2.2.2.1, u.2.2.2.2.2.2.2.2.2.2.2.2.2.2.2.1, x, u.2.2.2.2.2.2.2.2.2.2.2.2.2.2.2.2.2)
def st_hand (u : St1) (x : Nat → Int32) : St1 := (u.1, u.2.1, u.2.2.1, u.2.2.2.1, u.2.2.2.2.1, u.2.2.2.2.2.1, u.2.2.2.2.2.2.1, u.2.2.2.2.2.2.2.1, u.2.2.2.2.2.2.2.2.1, u.2.2.2.2.2.2.2.2.2.1, u.2.2.2.2.2.2.2.2.2.2.1, u.2.2.2.2.2.2.2.2.2.2.2.1, u.2.2.2.2.2.2.2.2.2.2.2.2.1, u.2.2.2.2.2.2.2.2.2.2.2.2.2.1, u.2.2.2.2.2.2.2.2.2.2.2.2.2.2.1, u.2.2.2.2.2.2.2.2.2.2.2.2.2.2.2.1, u.2.2.2.2.2.2.2.2.2.2.2.2.2.2.2.2.1, x, u.2.2.2.2.2.2.2.2.2.2.2.2.2.2.2.2.2.2)
def st_aside (u : St1) (x : Nat → Int32) : St1 := (u.1, u.2.1, u.2.2.1, u.2.2.2.1, u.2.2.2.2.1, u.2.2.2.2.2.1, u.2.2.2.2.2.2.1, u.2.2.2.2.2.2.2.1, u.2.2.2.2.2.2.2.2.1, u.2.2.2.2.2.2.2.2.2.1, u.2.2.2.2.2.2.2.2.2.2.1, u.2.2.2.2.2.2.2.2.2.2.2.1, u.2.2.2.2.2.2.2.2.2.2.2.2.1, u.2.2.2.2.2.2.2.2.2.2.2.2.2.1, u.2.2.2.2.2.2.2.2.2.2.2.2.2.2.1, u.2.2.2.2.2.2.2.2.2.2.2.2.2.2.2.1, u.2.2.2.2.2.2.2.2.2.2.2.2.2.2.2.2.1, u.2.2.2.2.2.2.2.2.2.2.2.2.2.2.2.2.2.1, x, u.2.2.2.2.2.2.2.2.2.2.2.2.2.2.2.2.2.2.2)
def st_first (u : St1) (x : Nat → Int32) : St1 := (u.1, u.2.1, u.2.2.1, u.2.2.2.1, u.2.2.2.2.1, u.2.2.2.2.2.1, u.2.2.2.2.2.2.1, u.2.2.2.2.2.2.2.1, u.2.2.2.2.2.2.2.2.1, u.2.2.2.2.2.2.2.2.2.1, u.2.2.2.2.2.2.2.2.2.2.1, u.2.2.2.2.2.2.2.2.2.2.2.1, u.2.2.2.2.2.2.2.2.2.2.2.2.1, u.2.2.2.2.2.2.2.2.2.2.2.2.2.1, u.2.2.2.2.2.2.2.2.2.2.2.2.2.2.1, u.2.2.2.2.2.2.2.2.2.2.2.2.2.2.2.1, u.2.2.2.2.2.2.2.2.2.2.2.2.2.2.2.2.1, u.2.2.2.2.2.2.2.2.2.2.2.2.2.2.2.2.2.1, u.2.2.2.2.2.2.2.2.2.2.2.2.2.2.2.2.2.2.1, x, u.2.2.2.2.2.2.2.2.2.2.2.2.2.2.2.2.2.2.2.2)
def st_by (u : St1) (x : Nat → Int32) : St1 := (u.1, u.2.1, u.2.2.1, u.2.2.2.1, u.2.2.2.2.1, u.2.2.2.2.2.1, u.2.2.2.2.2.2.1, u.2.2.2.2.2.2.2.1, u.2.2.2.2.2.2.2.2.1, u.2.2.2.2.2.2.2.2.2.1, u.2.2.2.2.2.2.2.2.2.2.1, u.2.2.2.2.2.2.2.2.2.2.2.1, u.2.2.2.2.2.2.2.2.2.2.2.2.1, u.2.2.2.2.2.2.2.2.2.2.2.2.2.1, u.2.2.2.2.2.2.2.2.2.2.2.2.2.2.1, u.2.2.2.2.2.2.2.2.2.2.2.2.2.2.2.1, u.2.2.2.2.2.2.2.2.2.2.2.2.2.2.2.2.1, u.2.2.2.2.2.2.2.2.2.2.2.2.2.2.2.2.2.1, u.2.2.2.2.2.2.2.2.2.2.2.2.2.2.2.2.2.2.1, u.2.2.2.2.2.2.2.2.2.2.2.2.2.2.2.2.2.2.2.1, x, u.2.2.2.2.2.2.2.2.2.2.2.2.2.2.2.2.2.2.2.2.2)
def st_used (u : St1) (x : Nat → Int32) : St1 := (u.1, u.2.1, u.2.2.1, u.2.2.2.1, u.2.2.2.2.1, u.2.2.2.2.2.1, u.2.2.2.2.2.2.1, u.2.2.2.2.2.2.2.1, u.2.2.2.2.2.2.2.2.1, u.2.2.2.2.2.2.2.2.2.1, u.2.2.2.2.2.2.2.2.2.2.1, u.2.2.2.2.2.2.2.2.2.2.2.1, u.2.2.2.2.2.2.2.2.2.2.2.2.1, u.2.2.2.2.2.2.2.2.2.2.2.2.2.1, u.2.2.2.2.2.2.2.2.2.2.2.2.2.2.1, u.2.2.2.2.2.2.2.2.2.2.2.2.2.2.2.1, u.2.2.2.2.2.2.2.2.2.2.2.2.2.2.2.2.1, u.2.2.2.2.2.2.2.2.2.2.2.2.2.2.2.2.2.1, u.2.2.2.2.2.2.2.2.2.2.2.2.2.2.2.2.2.2.1, u.2.2.2.2.2.2.2.2.2.2.2.2.2.2.2.2.2.2.2.1, u.2.2.2.2.2.2.2.2.2.2.2.2.2.2.2.2.2.2.2.2.1, x, u.2.2.2.2.2.2.2.2.2.2.2.2.2.2.2.2.2.2.2.2.2.2)
def st_tb (u : St1) (x : Nat → Int32) : St1 := (u.1, u.2.1, u.2.2.1, u.2.2.2.1, u.2.2.2.2.1, u.2.2.2.2.2.1, u.2.2.2.2.2.2.1, u.2.2.2.2.2.2.2.1, u.2.2.2.2.2.2.2.2.1, u.2.2.2.2.2.2.2.2.2.1, u.2.2.2.2.2.2.2.2.2.2.1, u.2.2.2.2.2.2.2.2.2.2.2.1, u.2.2.2.2.2.2.2.2.2.2.2.2.1, u.2.2.2.2.2.2.2.2.2.2.2.2.2.1, u.2.2.2.2.2.2.2.2.2.2.2.2.2.2.1, u.2.2.2.2.2.2.2.2.2.2.2.2.2.2.2.1, u.2.2.2.2.2.2.2.2.2.2.2.2.2.2.2.2.1, u.2.2.2.2.2.2.2.2.2.2.2.2.2.2.2.2.2.1, u.2.2.2.2.2.2.2.2.2.2.2.2.2.2.2.2.2.2.1, u.2.2.2.2.2.2.2.2.2.2.2.2.2.2.2.2.2.2.2.1, u.2.2.2.2.2.2.2.2.2.2.2.2.2.2.2.2.2.2.2.2.1, u.2.2.2.2.2.2.2.2.2.2.2.2.2.2.2.2.2.2.2.2.2.1, x, u.2.2.2.2.2.2.2.2.2.2.2.2.2.2.2.2.2.2.2.2.2.2.2)
def st_pw (u : St1) (x : Nat → Int32) : St1 := (u.1, u.2.1, u.2.2.1, u.2.2.2.1, u.2.2.2.2.1, u.2.2.2.2.2.1, u.2.2.2.2.2.2.1, u.2.2.2.2.2.2.2.1, u.2.2.2.2.2.2.2.2.1, u.2.2.2.2.2.2.2.2.2.1, u.2.2.2.2.2.2.2.2.2.2.1, u.2.2.2.2.2.2.2.2.2.2.2.1, u.2.2.2.2.2.2.2.2.2.2.2.2.1, u.2.2.2.2.2.2.2.2.2.2.2.2.2.1, u.2.2.2.2.2.2.2.2.2.2.2.2.2.2.1, u.2.2.2.2.2.2.2.2.2.2.2.2.2.2.2.1, u.2.2.2.2.2.2.2.2.2.2.2.2.2.2.2.2.1, u.2.2.2.2.2.2.2.2.2.2.2.2.2.2.2.2.2.1, u.2.2.2.2.2.2.2.2.2.2.2.2.2.2.2.2.2.2.1, u.2.2.2.2.2.2.2.2.2.2.2.2.2.2.2.2.2.2.2.1, u.2.2.2.2.2.2.2.2.2.2.2.2.2.2.2.2.2.2.2.2.1, u.2.2.2.2.2.2.2.2.2.2.2.2.2.2.2.2.2.2.2.2.2.1, u.2.2.2.2.2.2.2.2.2.2.2.2.2.2.2.2.2.2.2.2.2.2.1, x, u.2.2.2.2.2.2.2.2.2.2.2.2.2.2.2.2.2.2.2.2.2.2.2.2)
def st_ph (u : St1) (x : Nat → Int32) : St1 := (u.1, u.2.1, u.2.2.1, u.2.2.2.1, u.2.2.2.2.1, u.2.2.2.2.2.1, u.2.2.2.2.2.2.1, u.2.2.2.2.2.2.2.1, u.2.2.2.2.2.2.2.2.1, u.2.2.2.2.2.2.2.2.2.1, u.2.2.2.2.2.2.2.2.2.2.1, u.2.2.2.2.2.2.2.2.2.2.2.1, u.2.2.2.2.2.2.2.2.2.2.2.2.1, u.2.2.2.2.2.2.2.2.2.2.2.2.2.1, u.2.2.2.2.2.2.2.2.2.2.2.2.2.2.1, u.2.2.2.2.2.2.2.2.2.2.2.2.2.2.2.1, u.2.2.2.2.2.2.2.2.2.2.2.2.2.2.2.2.1, u.2.2.2.2.2.2.2.2.2.2.2.2.2.2.2.2.2.1, u.2.2.2.2.2.2.2.2.2.2.2.2.2.2.2.2.2.2.1, u.2.2.2.2.2.2.2.2.2.2.2.2.2.2.2.2.2.2.2.1, u.2.2.2.2.2.2.2.2.2.2.2.2.2.2.2.2.2.2.2.2.1, u.2.2.2.2.2.2.2.2.2.2.2.2.2.2.2.2.2.2.2.2.2.1, u.2.2.2.2.2.2.2.2.2.2.2.2.2.2.2.2.2.2.2.2.2.2.1, u.2.2.2.2.2.2.2.2.2.2.2.2.2.2.2.2.2.2.2.2.2.2.2.1, x, u.2.2.2.2.2.2.2.2.2.2.2.2.2.2.2.2.2.2.2.2.2.2.2.2.2)
def st_ps (u : St1) (x : Nat → Int32) : St1 := (u.1, u.2.1, u.2.2.1, u.2.2.2.1, u.2.2.2.2.1, u.2.2.2.2.2.1, u.2.2.2.2.2.2.1, u.2.2.2.2.2.2.2.1, u.2.2.2.2.2.2.2.2.1, u.2.2.2.2.2.2.2.2.2.1, u.2.2.2.2.2.2.2.2.2.2.1, u.2.2.2.2.2.2.2.2.2.2.2.1, u.2.2.2.2.2.2.2.2.2.2.2.2.1, u.2.2.2.2.2.2.2.2.2.2.2.2.2.1, u.2.2.2.2.2.2.2.2.2.2.2.2.2.2.1, u.2.2.2.2.2.2.2.2.2.2.2.2.2.2.2.1, u.2.2.2.2.2.2.2.2.2.2.2.2.2.2.2.2.1, u.2.2.2.2.2.2.2.2.2.2.2.2.2.2.2.2.2.1, u.2.2.2.2.2.2.2.2.2.2.2.2.2.2.2.2.2.2.1, u.2.2.2.2.2.2.2.2.2.2.2.2.2.2.2.2.2.2.2.1, u.2.2.2.2.2.2.2.2.2.2.2.2.2.2.2.2.2.2.2.2.1, u.2.2.2.2.2.2.2.2.2.2.2.2.2.2.2.2.2.2.2.2.2.1, u.2.2.2.2.2.2.2.2.2.2.2.2.2.2.2.2.2.2.2.2.2.2.1, u.2.2.2.2.2.2.2.2.2.2.2.2.2.2.2.2.2.2.2.2.2.2.2.1, u.2.2.2.2.2.2.2.2.2.2.2.2.2.2.2.2.2.2.2.2.2.2.2.2.1, x, u.2.2.2.2.2.2.2.2.2.2.2.2.2.2.2.2.2.2.2.2.2.2.2.2.2.2)
def st_num (u : St1) (x : Nat → Int32) : St1 := (u.1, u.2.1, u.2.2.1, u.2.2.2.1, u.2.2.2.2.1, u.2.2.2.2.2.1, u.2.2.2.2.2.2.1, u.2.2.2.2.2.2.2.1, u.2.2.2.2.2.2.2.2.1, u.2.2.2.2.2.2.2.2.2.1, u.2.2.2.2.2.2.2.2.2.2.1, u.2.2.2.2.2.2.2.2.2.2.2.1, u.2.2.2.2.2.2.2.2.2.2.2.2.1, u.2.2.2.2.2.2.2.2.2.2.2.2.2.1, u.2.2.2.2.2.2.2.2.2.2.2.2.2.2.1, u.2.2.2.2.2.2.2.2.2.2.2.2.2.2.2.1, u.2.2.2.2.2.2.2.2.2.2.2.2.2.2.2.2.1, u.2.2.2.2.2.2.2.2.2.2.2.2.2.2.2.2.2.1, u.2.2.2.2.2.2.2.2.2.2.2.2.2.2.2.2.2.2.1, u.2.2.2.2.2.2.2.2.2.2.2.2.2.2.2.2.2.2.2.1, u.2.2.2.2.2.2.2.2.2.2.2.2.2.2.2.2.2.2.2.2.1, u.2.2.2.2.2.2.2.2.2.2.2.2.2.2.2.2.2.2.2.2.2.1, u.2.2.2.2.2.2.2.2.2.2.2.2.2.2.2.2.2.2.2.2.2.2.1, u.2.2.2.2.2.2.2.2.2.2.2.2.2.2.2.2.2.2.2.2.2.2.2.1, u.2.2.2.2.2.2.2.2.2.2.2.2.2.2.2.2.2.2.2.2.2.2.2.2.1, u.2.2.2.2.2.2.2.2.2.2.2.2.2.2.2.2.2.2.2.2.2.2.2.2.2.1, x, u.2.2.2.2.2.2.2.2.2.2.2.2.2.2.2.2.2.2.2.2.2.2.2.2.2.2.2)
def st_lg (u : St1) (x : Nat → Int32) : St1 := (u.1, u.2.1, u.2.2.1, u.2.2.2.1, u.2.2.2.2.1, u.2.2.2.2.2.1, u.2.2.2.2.2.2.1, u.2.2.2.2.2.2.2.1, u.2.2.2.2.2.2.2.2.1, u.2.2.2.2.2.2.2.2.2.1, u.2.2.2.2.2.2.2.2.2.2.1, u.2.2.2.2.2.2.2.2.2.2.2.1, u.2.2.2.2.2.2.2.2.2.2.2.2.1, u.2.2.2.2.2.2.2.2.2.2.2.2.2.1, u.2.2.2.2.2.2.2.2.2.2.2.2.2.2.1, u.2.2.2.2.2.2.2.2.2.2.2.2.2.2.2.1, u.2.2.2.2.2.2.2.2.2.2.2.2.2.2.2.2.1, u.2.2.2.2.2.2.2.2.2.2.2.2.2.2.2.2.2.1, u.2.2.2.2.2.2.2.2.2.2.2.2.2.2.2.2.2.2.1, u.2.2.2.2.2.2.2.2.2.2.2.2.2.2.2.2.2.2.2.1, u.2.2.2.2.2.2.2.2.2.2.2.2.2.2.2.2.2.2.2.2.1, u.2.2.2.2.2.2.2.2.2.2.2.2.2.2.2.2.2.2.2.2.2.1, u.2.2.2.2.2.2.2.2.2.2.2.2.2.2.2.2.2.2.2.2.2.2.1, u.2.2.2.2.2.2.2.2.2.2.2.2.2.2.2.2.2.2.2.2.2.2.2.1, u.2.2.2.2.2.2.2.2.2.2.2.2.2.2.2.2.2.2.2.2.2.2.2.2.1, u.2.2.2.2.2.2.2.2.2.2.2.2.2.2.2.2.2.2.2.2.2.2.2.2.2.1, u.2.2.2.2.2.2.2.2.2.2.2.2.2.2.2.2.2.2.2.2.2.2.2.2.2.2.1, x, u.2.2.2.2.2.2.2.2.2.2.2.2.2.2.2.2.2.2.2.2.2.2.2.2.2.2.2.2)
def st_sm (u : St1) (x : Nat → Int32) : St1 := (u.1, u.2.1, u.2.2.1, u.2.2.2.1, u.2.2.2.2.1, u.2.2.2.2.2.1, u.2.2.2.2.2.2.1, u.2.2.2.2.2.2.2.1, u.2.2.2.2.2.2.2.2.1, u.2.2.2.2.2.2.2.2.2.1, u.2.2.2.2.2.2.2.2.2.2.1, u.2.2.2.2.2.2.2.2.2.2.2.1, u.2.2.2.2.2.2.2.2.2.2.2.2.1, u.2.2.2.2.2.2.2.2.2.2.2.2.2.1, u.2.2.2.2.2.2.2.2.2.2.2.2.2.2.1, u.2.2.2.2.2.2.2.2.2.2.2.2.2.2.2.1, u.2.2.2.2.2.2.2.2.2.2.2.2.2.2.2.2.1, u.2.2.2.2.2.2.2.2.2.2.2.2.2.2.2.2.2.1, u.2.2.2.2.2.2.2.2.2.2.2.2.2.2.2.2.2.2.1, u.2.2.2.2.2.2.2.2.2.2.2.2.2.2.2.2.2.2.2.1, u.2.2.2.2.2.2.2.2.2.2.2.2.2.2.2.2.2.2.2.2.1, u.2.2.2.2.2.2.2.2.2.2.2.2.2.2.2.2.2.2.2.2.2.1, u.2.2.2.2.2.2.2.2.2.2.2.2.2.2.2.2.2.2.2.2.2.2.1, u.2.2.2.2.2.2.2.2.2.2.2.2.2.2.2.2.2.2.2.2.2.2.2.1, u.2.2.2.2.2.2.2.2.2.2.2.2.2.2.2.2.2.2.2.2.2.2.2.2.1, u.2.2.2.2.2.2.2.2.2.2.2.2.2.2.2.2.2.2.2.2.2.2.2.2.2.1, u.2.2.2.2.2.2.2.2.2.2.2.2.2.2.2.2.2.2.2.2.2.2.2.2.2.2.1, u.2.2.2.2.2.2.2.2.2.2.2.2.2.2.2.2.2.2.2.2.2.2.2.2.2.2.2.1, x, u.2.2.2.2.2.2.2.2.2.2.2.2.2.2.2.2.2.2.2.2.2.2.2.2.2.2.2.2.2)
def st_clr (u : St1) (x : Nat → Int32) : St1 := (u.1, u.2.1, u.2.2.1, u.2.2.2.1, u.2.2.2.2.1, u.2.2.2.2.2.1, u.2.2.2.2.2.2.1, u.2.2.2.2.2.2.2.1, u.2.2.2.2.2.2.2.2.1, u.2.2.2.2.2.2.2.2.2.1, u.2.2.2.2.2.2.2.2.2.2.1, u.2.2.2.2.2.2.2.2.2.2.2.1, u.2.2.2.2.2.2.2.2.2.2.2.2.1, u.2.2.2.2.2.2.2.2.2.2.2.2.2.1, u.2.2.2.2.2.2.2.2.2.2.2.2.2.2.1, u.2.2.2.2.2.2.2.2.2.2.2.2.2.2.2.1, u.2.2.2.2.2.2.2.2.2.2.2.2.2.2.2.2.1, u.2.2.2.2.2.2.2.2.2.2.2.2.2.2.2.2.2.1, u.2.2.2.2.2.2.2.2.2.2.2.2.2.2.2.2.2.2.1, u.2.2.2.2.2.2.2.2.2.2.2.2.2.2.2.2.2.2.2.1, u.2.2.2.2.2.2.2.2.2.2.2.2.2.2.2.2.2.2.2.2.1, u.2.2.2.2.2.2.2.2.2.2.2.2.2.2.2.2.2.2.2.2.2.1, u.2.2.2.2.2.2.2.2.2.2.2.2.2.2.2.2.2.2.2.2.2.2.1, u.2.2.2.2.2.2.2.2.2.2.2.2.2.2.2.2.2.2.2.2.2.2.2.1, u.2.2.2.2.2.2.2.2.2.2.2.2.2.2.2.2.2.2.2.2.2.2.2.2.1, u.2.2.2.2.2.2.2.2.2.2.2.2.2.2.2.2.2.2.2.2.2.2.2.2.2.1, u.2.2.2.2.2.2.2.2.2.2.2.2.2.2.2.2.2.2.2.2.2.2.2.2.2.2.1, u.2.2.2.2.2.2.2.2.2.2.2.2.2.2.2.2.2.2.2.2.2.2.2.2.2.2.2.1, u.2.2.2.2.2.2.2.2.2.2.2.2.2.2.2.2.2.2.2.2.2.2.2.2.2.2.2.2.1, x, u.2.2.2.2.2.2.2.2.2.2.2.2.2.2.2.2.2.2.2.2.2.2.2.2.2.2.2.2.2.2)
def st_ch (u : St1) (x : Nat → Int32) : St1 := (u.1, u.2.1, u.2.2.1, u.2.2.2.1, u.2.2.2.2.1, u.2.2.2.2.2.1, u.2.2.2.2.2.2.1, u.2.2.2.2.2.2.2.1, u.2.2.2.2.2.2.2.2.1, u.2.2.2.2.2.2.2.2.2.1, u.2.2.2.2.2.2.2.2.2.2.1, u.2.2.2.2.2.2.2.2.2.2.2.1, u.2.2.2.2.2.2.2.2.2.2.2.2.1, u.2.2.2.2.2.2.2.2.2.2.2.2.2.1, u.2.2.2.2.2.2.2.2.2.2.2.2.2.2.1, u.2.2.2.2.2.2.2.2.2.2.2.2.2.2.2.1, u.2.2.2.2.2.2.2.2.2.2.2.2.2.2.2.2.1, u.2.2.2.2.2.2.2.2.2.2.2.2.2.2.2.2.2.1, u.2.2.2.2.2.2.2.2.2.2.2.2.2.2.2.2.2.2.1, u.2.2.2.2.2.2.2.2.2.2.2.2.2.2.2.2.2.2.2.1, u.2.2.2.2.2.2.2.2.2.2.2.2.2.2.2.2.2.2.2.2.1, u.2.2.2.2.2.2.2.2.2.2.2.2.2.2.2.2.2.2.2.2.2.1, u.2.2.2.2.2.2.2.2.2.2.2.2.2.2.2.2.2.2.2.2.2.2.1, u.2.2.2.2.2.2.2.2.2.2.2.2.2.2.2.2.2.2.2.2.2.2.2.1, u.2.2.2.2.2.2.2.2.2.2.2.2.2.2.2.2.2.2.2.2.2.2.2.2.1, u.2.2.2.2.2.2.2.2.2.2.2.2.2.2.2.2.2.2.2.2.2.2.2.2.2.1, u.2.2.2.2.2.2.2.2.2.2.2.2.2.2.2.2.2.2.2.2.2.2.2.2.2.2.1, u.2.2.2.2.2.2.2.2.2.2.2.2.2.2.2.2.2.2.2.2.2.2.2.2.2.2.2.1, u.2.2.2.2.2.2.2.2.2.2.2.2.2.2.2.2.2.2.2.2.2.2.2.2.2.2.2.2.1, u.2.2.2.2.2.2.2.2.2.2.2.2.2.2.2.2.2.2.2.2.2.2.2.2.2.2.2.2.2.1, x, u.2.2.2.2.2.2.2.2.2.2.2.2.2.2.2.2.2.2.2.2.2.2.2.2.2.2.2.2.2.2.2)
def st_out (u : St1) (x : Nat → Int32) : St1 := (u.1, u.2.1, u.2.2.1, u.2.2.2.1, u.2.2.2.2.1, u.2.2.2.2.2.1, u.2.2.2.2.2.2.1, u.2.2.2.2.2.2.2.1, u.2.2.2.2.2.2.2.2.1, u.2.2.2.2.2.2.2.2.2.1, u.2.2.2.2.2.2.2.2.2.2.1, u.2.2.2.2.2.2.2.2.2.2.2.1, u.2.2.2.2.2.2.2.2.2.2.2.2.1, u.2.2.2.2.2.2.2.2.2.2.2.2.2.1, u.2.2.2.2.2.2.2.2.2.2.2.2.2.2.1, u.2.2.2.2.2.2.2.2.2.2.2.2.2.2.2.1, u.2.2.2.2.2.2.2.2.2.2.2.2.2.2.2.2.1, u.2.2.2.2.2.2.2.2.2.2.2.2.2.2.2.2.2.1, u.2.2.2.2.2.2.2.2.2.2.2.2.2.2.2.2.2.2.1, u.2.2.2.2.2.2.2.2.2.2.2.2.2.2.2.2.2.2.2.1, u.2.2.2.2.2.2.2.2.2.2.2.2.2.2.2.2.2.2.2.2.1, u.2.2.2.2.2.2.2.2.2.2.2.2.2.2.2.2.2.2.2.2.2.1, u.2.2.2.2.2.2.2.2.2.2.2.2.2.2.2.2.2.2.2.2.2.2.1, u.2.2.2.2.2.2.2.2.2.2.2.2.2.2.2.2.2.2.2.2.2.2.2.1, u.2.2.2.2.2.2.2.2.2.2.2.2.2.2.2.2.2.2.2.2.2.2.2.2.1, u.2.2.2.2.2.2.2.2.2.2.2.2.2.2.2.2.2.2.2.2.2.2.2.2.2.1, u.2.2.2.2.2.2.2.2.2.2.2.2.2.2.2.2.2.2.2.2.2.2.2.2.2.2.1, u.2.2.2.2.2.2.2.2.2.2.2.2.2.2.2.2.2.2.2.2.2.2.2.2.2.2.2.1, u.2.2.2.2.2.2.2.2.2.2.2.2.2.2.2.2.2.2.2.2.2.2.2.2.2.2.2.2.1, u.2.2.2.2.2.2.2.2.2.2.2.2.2.2.2.2.2.2.2.2.2.2.2.2.2.2.2.2.2.1, u.2.2.2.2.2.2.2.2.2.2.2.2.2.2.2.2.2.2.2.2.2.2.2.2.2.2.2.2.2.2.1, x)
def mk_3 (u v : St1) : St3 := (u.1, u.2.1, u.2.2.1, u.2.2.2.1, u.2.2.2.2.1, u.2.2.2.2.2.1, u.2.2.2.2.2.2.1, u.2.2.2.2.2.2.2.1, u.2.2.2.2.2.2.2.2.1, u.2.2.2.2.2.2.2.2.2.1, u.2.2.2.2.2.2.2.2.2.2.1, u.2.2.2.2.2.2.2.2.2.2.2.1, u.2.2.2.2.2.2.2.2.2.2.2.2.1, u.2.2.2.2.2.2.2.2.2.2.2.2.2.1, u.2.2.2.2.2.2.2.2.2.2.2.2.2.2.1, u.2.2.2.2.2.2.2.2.2.2.2.2.2.2.2.1, u.2.2.2.2.2.2.2.2.2.2.2.2.2.2.2.2.1, u.2.2.2.2.2.2.2.2.2.2.2.2.2.2.2.2.2.1, u.2.2.2.2.2.2.2.2.2.2.2.2.2.2.2.2.2.2.1, u.2.2.2.2.2.2.2.2.2.2.2.2.2.2.2.2.2.2.2.1, u.2.2.2.2.2.2.2.2.2.2.2.2.2.2.2.2.2.2.2.2.1, u.2.2.2.2.2.2.2.2.2.2.2.2.2.2.2.2.2.2.2.2.2.1, u.2.2.2.2.2.2.2.2.2.2.2.2.2.2.2.2.2.2.2.2.2.2.1, u.2.2.2.2.2.2.2.2.2.2.2.2.2.2.2.2.2.2.2.2.2.2.2.1, u.2.2.2.2.2.2.2.2.2.2.2.2.2.2.2.2.2.2.2.2.2.2.2.2.1, u.2.2.2.2.2.2.2.2.2.2.2.2.2.2.2.2.2.2.2.2.2.2.2.2.2.1, u.2.2.2.2.2.2.2.2.2.2.2.2.2.2.2.2.2.2.2.2.2.2.2.2.2.2.1, u.2.2.2.2.2.2.2.2.2.2.2.2.2.2.2.2.2.2.2.2.2.2.2.2.2.2.2.1, u.2.2.2.2.2.2.2.2.2.2.2.2.2.2.2.2.2.2.2.2.2.2.2.2.2.2.2.2.1, u.2.2.2.2.2.2.2.2.2.2.2.2.2.2.2.2.2.2.2.2.2.2.2.2.2.2.2.2.2.1, u.2.2.2.2.2.2.2.2.2.2.2.2.2.2.2.2.2.2.2.2.2.2.2.2.2.2.2.2.2.2.1, u.2.2.2.2.2.2.2.2.2.2.2.2.2.2.2.2.2.2.2.2.2.2.2.2.2.2.2.2.2.2.2, v)
def kw_blank_36 (post : Int32 → St1 → Prop) (x1 : Int32) (x2 : Int32) (n : Nat) (x3 : Int32) (u : St1) : Prop := wX_blank_36 post x1 x2 (gt_w u) (gt_h u) (gt_aw u) (gt_ah u) (gt_fw u) (gt_fh u) (gt_col u) (gt_oc u) (gt_lim u) (gt_low u) (gt_rng u) (gt_code u) (gt_held u) (gt_wait u) (gt_src u) (gt_end u) (gt_crc u) n x3 (gt_hand u) (gt_aside u) (gt_first u) (gt_by u) (gt_used u) (gt_tb u) (gt_pw u) (gt_ph u) (gt_ps u) (gt_num u) (gt_lg u) (gt_sm u) (gt_clr u) (gt_ch u) (gt_out u)
theorem ks_blank_36 {post : Int32 → St1 → Prop} {x1 : Int32} {x2 : Int32} {n : Nat} {x3 : Int32} {u : St1} (h : ((432 ≤ x3 → (post (x1 * x2) u)) ∧ (¬ 432 ≤ x3 → (vp_in x3 432 ∧ ∀ a1_7 : Nat → Int32, a1_7 = upd (gt_hand u) x3.toNatClampNeg 0 → (∀ x3_8 : Int32, x3_8 = x3 + 1 → (kw_blank_36 post x1 x2 n x3_8 (st_hand u a1_7))))))) : kw_blank_36 post x1 x2 (n + 1) x3 u := h
theorem ks_blank {post : Int32 → St1 → Prop} {u : St1} {p0 : Int32} {p1 : Int32} (h : ((p0 < 1 → (post (-1) u)) ∧ (¬ p0 < 1 → (((12 < p0 → (post (-1) u)) ∧ (¬ 12 < p0 → (((p1 < 1 → (post (-1) u)) ∧ (¬ p1 < 1 → (((p1 ≤ 12 → (∃ fu36 : Nat, kw_blank_36 post p0 p1 fu36 0 (st_h (st_w u p0) p1))) ∧ (¬ p1 ≤ 12 → (post (-1) u))))))))))))) : wpX_blank post u p0 p1 := h
theorem ks_isPlace {post : Int32 → Prop} {u : St1} {p0 : Int32} {p1 : Int32} (h : ((p0 < 0 → (post 0)) ∧ (¬ p0 < 0 → ((((gt_w u) ≤ p0 → (post 0)) ∧ (¬ (gt_w u) ≤ p0 → (((p1 < 0 → (post 0)) ∧ (¬ p1 < 0 → ((((gt_h u) ≤ p1 → (post 0)) ∧ (¬ (gt_h u) ≤ p1 → (post 1))))))))))))) : wpX_isPlace post u p0 p1 := h
theorem ks_colourAt {post : Int32 → Prop} {u : St1} {p0 : Int32} (h : vp_in p0 432 ∧ (vp_in (144 + p0) 432 ∧ (vp_in (288 + p0) 432 ∧ (post (((((gt_hand u) p0.toNatClampNeg) <<< ((16 : Int32) &&& 31)) ||| (((gt_hand u) (144 + p0).toNatClampNeg) <<< ((8 : Int32) &&& 31))) ||| ((gt_hand u) (288 + p0).toNatClampNeg)))))) : wpX_colourAt post u p0 := h
theorem ks_setColour {post : St1 → Prop} {u : St1} {p0 : Int32} {p1 : Int32} (h : vp_in p0 432 ∧ ∀ a1_2 : Nat → Int32, a1_2 = upd (gt_hand u) p0.toNatClampNeg ((p1 >>> ((16 : Int32) &&& 31)) &&& 255) → (vp_in (144 + p0) 432 ∧ ∀ a1_4 : Nat → Int32, a1_4 = upd a1_2 (144 + p0).toNatClampNeg ((p1 >>> ((8 : Int32) &&& 31)) &&& 255) → (vp_in (288 + p0) 432 ∧ ∀ a1_6 : Nat → Int32, a1_6 = upd a1_4 (288 + p0).toNatClampNeg (p1 &&& 255) → (post (st_hand u a1_6))))) : wpX_setColour post u p0 p1 := h
theorem ks_set {post : Int32 → St1 → Prop} {u : St1} {p0 : Int32} {p1 : Int32} {p2 : Int32} (h : wpX_isPlace (fun r_1 => (((r_1 = 0 → (post (-1) u)) ∧ (¬ r_1 = 0 → (wpX_isColour (fun r_3 => (((r_3 = 0 → (post (-1) u)) ∧ (¬ r_3 = 0 → (∀ x4_5 : Int32, x4_5 = ((gt_w u) * p1) + p0 → (wpX_colourAt (fun r_6 => (wpX_setColour (fun u1 => (post r_6 u1)) u x4_5 p2)) u x4_5)))))) () p2))))) u p0 p1) : wpX_set post u p0 p1 p2 := h
def kw_paint_74 (post : Int32 → St1 → Prop) (J49 : Int32 → Int32 → St1 → Prop) (x2 : Int32) (x3 : Int32) (x4 : Int32) (x5 : Int32) (x7 : Int32) (n : Nat) (x6 : Int32) (x8 : Int32) (u : St1) : Prop := wX_paint_74 post (fun y1 y2 y3 y4 y5 y6 y7 y8 y9 y10 y11 y12 y13 y14 y15 y16 y17 y18 y19 y20 y21 y22 y23 y24 y25 y26 y27 y28 y29 y30 y31 y32 y33 y34 => J49 y1 y2 (y3, y4, y5, y6, y7, y8, y9, y10, y11, y12, y13, y14, y15, y16, y17, y18, y19, y20, y21, y22, y23, y24, y25, y26, y27, y28, y29, y30, y31, y32, y33, y34)) x2 x3 x4 x5 x7 n x6 x8 (gt_w u) (gt_h u) (gt_aw u) (gt_ah u) (gt_fw u) (gt_fh u) (gt_col u) (gt_oc u) (gt_lim u) (gt_low u) (gt_rng u) (gt_code u) (gt_held u) (gt_wait u) (gt_src u) (gt_end u) (gt_crc u) (gt_hand u) (gt_aside u) (gt_first u) (gt_by u) (gt_used u) (gt_tb u) (gt_pw u) (gt_ph u) (gt_ps u) (gt_num u) (gt_lg u) (gt_sm u) (gt_clr u) (gt_ch u) (gt_out u)
theorem ks_paint_74 {post : Int32 → St1 → Prop} {J49 : Int32 → Int32 → St1 → Prop} {x2 : Int32} {x3 : Int32} {x4 : Int32} {x5 : Int32} {x7 : Int32} {n : Nat} {x6 : Int32} {x8 : Int32} {u : St1} (h : (((x4 + (x2 >>> ((4 : Int32) &&& 31))) ≤ x8 → (∀ x7_12 : Int32, x7_12 = x7 + 1 → (J49 x6 x7_12 u))) ∧ (¬ (x4 + (x2 >>> ((4 : Int32) &&& 31))) ≤ x8 → ((((gt_w u) ≤ x8 → (∀ x7_14 : Int32, x7_14 = x7 + 1 → (J49 x6 x7_14 u))) ∧ (¬ (gt_w u) ≤ x8 → (wpX_setColour (fun u1 => (∀ x6_78 : Int32, x6_78 = x6 + 1 → (∀ x8_79 : Int32, x8_79 = x8 + 1 → (kw_paint_74 post J49 x2 x3 x4 x5 x7 n x6_78 x8_79 u1)))) u (((gt_w u) * x7) + x8) x3))))))) : kw_paint_74 post J49 x2 x3 x4 x5 x7 (n + 1) x6 x8 u := h
def kw_paint_49 (post : Int32 → St1 → Prop) (x2 : Int32) (x3 : Int32) (x4 : Int32) (x5 : Int32) (n : Nat) (x6 : Int32) (x7 : Int32) (u : St1) : Prop := wX_paint_49 post x2 x3 x4 x5 n x6 x7 (gt_w u) (gt_h u) (gt_aw u) (gt_ah u) (gt_fw u) (gt_fh u) (gt_col u) (gt_oc u) (gt_lim u) (gt_low u) (gt_rng u) (gt_code u) (gt_held u) (gt_wait u) (gt_src u) (gt_end u) (gt_crc u) (gt_hand u) (gt_aside u) (gt_first u) (gt_by u) (gt_used u) (gt_tb u) (gt_pw u) (gt_ph u) (gt_ps u) (gt_num u) (gt_lg u) (gt_sm u) (gt_clr u) (gt_ch u) (gt_out u)
theorem ks_paint_49 {post : Int32 → St1 → Prop} {x2 : Int32} {x3 : Int32} {x4 : Int32} {x5 : Int32} {n : Nat} {x6 : Int32} {x7 : Int32} {u : St1} (h : (((x5 + (x2 &&& 15)) ≤ x7 → (post x6 u)) ∧ (¬ (x5 + (x2 &&& 15)) ≤ x7 → ((((gt_h u) ≤ x7 → (post x6 u)) ∧ (¬ (gt_h u) ≤ x7 → (∃ fu74 : Nat, kw_paint_74 post ((kw_paint_49 post x2 x3 x4 x5 n)) x2 x3 x4 x5 x7 fu74 x6 x4 u))))))) : kw_paint_49 post x2 x3 x4 x5 (n + 1) x6 x7 u := h
theorem ks_paint {post : Int32 → St1 → Prop} {u : St1} {p0 : Int32} {p1 : Int32} {p2 : Int32} (h : ((p0 < 0 → (post (-1) u)) ∧ (¬ p0 < 0 → (((255 < p0 → (post (-1) u)) ∧ (¬ 255 < p0 → (((p1 < 0 → (post (-1) u)) ∧ (¬ p1 < 0 → (((255 < p1 → (post (-1) u)) ∧ (¬ 255 < p1 → (wpX_isColour (fun r_5 => (((r_5 = 0 → (post (-1) u)) ∧ (¬ r_5 = 0 → (∀ x4_7 : Int32, x4_7 = p0 >>> ((4 : Int32) &&& 31) → (∀ x5_8 : Int32, x5_8 = p0 &&& 15 → (∃ fu49 : Nat, kw_paint_49 post p1 p2 x4_7 x5_8 fu49 0 x5_8 u))))))) () p2))))))))))))) : wpX_paint post u p0 p1 p2 := h
def kw_pattern_145 (post : Int32 → St1 → Prop) (J17 : Int32 → Int32 → St1 → Prop) (x1 : Int32) (x2 : Int32) (x3 : Int32) (x4 : Int32) (x5 : Int32) (z0 : Int32) (z1 : Int32) (u : St1) : Prop := wX_pattern_145 post (fun y1 y2 y3 y4 y5 y6 y7 y8 y9 y10 y11 y12 y13 y14 y15 y16 y17 y18 y19 y20 y21 y22 y23 y24 y25 y26 y27 y28 y29 y30 y31 y32 y33 y34 => J17 y1 y2 (y3, y4, y5, y6, y7, y8, y9, y10, y11, y12, y13, y14, y15, y16, y17, y18, y19, y20, y21, y22, y23, y24, y25, y26, y27, y28, y29, y30, y31, y32, y33, y34)) x1 x2 x3 x4 x5 z0 z1 (gt_w u) (gt_h u) (gt_aw u) (gt_ah u) (gt_fw u) (gt_fh u) (gt_col u) (gt_oc u) (gt_lim u) (gt_low u) (gt_rng u) (gt_code u) (gt_held u) (gt_wait u) (gt_src u) (gt_end u) (gt_crc u) (gt_hand u) (gt_aside u) (gt_first u) (gt_by u) (gt_used u) (gt_tb u) (gt_pw u) (gt_ph u) (gt_ps u) (gt_num u) (gt_lg u) (gt_sm u) (gt_clr u) (gt_ch u) (gt_out u)
theorem ks_pattern_145 {post : Int32 → St1 → Prop} {J17 : Int32 → Int32 → St1 → Prop} {x1 : Int32} {x2 : Int32} {x3 : Int32} {x4 : Int32} {x5 : Int32} {z0 : Int32} {z1 : Int32} {u : St1} (h : ∀ x8_13 : Int32, x8_13 = z1 ^^^ z0 → (wpX_setColour (fun u1 => (∀ x5_77 : Int32, x5_77 = x5 + 1 → (J17 x4 x5_77 u1))) u x5 x8_13)) : kw_pattern_145 post J17 x1 x2 x3 x4 x5 z0 z1 u := h
def kw_pattern_126 (post : Int32 → St1 → Prop) (J17 : Int32 → Int32 → St1 → Prop) (x1 : Int32) (x2 : Int32) (x3 : Int32) (x4 : Int32) (x5 : Int32) (z0 : Int32) (u : St1) : Prop := wX_pattern_126 post (fun y1 y2 y3 y4 y5 y6 y7 y8 y9 y10 y11 y12 y13 y14 y15 y16 y17 y18 y19 y20 y21 y22 y23 y24 y25 y26 y27 y28 y29 y30 y31 y32 y33 y34 => J17 y1 y2 (y3, y4, y5, y6, y7, y8, y9, y10, y11, y12, y13, y14, y15, y16, y17, y18, y19, y20, y21, y22, y23, y24, y25, y26, y27, y28, y29, y30, y31, y32, y33, y34)) x1 x2 x3 x4 x5 z0 (gt_w u) (gt_h u) (gt_aw u) (gt_ah u) (gt_fw u) (gt_fh u) (gt_col u) (gt_oc u) (gt_lim u) (gt_low u) (gt_rng u) (gt_code u) (gt_held u) (gt_wait u) (gt_src u) (gt_end u) (gt_crc u) (gt_hand u) (gt_aside u) (gt_first u) (gt_by u) (gt_used u) (gt_tb u) (gt_pw u) (gt_ph u) (gt_ps u) (gt_num u) (gt_lg u) (gt_sm u) (gt_clr u) (gt_ch u) (gt_out u)
theorem ks_pattern_126 {post : Int32 → St1 → Prop} {J17 : Int32 → Int32 → St1 → Prop} {x1 : Int32} {x2 : Int32} {x3 : Int32} {x4 : Int32} {x5 : Int32} {z0 : Int32} {u : St1} (h : ((x1 = 3 → (wpX_colourAt (fun r_78 => (kw_pattern_145 post J17 x1 x2 x3 x4 x5 r_78 z0 u)) u x5)) ∧ (¬ x1 = 3 → (kw_pattern_145 post J17 x1 x2 x3 x4 x5 0 z0 u)))) : kw_pattern_126 post J17 x1 x2 x3 x4 x5 z0 u := h
def kw_pattern_17 (post : Int32 → St1 → Prop) (x1 : Int32) (x2 : Int32) (x3 : Int32) (n : Nat) (x4 : Int32) (x5 : Int32) (u : St1) : Prop := wX_pattern_17 post x1 x2 x3 n x4 x5 (gt_w u) (gt_h u) (gt_aw u) (gt_ah u) (gt_fw u) (gt_fh u) (gt_col u) (gt_oc u) (gt_lim u) (gt_low u) (gt_rng u) (gt_code u) (gt_held u) (gt_wait u) (gt_src u) (gt_end u) (gt_crc u) (gt_hand u) (gt_aside u) (gt_first u) (gt_by u) (gt_used u) (gt_tb u) (gt_pw u) (gt_ph u) (gt_ps u) (gt_num u) (gt_lg u) (gt_sm u) (gt_clr u) (gt_ch u) (gt_out u)
theorem ks_pattern_17 {post : Int32 → St1 → Prop} {x1 : Int32} {x2 : Int32} {x3 : Int32} {n : Nat} {x4 : Int32} {x5 : Int32} {u : St1} (h : ((((gt_w u) * (gt_h u)) ≤ x5 → (post ((gt_w u) * (gt_h u)) u)) ∧ (¬ ((gt_w u) * (gt_h u)) ≤ x5 → (¬ (gt_w u) = 0 ∧ (∀ x6_5 : Int32, x6_5 = x5 - x5 / (gt_w u) * (gt_w u) → (¬ (gt_w u) = 0 ∧ (∀ x7_7 : Int32, x7_7 = x5 / (gt_w u) → (∀ x4_8 : Int32, x4_8 = (x4 * 1103515245) + 12345 → (((x1 = 1 → (wpX_even (fun r_80 => (kw_pattern_126 post ((kw_pattern_17 post x1 x2 x3 n)) x1 x2 x3 x4_8 x5 r_80 u)) () (x2 + (x3 * (x6_5 ^^^ x7_7))))) ∧ (¬ x1 = 1 → (((x1 = 2 → (wpX_mixed (fun r_79 => (kw_pattern_126 post ((kw_pattern_17 post x1 x2 x3 n)) x1 x2 x3 x4_8 x5 r_79 u)) () ((x4_8.toUInt32 >>> ((8 : Int32).toUInt32 &&& Int32.toUInt32 31)).toInt32) ((x4_8.toUInt32 >>> ((16 : Int32).toUInt32 &&& Int32.toUInt32 31)).toInt32) x3)) ∧ (¬ x1 = 2 → (wpX_mixed (fun r_11 => (kw_pattern_126 post ((kw_pattern_17 post x1 x2 x3 n)) x1 x2 x3 x4_8 x5 r_11 u)) () (x2 + (x3 * x6_5)) (x2 + (x3 * x7_7)) (x2 + ((x3 * x6_5) * x7_7))))))))))))))))) : kw_pattern_17 post x1 x2 x3 (n + 1) x4 x5 u := h
theorem ks_pattern {post : Int32 → St1 → Prop} {u : St1} {p0 : Int32} {p1 : Int32} {p2 : Int32} (h : ((p0 < 0 → (post (-1) u)) ∧ (¬ p0 < 0 → (((p0 ≤ 3 → (∃ fu17 : Nat, kw_pattern_17 post p0 p1 p2 fu17 p1 0 u)) ∧ (¬ p0 ≤ 3 → (post (-1) u))))))) : wpX_pattern post u p0 p1 p2 := h
def kw_make_36 (post : St1 → Prop) (L : Nat) (xs : Nat → Int32) (n : Nat) (x3 : Int32) (u : St1) : Prop := wL_make_36 post L xs n x3 (gt_w u) (gt_h u) (gt_aw u) (gt_ah u) (gt_fw u) (gt_fh u) (gt_col u) (gt_oc u) (gt_lim u) (gt_low u) (gt_rng u) (gt_code u) (gt_held u) (gt_wait u) (gt_src u) (gt_end u) (gt_crc u) (gt_hand u) (gt_aside u) (gt_first u) (gt_by u) (gt_used u) (gt_tb u) (gt_pw u) (gt_ph u) (gt_ps u) (gt_num u) (gt_lg u) (gt_sm u) (gt_clr u) (gt_ch u) (gt_out u)
theorem ks_make_36 {post : St1 → Prop} {L : Nat} {xs : Nat → Int32} {n : Nat} {x3 : Int32} {u : St1} (h : (((Int32.ofNat L) ≤ (x3 + 1) → (post u)) ∧ (¬ (Int32.ofNat L) ≤ (x3 + 1) → (((20 ≤ x3 → (post u)) ∧ (¬ 20 ≤ x3 → (vp_in x3 L ∧ (∀ x4_70 : Int32, x4_70 = (xs x3.toNatClampNeg) &&& 7 → (((4 ≤ x4_70 → (((6 ≤ x4_70 → (vp_in x3 L ∧ (vp_in x3 L ∧ (vp_in (x3 + 1) L ∧ (wpX_set (fun r_76 u1 => (∀ x3_139 : Int32, x3_139 = x3 + 2 → (kw_make_36 post L xs n x3_139 u1))) u (((xs x3.toNatClampNeg) >>> ((3 : Int32) &&& 31)) &&& 7) (((xs x3.toNatClampNeg) >>> ((6 : Int32) &&& 31)) &&& 7) ((xs (x3 + 1).toNatClampNeg) &&& 16777215)))))) ∧ (¬ 6 ≤ x4_70 → (vp_in x3 L ∧ (vp_in x3 L ∧ (vp_in (x3 + 1) L ∧ (wpX_paint (fun r_143 u2 => (∀ x3_206 : Int32, x3_206 = x3 + 2 → (kw_make_36 post L xs n x3_206 u2))) u (((xs x3.toNatClampNeg) >>> ((3 : Int32) &&& 31)) &&& 187) (((xs x3.toNatClampNeg) >>> ((11 : Int32) &&& 31)) &&& 255) ((xs (x3 + 1).toNatClampNeg) &&& 16777215))))))))) ∧ (¬ 4 ≤ x4_70 → (vp_in (x3 + 1) L ∧ (vp_in x3 L ∧ (wpX_pattern (fun r_209 u3 => (∀ x3_272 : Int32, x3_272 = x3 + 2 → (kw_make_36 post L xs n x3_272 u3))) u x4_70 (xs (x3 + 1).toNatClampNeg) ((xs x3.toNatClampNeg) >>> ((3 : Int32) &&& 31)))))))))))))))) : kw_make_36 post L xs (n + 1) x3 u := h
theorem ks_make {post : St1 → Prop} {L : Nat} {xs : Nat → Int32} {u : St1} (h : wpL_cell (fun r_1 => (¬ (12 : Int32) = 0 ∧ (¬ (12 : Int32) = 0 ∧ (wpX_blank (fun r_4 u1 => (∃ fu36 : Nat, kw_make_36 post L xs fu36 1 u1)) u (1 + ((r_1 &&& 255) - (r_1 &&& 255) / 12 * 12)) (1 + (((r_1 >>> ((8 : Int32) &&& 31)) &&& 255) - ((r_1 >>> ((8 : Int32) &&& 31)) &&& 255) / 12 * 12)))))) L xs () 0) : wpL_make post L xs u := h
def kw_packRaw_21 (post : St1 → Prop) (J5 : Int32 → Int32 → St1 → Prop) (x1 : Int32) (x3 : Int32) (n : Nat) (x2 : Int32) (x4 : Int32) (u : St1) : Prop := wX_packRaw_21 post (fun y1 y2 y3 y4 y5 y6 y7 y8 y9 y10 y11 y12 y13 y14 y15 y16 y17 => J5 y1 y2 (gt_w u, gt_h u, gt_aw u, gt_ah u, gt_fw u, gt_fh u, gt_col u, gt_oc u, gt_lim u, gt_low u, gt_rng u, gt_code u, gt_held u, gt_wait u, gt_src u, gt_end u, gt_crc u, y3, y4, y5, y6, y7, y8, y9, y10, y11, y12, y13, y14, y15, y16, y17)) x1 x3 (gt_w u) (gt_h u) (gt_aw u) (gt_ah u) (gt_fw u) (gt_fh u) (gt_col u) (gt_oc u) (gt_lim u) (gt_low u) (gt_rng u) (gt_code u) (gt_held u) (gt_wait u) (gt_src u) (gt_end u) (gt_crc u) n x2 x4 (gt_hand u) (gt_aside u) (gt_first u) (gt_by u) (gt_used u) (gt_tb u) (gt_pw u) (gt_ph u) (gt_ps u) (gt_num u) (gt_lg u) (gt_sm u) (gt_clr u) (gt_ch u) (gt_out u)
theorem ks_packRaw_21 {post : St1 → Prop} {J5 : Int32 → Int32 → St1 → Prop} {x1 : Int32} {x3 : Int32} {n : Nat} {x2 : Int32} {x4 : Int32} {u : St1} (h : ((3 ≤ x4 → (∀ x3_7 : Int32, x3_7 = x3 + 1 → (J5 x2 x3_7 u))) ∧ (¬ 3 ≤ x4 → (vp_in ((144 * x4) + x3) 432 ∧ (vp_in ((512 * x1) + x2) 2048 ∧ ∀ a4_10 : Nat → Int32, a4_10 = upd (gt_by u) ((512 * x1) + x2).toNatClampNeg ((gt_hand u) ((144 * x4) + x3).toNatClampNeg) → (∀ x2_11 : Int32, x2_11 = x2 + 1 → (∀ x4_12 : Int32, x4_12 = x4 + 1 → (kw_packRaw_21 post J5 x1 x3 n x2_11 x4_12 (st_by u a4_10))))))))) : kw_packRaw_21 post J5 x1 x3 (n + 1) x2 x4 u := h
def kw_packRaw_5 (post : St1 → Prop) (x1 : Int32) (n : Nat) (x2 : Int32) (x3 : Int32) (u : St1) : Prop := wX_packRaw_5 post x1 (gt_w u) (gt_h u) (gt_aw u) (gt_ah u) (gt_fw u) (gt_fh u) (gt_col u) (gt_oc u) (gt_lim u) (gt_low u) (gt_rng u) (gt_code u) (gt_held u) (gt_wait u) (gt_src u) (gt_end u) (gt_crc u) n x2 x3 (gt_hand u) (gt_aside u) (gt_first u) (gt_by u) (gt_used u) (gt_tb u) (gt_pw u) (gt_ph u) (gt_ps u) (gt_num u) (gt_lg u) (gt_sm u) (gt_clr u) (gt_ch u) (gt_out u)
theorem ks_packRaw_5 {post : St1 → Prop} {x1 : Int32} {n : Nat} {x2 : Int32} {x3 : Int32} {u : St1} (h : ((((gt_w u) * (gt_h u)) ≤ x3 → (vp_in x1 4 ∧ ∀ a5_3 : Nat → Int32, a5_3 = upd (gt_used u) x1.toNatClampNeg x2 → (vp_in ((512 * x1) + 1) 2048 ∧ ∀ a4_5 : Nat → Int32, a4_5 = upd (gt_by u) ((512 * x1) + 1).toNatClampNeg 0 → (post (st_used (st_by u a4_5) a5_3))))) ∧ (¬ ((gt_w u) * (gt_h u)) ≤ x3 → (∃ fu21 : Nat, kw_packRaw_21 post ((kw_packRaw_5 post x1 n)) x1 x3 fu21 x2 0 u)))) : kw_packRaw_5 post x1 (n + 1) x2 x3 u := h
theorem ks_packRaw {post : St1 → Prop} {u : St1} {p0 : Int32} (h : ∃ fu5 : Nat, kw_packRaw_5 post p0 fu5 6 0 u) : wpX_packRaw post u p0 := h
def kw_feed_12 (post : St1 → Prop) (n : Nat) (x2 : Int32) (u : St1) : Prop := wX_feed_12 post (gt_w u) (gt_h u) (gt_aw u) (gt_ah u) (gt_fw u) (gt_fh u) (gt_col u) (gt_oc u) (gt_lim u) (gt_low u) (gt_rng u) (gt_code u) (gt_held u) (gt_wait u) (gt_src u) (gt_end u) (gt_hand u) (gt_aside u) (gt_first u) (gt_by u) (gt_used u) (gt_tb u) (gt_pw u) (gt_ph u) (gt_ps u) (gt_num u) (gt_lg u) (gt_sm u) (gt_clr u) (gt_ch u) (gt_out u) n x2 (gt_crc u)
theorem ks_feed_12 {post : St1 → Prop} {n : Nat} {x2 : Int32} {u : St1} (h : ((8 ≤ x2 → (post u)) ∧ (¬ 8 ≤ x2 → (((((gt_crc u) &&& 1) = 1 → (∀ f_6 : Int32, f_6 = (((gt_crc u).toUInt32 >>> ((1 : Int32).toUInt32 &&& Int32.toUInt32 31)).toInt32) ^^^ (-306674912) → (∀ x2_7 : Int32, x2_7 = x2 + 1 → (kw_feed_12 post n x2_7 (st_crc u f_6))))) ∧ (¬ ((gt_crc u) &&& 1) = 1 → (∀ f_4 : Int32, f_4 = (((gt_crc u).toUInt32 >>> ((1 : Int32).toUInt32 &&& Int32.toUInt32 31)).toInt32) ^^^ 0 → (∀ x2_5 : Int32, x2_5 = x2 + 1 → (kw_feed_12 post n x2_5 (st_crc u f_4)))))))))) : kw_feed_12 post (n + 1) x2 u := h
theorem ks_feed {post : St1 → Prop} {u : St1} {p0 : Int32} (h : ∀ f_1 : Int32, f_1 = (gt_crc u) ^^^ p0 → (∃ fu12 : Nat, kw_feed_12 post fu12 0 (st_crc u f_1))) : wpX_feed post u p0 := h
def kw_checkOf_28 (post : Int32 → St1 → Prop) (J7 : Int32 → St1 → Prop) (x1 : Int32) (x2 : Int32) (u : St1) : Prop := wX_checkOf_28 post (fun y1 y2 y3 y4 y5 y6 y7 y8 y9 y10 y11 y12 y13 y14 y15 y16 y17 y18 y19 y20 y21 y22 y23 y24 y25 y26 y27 y28 y29 y30 y31 y32 y33 => J7 y1 (y2, y3, y4, y5, y6, y7, y8, y9, y10, y11, y12, y13, y14, y15, y16, y17, y18, y19, y20, y21, y22, y23, y24, y25, y26, y27, y28, y29, y30, y31, y32, y33)) x1 x2 (gt_w u) (gt_h u) (gt_aw u) (gt_ah u) (gt_fw u) (gt_fh u) (gt_col u) (gt_oc u) (gt_lim u) (gt_low u) (gt_rng u) (gt_code u) (gt_held u) (gt_wait u) (gt_src u) (gt_end u) (gt_crc u) (gt_hand u) (gt_aside u) (gt_first u) (gt_by u) (gt_used u) (gt_tb u) (gt_pw u) (gt_ph u) (gt_ps u) (gt_num u) (gt_lg u) (gt_sm u) (gt_clr u) (gt_ch u) (gt_out u)
theorem ks_checkOf_28 {post : Int32 → St1 → Prop} {J7 : Int32 → St1 → Prop} {x1 : Int32} {x2 : Int32} {u : St1} (h : vp_in ((512 * x1) + x2) 2048 ∧ (wpX_feed (fun u1 => (∀ x2_68 : Int32, x2_68 = x2 + 1 → (J7 x2_68 u1))) u ((gt_by u) ((512 * x1) + x2).toNatClampNeg))) : kw_checkOf_28 post J7 x1 x2 u := h
def kw_checkOf_7 (post : Int32 → St1 → Prop) (x1 : Int32) (n : Nat) (x2 : Int32) (u : St1) : Prop := wX_checkOf_7 post x1 n x2 (gt_w u) (gt_h u) (gt_aw u) (gt_ah u) (gt_fw u) (gt_fh u) (gt_col u) (gt_oc u) (gt_lim u) (gt_low u) (gt_rng u) (gt_code u) (gt_held u) (gt_wait u) (gt_src u) (gt_end u) (gt_crc u) (gt_hand u) (gt_aside u) (gt_first u) (gt_by u) (gt_used u) (gt_tb u) (gt_pw u) (gt_ph u) (gt_ps u) (gt_num u) (gt_lg u) (gt_sm u) (gt_clr u) (gt_ch u) (gt_out u)
theorem ks_checkOf_7 {post : Int32 → St1 → Prop} {x1 : Int32} {n : Nat} {x2 : Int32} {u : St1} (h : vp_in x1 4 ∧ (((((gt_used u) x1.toNatClampNeg) ≤ x2 → (post ((gt_crc u) ^^^ (-1)) u)) ∧ (¬ ((gt_used u) x1.toNatClampNeg) ≤ x2 → (((x2 < 2 → (kw_checkOf_28 post ((kw_checkOf_7 post x1 n)) x1 x2 u)) ∧ (¬ x2 < 2 → (((x2 < 6 → (∀ x2_70 : Int32, x2_70 = x2 + 1 → (kw_checkOf_7 post x1 n x2_70 u))) ∧ (¬ x2 < 6 → (kw_checkOf_28 post ((kw_checkOf_7 post x1 n)) x1 x2 u))))))))))) : kw_checkOf_7 post x1 (n + 1) x2 u := h
theorem ks_checkOf {post : Int32 → St1 → Prop} {u : St1} {p0 : Int32} (h : ∃ fu7 : Nat, kw_checkOf_7 post p0 fu7 0 (st_crc u (-1))) : wpX_checkOf post u p0 := h
def kw_indexOf_2 (post : Int32 → Prop) (x1 : Int32) (n : Nat) (x2 : Int32) (u : St1) : Prop := wX_indexOf_2 post x1 (gt_w u) (gt_h u) (gt_aw u) (gt_ah u) (gt_fw u) (gt_fh u) (gt_col u) (gt_oc u) (gt_lim u) (gt_low u) (gt_rng u) (gt_code u) (gt_held u) (gt_wait u) (gt_src u) (gt_end u) (gt_crc u) (gt_hand u) (gt_aside u) (gt_first u) (gt_by u) (gt_used u) (gt_tb u) (gt_pw u) (gt_ph u) (gt_ps u) (gt_num u) (gt_lg u) (gt_sm u) (gt_clr u) (gt_ch u) (gt_out u) n x2
theorem ks_indexOf_2 {post : Int32 → Prop} {x1 : Int32} {n : Nat} {x2 : Int32} {u : St1} (h : (((gt_col u) ≤ x2 → (post x2)) ∧ (¬ (gt_col u) ≤ x2 → (vp_in x2 16 ∧ (((x1 ≤ ((gt_clr u) x2.toNatClampNeg) → (post x2)) ∧ (¬ x1 ≤ ((gt_clr u) x2.toNatClampNeg) → (∀ x2_4 : Int32, x2_4 = x2 + 1 → (kw_indexOf_2 post x1 n x2_4 u))))))))) : kw_indexOf_2 post x1 (n + 1) x2 u := h
theorem ks_indexOf {post : Int32 → Prop} {u : St1} {p0 : Int32} (h : ∃ fu2 : Nat, kw_indexOf_2 post p0 fu2 0 u) : wpX_indexOf post u p0 := h
def kw_insertColour_5 (post : St1 → Prop) (x1 : Int32) (x2 : Int32) (n : Nat) (x3 : Int32) (u : St1) : Prop := wX_insertColour_5 post x1 x2 (gt_w u) (gt_h u) (gt_aw u) (gt_ah u) (gt_fw u) (gt_fh u) (gt_col u) (gt_oc u) (gt_lim u) (gt_low u) (gt_rng u) (gt_code u) (gt_held u) (gt_wait u) (gt_src u) (gt_end u) (gt_crc u) n x3 (gt_hand u) (gt_aside u) (gt_first u) (gt_by u) (gt_used u) (gt_tb u) (gt_pw u) (gt_ph u) (gt_ps u) (gt_num u) (gt_lg u) (gt_sm u) (gt_clr u) (gt_ch u) (gt_out u)
theorem ks_insertColour_5 {post : St1 → Prop} {x1 : Int32} {x2 : Int32} {n : Nat} {x3 : Int32} {u : St1} (h : ((x3 ≤ x1 → (vp_in x1 16 ∧ ∀ a13_3 : Nat → Int32, a13_3 = upd (gt_clr u) x1.toNatClampNeg x2 → (∀ f_4 : Int32, f_4 = (gt_col u) + 1 → (post (st_clr (st_col u f_4) a13_3))))) ∧ (¬ x3 ≤ x1 → (vp_in (x3 - 1) 16 ∧ (vp_in x3 16 ∧ ∀ a13_7 : Nat → Int32, a13_7 = upd (gt_clr u) x3.toNatClampNeg ((gt_clr u) (x3 - 1).toNatClampNeg) → (∀ x3_8 : Int32, x3_8 = x3 + (-1) → (kw_insertColour_5 post x1 x2 n x3_8 (st_clr u a13_7)))))))) : kw_insertColour_5 post x1 x2 (n + 1) x3 u := h
theorem ks_insertColour {post : St1 → Prop} {u : St1} {p0 : Int32} {p1 : Int32} (h : ∃ fu5 : Nat, kw_insertColour_5 post p0 p1 fu5 (gt_col u) u) : wpX_insertColour post u p0 p1 := h
def kw_collect_50 (post : Int32 → St1 → Prop) (J7 : Int32 → St1 → Prop) (x1 : Int32) (x2 : Int32) (x3 : Int32) (u : St1) : Prop := wX_collect_50 post (fun y1 y2 y3 y4 y5 y6 y7 y8 y9 y10 y11 y12 y13 y14 y15 y16 y17 y18 y19 y20 y21 y22 y23 y24 y25 y26 y27 y28 y29 y30 y31 y32 y33 => J7 y1 (y2, y3, y4, y5, y6, y7, y8, y9, y10, y11, y12, y13, y14, y15, y16, y17, y18, y19, y20, y21, y22, y23, y24, y25, y26, y27, y28, y29, y30, y31, y32, y33)) x1 x2 x3 (gt_w u) (gt_h u) (gt_aw u) (gt_ah u) (gt_fw u) (gt_fh u) (gt_col u) (gt_oc u) (gt_lim u) (gt_low u) (gt_rng u) (gt_code u) (gt_held u) (gt_wait u) (gt_src u) (gt_end u) (gt_crc u) (gt_hand u) (gt_aside u) (gt_first u) (gt_by u) (gt_used u) (gt_tb u) (gt_pw u) (gt_ph u) (gt_ps u) (gt_num u) (gt_lg u) (gt_sm u) (gt_clr u) (gt_ch u) (gt_out u)
theorem ks_collect_50 {post : Int32 → St1 → Prop} {J7 : Int32 → St1 → Prop} {x1 : Int32} {x2 : Int32} {x3 : Int32} {u : St1} (h : (((gt_col u) = 16 → (post 0 u)) ∧ (¬ (gt_col u) = 16 → (wpX_insertColour (fun u1 => (∀ x1_69 : Int32, x1_69 = x1 + 1 → (J7 x1_69 u1))) u x3 x2)))) : kw_collect_50 post J7 x1 x2 x3 u := h
def kw_collect_7 (post : Int32 → St1 → Prop) (n : Nat) (x1 : Int32) (u : St1) : Prop := wX_collect_7 post n x1 (gt_w u) (gt_h u) (gt_aw u) (gt_ah u) (gt_fw u) (gt_fh u) (gt_col u) (gt_oc u) (gt_lim u) (gt_low u) (gt_rng u) (gt_code u) (gt_held u) (gt_wait u) (gt_src u) (gt_end u) (gt_crc u) (gt_hand u) (gt_aside u) (gt_first u) (gt_by u) (gt_used u) (gt_tb u) (gt_pw u) (gt_ph u) (gt_ps u) (gt_num u) (gt_lg u) (gt_sm u) (gt_clr u) (gt_ch u) (gt_out u)
theorem ks_collect_7 {post : Int32 → St1 → Prop} {n : Nat} {x1 : Int32} {u : St1} (h : ((((gt_w u) * (gt_h u)) ≤ x1 → (post 1 u)) ∧ (¬ ((gt_w u) * (gt_h u)) ≤ x1 → (wpX_colourAt (fun r_2 => (wpX_indexOf (fun r_3 => (((r_3 = (gt_col u) → (kw_collect_50 post ((kw_collect_7 post n)) x1 r_2 r_3 u)) ∧ (¬ r_3 = (gt_col u) → (vp_in r_3 16 ∧ (((((gt_clr u) r_3.toNatClampNeg) = r_2 → (∀ x1_72 : Int32, x1_72 = x1 + 1 → (kw_collect_7 post n x1_72 u))) ∧ (¬ ((gt_clr u) r_3.toNatClampNeg) = r_2 → (kw_collect_50 post ((kw_collect_7 post n)) x1 r_2 r_3 u))))))))) u r_2)) u x1)))) : kw_collect_7 post (n + 1) x1 u := h
theorem ks_collect {post : Int32 → St1 → Prop} {u : St1} (h : ∃ fu7 : Nat, kw_collect_7 post fu7 0 (st_col u 0)) : wpX_collect post u := h
def kw_resetChances_2 (post : St1 → Prop) (n : Nat) (x1 : Int32) (u : St1) : Prop := wX_resetChances_2 post (gt_w u) (gt_h u) (gt_aw u) (gt_ah u) (gt_fw u) (gt_fh u) (gt_col u) (gt_oc u) (gt_lim u) (gt_low u) (gt_rng u) (gt_code u) (gt_held u) (gt_wait u) (gt_src u) (gt_end u) (gt_crc u) n x1 (gt_hand u) (gt_aside u) (gt_first u) (gt_by u) (gt_used u) (gt_tb u) (gt_pw u) (gt_ph u) (gt_ps u) (gt_num u) (gt_lg u) (gt_sm u) (gt_clr u) (gt_ch u) (gt_out u)
theorem ks_resetChances_2 {post : St1 → Prop} {n : Nat} {x1 : Int32} {u : St1} (h : ((428 ≤ x1 → (post u)) ∧ (¬ 428 ≤ x1 → (vp_in x1 428 ∧ ∀ a14_3 : Nat → Int32, a14_3 = upd (gt_ch u) x1.toNatClampNeg 1024 → (∀ x1_4 : Int32, x1_4 = x1 + 1 → (kw_resetChances_2 post n x1_4 (st_ch u a14_3))))))) : kw_resetChances_2 post (n + 1) x1 u := h
theorem ks_resetChances {post : St1 → Prop} {u : St1} (h : ∃ fu2 : Nat, kw_resetChances_2 post fu2 0 u) : wpX_resetChances post u := h
theorem ks_begin {post : St1 → Prop} {u : St1} (h : wpX_resetChances (fun u1 => (post u1)) (st_wait (st_held (st_rng (st_low (st_oc u 0) 0) 4294967295) 0) 1)) : wpX_begin post u := h
theorem ks_bring {post : St1 → Prop} {u : St1} {p0 : Int32} (h : ((640 ≤ (gt_oc u) → (post u)) ∧ (¬ 640 ≤ (gt_oc u) → (vp_in (gt_oc u) 640 ∧ ∀ a15_3 : Nat → Int32, a15_3 = upd (gt_out u) (gt_oc u).toNatClampNeg p0 → (∀ f_4 : Int32, f_4 = (gt_oc u) + 1 → (post (st_out (st_oc u f_4) a15_3))))))) : wpX_bring post u p0 := h
def kw_shift_88 (post : St1 → Prop) (u : St1) : Prop := wX_shift_88 post (gt_w u) (gt_h u) (gt_aw u) (gt_ah u) (gt_fw u) (gt_fh u) (gt_col u) (gt_oc u) (gt_lim u) (gt_low u) (gt_rng u) (gt_code u) (gt_held u) (gt_wait u) (gt_src u) (gt_end u) (gt_crc u) (gt_hand u) (gt_aside u) (gt_first u) (gt_by u) (gt_used u) (gt_tb u) (gt_pw u) (gt_ph u) (gt_ps u) (gt_num u) (gt_lg u) (gt_sm u) (gt_clr u) (gt_ch u) (gt_out u)
theorem ks_shift_88 {post : St1 → Prop} {u : St1} (h : ∀ f_5 : Int32, f_5 = (gt_wait u) + 1 → (∀ f_6 : Int64, f_6 = ((gt_low u) &&& 16777215) <<< ((8 : Int32).toInt64 &&& 63) → (post (st_wait (st_low u f_6) f_5)))) : kw_shift_88 post u := h
def kw_shift_31 (post : St1 → Prop) (x1 : Int32) (n : Nat) (u : St1) : Prop := wX_shift_31 post x1 n (gt_w u) (gt_h u) (gt_aw u) (gt_ah u) (gt_fw u) (gt_fh u) (gt_col u) (gt_oc u) (gt_lim u) (gt_low u) (gt_rng u) (gt_code u) (gt_held u) (gt_wait u) (gt_src u) (gt_end u) (gt_crc u) (gt_hand u) (gt_aside u) (gt_first u) (gt_by u) (gt_used u) (gt_tb u) (gt_pw u) (gt_ph u) (gt_ps u) (gt_num u) (gt_lg u) (gt_sm u) (gt_clr u) (gt_ch u) (gt_out u)
theorem ks_shift_31 {post : St1 → Prop} {x1 : Int32} {n : Nat} {u : St1} (h : (((gt_wait u) ≤ 0 → (∀ f_4 : Int32, f_4 = (((gt_low u) >>> ((24 : Int32).toInt64 &&& 63)).toInt32) &&& 255 → (kw_shift_88 post (st_held u f_4)))) ∧ (¬ (gt_wait u) ≤ 0 → (wpX_bring (fun u1 => (∀ f_70 : Int32, f_70 = (gt_wait u1) - 1 → (kw_shift_31 post x1 n (st_wait (st_held u1 255) f_70)))) u (((gt_held u) + x1) &&& 255))))) : kw_shift_31 post x1 (n + 1) u := h
theorem ks_shift {post : St1 → Prop} {u : St1} (h : (((gt_low u) < 4278190080 → (∀ x1_2 : Int32, x1_2 = ((gt_low u) >>> ((32 : Int32).toInt64 &&& 63)).toInt32 → (∃ fu31 : Nat, kw_shift_31 post x1_2 fu31 u))) ∧ (¬ (gt_low u) < 4278190080 → ((((gt_low u) < 4294967296 → (kw_shift_88 post u)) ∧ (¬ (gt_low u) < 4294967296 → (∀ x1_72 : Int32, x1_72 = ((gt_low u) >>> ((32 : Int32).toInt64 &&& 63)).toInt32 → (∃ fu31 : Nat, kw_shift_31 post x1_72 fu31 u)))))))) : wpX_shift post u := h
def kw_widen_0 (post : St1 → Prop) (n : Nat) (u : St1) : Prop := wX_widen_0 post n (gt_w u) (gt_h u) (gt_aw u) (gt_ah u) (gt_fw u) (gt_fh u) (gt_col u) (gt_oc u) (gt_lim u) (gt_low u) (gt_rng u) (gt_code u) (gt_held u) (gt_wait u) (gt_src u) (gt_end u) (gt_crc u) (gt_hand u) (gt_aside u) (gt_first u) (gt_by u) (gt_used u) (gt_tb u) (gt_pw u) (gt_ph u) (gt_ps u) (gt_num u) (gt_lg u) (gt_sm u) (gt_clr u) (gt_ch u) (gt_out u)
theorem ks_widen_0 {post : St1 → Prop} {n : Nat} {u : St1} (h : ((16777216 ≤ (gt_rng u) → (post u)) ∧ (¬ 16777216 ≤ (gt_rng u) → (∀ f_2 : Int64, f_2 = (gt_rng u) <<< ((8 : Int32).toInt64 &&& 63) → (wpX_shift (fun u1 => (kw_widen_0 post n u1)) (st_rng u f_2)))))) : kw_widen_0 post (n + 1) u := h
theorem ks_widen {post : St1 → Prop} {u : St1} (h : ∃ fu0 : Nat, kw_widen_0 post fu0 u) : wpX_widen post u := h
def kw_putPlain_40 (post : St1 → Prop) (J4 : Int32 → St1 → Prop) (x1 : Int32) (x3 : Int32) (z0 : Int64) (z1 : Int64) (u : St1) : Prop := wX_putPlain_40 post (fun y1 y2 y3 y4 y5 y6 y7 y8 y9 y10 y11 y12 y13 y14 y15 y16 y17 y18 y19 y20 y21 y22 y23 y24 y25 y26 y27 y28 y29 y30 y31 y32 y33 => J4 y1 (y2, y3, y4, y5, y6, y7, y8, y9, y10, y11, y12, y13, y14, y15, y16, y17, y18, y19, y20, y21, y22, y23, y24, y25, y26, y27, y28, y29, y30, y31, y32, y33)) x1 x3 z0 z1 (gt_w u) (gt_h u) (gt_aw u) (gt_ah u) (gt_fw u) (gt_fh u) (gt_col u) (gt_oc u) (gt_lim u) (gt_low u) (gt_rng u) (gt_code u) (gt_held u) (gt_wait u) (gt_src u) (gt_end u) (gt_crc u) (gt_hand u) (gt_aside u) (gt_first u) (gt_by u) (gt_used u) (gt_tb u) (gt_pw u) (gt_ph u) (gt_ps u) (gt_num u) (gt_lg u) (gt_sm u) (gt_clr u) (gt_ch u) (gt_out u)
theorem ks_putPlain_40 {post : St1 → Prop} {J4 : Int32 → St1 → Prop} {x1 : Int32} {x3 : Int32} {z0 : Int64} {z1 : Int64} {u : St1} (h : ∀ f_5 : Int64, f_5 = z1 + z0 → (wpX_widen (fun u1 => (∀ x3_69 : Int32, x3_69 = x3 + (-1) → (J4 x3_69 u1))) (st_low u f_5))) : kw_putPlain_40 post J4 x1 x3 z0 z1 u := h
def kw_putPlain_4 (post : St1 → Prop) (x1 : Int32) (n : Nat) (x3 : Int32) (u : St1) : Prop := wX_putPlain_4 post x1 n x3 (gt_w u) (gt_h u) (gt_aw u) (gt_ah u) (gt_fw u) (gt_fh u) (gt_col u) (gt_oc u) (gt_lim u) (gt_low u) (gt_rng u) (gt_code u) (gt_held u) (gt_wait u) (gt_src u) (gt_end u) (gt_crc u) (gt_hand u) (gt_aside u) (gt_first u) (gt_by u) (gt_used u) (gt_tb u) (gt_pw u) (gt_ph u) (gt_ps u) (gt_num u) (gt_lg u) (gt_sm u) (gt_clr u) (gt_ch u) (gt_out u)
theorem ks_putPlain_4 {post : St1 → Prop} {x1 : Int32} {n : Nat} {x3 : Int32} {u : St1} (h : ((x3 < 0 → (post u)) ∧ (¬ x3 < 0 → (∀ f_3 : Int64, f_3 = (gt_rng u) >>> ((1 : Int32).toInt64 &&& 63) → (((((x1 >>> (x3 &&& 31)) &&& 1) = 1 → (kw_putPlain_40 post ((kw_putPlain_4 post x1 n)) x1 x3 f_3 (gt_low u) (st_rng u f_3))) ∧ (¬ ((x1 >>> (x3 &&& 31)) &&& 1) = 1 → (kw_putPlain_40 post ((kw_putPlain_4 post x1 n)) x1 x3 0 (gt_low u) (st_rng u f_3))))))))) : kw_putPlain_4 post x1 (n + 1) x3 u := h
theorem ks_putPlain {post : St1 → Prop} {u : St1} {p0 : Int32} {p1 : Int32} (h : ∀ x3_1 : Int32, x3_1 = p1 - 1 → (∃ fu4 : Nat, kw_putPlain_4 post p0 fu4 x3_1 u)) : wpX_putPlain post u p0 p1 := h
theorem ks_learn {post : St1 → Prop} {u : St1} {p0 : Int32} {p1 : Int32} (h : vp_in p0 428 ∧ (∀ x3_2 : Int32, x3_2 = (gt_ch u) p0.toNatClampNeg → (((p1 = 0 → (vp_in p0 428 ∧ ∀ a14_7 : Nat → Int32, a14_7 = upd (gt_ch u) p0.toNatClampNeg (x3_2 + ((2048 - x3_2) >>> ((5 : Int32) &&& 31))) → (post (st_ch u a14_7)))) ∧ (¬ p1 = 0 → (vp_in p0 428 ∧ ∀ a14_5 : Nat → Int32, a14_5 = upd (gt_ch u) p0.toNatClampNeg (x3_2 - (x3_2 >>> ((5 : Int32) &&& 31))) → (post (st_ch u a14_5)))))))) : wpX_learn post u p0 p1 := h
def kw_putBit_48 (post : St1 → Prop) (x1 : Int32) (x2 : Int32) (u : St1) : Prop := wX_putBit_48 post x1 x2 (gt_w u) (gt_h u) (gt_aw u) (gt_ah u) (gt_fw u) (gt_fh u) (gt_col u) (gt_oc u) (gt_lim u) (gt_low u) (gt_rng u) (gt_code u) (gt_held u) (gt_wait u) (gt_src u) (gt_end u) (gt_crc u) (gt_hand u) (gt_aside u) (gt_first u) (gt_by u) (gt_used u) (gt_tb u) (gt_pw u) (gt_ph u) (gt_ps u) (gt_num u) (gt_lg u) (gt_sm u) (gt_clr u) (gt_ch u) (gt_out u)
theorem ks_putBit_48 {post : St1 → Prop} {x1 : Int32} {x2 : Int32} {u : St1} (h : wpX_learn (fun u1 => (wpX_widen (fun u2 => (post u2)) u1)) u x1 x2) : kw_putBit_48 post x1 x2 u := h
theorem ks_putBit {post : St1 → Prop} {u : St1} {p0 : Int32} {p1 : Int32} (h : vp_in p0 428 ∧ (∀ x3_2 : Int64, x3_2 = ((gt_rng u) >>> ((11 : Int32).toInt64 &&& 63)) * (((gt_ch u) p0.toNatClampNeg).toInt64) → (((p1 = 0 → (kw_putBit_48 post p0 p1 (st_rng u x3_2))) ∧ (¬ p1 = 0 → (∀ f_4 : Int64, f_4 = (gt_low u) + x3_2 → (∀ f_5 : Int64, f_5 = (gt_rng u) - x3_2 → (kw_putBit_48 post p0 p1 (st_rng (st_low u f_4) f_5))))))))) : wpX_putBit post u p0 p1 := h
def kw_putIndex_5 (post : St1 → Prop) (x1 : Int32) (x2 : Int32) (n : Nat) (x3 : Int32) (x4 : Int32) (u : St1) : Prop := wX_putIndex_5 post x1 x2 n x3 x4 (gt_w u) (gt_h u) (gt_aw u) (gt_ah u) (gt_fw u) (gt_fh u) (gt_col u) (gt_oc u) (gt_lim u) (gt_low u) (gt_rng u) (gt_code u) (gt_held u) (gt_wait u) (gt_src u) (gt_end u) (gt_crc u) (gt_hand u) (gt_aside u) (gt_first u) (gt_by u) (gt_used u) (gt_tb u) (gt_pw u) (gt_ph u) (gt_ps u) (gt_num u) (gt_lg u) (gt_sm u) (gt_clr u) (gt_ch u) (gt_out u)
theorem ks_putIndex_5 {post : St1 → Prop} {x1 : Int32} {x2 : Int32} {n : Nat} {x3 : Int32} {x4 : Int32} {u : St1} (h : ((x4 < 0 → (post u)) ∧ (¬ x4 < 0 → (∀ x5_2 : Int32, x5_2 = (x2 >>> (x4 &&& 31)) &&& 1 → (wpX_putBit (fun u1 => (∀ x3_66 : Int32, x3_66 = (2 * x3) + x5_2 → (∀ x4_67 : Int32, x4_67 = x4 + (-1) → (kw_putIndex_5 post x1 x2 n x3_66 x4_67 u1)))) u ((156 + (16 * x1)) + x3) x5_2))))) : kw_putIndex_5 post x1 x2 (n + 1) x3 x4 u := h
theorem ks_putIndex {post : St1 → Prop} {u : St1} {p0 : Int32} {p1 : Int32} (h : ∃ fu5 : Nat, kw_putIndex_5 post p0 p1 fu5 1 3 u) : wpX_putIndex post u p0 p1 := h
def kw_writePalette_44 (post : St1 → Prop) (n : Nat) (x1 : Int32) (x2 : Int32) (u : St1) : Prop := wX_writePalette_44 post n x1 x2 (gt_w u) (gt_h u) (gt_aw u) (gt_ah u) (gt_fw u) (gt_fh u) (gt_col u) (gt_oc u) (gt_lim u) (gt_low u) (gt_rng u) (gt_code u) (gt_held u) (gt_wait u) (gt_src u) (gt_end u) (gt_crc u) (gt_hand u) (gt_aside u) (gt_first u) (gt_by u) (gt_used u) (gt_tb u) (gt_pw u) (gt_ph u) (gt_ps u) (gt_num u) (gt_lg u) (gt_sm u) (gt_clr u) (gt_ch u) (gt_out u)
theorem ks_writePalette_44 {post : St1 → Prop} {n : Nat} {x1 : Int32} {x2 : Int32} {u : St1} (h : ((((gt_w u) * (gt_h u)) ≤ x2 → (post u)) ∧ (¬ ((gt_w u) * (gt_h u)) ≤ x2 → (wpX_colourAt (fun r_66 => (wpX_indexOf (fun r_67 => (wpX_putIndex (fun u1 => (∀ x2_131 : Int32, x2_131 = x2 + 1 → (kw_writePalette_44 post n r_67 x2_131 u1))) u x1 r_67)) u r_66)) u x2)))) : kw_writePalette_44 post (n + 1) x1 x2 u := h
def kw_writePalette_13 (post : St1 → Prop) (n : Nat) (x1 : Int32) (u : St1) : Prop := wX_writePalette_13 post n x1 (gt_w u) (gt_h u) (gt_aw u) (gt_ah u) (gt_fw u) (gt_fh u) (gt_col u) (gt_oc u) (gt_lim u) (gt_low u) (gt_rng u) (gt_code u) (gt_held u) (gt_wait u) (gt_src u) (gt_end u) (gt_crc u) (gt_hand u) (gt_aside u) (gt_first u) (gt_by u) (gt_used u) (gt_tb u) (gt_pw u) (gt_ph u) (gt_ps u) (gt_num u) (gt_lg u) (gt_sm u) (gt_clr u) (gt_ch u) (gt_out u)
theorem ks_writePalette_13 {post : St1 → Prop} {n : Nat} {x1 : Int32} {u : St1} (h : (((gt_col u) ≤ x1 → (∃ fu44 : Nat, kw_writePalette_44 post fu44 16 0 u)) ∧ (¬ (gt_col u) ≤ x1 → (vp_in x1 16 ∧ (wpX_putPlain (fun u1 => (∀ x1_196 : Int32, x1_196 = x1 + 1 → (kw_writePalette_13 post n x1_196 u1))) u ((gt_clr u) x1.toNatClampNeg) 24))))) : kw_writePalette_13 post (n + 1) x1 u := h
theorem ks_writePalette {post : St1 → Prop} {u : St1} (h : wpX_putPlain (fun u1 => (∃ fu13 : Nat, kw_writePalette_13 post fu13 0 u1)) u ((gt_col u) - 1) 4) : wpX_writePalette post u := h
def kw_finish_2 (post : St1 → Prop) (n : Nat) (x1 : Int32) (u : St1) : Prop := wX_finish_2 post n x1 (gt_w u) (gt_h u) (gt_aw u) (gt_ah u) (gt_fw u) (gt_fh u) (gt_col u) (gt_oc u) (gt_lim u) (gt_low u) (gt_rng u) (gt_code u) (gt_held u) (gt_wait u) (gt_src u) (gt_end u) (gt_crc u) (gt_hand u) (gt_aside u) (gt_first u) (gt_by u) (gt_used u) (gt_tb u) (gt_pw u) (gt_ph u) (gt_ps u) (gt_num u) (gt_lg u) (gt_sm u) (gt_clr u) (gt_ch u) (gt_out u)
theorem ks_finish_2 {post : St1 → Prop} {n : Nat} {x1 : Int32} {u : St1} (h : ((5 ≤ x1 → (post u)) ∧ (¬ 5 ≤ x1 → (wpX_shift (fun u1 => (∀ x1_65 : Int32, x1_65 = x1 + 1 → (kw_finish_2 post n x1_65 u1))) u)))) : kw_finish_2 post (n + 1) x1 u := h
theorem ks_finish {post : St1 → Prop} {u : St1} (h : ∃ fu2 : Nat, kw_finish_2 post fu2 0 u) : wpX_finish post u := h
def kw_takeIfSmaller_19 (post : St1 → Prop) (x1 : Int32) (x2 : Int32) (n : Nat) (x3 : Int32) (u : St1) : Prop := wX_takeIfSmaller_19 post x1 x2 (gt_w u) (gt_h u) (gt_aw u) (gt_ah u) (gt_fw u) (gt_fh u) (gt_col u) (gt_oc u) (gt_lim u) (gt_low u) (gt_rng u) (gt_code u) (gt_held u) (gt_wait u) (gt_src u) (gt_end u) (gt_crc u) n x3 (gt_hand u) (gt_aside u) (gt_first u) (gt_by u) (gt_used u) (gt_tb u) (gt_pw u) (gt_ph u) (gt_ps u) (gt_num u) (gt_lg u) (gt_sm u) (gt_clr u) (gt_ch u) (gt_out u)
theorem ks_takeIfSmaller_19 {post : St1 → Prop} {x1 : Int32} {x2 : Int32} {n : Nat} {x3 : Int32} {u : St1} (h : (((gt_oc u) ≤ x3 → (vp_in x1 4 ∧ ∀ a5_5 : Nat → Int32, a5_5 = upd (gt_used u) x1.toNatClampNeg (6 + (gt_oc u)) → (vp_in ((512 * x1) + 1) 2048 ∧ ∀ a4_7 : Nat → Int32, a4_7 = upd (gt_by u) ((512 * x1) + 1).toNatClampNeg x2 → (post (st_used (st_by u a4_7) a5_5))))) ∧ (¬ (gt_oc u) ≤ x3 → (vp_in x3 640 ∧ (vp_in (((512 * x1) + 6) + x3) 2048 ∧ ∀ a4_10 : Nat → Int32, a4_10 = upd (gt_by u) (((512 * x1) + 6) + x3).toNatClampNeg ((gt_out u) x3.toNatClampNeg) → (∀ x3_11 : Int32, x3_11 = x3 + 1 → (kw_takeIfSmaller_19 post x1 x2 n x3_11 (st_by u a4_10)))))))) : kw_takeIfSmaller_19 post x1 x2 (n + 1) x3 u := h
theorem ks_takeIfSmaller {post : St1 → Prop} {u : St1} {p0 : Int32} {p1 : Int32} (h : vp_in p0 4 ∧ ((((6 + (gt_oc u)) < ((gt_used u) p0.toNatClampNeg) → (∃ fu19 : Nat, kw_takeIfSmaller_19 post p0 p1 fu19 0 u)) ∧ (¬ (6 + (gt_oc u)) < ((gt_used u) p0.toNatClampNeg) → (post u))))) : wpX_takeIfSmaller post u p0 p1 := h
theorem ks_setPart {post : St1 → Prop} {u : St1} {p0 : Int32} {p1 : Int32} {p2 : Int32} {p3 : Int32} (h : vp_in p0 5 ∧ ∀ a7_2 : Nat → Int32, a7_2 = upd (gt_pw u) p0.toNatClampNeg p1 → (vp_in p0 5 ∧ ∀ a8_4 : Nat → Int32, a8_4 = upd (gt_ph u) p0.toNatClampNeg p2 → (vp_in p0 5 ∧ ∀ a9_6 : Nat → Int32, a9_6 = upd (gt_ps u) p0.toNatClampNeg p3 → (post (st_ps (st_ph (st_pw u a7_2) a8_4) a9_6))))) : wpX_setPart post u p0 p1 p2 p3 := h
theorem ks_measure {post : St1 → Prop} {u : St1} {p0 : Int32} {p1 : Int32} (h : ¬ (2 : Int32) = 0 ∧ (∀ x3_2 : Int32, x3_2 = (p0 + 1) / 2 → (¬ (2 : Int32) = 0 ∧ (∀ x4_4 : Int32, x4_4 = (p1 + 1) / 2 → (¬ (2 : Int32) = 0 ∧ (∀ x5_6 : Int32, x5_6 = (x3_2 + 1) / 2 → (¬ (2 : Int32) = 0 ∧ (∀ x6_8 : Int32, x6_8 = (x4_4 + 1) / 2 → (wpX_setPart (fun u1 => (¬ (2 : Int32) = 0 ∧ (wpX_setPart (fun u2 => (¬ (2 : Int32) = 0 ∧ (wpX_setPart (fun u3 => (¬ (2 : Int32) = 0 ∧ (wpX_setPart (fun u4 => (¬ (2 : Int32) = 0 ∧ (wpX_setPart (fun u5 => (post u5)) u4 4 (p0 / 2) p1 (x3_2 * p1)))) u3 3 x3_2 (p1 / 2) (x3_2 * x4_4)))) u2 2 (x3_2 / 2) x4_4 (x5_6 * x4_4)))) u1 1 x5_6 (x4_4 / 2) (x5_6 * x6_8)))) u 0 x5_6 x6_8 0))))))))) : wpX_measure post u p0 p1 := h
theorem ks_mix {post : St1 → Prop} {u : St1} {p0 : Int32} (h : vp_in p0 432 ∧ (∀ x2_2 : Int32, x2_2 = (gt_num u) p0.toNatClampNeg → (vp_in (144 + p0) 432 ∧ (∀ x3_4 : Int32, x3_4 = (gt_num u) (144 + p0).toNatClampNeg → (vp_in (288 + p0) 432 ∧ (∀ x4_6 : Int32, x4_6 = (gt_num u) (288 + p0).toNatClampNeg → (∀ x5_7 : Int32, x5_7 = x2_2 - x4_6 → (∀ x6_8 : Int32, x6_8 = x4_6 + (x5_7 >>> ((1 : Int32) &&& 31)) → (∀ x7_9 : Int32, x7_9 = x3_4 - x6_8 → (vp_in p0 432 ∧ ∀ a10_11 : Nat → Int32, a10_11 = upd (gt_num u) p0.toNatClampNeg (x6_8 + (x7_9 >>> ((1 : Int32) &&& 31))) → (vp_in (144 + p0) 432 ∧ ∀ a10_13 : Nat → Int32, a10_13 = upd a10_11 (144 + p0).toNatClampNeg x5_7 → (vp_in (288 + p0) 432 ∧ ∀ a10_15 : Nat → Int32, a10_15 = upd a10_13 (288 + p0).toNatClampNeg x7_9 → (post (st_num u a10_15)))))))))))))) : wpX_mix post u p0 := h
def kw_split_230 (post : St1 → Prop) (J164 : Int32 → St1 → Prop) (J174 : Int32 → St1 → Prop) (x1 : Int32) (x3 : Int32) (x4 : Int32) (x5 : Int32) (x6 : Int32) (x7 : Int32) (x8 : Int32) (x9 : Int32) (z0 : Int32) (u : St1) : Prop := wX_split_230 post (fun y1 y2 y3 y4 y5 y6 y7 y8 y9 y10 y11 y12 y13 y14 y15 y16 => J164 y1 (gt_w u, gt_h u, gt_aw u, gt_ah u, gt_fw u, gt_fh u, gt_col u, gt_oc u, gt_lim u, gt_low u, gt_rng u, gt_code u, gt_held u, gt_wait u, gt_src u, gt_end u, gt_crc u, y2, y3, y4, y5, y6, y7, y8, y9, y10, y11, y12, y13, y14, y15, y16)) (fun y1 y2 y3 y4 y5 y6 y7 y8 y9 y10 y11 y12 y13 y14 y15 y16 => J174 y1 (gt_w u, gt_h u, gt_aw u, gt_ah u, gt_fw u, gt_fh u, gt_col u, gt_oc u, gt_lim u, gt_low u, gt_rng u, gt_code u, gt_held u, gt_wait u, gt_src u, gt_end u, gt_crc u, y2, y3, y4, y5, y6, y7, y8, y9, y10, y11, y12, y13, y14, y15, y16)) x1 x3 x4 x5 x6 x7 x8 x9 z0 (gt_w u) (gt_h u) (gt_aw u) (gt_ah u) (gt_fw u) (gt_fh u) (gt_col u) (gt_oc u) (gt_lim u) (gt_low u) (gt_rng u) (gt_code u) (gt_held u) (gt_wait u) (gt_src u) (gt_end u) (gt_crc u) (gt_hand u) (gt_aside u) (gt_first u) (gt_by u) (gt_used u) (gt_tb u) (gt_pw u) (gt_ph u) (gt_ps u) (gt_num u) (gt_lg u) (gt_sm u) (gt_clr u) (gt_ch u) (gt_out u)
theorem ks_split_230 {post : St1 → Prop} {J164 : Int32 → St1 → Prop} {J174 : Int32 → St1 → Prop} {x1 : Int32} {x3 : Int32} {x4 : Int32} {x5 : Int32} {x6 : Int32} {x7 : Int32} {x8 : Int32} {x9 : Int32} {z0 : Int32} {u : St1} (h : vp_in ((x5 * x7) + x8) 144 ∧ ∀ a11_13 : Nat → Int32, a11_13 = upd (gt_lg u) ((x5 * x7) + x8).toNatClampNeg ((x9 + z0) >>> ((1 : Int32) &&& 31)) → (((x3 ≤ ((2 * x7) + 1) → (∀ x8_15 : Int32, x8_15 = x8 + 1 → (J174 x8_15 (st_lg u a11_13)))) ∧ (¬ x3 ≤ ((2 * x7) + 1) → (vp_in x4 5 ∧ (vp_in (((x1 + ((gt_ps u) x4.toNatClampNeg)) + (x5 * x7)) + x8) 432 ∧ ∀ a10_18 : Nat → Int32, a10_18 = upd (gt_num u) (((x1 + ((gt_ps u) x4.toNatClampNeg)) + (x5 * x7)) + x8).toNatClampNeg (x9 - z0) → (∀ x8_19 : Int32, x8_19 = x8 + 1 → (J174 x8_19 (st_lg (st_num u a10_18) a11_13))))))))) : kw_split_230 post J164 J174 x1 x3 x4 x5 x6 x7 x8 x9 z0 u := h
def kw_split_174 (post : St1 → Prop) (J164 : Int32 → St1 → Prop) (x1 : Int32) (x3 : Int32) (x4 : Int32) (x5 : Int32) (x6 : Int32) (x7 : Int32) (n : Nat) (x8 : Int32) (u : St1) : Prop := wX_split_174 post (fun y1 y2 y3 y4 y5 y6 y7 y8 y9 y10 y11 y12 y13 y14 y15 y16 => J164 y1 (gt_w u, gt_h u, gt_aw u, gt_ah u, gt_fw u, gt_fh u, gt_col u, gt_oc u, gt_lim u, gt_low u, gt_rng u, gt_code u, gt_held u, gt_wait u, gt_src u, gt_end u, gt_crc u, y2, y3, y4, y5, y6, y7, y8, y9, y10, y11, y12, y13, y14, y15, y16)) x1 x3 x4 x5 x6 x7 (gt_w u) (gt_h u) (gt_aw u) (gt_ah u) (gt_fw u) (gt_fh u) (gt_col u) (gt_oc u) (gt_lim u) (gt_low u) (gt_rng u) (gt_code u) (gt_held u) (gt_wait u) (gt_src u) (gt_end u) (gt_crc u) n x8 (gt_hand u) (gt_aside u) (gt_first u) (gt_by u) (gt_used u) (gt_tb u) (gt_pw u) (gt_ph u) (gt_ps u) (gt_num u) (gt_lg u) (gt_sm u) (gt_clr u) (gt_ch u) (gt_out u)
theorem ks_split_174 {post : St1 → Prop} {J164 : Int32 → St1 → Prop} {x1 : Int32} {x3 : Int32} {x4 : Int32} {x5 : Int32} {x6 : Int32} {x7 : Int32} {n : Nat} {x8 : Int32} {u : St1} (h : ((x5 ≤ x8 → (∀ x7_8 : Int32, x7_8 = x7 + 1 → (J164 x7_8 u))) ∧ (¬ x5 ≤ x8 → (vp_in (((2 * x7) * x5) + x8) 144 ∧ (∀ x9_10 : Int32, x9_10 = (gt_sm u) (((2 * x7) * x5) + x8).toNatClampNeg → (((x3 ≤ ((2 * x7) + 1) → (kw_split_230 post J164 ((kw_split_174 post J164 x1 x3 x4 x5 x6 x7 n)) x1 x3 x4 x5 x6 x7 x8 x9_10 x9_10 u)) ∧ (¬ x3 ≤ ((2 * x7) + 1) → (vp_in ((((2 * x7) + 1) * x5) + x8) 144 ∧ (kw_split_230 post J164 ((kw_split_174 post J164 x1 x3 x4 x5 x6 x7 n)) x1 x3 x4 x5 x6 x7 x8 x9_10 ((gt_sm u) ((((2 * x7) + 1) * x5) + x8).toNatClampNeg) u)))))))))) : kw_split_174 post J164 x1 x3 x4 x5 x6 x7 (n + 1) x8 u := h
def kw_split_164 (post : St1 → Prop) (x1 : Int32) (x3 : Int32) (x4 : Int32) (x5 : Int32) (x6 : Int32) (n : Nat) (x7 : Int32) (u : St1) : Prop := wX_split_164 post x1 x3 x4 x5 x6 (gt_w u) (gt_h u) (gt_aw u) (gt_ah u) (gt_fw u) (gt_fh u) (gt_col u) (gt_oc u) (gt_lim u) (gt_low u) (gt_rng u) (gt_code u) (gt_held u) (gt_wait u) (gt_src u) (gt_end u) (gt_crc u) n x7 (gt_hand u) (gt_aside u) (gt_first u) (gt_by u) (gt_used u) (gt_tb u) (gt_pw u) (gt_ph u) (gt_ps u) (gt_num u) (gt_lg u) (gt_sm u) (gt_clr u) (gt_ch u) (gt_out u)
theorem ks_split_164 {post : St1 → Prop} {x1 : Int32} {x3 : Int32} {x4 : Int32} {x5 : Int32} {x6 : Int32} {n : Nat} {x7 : Int32} {u : St1} (h : ((x6 ≤ x7 → (post u)) ∧ (¬ x6 ≤ x7 → (∃ fu174 : Nat, kw_split_174 post ((kw_split_164 post x1 x3 x4 x5 x6 n)) x1 x3 x4 x5 x6 x7 fu174 0 u)))) : kw_split_164 post x1 x3 x4 x5 x6 (n + 1) x7 u := h
def kw_split_80 (post : St1 → Prop) (J17 : Int32 → St1 → Prop) (J26 : Int32 → St1 → Prop) (x1 : Int32) (x2 : Int32) (x3 : Int32) (x4 : Int32) (x5 : Int32) (x6 : Int32) (x7 : Int32) (x8 : Int32) (x9 : Int32) (z0 : Int32) (u : St1) : Prop := wX_split_80 post (fun y1 y2 y3 y4 y5 y6 y7 y8 y9 y10 y11 y12 y13 y14 y15 y16 => J17 y1 (gt_w u, gt_h u, gt_aw u, gt_ah u, gt_fw u, gt_fh u, gt_col u, gt_oc u, gt_lim u, gt_low u, gt_rng u, gt_code u, gt_held u, gt_wait u, gt_src u, gt_end u, gt_crc u, y2, y3, y4, y5, y6, y7, y8, y9, y10, y11, y12, y13, y14, y15, y16)) (fun y1 y2 y3 y4 y5 y6 y7 y8 y9 y10 y11 y12 y13 y14 y15 y16 => J26 y1 (gt_w u, gt_h u, gt_aw u, gt_ah u, gt_fw u, gt_fh u, gt_col u, gt_oc u, gt_lim u, gt_low u, gt_rng u, gt_code u, gt_held u, gt_wait u, gt_src u, gt_end u, gt_crc u, y2, y3, y4, y5, y6, y7, y8, y9, y10, y11, y12, y13, y14, y15, y16)) x1 x2 x3 x4 x5 x6 x7 x8 x9 z0 (gt_w u) (gt_h u) (gt_aw u) (gt_ah u) (gt_fw u) (gt_fh u) (gt_col u) (gt_oc u) (gt_lim u) (gt_low u) (gt_rng u) (gt_code u) (gt_held u) (gt_wait u) (gt_src u) (gt_end u) (gt_crc u) (gt_hand u) (gt_aside u) (gt_first u) (gt_by u) (gt_used u) (gt_tb u) (gt_pw u) (gt_ph u) (gt_ps u) (gt_num u) (gt_lg u) (gt_sm u) (gt_clr u) (gt_ch u) (gt_out u)
theorem ks_split_80 {post : St1 → Prop} {J17 : Int32 → St1 → Prop} {J26 : Int32 → St1 → Prop} {x1 : Int32} {x2 : Int32} {x3 : Int32} {x4 : Int32} {x5 : Int32} {x6 : Int32} {x7 : Int32} {x8 : Int32} {x9 : Int32} {z0 : Int32} {u : St1} (h : vp_in ((x5 * x7) + x8) 144 ∧ ∀ a12_27 : Nat → Int32, a12_27 = upd (gt_sm u) ((x5 * x7) + x8).toNatClampNeg ((x9 + z0) >>> ((1 : Int32) &&& 31)) → (((x2 ≤ ((2 * x8) + 1) → (∀ x8_29 : Int32, x8_29 = x8 + 1 → (J26 x8_29 (st_sm u a12_27)))) ∧ (¬ x2 ≤ ((2 * x8) + 1) → (vp_in (x4 + 1) 5 ∧ (vp_in (x4 + 1) 5 ∧ (vp_in (((x1 + ((gt_ps u) (x4 + 1).toNatClampNeg)) + (((gt_pw u) (x4 + 1).toNatClampNeg) * x7)) + x8) 432 ∧ ∀ a10_33 : Nat → Int32, a10_33 = upd (gt_num u) (((x1 + ((gt_ps u) (x4 + 1).toNatClampNeg)) + (((gt_pw u) (x4 + 1).toNatClampNeg) * x7)) + x8).toNatClampNeg (x9 - z0) → (∀ x8_34 : Int32, x8_34 = x8 + 1 → (J26 x8_34 (st_sm (st_num u a10_33) a12_27)))))))))) : kw_split_80 post J17 J26 x1 x2 x3 x4 x5 x6 x7 x8 x9 z0 u := h
def kw_split_26 (post : St1 → Prop) (J17 : Int32 → St1 → Prop) (x1 : Int32) (x2 : Int32) (x3 : Int32) (x4 : Int32) (x5 : Int32) (x6 : Int32) (x7 : Int32) (n : Nat) (x8 : Int32) (u : St1) : Prop := wX_split_26 post (fun y1 y2 y3 y4 y5 y6 y7 y8 y9 y10 y11 y12 y13 y14 y15 y16 => J17 y1 (gt_w u, gt_h u, gt_aw u, gt_ah u, gt_fw u, gt_fh u, gt_col u, gt_oc u, gt_lim u, gt_low u, gt_rng u, gt_code u, gt_held u, gt_wait u, gt_src u, gt_end u, gt_crc u, y2, y3, y4, y5, y6, y7, y8, y9, y10, y11, y12, y13, y14, y15, y16)) x1 x2 x3 x4 x5 x6 x7 (gt_w u) (gt_h u) (gt_aw u) (gt_ah u) (gt_fw u) (gt_fh u) (gt_col u) (gt_oc u) (gt_lim u) (gt_low u) (gt_rng u) (gt_code u) (gt_held u) (gt_wait u) (gt_src u) (gt_end u) (gt_crc u) n x8 (gt_hand u) (gt_aside u) (gt_first u) (gt_by u) (gt_used u) (gt_tb u) (gt_pw u) (gt_ph u) (gt_ps u) (gt_num u) (gt_lg u) (gt_sm u) (gt_clr u) (gt_ch u) (gt_out u)
theorem ks_split_26 {post : St1 → Prop} {J17 : Int32 → St1 → Prop} {x1 : Int32} {x2 : Int32} {x3 : Int32} {x4 : Int32} {x5 : Int32} {x6 : Int32} {x7 : Int32} {n : Nat} {x8 : Int32} {u : St1} (h : ((x5 ≤ x8 → (∀ x7_22 : Int32, x7_22 = x7 + 1 → (J17 x7_22 u))) ∧ (¬ x5 ≤ x8 → (vp_in ((x2 * x7) + (2 * x8)) 144 ∧ (∀ x9_24 : Int32, x9_24 = (gt_lg u) ((x2 * x7) + (2 * x8)).toNatClampNeg → (((x2 ≤ ((2 * x8) + 1) → (kw_split_80 post J17 ((kw_split_26 post J17 x1 x2 x3 x4 x5 x6 x7 n)) x1 x2 x3 x4 x5 x6 x7 x8 x9_24 x9_24 u)) ∧ (¬ x2 ≤ ((2 * x8) + 1) → (vp_in (((x2 * x7) + (2 * x8)) + 1) 144 ∧ (kw_split_80 post J17 ((kw_split_26 post J17 x1 x2 x3 x4 x5 x6 x7 n)) x1 x2 x3 x4 x5 x6 x7 x8 x9_24 ((gt_lg u) (((x2 * x7) + (2 * x8)) + 1).toNatClampNeg) u)))))))))) : kw_split_26 post J17 x1 x2 x3 x4 x5 x6 x7 (n + 1) x8 u := h
def kw_split_17 (post : St1 → Prop) (x1 : Int32) (x2 : Int32) (x3 : Int32) (x4 : Int32) (x5 : Int32) (x6 : Int32) (n : Nat) (x7 : Int32) (u : St1) : Prop := wX_split_17 post x1 x2 x3 x4 x5 x6 (gt_w u) (gt_h u) (gt_aw u) (gt_ah u) (gt_fw u) (gt_fh u) (gt_col u) (gt_oc u) (gt_lim u) (gt_low u) (gt_rng u) (gt_code u) (gt_held u) (gt_wait u) (gt_src u) (gt_end u) (gt_crc u) n x7 (gt_hand u) (gt_aside u) (gt_first u) (gt_by u) (gt_used u) (gt_tb u) (gt_pw u) (gt_ph u) (gt_ps u) (gt_num u) (gt_lg u) (gt_sm u) (gt_clr u) (gt_ch u) (gt_out u)
theorem ks_split_17 {post : St1 → Prop} {x1 : Int32} {x2 : Int32} {x3 : Int32} {x4 : Int32} {x5 : Int32} {x6 : Int32} {n : Nat} {x7 : Int32} {u : St1} (h : ((x3 ≤ x7 → (∃ fu164 : Nat, kw_split_164 post x1 x3 x4 x5 x6 fu164 0 u)) ∧ (¬ x3 ≤ x7 → (∃ fu26 : Nat, kw_split_26 post ((kw_split_17 post x1 x2 x3 x4 x5 x6 n)) x1 x2 x3 x4 x5 x6 x7 fu26 0 u)))) : kw_split_17 post x1 x2 x3 x4 x5 x6 (n + 1) x7 u := h
theorem ks_split {post : St1 → Prop} {u : St1} {p0 : Int32} {p1 : Int32} {p2 : Int32} {p3 : Int32} (h : ¬ (2 : Int32) = 0 ∧ (∀ x5_2 : Int32, x5_2 = (p1 + 1) / 2 → (¬ (2 : Int32) = 0 ∧ (∀ x6_4 : Int32, x6_4 = (p2 + 1) / 2 → (∃ fu17 : Nat, kw_split_17 post p0 p1 p2 p3 x5_2 x6_4 fu17 0 u))))) : wpX_split post u p0 p1 p2 p3 := h
def kw_splitAll_158 (post : St1 → Prop) (n : Nat) (x3 : Int32) (u : St1) : Prop := wX_splitAll_158 post n x3 (gt_w u) (gt_h u) (gt_aw u) (gt_ah u) (gt_fw u) (gt_fh u) (gt_col u) (gt_oc u) (gt_lim u) (gt_low u) (gt_rng u) (gt_code u) (gt_held u) (gt_wait u) (gt_src u) (gt_end u) (gt_crc u) (gt_hand u) (gt_aside u) (gt_first u) (gt_by u) (gt_used u) (gt_tb u) (gt_pw u) (gt_ph u) (gt_ps u) (gt_num u) (gt_lg u) (gt_sm u) (gt_clr u) (gt_ch u) (gt_out u)
theorem ks_splitAll_158 {post : St1 → Prop} {n : Nat} {x3 : Int32} {u : St1} (h : ((((gt_w u) * (gt_h u)) ≤ x3 → (post u)) ∧ (¬ ((gt_w u) * (gt_h u)) ≤ x3 → (wpX_mix (fun u1 => (∀ x3_133 : Int32, x3_133 = x3 + 1 → (kw_splitAll_158 post n x3_133 u1))) u x3)))) : kw_splitAll_158 post (n + 1) x3 u := h
def kw_splitAll_113 (post : St1 → Prop) (J32 : Int32 → St1 → Prop) (x1 : Int32) (x2 : Int32) (x3 : Int32) (n : Nat) (x4 : Int32) (u : St1) : Prop := wX_splitAll_113 post (fun y1 y2 y3 y4 y5 y6 y7 y8 y9 y10 y11 y12 y13 y14 y15 y16 y17 y18 y19 y20 y21 y22 y23 y24 y25 y26 y27 y28 y29 y30 y31 y32 y33 => J32 y1 (y2, y3, y4, y5, y6, y7, y8, y9, y10, y11, y12, y13, y14, y15, y16, y17, y18, y19, y20, y21, y22, y23, y24, y25, y26, y27, y28, y29, y30, y31, y32, y33)) x1 x2 x3 (gt_w u) (gt_h u) (gt_aw u) (gt_ah u) (gt_fw u) (gt_fh u) (gt_col u) (gt_oc u) (gt_lim u) (gt_low u) (gt_rng u) (gt_code u) (gt_held u) (gt_wait u) (gt_src u) (gt_end u) (gt_crc u) n x4 (gt_hand u) (gt_aside u) (gt_first u) (gt_by u) (gt_used u) (gt_tb u) (gt_pw u) (gt_ph u) (gt_ps u) (gt_num u) (gt_lg u) (gt_sm u) (gt_clr u) (gt_ch u) (gt_out u)
theorem ks_splitAll_113 {post : St1 → Prop} {J32 : Int32 → St1 → Prop} {x1 : Int32} {x2 : Int32} {x3 : Int32} {n : Nat} {x4 : Int32} {u : St1} (h : ((((gt_ps u) 1) ≤ x4 → (∀ x3_262 : Int32, x3_262 = x3 + 1 → (J32 x3_262 u))) ∧ (¬ ((gt_ps u) 1) ≤ x4 → (vp_in x4 144 ∧ (vp_in ((144 * x3) + x4) 432 ∧ ∀ am10710_265 : Nat → Int32, am10710_265 = upd (gt_num u) ((144 * x3) + x4).toNatClampNeg ((gt_lg u) x4.toNatClampNeg) → (∀ x4_266 : Int32, x4_266 = x4 + 1 → (kw_splitAll_113 post J32 x1 x2 x3 n x4_266 (st_num u am10710_265)))))))) : kw_splitAll_113 post J32 x1 x2 x3 (n + 1) x4 u := h
def kw_splitAll_40 (post : St1 → Prop) (J32 : Int32 → St1 → Prop) (x1 : Int32) (x2 : Int32) (x3 : Int32) (n : Nat) (x4 : Int32) (u : St1) : Prop := wX_splitAll_40 post (fun y1 y2 y3 y4 y5 y6 y7 y8 y9 y10 y11 y12 y13 y14 y15 y16 y17 y18 y19 y20 y21 y22 y23 y24 y25 y26 y27 y28 y29 y30 y31 y32 y33 => J32 y1 (y2, y3, y4, y5, y6, y7, y8, y9, y10, y11, y12, y13, y14, y15, y16, y17, y18, y19, y20, y21, y22, y23, y24, y25, y26, y27, y28, y29, y30, y31, y32, y33)) x1 x2 x3 (gt_w u) (gt_h u) (gt_aw u) (gt_ah u) (gt_fw u) (gt_fh u) (gt_col u) (gt_oc u) (gt_lim u) (gt_low u) (gt_rng u) (gt_code u) (gt_held u) (gt_wait u) (gt_src u) (gt_end u) (gt_crc u) n x4 (gt_hand u) (gt_aside u) (gt_first u) (gt_by u) (gt_used u) (gt_tb u) (gt_pw u) (gt_ph u) (gt_ps u) (gt_num u) (gt_lg u) (gt_sm u) (gt_clr u) (gt_ch u) (gt_out u)
theorem ks_splitAll_40 {post : St1 → Prop} {J32 : Int32 → St1 → Prop} {x1 : Int32} {x2 : Int32} {x3 : Int32} {n : Nat} {x4 : Int32} {u : St1} (h : ((((gt_w u) * (gt_h u)) ≤ x4 → (wpX_split (fun u1 => (wpX_split (fun u2 => (∃ fu113 : Nat, kw_splitAll_113 post J32 x1 x2 x3 fu113 0 u2)) u1 (144 * x3) x1 x2 1)) u (144 * x3) (gt_w u) (gt_h u) 3)) ∧ (¬ ((gt_w u) * (gt_h u)) ≤ x4 → (vp_in ((144 * x3) + x4) 432 ∧ (vp_in x4 144 ∧ ∀ am911_269 : Nat → Int32, am911_269 = upd (gt_lg u) x4.toNatClampNeg ((gt_hand u) ((144 * x3) + x4).toNatClampNeg) → (∀ x4_270 : Int32, x4_270 = x4 + 1 → (kw_splitAll_40 post J32 x1 x2 x3 n x4_270 (st_lg u am911_269)))))))) : kw_splitAll_40 post J32 x1 x2 x3 (n + 1) x4 u := h
def kw_splitAll_32 (post : St1 → Prop) (x1 : Int32) (x2 : Int32) (n : Nat) (x3 : Int32) (u : St1) : Prop := wX_splitAll_32 post x1 x2 n x3 (gt_w u) (gt_h u) (gt_aw u) (gt_ah u) (gt_fw u) (gt_fh u) (gt_col u) (gt_oc u) (gt_lim u) (gt_low u) (gt_rng u) (gt_code u) (gt_held u) (gt_wait u) (gt_src u) (gt_end u) (gt_crc u) (gt_hand u) (gt_aside u) (gt_first u) (gt_by u) (gt_used u) (gt_tb u) (gt_pw u) (gt_ph u) (gt_ps u) (gt_num u) (gt_lg u) (gt_sm u) (gt_clr u) (gt_ch u) (gt_out u)
theorem ks_splitAll_32 {post : St1 → Prop} {x1 : Int32} {x2 : Int32} {n : Nat} {x3 : Int32} {u : St1} (h : ((3 ≤ x3 → (∃ fu158 : Nat, kw_splitAll_158 post fu158 0 u)) ∧ (¬ 3 ≤ x3 → (∃ fu40 : Nat, kw_splitAll_40 post ((kw_splitAll_32 post x1 x2 n)) x1 x2 x3 fu40 0 u)))) : kw_splitAll_32 post x1 x2 (n + 1) x3 u := h
theorem ks_splitAll {post : St1 → Prop} {u : St1} (h : wpX_measure (fun u1 => (¬ (2 : Int32) = 0 ∧ (∀ x1_65 : Int32, x1_65 = ((gt_w u1) + 1) / 2 → (¬ (2 : Int32) = 0 ∧ (∀ x2_67 : Int32, x2_67 = ((gt_h u1) + 1) / 2 → (∃ fu32 : Nat, kw_splitAll_32 post x1_65 x2_67 fu32 0 u1)))))) u (gt_w u) (gt_h u)) : wpX_splitAll post u := h
def kw_contextOf_89 (post : Int32 → Prop) (x8 : Int32) (z0 : Int32) (z1 : Int32) (u : St1) : Prop := wX_contextOf_89 post x8 z0 z1 (gt_w u) (gt_h u) (gt_aw u) (gt_ah u) (gt_fw u) (gt_fh u) (gt_col u) (gt_oc u) (gt_lim u) (gt_low u) (gt_rng u) (gt_code u) (gt_held u) (gt_wait u) (gt_src u) (gt_end u) (gt_crc u) (gt_hand u) (gt_aside u) (gt_first u) (gt_by u) (gt_used u) (gt_tb u) (gt_pw u) (gt_ph u) (gt_ps u) (gt_num u) (gt_lg u) (gt_sm u) (gt_clr u) (gt_ch u) (gt_out u)
theorem ks_contextOf_89 {post : Int32 → Prop} {x8 : Int32} {z0 : Int32} {z1 : Int32} {u : St1} (h : ∀ x9_8 : Int32, x9_8 = z1 + z0 → (((x8 = 0 → (post (13 * ((3 * x9_8) + 0)))) ∧ (¬ x8 = 0 → (((6 < x8 → (post (13 * ((3 * x9_8) + 2)))) ∧ (¬ 6 < x8 → (post (13 * ((3 * x9_8) + 1)))))))))) : kw_contextOf_89 post x8 z0 z1 u := h
def kw_contextOf_80 (post : Int32 → Prop) (x2 : Int32) (x8 : Int32) (z0 : Int32) (u : St1) : Prop := wX_contextOf_80 post x2 x8 z0 (gt_w u) (gt_h u) (gt_aw u) (gt_ah u) (gt_fw u) (gt_fh u) (gt_col u) (gt_oc u) (gt_lim u) (gt_low u) (gt_rng u) (gt_code u) (gt_held u) (gt_wait u) (gt_src u) (gt_end u) (gt_crc u) (gt_hand u) (gt_aside u) (gt_first u) (gt_by u) (gt_used u) (gt_tb u) (gt_pw u) (gt_ph u) (gt_ps u) (gt_num u) (gt_lg u) (gt_sm u) (gt_clr u) (gt_ch u) (gt_out u)
theorem ks_contextOf_80 {post : Int32 → Prop} {x2 : Int32} {x8 : Int32} {z0 : Int32} {u : St1} (h : ((x2 = 0 → (kw_contextOf_89 post x8 0 z0 u)) ∧ (¬ x2 = 0 → (kw_contextOf_89 post x8 1 z0 u)))) : kw_contextOf_80 post x2 x8 z0 u := h
def kw_contextOf_69 (post : Int32 → Prop) (x1 : Int32) (x2 : Int32) (z0 : Int32) (u : St1) : Prop := wX_contextOf_69 post x1 x2 z0 (gt_w u) (gt_h u) (gt_aw u) (gt_ah u) (gt_fw u) (gt_fh u) (gt_col u) (gt_oc u) (gt_lim u) (gt_low u) (gt_rng u) (gt_code u) (gt_held u) (gt_wait u) (gt_src u) (gt_end u) (gt_crc u) (gt_hand u) (gt_aside u) (gt_first u) (gt_by u) (gt_used u) (gt_tb u) (gt_pw u) (gt_ph u) (gt_ps u) (gt_num u) (gt_lg u) (gt_sm u) (gt_clr u) (gt_ch u) (gt_out u)
theorem ks_contextOf_69 {post : Int32 → Prop} {x1 : Int32} {x2 : Int32} {z0 : Int32} {u : St1} (h : ((x1 = 0 → (kw_contextOf_80 post x2 z0 0 u)) ∧ (¬ x1 = 0 → (kw_contextOf_80 post x2 z0 2 u)))) : kw_contextOf_69 post x1 x2 z0 u := h
def kw_contextOf_41 (post : Int32 → Prop) (x1 : Int32) (x2 : Int32) (x6 : Int32) (z0 : Int32) (u : St1) : Prop := wX_contextOf_41 post x1 x2 x6 z0 (gt_w u) (gt_h u) (gt_aw u) (gt_ah u) (gt_fw u) (gt_fh u) (gt_col u) (gt_oc u) (gt_lim u) (gt_low u) (gt_rng u) (gt_code u) (gt_held u) (gt_wait u) (gt_src u) (gt_end u) (gt_crc u) (gt_hand u) (gt_aside u) (gt_first u) (gt_by u) (gt_used u) (gt_tb u) (gt_pw u) (gt_ph u) (gt_ps u) (gt_num u) (gt_lg u) (gt_sm u) (gt_clr u) (gt_ch u) (gt_out u)
theorem ks_contextOf_41 {post : Int32 → Prop} {x1 : Int32} {x2 : Int32} {x6 : Int32} {z0 : Int32} {u : St1} (h : ((x1 = 0 → (wpX_size (fun r_11 => (kw_contextOf_69 post x1 x2 r_11 u)) () (x6 - z0))) ∧ (¬ x1 = 0 → (wpX_size (fun r_4 => (wpX_size (fun r_5 => (kw_contextOf_69 post x1 x2 (r_4 + r_5) u)) () z0)) () x6)))) : kw_contextOf_41 post x1 x2 x6 z0 u := h
def kw_contextOf_17 (post : Int32 → Prop) (x1 : Int32) (x2 : Int32) (x3 : Int32) (x5 : Int32) (z0 : Int32) (u : St1) : Prop := wX_contextOf_17 post x1 x2 x3 x5 z0 (gt_w u) (gt_h u) (gt_aw u) (gt_ah u) (gt_fw u) (gt_fh u) (gt_col u) (gt_oc u) (gt_lim u) (gt_low u) (gt_rng u) (gt_code u) (gt_held u) (gt_wait u) (gt_src u) (gt_end u) (gt_crc u) (gt_hand u) (gt_aside u) (gt_first u) (gt_by u) (gt_used u) (gt_tb u) (gt_pw u) (gt_ph u) (gt_ps u) (gt_num u) (gt_lg u) (gt_sm u) (gt_clr u) (gt_ch u) (gt_out u)
theorem ks_contextOf_17 {post : Int32 → Prop} {x1 : Int32} {x2 : Int32} {x3 : Int32} {x5 : Int32} {z0 : Int32} {u : St1} (h : ((x5 ≤ 0 → (kw_contextOf_41 post x1 x2 z0 0 u)) ∧ (¬ x5 ≤ 0 → (vp_in x1 5 ∧ (vp_in (x3 - ((gt_pw u) x1.toNatClampNeg)) 432 ∧ (kw_contextOf_41 post x1 x2 z0 ((gt_num u) (x3 - ((gt_pw u) x1.toNatClampNeg)).toNatClampNeg) u)))))) : kw_contextOf_17 post x1 x2 x3 x5 z0 u := h
theorem ks_contextOf {post : Int32 → Prop} {u : St1} {p0 : Int32} {p1 : Int32} {p2 : Int32} {p3 : Int32} {p4 : Int32} (h : ((p3 ≤ 0 → (kw_contextOf_17 post p0 p1 p2 p4 0 u)) ∧ (¬ p3 ≤ 0 → (vp_in (p2 - 1) 432 ∧ (kw_contextOf_17 post p0 p1 p2 p4 ((gt_num u) (p2 - 1).toNatClampNeg) u))))) : wpX_contextOf post u p0 p1 p2 p3 p4 := h
def kw_foretold_110 (post : Int32 → Prop) (x5 : Int32) (x6 : Int32) (x7 : Int32) (x8 : Int32) (z0 : Int32) (u : St1) : Prop := wX_foretold_110 post x5 x6 x7 x8 z0 (gt_w u) (gt_h u) (gt_aw u) (gt_ah u) (gt_fw u) (gt_fh u) (gt_col u) (gt_oc u) (gt_lim u) (gt_low u) (gt_rng u) (gt_code u) (gt_held u) (gt_wait u) (gt_src u) (gt_end u) (gt_crc u) (gt_hand u) (gt_aside u) (gt_first u) (gt_by u) (gt_used u) (gt_tb u) (gt_pw u) (gt_ph u) (gt_ps u) (gt_num u) (gt_lg u) (gt_sm u) (gt_clr u) (gt_ch u) (gt_out u)
theorem ks_foretold_110 {post : Int32 → Prop} {x5 : Int32} {x6 : Int32} {x7 : Int32} {x8 : Int32} {z0 : Int32} {u : St1} (h : ((x7 < x8 → (((z0 < x7 → (post ((x5 + x6) - x7))) ∧ (¬ z0 < x7 → (post x8))))) ∧ (¬ x7 < x8 → (post z0)))) : kw_foretold_110 post x5 x6 x7 x8 z0 u := h
def kw_foretold_94 (post : Int32 → Prop) (x5 : Int32) (x6 : Int32) (x7 : Int32) (z0 : Int32) (u : St1) : Prop := wX_foretold_94 post x5 x6 x7 z0 (gt_w u) (gt_h u) (gt_aw u) (gt_ah u) (gt_fw u) (gt_fh u) (gt_col u) (gt_oc u) (gt_lim u) (gt_low u) (gt_rng u) (gt_code u) (gt_held u) (gt_wait u) (gt_src u) (gt_end u) (gt_crc u) (gt_hand u) (gt_aside u) (gt_first u) (gt_by u) (gt_used u) (gt_tb u) (gt_pw u) (gt_ph u) (gt_ps u) (gt_num u) (gt_lg u) (gt_sm u) (gt_clr u) (gt_ch u) (gt_out u)
theorem ks_foretold_94 {post : Int32 → Prop} {x5 : Int32} {x6 : Int32} {x7 : Int32} {z0 : Int32} {u : St1} (h : ((x5 ≤ x6 → (kw_foretold_110 post x5 x6 x7 z0 x5 u)) ∧ (¬ x5 ≤ x6 → (kw_foretold_110 post x5 x6 x7 z0 x6 u)))) : kw_foretold_94 post x5 x6 x7 z0 u := h
def kw_foretold_46 (post : Int32 → Prop) (x2 : Int32) (x3 : Int32) (x4 : Int32) (x5 : Int32) (z0 : Int32) (u : St1) : Prop := wX_foretold_46 post x2 x3 x4 x5 z0 (gt_w u) (gt_h u) (gt_aw u) (gt_ah u) (gt_fw u) (gt_fh u) (gt_col u) (gt_oc u) (gt_lim u) (gt_low u) (gt_rng u) (gt_code u) (gt_held u) (gt_wait u) (gt_src u) (gt_end u) (gt_crc u) (gt_hand u) (gt_aside u) (gt_first u) (gt_by u) (gt_used u) (gt_tb u) (gt_pw u) (gt_ph u) (gt_ps u) (gt_num u) (gt_lg u) (gt_sm u) (gt_clr u) (gt_ch u) (gt_out u)
theorem ks_foretold_46 {post : Int32 → Prop} {x2 : Int32} {x3 : Int32} {x4 : Int32} {x5 : Int32} {z0 : Int32} {u : St1} (h : ((x3 = 0 → (post (x5 + z0))) ∧ (¬ x3 = 0 → (((x4 = 0 → (post (x5 + z0))) ∧ (¬ x4 = 0 → (vp_in ((x2 - ((gt_pw u) 0)) - 1) 432 ∧ (∀ x7_7 : Int32, x7_7 = (gt_num u) ((x2 - ((gt_pw u) 0)) - 1).toNatClampNeg → (((x5 ≤ z0 → (kw_foretold_94 post x5 z0 x7_7 z0 u)) ∧ (¬ x5 ≤ z0 → (kw_foretold_94 post x5 z0 x7_7 x5 u)))))))))))) : kw_foretold_46 post x2 x3 x4 x5 z0 u := h
def kw_foretold_22 (post : Int32 → Prop) (x2 : Int32) (x3 : Int32) (x4 : Int32) (z0 : Int32) (u : St1) : Prop := wX_foretold_22 post x2 x3 x4 z0 (gt_w u) (gt_h u) (gt_aw u) (gt_ah u) (gt_fw u) (gt_fh u) (gt_col u) (gt_oc u) (gt_lim u) (gt_low u) (gt_rng u) (gt_code u) (gt_held u) (gt_wait u) (gt_src u) (gt_end u) (gt_crc u) (gt_hand u) (gt_aside u) (gt_first u) (gt_by u) (gt_used u) (gt_tb u) (gt_pw u) (gt_ph u) (gt_ps u) (gt_num u) (gt_lg u) (gt_sm u) (gt_clr u) (gt_ch u) (gt_out u)
theorem ks_foretold_22 {post : Int32 → Prop} {x2 : Int32} {x3 : Int32} {x4 : Int32} {z0 : Int32} {u : St1} (h : ((x4 ≤ 0 → (kw_foretold_46 post x2 x3 x4 z0 0 u)) ∧ (¬ x4 ≤ 0 → (vp_in (x2 - ((gt_pw u) 0)) 432 ∧ (kw_foretold_46 post x2 x3 x4 z0 ((gt_num u) (x2 - ((gt_pw u) 0)).toNatClampNeg) u))))) : kw_foretold_22 post x2 x3 x4 z0 u := h
theorem ks_foretold {post : Int32 → Prop} {u : St1} {p0 : Int32} {p1 : Int32} {p2 : Int32} {p3 : Int32} (h : ((p0 ≤ 0 → (((p2 ≤ 0 → (kw_foretold_22 post p1 p2 p3 0 u)) ∧ (¬ p2 ≤ 0 → (vp_in (p1 - 1) 432 ∧ (kw_foretold_22 post p1 p2 p3 ((gt_num u) (p1 - 1).toNatClampNeg) u)))))) ∧ (¬ p0 ≤ 0 → (post 0)))) : wpX_foretold post u p0 p1 p2 p3 := h
def kw_putNumber_97 (post : St1 → Prop) (x3 : Int32) (x4 : Int32) (u : St1) : Prop := wX_putNumber_97 post x3 x4 (gt_w u) (gt_h u) (gt_aw u) (gt_ah u) (gt_fw u) (gt_fh u) (gt_col u) (gt_oc u) (gt_lim u) (gt_low u) (gt_rng u) (gt_code u) (gt_held u) (gt_wait u) (gt_src u) (gt_end u) (gt_crc u) (gt_hand u) (gt_aside u) (gt_first u) (gt_by u) (gt_used u) (gt_tb u) (gt_pw u) (gt_ph u) (gt_ps u) (gt_num u) (gt_lg u) (gt_sm u) (gt_clr u) (gt_ch u) (gt_out u)
theorem ks_putNumber_97 {post : St1 → Prop} {x3 : Int32} {x4 : Int32} {u : St1} (h : wpX_putPlain (fun u1 => (post u1)) u x3 x4) : kw_putNumber_97 post x3 x4 u := h
def kw_putNumber_55 (post : St1 → Prop) (x1 : Int32) (x3 : Int32) (x4 : Int32) (n : Nat) (x5 : Int32) (u : St1) : Prop := wX_putNumber_55 post x1 x3 x4 n x5 (gt_w u) (gt_h u) (gt_aw u) (gt_ah u) (gt_fw u) (gt_fh u) (gt_col u) (gt_oc u) (gt_lim u) (gt_low u) (gt_rng u) (gt_code u) (gt_held u) (gt_wait u) (gt_src u) (gt_end u) (gt_crc u) (gt_hand u) (gt_aside u) (gt_first u) (gt_by u) (gt_used u) (gt_tb u) (gt_pw u) (gt_ph u) (gt_ps u) (gt_num u) (gt_lg u) (gt_sm u) (gt_clr u) (gt_ch u) (gt_out u)
theorem ks_putNumber_55 {post : St1 → Prop} {x1 : Int32} {x3 : Int32} {x4 : Int32} {n : Nat} {x5 : Int32} {u : St1} (h : ((x4 ≤ x5 → (((10 ≤ x4 → (kw_putNumber_97 post x3 x4 u)) ∧ (¬ 10 ≤ x4 → (wpX_putBit (fun u1 => (kw_putNumber_97 post x3 x4 u1)) u ((x1 + 2) + x4) 0))))) ∧ (¬ x4 ≤ x5 → (wpX_putBit (fun u2 => (∀ x5_323 : Int32, x5_323 = x5 + 1 → (kw_putNumber_55 post x1 x3 x4 n x5_323 u2))) u ((x1 + 2) + x5) 1)))) : kw_putNumber_55 post x1 x3 x4 (n + 1) x5 u := h
def kw_putNumber_45 (post : St1 → Prop) (x1 : Int32) (z0 : Int32) (u : St1) : Prop := wX_putNumber_45 post x1 z0 (gt_w u) (gt_h u) (gt_aw u) (gt_ah u) (gt_fw u) (gt_fh u) (gt_col u) (gt_oc u) (gt_lim u) (gt_low u) (gt_rng u) (gt_code u) (gt_held u) (gt_wait u) (gt_src u) (gt_end u) (gt_crc u) (gt_hand u) (gt_aside u) (gt_first u) (gt_by u) (gt_used u) (gt_tb u) (gt_pw u) (gt_ph u) (gt_ps u) (gt_num u) (gt_lg u) (gt_sm u) (gt_clr u) (gt_ch u) (gt_out u)
theorem ks_putNumber_45 {post : St1 → Prop} {x1 : Int32} {z0 : Int32} {u : St1} (h : wpX_sizeOf (fun r_131 => (∃ fu55 : Nat, kw_putNumber_55 post x1 z0 r_131 fu55 0 u)) () z0) : kw_putNumber_45 post x1 z0 u := h
def kw_putNumber_32 (post : St1 → Prop) (x1 : Int32) (x2 : Int32) (z0 : Int32) (z1 : Int32) (u : St1) : Prop := wX_putNumber_32 post x1 x2 z0 z1 (gt_w u) (gt_h u) (gt_aw u) (gt_ah u) (gt_fw u) (gt_fh u) (gt_col u) (gt_oc u) (gt_lim u) (gt_low u) (gt_rng u) (gt_code u) (gt_held u) (gt_wait u) (gt_src u) (gt_end u) (gt_crc u) (gt_hand u) (gt_aside u) (gt_first u) (gt_by u) (gt_used u) (gt_tb u) (gt_pw u) (gt_ph u) (gt_ps u) (gt_num u) (gt_lg u) (gt_sm u) (gt_clr u) (gt_ch u) (gt_out u)
theorem ks_putNumber_32 {post : St1 → Prop} {x1 : Int32} {x2 : Int32} {z0 : Int32} {z1 : Int32} {u : St1} (h : wpX_putBit (fun u1 => (((0 ≤ x2 → (kw_putNumber_45 post x1 x2 u1)) ∧ (¬ 0 ≤ x2 → (kw_putNumber_45 post x1 (-x2) u1))))) u z1 z0) : kw_putNumber_32 post x1 x2 z0 z1 u := h
def kw_putNumber_11 (post : St1 → Prop) (x1 : Int32) (x2 : Int32) (z0 : Int32) (z1 : Int32) (u : St1) : Prop := wX_putNumber_11 post x1 x2 z0 z1 (gt_w u) (gt_h u) (gt_aw u) (gt_ah u) (gt_fw u) (gt_fh u) (gt_col u) (gt_oc u) (gt_lim u) (gt_low u) (gt_rng u) (gt_code u) (gt_held u) (gt_wait u) (gt_src u) (gt_end u) (gt_crc u) (gt_hand u) (gt_aside u) (gt_first u) (gt_by u) (gt_used u) (gt_tb u) (gt_pw u) (gt_ph u) (gt_ps u) (gt_num u) (gt_lg u) (gt_sm u) (gt_clr u) (gt_ch u) (gt_out u)
theorem ks_putNumber_11 {post : St1 → Prop} {x1 : Int32} {x2 : Int32} {z0 : Int32} {z1 : Int32} {u : St1} (h : wpX_putBit (fun u1 => (((x2 = 0 → (post u1)) ∧ (¬ x2 = 0 → (((0 ≤ x2 → (kw_putNumber_32 post x1 x2 0 (x1 + 1) u1)) ∧ (¬ 0 ≤ x2 → (kw_putNumber_32 post x1 x2 1 (x1 + 1) u1)))))))) u z1 z0) : kw_putNumber_11 post x1 x2 z0 z1 u := h
theorem ks_putNumber {post : St1 → Prop} {u : St1} {p0 : Int32} {p1 : Int32} (h : ((p1 = 0 → (kw_putNumber_11 post p0 p1 0 p0 u)) ∧ (¬ p1 = 0 → (kw_putNumber_11 post p0 p1 1 p0 u)))) : wpX_putNumber post u p0 p1 := h
def kw_writePart_2 (post : St1 → Prop) (x1 : Int32) (x2 : Int32) (n : Nat) (x3 : Int32) (u : St1) : Prop := wX_writePart_2 post x1 x2 n x3 (gt_w u) (gt_h u) (gt_aw u) (gt_ah u) (gt_fw u) (gt_fh u) (gt_col u) (gt_oc u) (gt_lim u) (gt_low u) (gt_rng u) (gt_code u) (gt_held u) (gt_wait u) (gt_src u) (gt_end u) (gt_crc u) (gt_hand u) (gt_aside u) (gt_first u) (gt_by u) (gt_used u) (gt_tb u) (gt_pw u) (gt_ph u) (gt_ps u) (gt_num u) (gt_lg u) (gt_sm u) (gt_clr u) (gt_ch u) (gt_out u)
theorem ks_writePart_2 {post : St1 → Prop} {x1 : Int32} {x2 : Int32} {n : Nat} {x3 : Int32} {u : St1} (h : vp_in x1 5 ∧ (vp_in x1 5 ∧ ((((((gt_pw u) x1.toNatClampNeg) * ((gt_ph u) x1.toNatClampNeg)) ≤ x3 → (post u)) ∧ (¬ (((gt_pw u) x1.toNatClampNeg) * ((gt_ph u) x1.toNatClampNeg)) ≤ x3 → (vp_in x1 5 ∧ (¬ ((gt_pw u) x1.toNatClampNeg) = 0 ∧ (∀ x4_6 : Int32, x4_6 = x3 - x3 / ((gt_pw u) x1.toNatClampNeg) * ((gt_pw u) x1.toNatClampNeg) → (vp_in x1 5 ∧ (¬ ((gt_pw u) x1.toNatClampNeg) = 0 ∧ (∀ x5_9 : Int32, x5_9 = x3 / ((gt_pw u) x1.toNatClampNeg) → (vp_in x1 5 ∧ (∀ x6_11 : Int32, x6_11 = ((144 * x2) + ((gt_ps u) x1.toNatClampNeg)) + x3 → (wpX_contextOf (fun r_12 => (wpX_foretold (fun r_13 => (vp_in x6_11 432 ∧ (wpX_putNumber (fun u1 => (∀ x3_78 : Int32, x3_78 = x3 + 1 → (kw_writePart_2 post x1 x2 n x3_78 u1))) u r_12 (((gt_num u) x6_11.toNatClampNeg) - r_13)))) u x1 x6_11 x4_6 x5_9)) u x1 x2 x6_11 x4_6 x5_9)))))))))))))) : kw_writePart_2 post x1 x2 (n + 1) x3 u := h
theorem ks_writePart {post : St1 → Prop} {u : St1} {p0 : Int32} {p1 : Int32} (h : ∃ fu2 : Nat, kw_writePart_2 post p0 p1 fu2 0 u) : wpX_writePart post u p0 p1 := h
def kw_writePlanes_2 (post : St1 → Prop) (n : Nat) (x1 : Int32) (u : St1) : Prop := wX_writePlanes_2 post n x1 (gt_w u) (gt_h u) (gt_aw u) (gt_ah u) (gt_fw u) (gt_fh u) (gt_col u) (gt_oc u) (gt_lim u) (gt_low u) (gt_rng u) (gt_code u) (gt_held u) (gt_wait u) (gt_src u) (gt_end u) (gt_crc u) (gt_hand u) (gt_aside u) (gt_first u) (gt_by u) (gt_used u) (gt_tb u) (gt_pw u) (gt_ph u) (gt_ps u) (gt_num u) (gt_lg u) (gt_sm u) (gt_clr u) (gt_ch u) (gt_out u)
theorem ks_writePlanes_2 {post : St1 → Prop} {n : Nat} {x1 : Int32} {u : St1} (h : ((15 ≤ x1 → (post u)) ∧ (¬ 15 ≤ x1 → (¬ (3 : Int32) = 0 ∧ (¬ (3 : Int32) = 0 ∧ (wpX_writePart (fun u1 => (∀ x1_67 : Int32, x1_67 = x1 + 1 → (kw_writePlanes_2 post n x1_67 u1))) u (x1 / 3) (x1 - x1 / 3 * 3))))))) : kw_writePlanes_2 post (n + 1) x1 u := h
theorem ks_writePlanes {post : St1 → Prop} {u : St1} (h : ∃ fu2 : Nat, kw_writePlanes_2 post fu2 0 u) : wpX_writePlanes post u := h
def kw_packInto_96 (post : St1 → Prop) (x1 : Int32) (x3 : Int32) (n : Nat) (x4 : Int32) (u : St1) : Prop := wX_packInto_96 post x1 x3 (gt_w u) (gt_h u) (gt_aw u) (gt_ah u) (gt_fw u) (gt_fh u) (gt_col u) (gt_oc u) (gt_lim u) (gt_low u) (gt_rng u) (gt_code u) (gt_held u) (gt_wait u) (gt_src u) (gt_end u) (gt_crc u) n x4 (gt_hand u) (gt_aside u) (gt_first u) (gt_by u) (gt_used u) (gt_tb u) (gt_pw u) (gt_ph u) (gt_ps u) (gt_num u) (gt_lg u) (gt_sm u) (gt_clr u) (gt_ch u) (gt_out u)
theorem ks_packInto_96 {post : St1 → Prop} {x1 : Int32} {x3 : Int32} {n : Nat} {x4 : Int32} {u : St1} (h : ((6 ≤ x4 → (vp_in x1 4 ∧ ∀ am896_133 : Nat → Int32, am896_133 = upd (gt_tb u) x1.toNatClampNeg (-1) → (post (st_tb u am896_133)))) ∧ (¬ 6 ≤ x4 → (vp_in ((512 * x1) + x4) 2048 ∧ ∀ am894_135 : Nat → Int32, am894_135 = upd (gt_by u) ((512 * x1) + x4).toNatClampNeg ((x3 >>> ((8 * (5 - x4)) &&& 31)) &&& 255) → (∀ x4_136 : Int32, x4_136 = x4 + 1 → (kw_packInto_96 post x1 x3 n x4_136 (st_by u am894_135))))))) : kw_packInto_96 post x1 x3 (n + 1) x4 u := h
def kw_packInto_66 (post : St1 → Prop) (x1 : Int32) (u : St1) : Prop := wX_packInto_66 post x1 (gt_w u) (gt_h u) (gt_aw u) (gt_ah u) (gt_fw u) (gt_fh u) (gt_col u) (gt_oc u) (gt_lim u) (gt_low u) (gt_rng u) (gt_code u) (gt_held u) (gt_wait u) (gt_src u) (gt_end u) (gt_crc u) (gt_hand u) (gt_aside u) (gt_first u) (gt_by u) (gt_used u) (gt_tb u) (gt_pw u) (gt_ph u) (gt_ps u) (gt_num u) (gt_lg u) (gt_sm u) (gt_clr u) (gt_ch u) (gt_out u)
theorem ks_packInto_66 {post : St1 → Prop} {x1 : Int32} {u : St1} (h : vp_in (512 * x1) 2048 ∧ ∀ am24_67 : Nat → Int32, am24_67 = upd (gt_by u) (512 * x1).toNatClampNeg (((gt_w u) <<< ((4 : Int32) &&& 31)) ||| (gt_h u)) → (wpX_checkOf (fun r_68 u1 => (∃ fu96 : Nat, kw_packInto_96 post x1 r_68 fu96 2 u1)) (st_by u am24_67) x1)) : kw_packInto_66 post x1 u := h
def kw_packInto_34 (post : St1 → Prop) (x1 : Int32) (x2 : Int32) (u : St1) : Prop := wX_packInto_34 post x1 x2 (gt_w u) (gt_h u) (gt_aw u) (gt_ah u) (gt_fw u) (gt_fh u) (gt_col u) (gt_oc u) (gt_lim u) (gt_low u) (gt_rng u) (gt_code u) (gt_held u) (gt_wait u) (gt_src u) (gt_end u) (gt_crc u) (gt_hand u) (gt_aside u) (gt_first u) (gt_by u) (gt_used u) (gt_tb u) (gt_pw u) (gt_ph u) (gt_ps u) (gt_num u) (gt_lg u) (gt_sm u) (gt_clr u) (gt_ch u) (gt_out u)
theorem ks_packInto_34 {post : St1 → Prop} {x1 : Int32} {x2 : Int32} {u : St1} (h : (((x2 &&& 2) = 2 → (wpX_collect (fun r_137 u1 => (((r_137 = 0 → (kw_packInto_66 post x1 u1)) ∧ (¬ r_137 = 0 → (wpX_begin (fun u2 => (wpX_writePalette (fun u3 => (wpX_finish (fun u4 => (wpX_takeIfSmaller (fun u5 => (kw_packInto_66 post x1 u5)) u4 x1 2)) u3)) u2)) u1))))) u)) ∧ (¬ (x2 &&& 2) = 2 → (kw_packInto_66 post x1 u)))) : kw_packInto_34 post x1 x2 u := h
theorem ks_packInto {post : St1 → Prop} {u : St1} {p0 : Int32} {p1 : Int32} (h : wpX_packRaw (fun u1 => ((((p1 &&& 1) = 1 → (wpX_splitAll (fun u2 => (wpX_begin (fun u3 => (wpX_writePlanes (fun u4 => (wpX_finish (fun u5 => (wpX_takeIfSmaller (fun u6 => (kw_packInto_34 post p0 p1 u6)) u5 p0 1)) u4)) u3)) u2)) u1)) ∧ (¬ (p1 &&& 1) = 1 → (kw_packInto_34 post p0 p1 u1))))) u p0) : wpX_packInto post u p0 p1 := h
theorem ks_pack {post : Int32 → St1 → Prop} {u : St1} {p0 : Int32} {p1 : Int32} (h : wpX_isSlot (fun r_1 => (((r_1 = 0 → (post (-1) u)) ∧ (¬ r_1 = 0 → (wpX_packInto (fun u1 => (post 0 u1)) u p0 p1))))) () p0) : wpX_pack post u p0 p1 := h
def kw_isSound_4 (post : Int32 → St1 → Prop) (x1 : Int32) (n : Nat) (x2 : Int32) (x3 : Int32) (u : St1) : Prop := wX_isSound_4 post x1 (gt_w u) (gt_h u) (gt_aw u) (gt_ah u) (gt_fw u) (gt_fh u) (gt_col u) (gt_oc u) (gt_lim u) (gt_low u) (gt_rng u) (gt_code u) (gt_held u) (gt_wait u) (gt_src u) (gt_end u) (gt_crc u) (gt_hand u) (gt_aside u) (gt_first u) (gt_by u) (gt_used u) (gt_tb u) (gt_pw u) (gt_ph u) (gt_ps u) (gt_num u) (gt_lg u) (gt_sm u) (gt_clr u) (gt_ch u) (gt_out u) n x2 x3
theorem ks_isSound_4 {post : Int32 → St1 → Prop} {x1 : Int32} {n : Nat} {x2 : Int32} {x3 : Int32} {u : St1} (h : ((6 ≤ x3 → (wpX_checkOf (fun r_2 u1 => (((x2 = r_2 → (post 1 u1)) ∧ (¬ x2 = r_2 → (post 0 u1))))) u x1)) ∧ (¬ 6 ≤ x3 → (vp_in ((512 * x1) + x3) 2048 ∧ (∀ x2_67 : Int32, x2_67 = (x2 <<< ((8 : Int32) &&& 31)) ||| ((gt_by u) ((512 * x1) + x3).toNatClampNeg) → (∀ x3_68 : Int32, x3_68 = x3 + 1 → (kw_isSound_4 post x1 n x2_67 x3_68 u))))))) : kw_isSound_4 post x1 (n + 1) x2 x3 u := h
theorem ks_isSound {post : Int32 → St1 → Prop} {u : St1} {p0 : Int32} (h : ∃ fu4 : Nat, kw_isSound_4 post p0 fu4 0 2 u) : wpX_isSound post u p0 := h
def kw_exchange_38 (post : St1 → Prop) (n : Nat) (x3 : Int32) (u : St1) : Prop := wX_exchange_38 post (gt_w u) (gt_h u) (gt_aw u) (gt_ah u) (gt_fw u) (gt_fh u) (gt_col u) (gt_oc u) (gt_lim u) (gt_low u) (gt_rng u) (gt_code u) (gt_held u) (gt_wait u) (gt_src u) (gt_end u) (gt_crc u) n x3 (gt_hand u) (gt_aside u) (gt_first u) (gt_by u) (gt_used u) (gt_tb u) (gt_pw u) (gt_ph u) (gt_ps u) (gt_num u) (gt_lg u) (gt_sm u) (gt_clr u) (gt_ch u) (gt_out u)
theorem ks_exchange_38 {post : St1 → Prop} {n : Nat} {x3 : Int32} {u : St1} (h : ((432 ≤ x3 → (post u)) ∧ (¬ 432 ≤ x3 → (vp_in x3 432 ∧ (∀ x4_3 : Int32, x4_3 = (gt_hand u) x3.toNatClampNeg → (vp_in x3 432 ∧ (vp_in x3 432 ∧ ∀ a1_6 : Nat → Int32, a1_6 = upd (gt_hand u) x3.toNatClampNeg ((gt_aside u) x3.toNatClampNeg) → (vp_in x3 432 ∧ ∀ a2_8 : Nat → Int32, a2_8 = upd (gt_aside u) x3.toNatClampNeg x4_3 → (∀ x3_9 : Int32, x3_9 = x3 + 1 → (kw_exchange_38 post n x3_9 (st_aside (st_hand u a1_6) a2_8))))))))))) : kw_exchange_38 post (n + 1) x3 u := h
theorem ks_exchange {post : St1 → Prop} {u : St1} (h : ∃ fu38 : Nat, kw_exchange_38 post fu38 0 (st_ah (st_aw (st_h (st_w u (gt_aw u)) (gt_ah u)) (gt_w u)) (gt_h u))) : wpX_exchange post u := h
def kw_readRaw_27 (post : St1 → Prop) (J11 : Int32 → Int32 → St1 → Prop) (x3 : Int32) (n : Nat) (x2 : Int32) (x4 : Int32) (u : St1) : Prop := wX_readRaw_27 post (fun y1 y2 y3 y4 y5 y6 y7 y8 y9 y10 y11 y12 y13 y14 y15 y16 y17 => J11 y1 y2 (gt_w u, gt_h u, gt_aw u, gt_ah u, gt_fw u, gt_fh u, gt_col u, gt_oc u, gt_lim u, gt_low u, gt_rng u, gt_code u, gt_held u, gt_wait u, gt_src u, gt_end u, gt_crc u, y3, y4, y5, y6, y7, y8, y9, y10, y11, y12, y13, y14, y15, y16, y17)) x3 (gt_w u) (gt_h u) (gt_aw u) (gt_ah u) (gt_fw u) (gt_fh u) (gt_col u) (gt_oc u) (gt_lim u) (gt_low u) (gt_rng u) (gt_code u) (gt_held u) (gt_wait u) (gt_src u) (gt_end u) (gt_crc u) n x2 x4 (gt_hand u) (gt_aside u) (gt_first u) (gt_by u) (gt_used u) (gt_tb u) (gt_pw u) (gt_ph u) (gt_ps u) (gt_num u) (gt_lg u) (gt_sm u) (gt_clr u) (gt_ch u) (gt_out u)
theorem ks_readRaw_27 {post : St1 → Prop} {J11 : Int32 → Int32 → St1 → Prop} {x3 : Int32} {n : Nat} {x2 : Int32} {x4 : Int32} {u : St1} (h : ((3 ≤ x4 → (∀ x3_4 : Int32, x3_4 = x3 + 1 → (J11 x2 x3_4 u))) ∧ (¬ 3 ≤ x4 → (vp_in x2 2048 ∧ (vp_in ((144 * x4) + x3) 432 ∧ ∀ a1_7 : Nat → Int32, a1_7 = upd (gt_hand u) ((144 * x4) + x3).toNatClampNeg ((gt_by u) x2.toNatClampNeg) → (∀ x2_8 : Int32, x2_8 = x2 + 1 → (∀ x4_9 : Int32, x4_9 = x4 + 1 → (kw_readRaw_27 post J11 x3 n x2_8 x4_9 (st_hand u a1_7))))))))) : kw_readRaw_27 post J11 x3 (n + 1) x2 x4 u := h
def kw_readRaw_11 (post : St1 → Prop) (n : Nat) (x2 : Int32) (x3 : Int32) (u : St1) : Prop := wX_readRaw_11 post (gt_w u) (gt_h u) (gt_aw u) (gt_ah u) (gt_fw u) (gt_fh u) (gt_col u) (gt_oc u) (gt_lim u) (gt_low u) (gt_rng u) (gt_code u) (gt_held u) (gt_wait u) (gt_src u) (gt_end u) (gt_crc u) n x2 x3 (gt_hand u) (gt_aside u) (gt_first u) (gt_by u) (gt_used u) (gt_tb u) (gt_pw u) (gt_ph u) (gt_ps u) (gt_num u) (gt_lg u) (gt_sm u) (gt_clr u) (gt_ch u) (gt_out u)
theorem ks_readRaw_11 {post : St1 → Prop} {n : Nat} {x2 : Int32} {x3 : Int32} {u : St1} (h : ((((gt_w u) * (gt_h u)) ≤ x3 → (post u)) ∧ (¬ ((gt_w u) * (gt_h u)) ≤ x3 → (∃ fu27 : Nat, kw_readRaw_27 post ((kw_readRaw_11 post n)) x3 fu27 x2 0 u)))) : kw_readRaw_11 post (n + 1) x2 x3 u := h
theorem ks_readRaw {post : St1 → Prop} {u : St1} {p0 : Int32} (h : ∀ x2_1 : Int32, x2_1 = (512 * p0) + 6 → (∃ fu11 : Nat, kw_readRaw_11 post fu11 x2_1 0 u)) : wpX_readRaw post u p0 := h
theorem ks_alongX {post : Int32 → Prop} {u : St1} {p0 : Int32} {p1 : Int32} {p2 : Int32} (h : vp_in ((p0 + ((gt_w u) * p2)) + p1) 432 ∧ (∀ x4_2 : Int32, x4_2 = (gt_hand u) ((p0 + ((gt_w u) * p2)) + p1).toNatClampNeg → ((((gt_w u) ≤ (p1 + 1) → (post x4_2)) ∧ (¬ (gt_w u) ≤ (p1 + 1) → (vp_in (((p0 + ((gt_w u) * p2)) + p1) + 1) 432 ∧ (¬ (2 : Int32) = 0 ∧ (post ((x4_2 + ((gt_hand u) (((p0 + ((gt_w u) * p2)) + p1) + 1).toNatClampNeg)) / 2))))))))) : wpX_alongX post u p0 p1 p2 := h
theorem ks_halfAt {post : Int32 → Prop} {u : St1} {p0 : Int32} {p1 : Int32} {p2 : Int32} (h : wpX_alongX (fun r_1 => ((((gt_h u) ≤ (p2 + 1) → (post r_1)) ∧ (¬ (gt_h u) ≤ (p2 + 1) → (wpX_alongX (fun r_3 => (¬ (2 : Int32) = 0 ∧ (post ((r_1 + r_3) / 2)))) u p0 p1 (p2 + 1)))))) u p0 p1 p2) : wpX_halfAt post u p0 p1 p2 := h
def kw_halve_73 (post : Int32 → St1 → Prop) (J20 : Int32 → St1 → Prop) (x1 : Int32) (x2 : Int32) (x3 : Int32) (n : Nat) (x4 : Int32) (u : St1) : Prop := wX_halve_73 post (fun y1 y2 y3 y4 y5 y6 y7 y8 y9 y10 y11 y12 y13 y14 y15 y16 => J20 y1 (gt_w u, gt_h u, gt_aw u, gt_ah u, gt_fw u, gt_fh u, gt_col u, gt_oc u, gt_lim u, gt_low u, gt_rng u, gt_code u, gt_held u, gt_wait u, gt_src u, gt_end u, gt_crc u, y2, y3, y4, y5, y6, y7, y8, y9, y10, y11, y12, y13, y14, y15, y16)) x1 x2 x3 (gt_w u) (gt_h u) (gt_aw u) (gt_ah u) (gt_fw u) (gt_fh u) (gt_col u) (gt_oc u) (gt_lim u) (gt_low u) (gt_rng u) (gt_code u) (gt_held u) (gt_wait u) (gt_src u) (gt_end u) (gt_crc u) n x4 (gt_hand u) (gt_aside u) (gt_first u) (gt_by u) (gt_used u) (gt_tb u) (gt_pw u) (gt_ph u) (gt_ps u) (gt_num u) (gt_lg u) (gt_sm u) (gt_clr u) (gt_ch u) (gt_out u)
theorem ks_halve_73 {post : Int32 → St1 → Prop} {J20 : Int32 → St1 → Prop} {x1 : Int32} {x2 : Int32} {x3 : Int32} {n : Nat} {x4 : Int32} {u : St1} (h : (((x1 * x2) ≤ x4 → (∀ x3_8 : Int32, x3_8 = x3 + 1 → (J20 x3_8 u))) ∧ (¬ (x1 * x2) ≤ x4 → (vp_in x4 144 ∧ (vp_in ((144 * x3) + x4) 432 ∧ ∀ a1_11 : Nat → Int32, a1_11 = upd (gt_hand u) ((144 * x3) + x4).toNatClampNeg ((gt_sm u) x4.toNatClampNeg) → (∀ x4_12 : Int32, x4_12 = x4 + 1 → (kw_halve_73 post J20 x1 x2 x3 n x4_12 (st_hand u a1_11)))))))) : kw_halve_73 post J20 x1 x2 x3 (n + 1) x4 u := h
def kw_halve_28 (post : Int32 → St1 → Prop) (J20 : Int32 → St1 → Prop) (x1 : Int32) (x2 : Int32) (x3 : Int32) (n : Nat) (x4 : Int32) (u : St1) : Prop := wX_halve_28 post (fun y1 y2 y3 y4 y5 y6 y7 y8 y9 y10 y11 y12 y13 y14 y15 y16 => J20 y1 (gt_w u, gt_h u, gt_aw u, gt_ah u, gt_fw u, gt_fh u, gt_col u, gt_oc u, gt_lim u, gt_low u, gt_rng u, gt_code u, gt_held u, gt_wait u, gt_src u, gt_end u, gt_crc u, y2, y3, y4, y5, y6, y7, y8, y9, y10, y11, y12, y13, y14, y15, y16)) x1 x2 x3 (gt_w u) (gt_h u) (gt_aw u) (gt_ah u) (gt_fw u) (gt_fh u) (gt_col u) (gt_oc u) (gt_lim u) (gt_low u) (gt_rng u) (gt_code u) (gt_held u) (gt_wait u) (gt_src u) (gt_end u) (gt_crc u) n x4 (gt_hand u) (gt_aside u) (gt_first u) (gt_by u) (gt_used u) (gt_tb u) (gt_pw u) (gt_ph u) (gt_ps u) (gt_num u) (gt_lg u) (gt_sm u) (gt_clr u) (gt_ch u) (gt_out u)
theorem ks_halve_28 {post : Int32 → St1 → Prop} {J20 : Int32 → St1 → Prop} {x1 : Int32} {x2 : Int32} {x3 : Int32} {n : Nat} {x4 : Int32} {u : St1} (h : (((x1 * x2) ≤ x4 → (∃ fu73 : Nat, kw_halve_73 post J20 x1 x2 x3 fu73 0 u)) ∧ (¬ (x1 * x2) ≤ x4 → (¬ x1 = 0 ∧ (¬ x1 = 0 ∧ (wpX_halfAt (fun r_15 => (vp_in x4 144 ∧ ∀ a12_17 : Nat → Int32, a12_17 = upd (gt_sm u) x4.toNatClampNeg r_15 → (∀ x4_18 : Int32, x4_18 = x4 + 1 → (kw_halve_28 post J20 x1 x2 x3 n x4_18 (st_sm u a12_17))))) u (144 * x3) (2 * (x4 - x4 / x1 * x1)) (2 * (x4 / x1)))))))) : kw_halve_28 post J20 x1 x2 x3 (n + 1) x4 u := h
def kw_halve_20 (post : Int32 → St1 → Prop) (x1 : Int32) (x2 : Int32) (n : Nat) (x3 : Int32) (u : St1) : Prop := wX_halve_20 post x1 x2 (gt_w u) (gt_h u) (gt_aw u) (gt_ah u) (gt_fw u) (gt_fh u) (gt_col u) (gt_oc u) (gt_lim u) (gt_low u) (gt_rng u) (gt_code u) (gt_held u) (gt_wait u) (gt_src u) (gt_end u) (gt_crc u) n x3 (gt_hand u) (gt_aside u) (gt_first u) (gt_by u) (gt_used u) (gt_tb u) (gt_pw u) (gt_ph u) (gt_ps u) (gt_num u) (gt_lg u) (gt_sm u) (gt_clr u) (gt_ch u) (gt_out u)
theorem ks_halve_20 {post : Int32 → St1 → Prop} {x1 : Int32} {x2 : Int32} {n : Nat} {x3 : Int32} {u : St1} (h : ((3 ≤ x3 → (post (x1 * x2) (st_h (st_w u x1) x2))) ∧ (¬ 3 ≤ x3 → (∃ fu28 : Nat, kw_halve_28 post ((kw_halve_20 post x1 x2 n)) x1 x2 x3 fu28 0 u)))) : kw_halve_20 post x1 x2 (n + 1) x3 u := h
theorem ks_halve {post : Int32 → St1 → Prop} {u : St1} (h : ¬ (2 : Int32) = 0 ∧ (∀ x1_2 : Int32, x1_2 = ((gt_w u) + 1) / 2 → (¬ (2 : Int32) = 0 ∧ (∀ x2_4 : Int32, x2_4 = ((gt_h u) + 1) / 2 → (∃ fu20 : Nat, kw_halve_20 post x1_2 x2_4 fu20 0 u))))) : wpX_halve post u := h
def kw_nextByte_24 (post : Int32 → St1 → Prop) (z0 : Int32) (u : St1) : Prop := wX_nextByte_24 post z0 (gt_w u) (gt_h u) (gt_aw u) (gt_ah u) (gt_fw u) (gt_fh u) (gt_col u) (gt_oc u) (gt_lim u) (gt_low u) (gt_rng u) (gt_code u) (gt_held u) (gt_wait u) (gt_src u) (gt_end u) (gt_crc u) (gt_hand u) (gt_aside u) (gt_first u) (gt_by u) (gt_used u) (gt_tb u) (gt_pw u) (gt_ph u) (gt_ps u) (gt_num u) (gt_lg u) (gt_sm u) (gt_clr u) (gt_ch u) (gt_out u)
theorem ks_nextByte_24 {post : Int32 → St1 → Prop} {z0 : Int32} {u : St1} (h : ∀ f_2 : Int32, f_2 = (gt_src u) + 1 → (post z0 (st_src u f_2))) : kw_nextByte_24 post z0 u := h
theorem ks_nextByte {post : Int32 → St1 → Prop} {u : St1} (h : (((gt_end u) ≤ (gt_src u) → (kw_nextByte_24 post 0 u)) ∧ (¬ (gt_end u) ≤ (gt_src u) → (vp_in (gt_src u) 2048 ∧ (kw_nextByte_24 post ((gt_by u) (gt_src u).toNatClampNeg) u))))) : wpX_nextByte post u := h
def kw_open_42 (post : St1 → Prop) (n : Nat) (x2 : Int32) (u : St1) : Prop := wX_open_42 post n x2 (gt_w u) (gt_h u) (gt_aw u) (gt_ah u) (gt_fw u) (gt_fh u) (gt_col u) (gt_oc u) (gt_lim u) (gt_low u) (gt_rng u) (gt_code u) (gt_held u) (gt_wait u) (gt_src u) (gt_end u) (gt_crc u) (gt_hand u) (gt_aside u) (gt_first u) (gt_by u) (gt_used u) (gt_tb u) (gt_pw u) (gt_ph u) (gt_ps u) (gt_num u) (gt_lg u) (gt_sm u) (gt_clr u) (gt_ch u) (gt_out u)
theorem ks_open_42 {post : St1 → Prop} {n : Nat} {x2 : Int32} {u : St1} (h : ((5 ≤ x2 → (wpX_resetChances (fun u1 => (post u1)) u)) ∧ (¬ 5 ≤ x2 → (wpX_nextByte (fun r_68 u2 => (∀ f_131 : Int64, f_131 = ((gt_code u) <<< ((8 : Int32).toInt64 &&& 63)) ||| r_68.toInt64 → (∀ x2_132 : Int32, x2_132 = x2 + 1 → (kw_open_42 post n x2_132 (st_code u2 f_131))))) u)))) : kw_open_42 post (n + 1) x2 u := h
theorem ks_open {post : St1 → Prop} {u : St1} {p0 : Int32} (h : ∀ f_1 : Int32, f_1 = (512 * p0) + 6 → (vp_in p0 4 ∧ (∀ f_3 : Int32, f_3 = (512 * p0) + ((gt_used u) p0.toNatClampNeg) → (∃ fu42 : Nat, kw_open_42 post fu42 0 (st_end (st_src (st_code (st_rng u 4294967295) 0) f_1) f_3))))) : wpX_open post u p0 := h
def kw_refill_0 (post : St1 → Prop) (n : Nat) (u : St1) : Prop := wX_refill_0 post n (gt_w u) (gt_h u) (gt_aw u) (gt_ah u) (gt_fw u) (gt_fh u) (gt_col u) (gt_oc u) (gt_lim u) (gt_low u) (gt_rng u) (gt_code u) (gt_held u) (gt_wait u) (gt_src u) (gt_end u) (gt_crc u) (gt_hand u) (gt_aside u) (gt_first u) (gt_by u) (gt_used u) (gt_tb u) (gt_pw u) (gt_ph u) (gt_ps u) (gt_num u) (gt_lg u) (gt_sm u) (gt_clr u) (gt_ch u) (gt_out u)
theorem ks_refill_0 {post : St1 → Prop} {n : Nat} {u : St1} (h : ((16777216 ≤ (gt_rng u) → (post u)) ∧ (¬ 16777216 ≤ (gt_rng u) → (∀ f_2 : Int64, f_2 = (gt_rng u) <<< ((8 : Int32).toInt64 &&& 63) → (wpX_nextByte (fun r_3 u1 => (∀ f_66 : Int64, f_66 = ((gt_code u) <<< ((8 : Int32).toInt64 &&& 63)) ||| r_3.toInt64 → (kw_refill_0 post n (st_code u1 f_66)))) (st_rng u f_2)))))) : kw_refill_0 post (n + 1) u := h
theorem ks_refill {post : St1 → Prop} {u : St1} (h : ∃ fu0 : Nat, kw_refill_0 post fu0 u) : wpX_refill post u := h
def kw_takePlain_57 (post : Int32 → St1 → Prop) (J4 : Int32 → Int32 → St1 → Prop) (x1 : Int32) (x2 : Int32) (x3 : Int32) (x4 : Int32) (z0 : Int64) (z1 : Int64) (u : St1) : Prop := wX_takePlain_57 post (fun y1 y2 y3 y4 y5 y6 y7 y8 y9 y10 y11 y12 y13 y14 y15 y16 y17 y18 y19 y20 y21 y22 y23 y24 y25 y26 y27 y28 y29 y30 y31 y32 y33 y34 => J4 y1 y2 (y3, y4, y5, y6, y7, y8, y9, y10, y11, y12, y13, y14, y15, y16, y17, y18, y19, y20, y21, y22, y23, y24, y25, y26, y27, y28, y29, y30, y31, y32, y33, y34)) x1 x2 x3 x4 z0 z1 (gt_w u) (gt_h u) (gt_aw u) (gt_ah u) (gt_fw u) (gt_fh u) (gt_col u) (gt_oc u) (gt_lim u) (gt_low u) (gt_rng u) (gt_code u) (gt_held u) (gt_wait u) (gt_src u) (gt_end u) (gt_crc u) (gt_hand u) (gt_aside u) (gt_first u) (gt_by u) (gt_used u) (gt_tb u) (gt_pw u) (gt_ph u) (gt_ps u) (gt_num u) (gt_lg u) (gt_sm u) (gt_clr u) (gt_ch u) (gt_out u)
theorem ks_takePlain_57 {post : Int32 → St1 → Prop} {J4 : Int32 → Int32 → St1 → Prop} {x1 : Int32} {x2 : Int32} {x3 : Int32} {x4 : Int32} {z0 : Int64} {z1 : Int64} {u : St1} (h : ∀ f_5 : Int64, f_5 = z1 - z0 → (∀ x2_6 : Int32, x2_6 = (2 * x2) + x4 → (wpX_refill (fun u1 => (∀ x3_70 : Int32, x3_70 = x3 + 1 → (J4 x2_6 x3_70 u1))) (st_code u f_5)))) : kw_takePlain_57 post J4 x1 x2 x3 x4 z0 z1 u := h
def kw_takePlain_36 (post : Int32 → St1 → Prop) (J4 : Int32 → Int32 → St1 → Prop) (x1 : Int32) (x2 : Int32) (x3 : Int32) (z0 : Int32) (u : St1) : Prop := wX_takePlain_36 post (fun y1 y2 y3 y4 y5 y6 y7 y8 y9 y10 y11 y12 y13 y14 y15 y16 y17 y18 y19 y20 y21 y22 y23 y24 y25 y26 y27 y28 y29 y30 y31 y32 y33 y34 => J4 y1 y2 (y3, y4, y5, y6, y7, y8, y9, y10, y11, y12, y13, y14, y15, y16, y17, y18, y19, y20, y21, y22, y23, y24, y25, y26, y27, y28, y29, y30, y31, y32, y33, y34)) x1 x2 x3 z0 (gt_w u) (gt_h u) (gt_aw u) (gt_ah u) (gt_fw u) (gt_fh u) (gt_col u) (gt_oc u) (gt_lim u) (gt_low u) (gt_rng u) (gt_code u) (gt_held u) (gt_wait u) (gt_src u) (gt_end u) (gt_crc u) (gt_hand u) (gt_aside u) (gt_first u) (gt_by u) (gt_used u) (gt_tb u) (gt_pw u) (gt_ph u) (gt_ps u) (gt_num u) (gt_lg u) (gt_sm u) (gt_clr u) (gt_ch u) (gt_out u)
theorem ks_takePlain_36 {post : Int32 → St1 → Prop} {J4 : Int32 → Int32 → St1 → Prop} {x1 : Int32} {x2 : Int32} {x3 : Int32} {z0 : Int32} {u : St1} (h : ((z0 = 1 → (kw_takePlain_57 post J4 x1 x2 x3 z0 (gt_rng u) (gt_code u) u)) ∧ (¬ z0 = 1 → (kw_takePlain_57 post J4 x1 x2 x3 z0 0 (gt_code u) u)))) : kw_takePlain_36 post J4 x1 x2 x3 z0 u := h
def kw_takePlain_4 (post : Int32 → St1 → Prop) (x1 : Int32) (n : Nat) (x2 : Int32) (x3 : Int32) (u : St1) : Prop := wX_takePlain_4 post x1 n x2 x3 (gt_w u) (gt_h u) (gt_aw u) (gt_ah u) (gt_fw u) (gt_fh u) (gt_col u) (gt_oc u) (gt_lim u) (gt_low u) (gt_rng u) (gt_code u) (gt_held u) (gt_wait u) (gt_src u) (gt_end u) (gt_crc u) (gt_hand u) (gt_aside u) (gt_first u) (gt_by u) (gt_used u) (gt_tb u) (gt_pw u) (gt_ph u) (gt_ps u) (gt_num u) (gt_lg u) (gt_sm u) (gt_clr u) (gt_ch u) (gt_out u)
theorem ks_takePlain_4 {post : Int32 → St1 → Prop} {x1 : Int32} {n : Nat} {x2 : Int32} {x3 : Int32} {u : St1} (h : ((x1 ≤ x3 → (post x2 u)) ∧ (¬ x1 ≤ x3 → (∀ f_2 : Int64, f_2 = (gt_rng u) >>> ((1 : Int32).toInt64 &&& 63) → (((f_2 ≤ (gt_code u) → (kw_takePlain_36 post ((kw_takePlain_4 post x1 n)) x1 x2 x3 1 (st_rng u f_2))) ∧ (¬ f_2 ≤ (gt_code u) → (kw_takePlain_36 post ((kw_takePlain_4 post x1 n)) x1 x2 x3 0 (st_rng u f_2))))))))) : kw_takePlain_4 post x1 (n + 1) x2 x3 u := h
theorem ks_takePlain {post : Int32 → St1 → Prop} {u : St1} {p0 : Int32} (h : ∃ fu4 : Nat, kw_takePlain_4 post p0 fu4 0 0 u) : wpX_takePlain post u p0 := h
def kw_takeBit_65 (post : Int32 → St1 → Prop) (x1 : Int32) (x4 : Int32) (u : St1) : Prop := wX_takeBit_65 post x1 x4 (gt_w u) (gt_h u) (gt_aw u) (gt_ah u) (gt_fw u) (gt_fh u) (gt_col u) (gt_oc u) (gt_lim u) (gt_low u) (gt_rng u) (gt_code u) (gt_held u) (gt_wait u) (gt_src u) (gt_end u) (gt_crc u) (gt_hand u) (gt_aside u) (gt_first u) (gt_by u) (gt_used u) (gt_tb u) (gt_pw u) (gt_ph u) (gt_ps u) (gt_num u) (gt_lg u) (gt_sm u) (gt_clr u) (gt_ch u) (gt_out u)
theorem ks_takeBit_65 {post : Int32 → St1 → Prop} {x1 : Int32} {x4 : Int32} {u : St1} (h : wpX_learn (fun u1 => (wpX_refill (fun u2 => (post x4 u2)) u1)) u x1 x4) : kw_takeBit_65 post x1 x4 u := h
def kw_takeBit_30 (post : Int32 → St1 → Prop) (x1 : Int32) (x2 : Int64) (z0 : Int32) (u : St1) : Prop := wX_takeBit_30 post x1 x2 z0 (gt_w u) (gt_h u) (gt_aw u) (gt_ah u) (gt_fw u) (gt_fh u) (gt_col u) (gt_oc u) (gt_lim u) (gt_low u) (gt_rng u) (gt_code u) (gt_held u) (gt_wait u) (gt_src u) (gt_end u) (gt_crc u) (gt_hand u) (gt_aside u) (gt_first u) (gt_by u) (gt_used u) (gt_tb u) (gt_pw u) (gt_ph u) (gt_ps u) (gt_num u) (gt_lg u) (gt_sm u) (gt_clr u) (gt_ch u) (gt_out u)
theorem ks_takeBit_30 {post : Int32 → St1 → Prop} {x1 : Int32} {x2 : Int64} {z0 : Int32} {u : St1} (h : ((z0 = 0 → (kw_takeBit_65 post x1 z0 (st_rng u x2))) ∧ (¬ z0 = 0 → (∀ f_5 : Int64, f_5 = (gt_code u) - x2 → (∀ f_6 : Int64, f_6 = (gt_rng u) - x2 → (kw_takeBit_65 post x1 z0 (st_code (st_rng u f_6) f_5))))))) : kw_takeBit_30 post x1 x2 z0 u := h
theorem ks_takeBit {post : Int32 → St1 → Prop} {u : St1} {p0 : Int32} (h : vp_in p0 428 ∧ (∀ x2_2 : Int64, x2_2 = ((gt_rng u) >>> ((11 : Int32).toInt64 &&& 63)) * (((gt_ch u) p0.toNatClampNeg).toInt64) → (((x2_2 ≤ (gt_code u) → (kw_takeBit_30 post p0 x2_2 1 u)) ∧ (¬ x2_2 ≤ (gt_code u) → (kw_takeBit_30 post p0 x2_2 0 u)))))) : wpX_takeBit post u p0 := h
def kw_takeIndex_4 (post : Int32 → St1 → Prop) (x1 : Int32) (n : Nat) (x2 : Int32) (x3 : Int32) (u : St1) : Prop := wX_takeIndex_4 post x1 n x2 x3 (gt_w u) (gt_h u) (gt_aw u) (gt_ah u) (gt_fw u) (gt_fh u) (gt_col u) (gt_oc u) (gt_lim u) (gt_low u) (gt_rng u) (gt_code u) (gt_held u) (gt_wait u) (gt_src u) (gt_end u) (gt_crc u) (gt_hand u) (gt_aside u) (gt_first u) (gt_by u) (gt_used u) (gt_tb u) (gt_pw u) (gt_ph u) (gt_ps u) (gt_num u) (gt_lg u) (gt_sm u) (gt_clr u) (gt_ch u) (gt_out u)
theorem ks_takeIndex_4 {post : Int32 → St1 → Prop} {x1 : Int32} {n : Nat} {x2 : Int32} {x3 : Int32} {u : St1} (h : ((x3 < 0 → (post (x2 - 16) u)) ∧ (¬ x3 < 0 → (wpX_takeBit (fun r_2 u1 => (∀ x2_65 : Int32, x2_65 = (2 * x2) + r_2 → (∀ x3_66 : Int32, x3_66 = x3 + (-1) → (kw_takeIndex_4 post x1 n x2_65 x3_66 u1)))) u ((156 + (16 * x1)) + x2))))) : kw_takeIndex_4 post x1 (n + 1) x2 x3 u := h
theorem ks_takeIndex {post : Int32 → St1 → Prop} {u : St1} {p0 : Int32} (h : ∃ fu4 : Nat, kw_takeIndex_4 post p0 fu4 1 3 u) : wpX_takeIndex post u p0 := h
def kw_nextByte_2_24 (post : Int32 → St1 → Prop) (z0 : Int32) (u : St1) : Prop := wX_nextByte_2_24 post z0 (gt_w u) (gt_h u) (gt_aw u) (gt_ah u) (gt_fw u) (gt_fh u) (gt_col u) (gt_oc u) (gt_lim u) (gt_low u) (gt_rng u) (gt_code u) (gt_held u) (gt_wait u) (gt_src u) (gt_end u) (gt_crc u) (gt_hand u) (gt_aside u) (gt_first u) (gt_by u) (gt_used u) (gt_tb u) (gt_pw u) (gt_ph u) (gt_ps u) (gt_num u) (gt_lg u) (gt_sm u) (gt_clr u) (gt_ch u) (gt_out u)
theorem ks_nextByte_2_24 {post : Int32 → St1 → Prop} {z0 : Int32} {u : St1} (h : ∀ f_2 : Int32, f_2 = (gt_src u) + 1 → (post z0 (st_src u f_2))) : kw_nextByte_2_24 post z0 u := h
theorem ks_nextByte_2 {post : Int32 → St1 → Prop} {u : St1} (h : (((gt_end u) ≤ (gt_src u) → (kw_nextByte_2_24 post 0 u)) ∧ (¬ (gt_end u) ≤ (gt_src u) → (vp_in (gt_src u) 2048 ∧ (kw_nextByte_2_24 post ((gt_by u) (gt_src u).toNatClampNeg) u))))) : wpX_nextByte_2 post u := h
def kw_refill_2_0 (post : St1 → Prop) (n : Nat) (u : St1) : Prop := wX_refill_2_0 post n (gt_w u) (gt_h u) (gt_aw u) (gt_ah u) (gt_fw u) (gt_fh u) (gt_col u) (gt_oc u) (gt_lim u) (gt_low u) (gt_rng u) (gt_code u) (gt_held u) (gt_wait u) (gt_src u) (gt_end u) (gt_crc u) (gt_hand u) (gt_aside u) (gt_first u) (gt_by u) (gt_used u) (gt_tb u) (gt_pw u) (gt_ph u) (gt_ps u) (gt_num u) (gt_lg u) (gt_sm u) (gt_clr u) (gt_ch u) (gt_out u)
theorem ks_refill_2_0 {post : St1 → Prop} {n : Nat} {u : St1} (h : ((16777216 ≤ (gt_rng u) → (post u)) ∧ (¬ 16777216 ≤ (gt_rng u) → (∀ f_2 : Int64, f_2 = (gt_rng u) <<< ((8 : Int32).toInt64 &&& 63) → (wpX_nextByte_2 (fun r_3 u1 => (∀ f_64 : Int64, f_64 = ((gt_code u) <<< ((8 : Int32).toInt64 &&& 63)) ||| r_3.toInt64 → (kw_refill_2_0 post n (st_code u1 f_64)))) (st_rng u f_2)))))) : kw_refill_2_0 post (n + 1) u := h
theorem ks_refill_2 {post : St1 → Prop} {u : St1} (h : ∃ fu0 : Nat, kw_refill_2_0 post fu0 u) : wpX_refill_2 post u := h
def kw_takePlain_2_57 (post : Int32 → St1 → Prop) (J4 : Int32 → Int32 → St1 → Prop) (x1 : Int32) (x2 : Int32) (x3 : Int32) (x4 : Int32) (z0 : Int64) (z1 : Int64) (u : St1) : Prop := wX_takePlain_2_57 post (fun y1 y2 y3 y4 y5 y6 y7 y8 y9 y10 y11 y12 y13 y14 y15 y16 y17 y18 y19 y20 y21 y22 y23 y24 y25 y26 y27 y28 y29 y30 y31 y32 y33 y34 => J4 y1 y2 (y3, y4, y5, y6, y7, y8, y9, y10, y11, y12, y13, y14, y15, y16, y17, y18, y19, y20, y21, y22, y23, y24, y25, y26, y27, y28, y29, y30, y31, y32, y33, y34)) x1 x2 x3 x4 z0 z1 (gt_w u) (gt_h u) (gt_aw u) (gt_ah u) (gt_fw u) (gt_fh u) (gt_col u) (gt_oc u) (gt_lim u) (gt_low u) (gt_rng u) (gt_code u) (gt_held u) (gt_wait u) (gt_src u) (gt_end u) (gt_crc u) (gt_hand u) (gt_aside u) (gt_first u) (gt_by u) (gt_used u) (gt_tb u) (gt_pw u) (gt_ph u) (gt_ps u) (gt_num u) (gt_lg u) (gt_sm u) (gt_clr u) (gt_ch u) (gt_out u)
theorem ks_takePlain_2_57 {post : Int32 → St1 → Prop} {J4 : Int32 → Int32 → St1 → Prop} {x1 : Int32} {x2 : Int32} {x3 : Int32} {x4 : Int32} {z0 : Int64} {z1 : Int64} {u : St1} (h : ∀ f_5 : Int64, f_5 = z1 - z0 → (∀ x2_6 : Int32, x2_6 = (2 * x2) + x4 → (wpX_refill_2 (fun u1 => (∀ x3_68 : Int32, x3_68 = x3 + 1 → (J4 x2_6 x3_68 u1))) (st_code u f_5)))) : kw_takePlain_2_57 post J4 x1 x2 x3 x4 z0 z1 u := h
def kw_takePlain_2_36 (post : Int32 → St1 → Prop) (J4 : Int32 → Int32 → St1 → Prop) (x1 : Int32) (x2 : Int32) (x3 : Int32) (z0 : Int32) (u : St1) : Prop := wX_takePlain_2_36 post (fun y1 y2 y3 y4 y5 y6 y7 y8 y9 y10 y11 y12 y13 y14 y15 y16 y17 y18 y19 y20 y21 y22 y23 y24 y25 y26 y27 y28 y29 y30 y31 y32 y33 y34 => J4 y1 y2 (y3, y4, y5, y6, y7, y8, y9, y10, y11, y12, y13, y14, y15, y16, y17, y18, y19, y20, y21, y22, y23, y24, y25, y26, y27, y28, y29, y30, y31, y32, y33, y34)) x1 x2 x3 z0 (gt_w u) (gt_h u) (gt_aw u) (gt_ah u) (gt_fw u) (gt_fh u) (gt_col u) (gt_oc u) (gt_lim u) (gt_low u) (gt_rng u) (gt_code u) (gt_held u) (gt_wait u) (gt_src u) (gt_end u) (gt_crc u) (gt_hand u) (gt_aside u) (gt_first u) (gt_by u) (gt_used u) (gt_tb u) (gt_pw u) (gt_ph u) (gt_ps u) (gt_num u) (gt_lg u) (gt_sm u) (gt_clr u) (gt_ch u) (gt_out u)
theorem ks_takePlain_2_36 {post : Int32 → St1 → Prop} {J4 : Int32 → Int32 → St1 → Prop} {x1 : Int32} {x2 : Int32} {x3 : Int32} {z0 : Int32} {u : St1} (h : ((z0 = 1 → (kw_takePlain_2_57 post J4 x1 x2 x3 z0 (gt_rng u) (gt_code u) u)) ∧ (¬ z0 = 1 → (kw_takePlain_2_57 post J4 x1 x2 x3 z0 0 (gt_code u) u)))) : kw_takePlain_2_36 post J4 x1 x2 x3 z0 u := h
def kw_takePlain_2_4 (post : Int32 → St1 → Prop) (x1 : Int32) (n : Nat) (x2 : Int32) (x3 : Int32) (u : St1) : Prop := wX_takePlain_2_4 post x1 n x2 x3 (gt_w u) (gt_h u) (gt_aw u) (gt_ah u) (gt_fw u) (gt_fh u) (gt_col u) (gt_oc u) (gt_lim u) (gt_low u) (gt_rng u) (gt_code u) (gt_held u) (gt_wait u) (gt_src u) (gt_end u) (gt_crc u) (gt_hand u) (gt_aside u) (gt_first u) (gt_by u) (gt_used u) (gt_tb u) (gt_pw u) (gt_ph u) (gt_ps u) (gt_num u) (gt_lg u) (gt_sm u) (gt_clr u) (gt_ch u) (gt_out u)
theorem ks_takePlain_2_4 {post : Int32 → St1 → Prop} {x1 : Int32} {n : Nat} {x2 : Int32} {x3 : Int32} {u : St1} (h : ((x1 ≤ x3 → (post x2 u)) ∧ (¬ x1 ≤ x3 → (∀ f_2 : Int64, f_2 = (gt_rng u) >>> ((1 : Int32).toInt64 &&& 63) → (((f_2 ≤ (gt_code u) → (kw_takePlain_2_36 post ((kw_takePlain_2_4 post x1 n)) x1 x2 x3 1 (st_rng u f_2))) ∧ (¬ f_2 ≤ (gt_code u) → (kw_takePlain_2_36 post ((kw_takePlain_2_4 post x1 n)) x1 x2 x3 0 (st_rng u f_2))))))))) : kw_takePlain_2_4 post x1 (n + 1) x2 x3 u := h
theorem ks_takePlain_2 {post : Int32 → St1 → Prop} {u : St1} {p0 : Int32} (h : ∃ fu4 : Nat, kw_takePlain_2_4 post p0 fu4 0 0 u) : wpX_takePlain_2 post u p0 := h
def kw_readPalette_44 (post : St1 → Prop) (n : Nat) (x1 : Int32) (x2 : Int32) (u : St1) : Prop := wX_readPalette_44 post n x1 x2 (gt_w u) (gt_h u) (gt_aw u) (gt_ah u) (gt_fw u) (gt_fh u) (gt_col u) (gt_oc u) (gt_lim u) (gt_low u) (gt_rng u) (gt_code u) (gt_held u) (gt_wait u) (gt_src u) (gt_end u) (gt_crc u) (gt_hand u) (gt_aside u) (gt_first u) (gt_by u) (gt_used u) (gt_tb u) (gt_pw u) (gt_ph u) (gt_ps u) (gt_num u) (gt_lg u) (gt_sm u) (gt_clr u) (gt_ch u) (gt_out u)
theorem ks_readPalette_44 {post : St1 → Prop} {n : Nat} {x1 : Int32} {x2 : Int32} {u : St1} (h : ((((gt_w u) * (gt_h u)) ≤ x2 → (post u)) ∧ (¬ ((gt_w u) * (gt_h u)) ≤ x2 → (wpX_takeIndex (fun r_67 u1 => (vp_in r_67 16 ∧ (wpX_setColour (fun u2 => (∀ x2_194 : Int32, x2_194 = x2 + 1 → (kw_readPalette_44 post n r_67 x2_194 u2))) u1 x2 ((gt_clr u1) r_67.toNatClampNeg)))) u x1)))) : kw_readPalette_44 post (n + 1) x1 x2 u := h
def kw_readPalette_13 (post : St1 → Prop) (n : Nat) (x1 : Int32) (u : St1) : Prop := wX_readPalette_13 post n x1 (gt_w u) (gt_h u) (gt_aw u) (gt_ah u) (gt_fw u) (gt_fh u) (gt_col u) (gt_oc u) (gt_lim u) (gt_low u) (gt_rng u) (gt_code u) (gt_held u) (gt_wait u) (gt_src u) (gt_end u) (gt_crc u) (gt_hand u) (gt_aside u) (gt_first u) (gt_by u) (gt_used u) (gt_tb u) (gt_pw u) (gt_ph u) (gt_ps u) (gt_num u) (gt_lg u) (gt_sm u) (gt_clr u) (gt_ch u) (gt_out u)
theorem ks_readPalette_13 {post : St1 → Prop} {n : Nat} {x1 : Int32} {u : St1} (h : (((gt_col u) ≤ x1 → (∃ fu44 : Nat, kw_readPalette_44 post fu44 16 0 u)) ∧ (¬ (gt_col u) ≤ x1 → (wpX_takePlain_2 (fun r_195 u1 => (vp_in x1 16 ∧ ∀ am413_257 : Nat → Int32, am413_257 = upd (gt_clr u1) x1.toNatClampNeg r_195 → (∀ x1_258 : Int32, x1_258 = x1 + 1 → (kw_readPalette_13 post n x1_258 (st_clr u1 am413_257))))) u 24)))) : kw_readPalette_13 post (n + 1) x1 u := h
theorem ks_readPalette {post : St1 → Prop} {u : St1} (h : wpX_takePlain (fun r_1 u1 => (∀ f_64 : Int32, f_64 = 1 + r_1 → (∃ fu13 : Nat, kw_readPalette_13 post fu13 0 (st_col u1 f_64)))) u 4) : wpX_readPalette post u := h
def kw_layPlane_2 (post : St1 → Prop) (x1 : Int32) (n : Nat) (x2 : Int32) (u : St1) : Prop := wX_layPlane_2 post x1 (gt_w u) (gt_h u) (gt_aw u) (gt_ah u) (gt_fw u) (gt_fh u) (gt_col u) (gt_oc u) (gt_lim u) (gt_low u) (gt_rng u) (gt_code u) (gt_held u) (gt_wait u) (gt_src u) (gt_end u) (gt_crc u) n x2 (gt_hand u) (gt_aside u) (gt_first u) (gt_by u) (gt_used u) (gt_tb u) (gt_pw u) (gt_ph u) (gt_ps u) (gt_num u) (gt_lg u) (gt_sm u) (gt_clr u) (gt_ch u) (gt_out u)
theorem ks_layPlane_2 {post : St1 → Prop} {x1 : Int32} {n : Nat} {x2 : Int32} {u : St1} (h : ((((gt_ps u) 1) ≤ x2 → (post u)) ∧ (¬ ((gt_ps u) 1) ≤ x2 → (vp_in (x1 + x2) 432 ∧ (vp_in x2 144 ∧ ∀ a11_4 : Nat → Int32, a11_4 = upd (gt_lg u) x2.toNatClampNeg ((gt_num u) (x1 + x2).toNatClampNeg) → (∀ x2_5 : Int32, x2_5 = x2 + 1 → (kw_layPlane_2 post x1 n x2_5 (st_lg u a11_4)))))))) : kw_layPlane_2 post x1 (n + 1) x2 u := h
theorem ks_layPlane {post : St1 → Prop} {u : St1} {p0 : Int32} (h : ∃ fu2 : Nat, kw_layPlane_2 post p0 fu2 0 u) : wpX_layPlane post u p0 := h
def kw_takePlane_2 (post : St1 → Prop) (x1 : Int32) (n : Nat) (x2 : Int32) (u : St1) : Prop := wX_takePlane_2 post x1 (gt_w u) (gt_h u) (gt_aw u) (gt_ah u) (gt_fw u) (gt_fh u) (gt_col u) (gt_oc u) (gt_lim u) (gt_low u) (gt_rng u) (gt_code u) (gt_held u) (gt_wait u) (gt_src u) (gt_end u) (gt_crc u) n x2 (gt_hand u) (gt_aside u) (gt_first u) (gt_by u) (gt_used u) (gt_tb u) (gt_pw u) (gt_ph u) (gt_ps u) (gt_num u) (gt_lg u) (gt_sm u) (gt_clr u) (gt_ch u) (gt_out u)
theorem ks_takePlane_2 {post : St1 → Prop} {x1 : Int32} {n : Nat} {x2 : Int32} {u : St1} (h : ((((gt_w u) * (gt_h u)) ≤ x2 → (post u)) ∧ (¬ ((gt_w u) * (gt_h u)) ≤ x2 → (vp_in x2 144 ∧ (vp_in (x1 + x2) 432 ∧ ∀ a1_4 : Nat → Int32, a1_4 = upd (gt_hand u) (x1 + x2).toNatClampNeg ((gt_lg u) x2.toNatClampNeg) → (∀ x2_5 : Int32, x2_5 = x2 + 1 → (kw_takePlane_2 post x1 n x2_5 (st_hand u a1_4)))))))) : kw_takePlane_2 post x1 (n + 1) x2 u := h
theorem ks_takePlane {post : St1 → Prop} {u : St1} {p0 : Int32} (h : ∃ fu2 : Nat, kw_takePlane_2 post p0 fu2 0 u) : wpX_takePlane post u p0 := h
def kw_join_216 (post : St1 → Prop) (J138 : Int32 → St1 → Prop) (J147 : Int32 → St1 → Prop) (x1 : Int32) (x2 : Int32) (x3 : Int32) (x4 : Int32) (x5 : Int32) (x6 : Int32) (x7 : Int32) (x8 : Int32) (z0 : Int32) (u : St1) : Prop := wX_join_216 post (fun y1 y2 y3 y4 y5 y6 y7 y8 y9 y10 y11 y12 y13 y14 y15 y16 => J138 y1 (gt_w u, gt_h u, gt_aw u, gt_ah u, gt_fw u, gt_fh u, gt_col u, gt_oc u, gt_lim u, gt_low u, gt_rng u, gt_code u, gt_held u, gt_wait u, gt_src u, gt_end u, gt_crc u, y2, y3, y4, y5, y6, y7, y8, y9, y10, y11, y12, y13, y14, y15, y16)) (fun y1 y2 y3 y4 y5 y6 y7 y8 y9 y10 y11 y12 y13 y14 y15 y16 => J147 y1 (gt_w u, gt_h u, gt_aw u, gt_ah u, gt_fw u, gt_fh u, gt_col u, gt_oc u, gt_lim u, gt_low u, gt_rng u, gt_code u, gt_held u, gt_wait u, gt_src u, gt_end u, gt_crc u, y2, y3, y4, y5, y6, y7, y8, y9, y10, y11, y12, y13, y14, y15, y16)) x1 x2 x3 x4 x5 x6 x7 x8 z0 (gt_w u) (gt_h u) (gt_aw u) (gt_ah u) (gt_fw u) (gt_fh u) (gt_col u) (gt_oc u) (gt_lim u) (gt_low u) (gt_rng u) (gt_code u) (gt_held u) (gt_wait u) (gt_src u) (gt_end u) (gt_crc u) (gt_hand u) (gt_aside u) (gt_first u) (gt_by u) (gt_used u) (gt_tb u) (gt_pw u) (gt_ph u) (gt_ps u) (gt_num u) (gt_lg u) (gt_sm u) (gt_clr u) (gt_ch u) (gt_out u)
theorem ks_join_216 {post : St1 → Prop} {J138 : Int32 → St1 → Prop} {J147 : Int32 → St1 → Prop} {x1 : Int32} {x2 : Int32} {x3 : Int32} {x4 : Int32} {x5 : Int32} {x6 : Int32} {x7 : Int32} {x8 : Int32} {z0 : Int32} {u : St1} (h : ∀ x10_10 : Int32, x10_10 = x8 + ((z0 + 1) >>> ((1 : Int32) &&& 31)) → ((((x7 &&& 1) = 0 → (vp_in ((x2 * x6) + x7) 144 ∧ ∀ a11_16 : Nat → Int32, a11_16 = upd (gt_lg u) ((x2 * x6) + x7).toNatClampNeg x10_10 → (∀ x7_17 : Int32, x7_17 = x7 + 1 → (J147 x7_17 (st_lg u a11_16))))) ∧ (¬ (x7 &&& 1) = 0 → (vp_in ((x2 * x6) + x7) 144 ∧ ∀ a11_13 : Nat → Int32, a11_13 = upd (gt_lg u) ((x2 * x6) + x7).toNatClampNeg (x10_10 - z0) → (∀ x7_14 : Int32, x7_14 = x7 + 1 → (J147 x7_14 (st_lg u a11_13)))))))) : kw_join_216 post J138 J147 x1 x2 x3 x4 x5 x6 x7 x8 z0 u := h
def kw_join_147 (post : St1 → Prop) (J138 : Int32 → St1 → Prop) (x1 : Int32) (x2 : Int32) (x3 : Int32) (x4 : Int32) (x5 : Int32) (x6 : Int32) (n : Nat) (x7 : Int32) (u : St1) : Prop := wX_join_147 post (fun y1 y2 y3 y4 y5 y6 y7 y8 y9 y10 y11 y12 y13 y14 y15 y16 => J138 y1 (gt_w u, gt_h u, gt_aw u, gt_ah u, gt_fw u, gt_fh u, gt_col u, gt_oc u, gt_lim u, gt_low u, gt_rng u, gt_code u, gt_held u, gt_wait u, gt_src u, gt_end u, gt_crc u, y2, y3, y4, y5, y6, y7, y8, y9, y10, y11, y12, y13, y14, y15, y16)) x1 x2 x3 x4 x5 x6 (gt_w u) (gt_h u) (gt_aw u) (gt_ah u) (gt_fw u) (gt_fh u) (gt_col u) (gt_oc u) (gt_lim u) (gt_low u) (gt_rng u) (gt_code u) (gt_held u) (gt_wait u) (gt_src u) (gt_end u) (gt_crc u) n x7 (gt_hand u) (gt_aside u) (gt_first u) (gt_by u) (gt_used u) (gt_tb u) (gt_pw u) (gt_ph u) (gt_ps u) (gt_num u) (gt_lg u) (gt_sm u) (gt_clr u) (gt_ch u) (gt_out u)
theorem ks_join_147 {post : St1 → Prop} {J138 : Int32 → St1 → Prop} {x1 : Int32} {x2 : Int32} {x3 : Int32} {x4 : Int32} {x5 : Int32} {x6 : Int32} {n : Nat} {x7 : Int32} {u : St1} (h : ((x2 ≤ x7 → (∀ x6_6 : Int32, x6_6 = x6 + 1 → (J138 x6_6 u))) ∧ (¬ x2 ≤ x7 → (vp_in ((x5 * x6) + (x7 >>> ((1 : Int32) &&& 31))) 144 ∧ (∀ x8_8 : Int32, x8_8 = (gt_sm u) ((x5 * x6) + (x7 >>> ((1 : Int32) &&& 31))).toNatClampNeg → (((x2 ≤ (x7 ||| 1) → (kw_join_216 post J138 ((kw_join_147 post J138 x1 x2 x3 x4 x5 x6 n)) x1 x2 x3 x4 x5 x6 x7 x8_8 0 u)) ∧ (¬ x2 ≤ (x7 ||| 1) → (vp_in (x4 + 1) 5 ∧ (vp_in (x4 + 1) 5 ∧ (vp_in (((x1 + ((gt_ps u) (x4 + 1).toNatClampNeg)) + (((gt_pw u) (x4 + 1).toNatClampNeg) * x6)) + (x7 >>> ((1 : Int32) &&& 31))) 432 ∧ (kw_join_216 post J138 ((kw_join_147 post J138 x1 x2 x3 x4 x5 x6 n)) x1 x2 x3 x4 x5 x6 x7 x8_8 ((gt_num u) (((x1 + ((gt_ps u) (x4 + 1).toNatClampNeg)) + (((gt_pw u) (x4 + 1).toNatClampNeg) * x6)) + (x7 >>> ((1 : Int32) &&& 31))).toNatClampNeg) u)))))))))))) : kw_join_147 post J138 x1 x2 x3 x4 x5 x6 (n + 1) x7 u := h
def kw_join_138 (post : St1 → Prop) (x1 : Int32) (x2 : Int32) (x3 : Int32) (x4 : Int32) (x5 : Int32) (n : Nat) (x6 : Int32) (u : St1) : Prop := wX_join_138 post x1 x2 x3 x4 x5 (gt_w u) (gt_h u) (gt_aw u) (gt_ah u) (gt_fw u) (gt_fh u) (gt_col u) (gt_oc u) (gt_lim u) (gt_low u) (gt_rng u) (gt_code u) (gt_held u) (gt_wait u) (gt_src u) (gt_end u) (gt_crc u) n x6 (gt_hand u) (gt_aside u) (gt_first u) (gt_by u) (gt_used u) (gt_tb u) (gt_pw u) (gt_ph u) (gt_ps u) (gt_num u) (gt_lg u) (gt_sm u) (gt_clr u) (gt_ch u) (gt_out u)
theorem ks_join_138 {post : St1 → Prop} {x1 : Int32} {x2 : Int32} {x3 : Int32} {x4 : Int32} {x5 : Int32} {n : Nat} {x6 : Int32} {u : St1} (h : ((x3 ≤ x6 → (post u)) ∧ (¬ x3 ≤ x6 → (∃ fu147 : Nat, kw_join_147 post ((kw_join_138 post x1 x2 x3 x4 x5 n)) x1 x2 x3 x4 x5 x6 fu147 0 u)))) : kw_join_138 post x1 x2 x3 x4 x5 (n + 1) x6 u := h
def kw_join_80 (post : St1 → Prop) (J10 : Int32 → St1 → Prop) (J19 : Int32 → St1 → Prop) (x1 : Int32) (x2 : Int32) (x3 : Int32) (x4 : Int32) (x5 : Int32) (x6 : Int32) (x7 : Int32) (x8 : Int32) (z0 : Int32) (u : St1) : Prop := wX_join_80 post (fun y1 y2 y3 y4 y5 y6 y7 y8 y9 y10 y11 y12 y13 y14 y15 y16 => J10 y1 (gt_w u, gt_h u, gt_aw u, gt_ah u, gt_fw u, gt_fh u, gt_col u, gt_oc u, gt_lim u, gt_low u, gt_rng u, gt_code u, gt_held u, gt_wait u, gt_src u, gt_end u, gt_crc u, y2, y3, y4, y5, y6, y7, y8, y9, y10, y11, y12, y13, y14, y15, y16)) (fun y1 y2 y3 y4 y5 y6 y7 y8 y9 y10 y11 y12 y13 y14 y15 y16 => J19 y1 (gt_w u, gt_h u, gt_aw u, gt_ah u, gt_fw u, gt_fh u, gt_col u, gt_oc u, gt_lim u, gt_low u, gt_rng u, gt_code u, gt_held u, gt_wait u, gt_src u, gt_end u, gt_crc u, y2, y3, y4, y5, y6, y7, y8, y9, y10, y11, y12, y13, y14, y15, y16)) x1 x2 x3 x4 x5 x6 x7 x8 z0 (gt_w u) (gt_h u) (gt_aw u) (gt_ah u) (gt_fw u) (gt_fh u) (gt_col u) (gt_oc u) (gt_lim u) (gt_low u) (gt_rng u) (gt_code u) (gt_held u) (gt_wait u) (gt_src u) (gt_end u) (gt_crc u) (gt_hand u) (gt_aside u) (gt_first u) (gt_by u) (gt_used u) (gt_tb u) (gt_pw u) (gt_ph u) (gt_ps u) (gt_num u) (gt_lg u) (gt_sm u) (gt_clr u) (gt_ch u) (gt_out u)
theorem ks_join_80 {post : St1 → Prop} {J10 : Int32 → St1 → Prop} {J19 : Int32 → St1 → Prop} {x1 : Int32} {x2 : Int32} {x3 : Int32} {x4 : Int32} {x5 : Int32} {x6 : Int32} {x7 : Int32} {x8 : Int32} {z0 : Int32} {u : St1} (h : ∀ x10_26 : Int32, x10_26 = x8 + ((z0 + 1) >>> ((1 : Int32) &&& 31)) → ((((x6 &&& 1) = 0 → (vp_in ((x5 * x6) + x7) 144 ∧ ∀ a12_32 : Nat → Int32, a12_32 = upd (gt_sm u) ((x5 * x6) + x7).toNatClampNeg x10_26 → (∀ x7_33 : Int32, x7_33 = x7 + 1 → (J19 x7_33 (st_sm u a12_32))))) ∧ (¬ (x6 &&& 1) = 0 → (vp_in ((x5 * x6) + x7) 144 ∧ ∀ a12_29 : Nat → Int32, a12_29 = upd (gt_sm u) ((x5 * x6) + x7).toNatClampNeg (x10_26 - z0) → (∀ x7_30 : Int32, x7_30 = x7 + 1 → (J19 x7_30 (st_sm u a12_29)))))))) : kw_join_80 post J10 J19 x1 x2 x3 x4 x5 x6 x7 x8 z0 u := h
def kw_join_19 (post : St1 → Prop) (J10 : Int32 → St1 → Prop) (x1 : Int32) (x2 : Int32) (x3 : Int32) (x4 : Int32) (x5 : Int32) (x6 : Int32) (n : Nat) (x7 : Int32) (u : St1) : Prop := wX_join_19 post (fun y1 y2 y3 y4 y5 y6 y7 y8 y9 y10 y11 y12 y13 y14 y15 y16 => J10 y1 (gt_w u, gt_h u, gt_aw u, gt_ah u, gt_fw u, gt_fh u, gt_col u, gt_oc u, gt_lim u, gt_low u, gt_rng u, gt_code u, gt_held u, gt_wait u, gt_src u, gt_end u, gt_crc u, y2, y3, y4, y5, y6, y7, y8, y9, y10, y11, y12, y13, y14, y15, y16)) x1 x2 x3 x4 x5 x6 (gt_w u) (gt_h u) (gt_aw u) (gt_ah u) (gt_fw u) (gt_fh u) (gt_col u) (gt_oc u) (gt_lim u) (gt_low u) (gt_rng u) (gt_code u) (gt_held u) (gt_wait u) (gt_src u) (gt_end u) (gt_crc u) n x7 (gt_hand u) (gt_aside u) (gt_first u) (gt_by u) (gt_used u) (gt_tb u) (gt_pw u) (gt_ph u) (gt_ps u) (gt_num u) (gt_lg u) (gt_sm u) (gt_clr u) (gt_ch u) (gt_out u)
theorem ks_join_19 {post : St1 → Prop} {J10 : Int32 → St1 → Prop} {x1 : Int32} {x2 : Int32} {x3 : Int32} {x4 : Int32} {x5 : Int32} {x6 : Int32} {n : Nat} {x7 : Int32} {u : St1} (h : ((x5 ≤ x7 → (∀ x6_22 : Int32, x6_22 = x6 + 1 → (J10 x6_22 u))) ∧ (¬ x5 ≤ x7 → (vp_in ((x5 * (x6 >>> ((1 : Int32) &&& 31))) + x7) 144 ∧ (∀ x8_24 : Int32, x8_24 = (gt_lg u) ((x5 * (x6 >>> ((1 : Int32) &&& 31))) + x7).toNatClampNeg → (((x3 ≤ (x6 ||| 1) → (kw_join_80 post J10 ((kw_join_19 post J10 x1 x2 x3 x4 x5 x6 n)) x1 x2 x3 x4 x5 x6 x7 x8_24 0 u)) ∧ (¬ x3 ≤ (x6 ||| 1) → (vp_in x4 5 ∧ (vp_in (((x1 + ((gt_ps u) x4.toNatClampNeg)) + (x5 * (x6 >>> ((1 : Int32) &&& 31)))) + x7) 432 ∧ (kw_join_80 post J10 ((kw_join_19 post J10 x1 x2 x3 x4 x5 x6 n)) x1 x2 x3 x4 x5 x6 x7 x8_24 ((gt_num u) (((x1 + ((gt_ps u) x4.toNatClampNeg)) + (x5 * (x6 >>> ((1 : Int32) &&& 31)))) + x7).toNatClampNeg) u))))))))))) : kw_join_19 post J10 x1 x2 x3 x4 x5 x6 (n + 1) x7 u := h
def kw_join_10 (post : St1 → Prop) (x1 : Int32) (x2 : Int32) (x3 : Int32) (x4 : Int32) (x5 : Int32) (n : Nat) (x6 : Int32) (u : St1) : Prop := wX_join_10 post x1 x2 x3 x4 x5 (gt_w u) (gt_h u) (gt_aw u) (gt_ah u) (gt_fw u) (gt_fh u) (gt_col u) (gt_oc u) (gt_lim u) (gt_low u) (gt_rng u) (gt_code u) (gt_held u) (gt_wait u) (gt_src u) (gt_end u) (gt_crc u) n x6 (gt_hand u) (gt_aside u) (gt_first u) (gt_by u) (gt_used u) (gt_tb u) (gt_pw u) (gt_ph u) (gt_ps u) (gt_num u) (gt_lg u) (gt_sm u) (gt_clr u) (gt_ch u) (gt_out u)
theorem ks_join_10 {post : St1 → Prop} {x1 : Int32} {x2 : Int32} {x3 : Int32} {x4 : Int32} {x5 : Int32} {n : Nat} {x6 : Int32} {u : St1} (h : ((x3 ≤ x6 → (∃ fu138 : Nat, kw_join_138 post x1 x2 x3 x4 x5 fu138 0 u)) ∧ (¬ x3 ≤ x6 → (∃ fu19 : Nat, kw_join_19 post ((kw_join_10 post x1 x2 x3 x4 x5 n)) x1 x2 x3 x4 x5 x6 fu19 0 u)))) : kw_join_10 post x1 x2 x3 x4 x5 (n + 1) x6 u := h
theorem ks_join {post : St1 → Prop} {u : St1} {p0 : Int32} {p1 : Int32} {p2 : Int32} {p3 : Int32} (h : ¬ (2 : Int32) = 0 ∧ (∀ x5_2 : Int32, x5_2 = (p1 + 1) / 2 → (∃ fu10 : Nat, kw_join_10 post p0 p1 p2 p3 x5_2 fu10 0 u))) : wpX_join post u p0 p1 p2 p3 := h
theorem ks_unmix {post : St1 → Prop} {u : St1} {p0 : Int32} (h : vp_in (144 + p0) 432 ∧ (∀ x2_2 : Int32, x2_2 = (gt_num u) (144 + p0).toNatClampNeg → (vp_in (288 + p0) 432 ∧ (∀ x3_4 : Int32, x3_4 = (gt_num u) (288 + p0).toNatClampNeg → (vp_in p0 432 ∧ (∀ x4_6 : Int32, x4_6 = ((gt_num u) p0.toNatClampNeg) - (x3_4 >>> ((1 : Int32) &&& 31)) → (∀ x5_7 : Int32, x5_7 = x4_6 - (x2_2 >>> ((1 : Int32) &&& 31)) → (vp_in p0 432 ∧ ∀ a10_9 : Nat → Int32, a10_9 = upd (gt_num u) p0.toNatClampNeg (x5_7 + x2_2) → (vp_in (144 + p0) 432 ∧ ∀ a10_11 : Nat → Int32, a10_11 = upd a10_9 (144 + p0).toNatClampNeg (x3_4 + x4_6) → (vp_in (288 + p0) 432 ∧ ∀ a10_13 : Nat → Int32, a10_13 = upd a10_11 (288 + p0).toNatClampNeg x5_7 → (post (st_num u a10_13)))))))))))) : wpX_unmix post u p0 := h
theorem ks_learn_2 {post : St1 → Prop} {u : St1} {p0 : Int32} {p1 : Int32} (h : vp_in p0 428 ∧ (∀ x3_2 : Int32, x3_2 = (gt_ch u) p0.toNatClampNeg → (((p1 = 0 → (vp_in p0 428 ∧ ∀ a14_7 : Nat → Int32, a14_7 = upd (gt_ch u) p0.toNatClampNeg (x3_2 + ((2048 - x3_2) >>> ((5 : Int32) &&& 31))) → (post (st_ch u a14_7)))) ∧ (¬ p1 = 0 → (vp_in p0 428 ∧ ∀ a14_5 : Nat → Int32, a14_5 = upd (gt_ch u) p0.toNatClampNeg (x3_2 - (x3_2 >>> ((5 : Int32) &&& 31))) → (post (st_ch u a14_5)))))))) : wpX_learn_2 post u p0 p1 := h
def kw_nextByte_3_24 (post : Int32 → St1 → Prop) (z0 : Int32) (u : St1) : Prop := wX_nextByte_3_24 post z0 (gt_w u) (gt_h u) (gt_aw u) (gt_ah u) (gt_fw u) (gt_fh u) (gt_col u) (gt_oc u) (gt_lim u) (gt_low u) (gt_rng u) (gt_code u) (gt_held u) (gt_wait u) (gt_src u) (gt_end u) (gt_crc u) (gt_hand u) (gt_aside u) (gt_first u) (gt_by u) (gt_used u) (gt_tb u) (gt_pw u) (gt_ph u) (gt_ps u) (gt_num u) (gt_lg u) (gt_sm u) (gt_clr u) (gt_ch u) (gt_out u)
theorem ks_nextByte_3_24 {post : Int32 → St1 → Prop} {z0 : Int32} {u : St1} (h : ∀ f_2 : Int32, f_2 = (gt_src u) + 1 → (post z0 (st_src u f_2))) : kw_nextByte_3_24 post z0 u := h
theorem ks_nextByte_3 {post : Int32 → St1 → Prop} {u : St1} (h : (((gt_end u) ≤ (gt_src u) → (kw_nextByte_3_24 post 0 u)) ∧ (¬ (gt_end u) ≤ (gt_src u) → (vp_in (gt_src u) 2048 ∧ (kw_nextByte_3_24 post ((gt_by u) (gt_src u).toNatClampNeg) u))))) : wpX_nextByte_3 post u := h
def kw_refill_3_0 (post : St1 → Prop) (n : Nat) (u : St1) : Prop := wX_refill_3_0 post n (gt_w u) (gt_h u) (gt_aw u) (gt_ah u) (gt_fw u) (gt_fh u) (gt_col u) (gt_oc u) (gt_lim u) (gt_low u) (gt_rng u) (gt_code u) (gt_held u) (gt_wait u) (gt_src u) (gt_end u) (gt_crc u) (gt_hand u) (gt_aside u) (gt_first u) (gt_by u) (gt_used u) (gt_tb u) (gt_pw u) (gt_ph u) (gt_ps u) (gt_num u) (gt_lg u) (gt_sm u) (gt_clr u) (gt_ch u) (gt_out u)
theorem ks_refill_3_0 {post : St1 → Prop} {n : Nat} {u : St1} (h : ((16777216 ≤ (gt_rng u) → (post u)) ∧ (¬ 16777216 ≤ (gt_rng u) → (∀ f_2 : Int64, f_2 = (gt_rng u) <<< ((8 : Int32).toInt64 &&& 63) → (wpX_nextByte_3 (fun r_3 u1 => (∀ f_64 : Int64, f_64 = ((gt_code u) <<< ((8 : Int32).toInt64 &&& 63)) ||| r_3.toInt64 → (kw_refill_3_0 post n (st_code u1 f_64)))) (st_rng u f_2)))))) : kw_refill_3_0 post (n + 1) u := h
theorem ks_refill_3 {post : St1 → Prop} {u : St1} (h : ∃ fu0 : Nat, kw_refill_3_0 post fu0 u) : wpX_refill_3 post u := h
def kw_takeBit_2_65 (post : Int32 → St1 → Prop) (x1 : Int32) (x4 : Int32) (u : St1) : Prop := wX_takeBit_2_65 post x1 x4 (gt_w u) (gt_h u) (gt_aw u) (gt_ah u) (gt_fw u) (gt_fh u) (gt_col u) (gt_oc u) (gt_lim u) (gt_low u) (gt_rng u) (gt_code u) (gt_held u) (gt_wait u) (gt_src u) (gt_end u) (gt_crc u) (gt_hand u) (gt_aside u) (gt_first u) (gt_by u) (gt_used u) (gt_tb u) (gt_pw u) (gt_ph u) (gt_ps u) (gt_num u) (gt_lg u) (gt_sm u) (gt_clr u) (gt_ch u) (gt_out u)
theorem ks_takeBit_2_65 {post : Int32 → St1 → Prop} {x1 : Int32} {x4 : Int32} {u : St1} (h : wpX_learn_2 (fun u1 => (wpX_refill_3 (fun u2 => (post x4 u2)) u1)) u x1 x4) : kw_takeBit_2_65 post x1 x4 u := h
def kw_takeBit_2_30 (post : Int32 → St1 → Prop) (x1 : Int32) (x2 : Int64) (z0 : Int32) (u : St1) : Prop := wX_takeBit_2_30 post x1 x2 z0 (gt_w u) (gt_h u) (gt_aw u) (gt_ah u) (gt_fw u) (gt_fh u) (gt_col u) (gt_oc u) (gt_lim u) (gt_low u) (gt_rng u) (gt_code u) (gt_held u) (gt_wait u) (gt_src u) (gt_end u) (gt_crc u) (gt_hand u) (gt_aside u) (gt_first u) (gt_by u) (gt_used u) (gt_tb u) (gt_pw u) (gt_ph u) (gt_ps u) (gt_num u) (gt_lg u) (gt_sm u) (gt_clr u) (gt_ch u) (gt_out u)
theorem ks_takeBit_2_30 {post : Int32 → St1 → Prop} {x1 : Int32} {x2 : Int64} {z0 : Int32} {u : St1} (h : ((z0 = 0 → (kw_takeBit_2_65 post x1 z0 (st_rng u x2))) ∧ (¬ z0 = 0 → (∀ f_5 : Int64, f_5 = (gt_code u) - x2 → (∀ f_6 : Int64, f_6 = (gt_rng u) - x2 → (kw_takeBit_2_65 post x1 z0 (st_code (st_rng u f_6) f_5))))))) : kw_takeBit_2_30 post x1 x2 z0 u := h
theorem ks_takeBit_2 {post : Int32 → St1 → Prop} {u : St1} {p0 : Int32} (h : vp_in p0 428 ∧ (∀ x2_2 : Int64, x2_2 = ((gt_rng u) >>> ((11 : Int32).toInt64 &&& 63)) * (((gt_ch u) p0.toNatClampNeg).toInt64) → (((x2_2 ≤ (gt_code u) → (kw_takeBit_2_30 post p0 x2_2 1 u)) ∧ (¬ x2_2 ≤ (gt_code u) → (kw_takeBit_2_30 post p0 x2_2 0 u)))))) : wpX_takeBit_2 post u p0 := h
def kw_takePlain_3_57 (post : Int32 → St1 → Prop) (J4 : Int32 → Int32 → St1 → Prop) (x1 : Int32) (x2 : Int32) (x3 : Int32) (x4 : Int32) (z0 : Int64) (z1 : Int64) (u : St1) : Prop := wX_takePlain_3_57 post (fun y1 y2 y3 y4 y5 y6 y7 y8 y9 y10 y11 y12 y13 y14 y15 y16 y17 y18 y19 y20 y21 y22 y23 y24 y25 y26 y27 y28 y29 y30 y31 y32 y33 y34 => J4 y1 y2 (y3, y4, y5, y6, y7, y8, y9, y10, y11, y12, y13, y14, y15, y16, y17, y18, y19, y20, y21, y22, y23, y24, y25, y26, y27, y28, y29, y30, y31, y32, y33, y34)) x1 x2 x3 x4 z0 z1 (gt_w u) (gt_h u) (gt_aw u) (gt_ah u) (gt_fw u) (gt_fh u) (gt_col u) (gt_oc u) (gt_lim u) (gt_low u) (gt_rng u) (gt_code u) (gt_held u) (gt_wait u) (gt_src u) (gt_end u) (gt_crc u) (gt_hand u) (gt_aside u) (gt_first u) (gt_by u) (gt_used u) (gt_tb u) (gt_pw u) (gt_ph u) (gt_ps u) (gt_num u) (gt_lg u) (gt_sm u) (gt_clr u) (gt_ch u) (gt_out u)
theorem ks_takePlain_3_57 {post : Int32 → St1 → Prop} {J4 : Int32 → Int32 → St1 → Prop} {x1 : Int32} {x2 : Int32} {x3 : Int32} {x4 : Int32} {z0 : Int64} {z1 : Int64} {u : St1} (h : ∀ f_5 : Int64, f_5 = z1 - z0 → (∀ x2_6 : Int32, x2_6 = (2 * x2) + x4 → (wpX_refill_3 (fun u1 => (∀ x3_68 : Int32, x3_68 = x3 + 1 → (J4 x2_6 x3_68 u1))) (st_code u f_5)))) : kw_takePlain_3_57 post J4 x1 x2 x3 x4 z0 z1 u := h
def kw_takePlain_3_36 (post : Int32 → St1 → Prop) (J4 : Int32 → Int32 → St1 → Prop) (x1 : Int32) (x2 : Int32) (x3 : Int32) (z0 : Int32) (u : St1) : Prop := wX_takePlain_3_36 post (fun y1 y2 y3 y4 y5 y6 y7 y8 y9 y10 y11 y12 y13 y14 y15 y16 y17 y18 y19 y20 y21 y22 y23 y24 y25 y26 y27 y28 y29 y30 y31 y32 y33 y34 => J4 y1 y2 (y3, y4, y5, y6, y7, y8, y9, y10, y11, y12, y13, y14, y15, y16, y17, y18, y19, y20, y21, y22, y23, y24, y25, y26, y27, y28, y29, y30, y31, y32, y33, y34)) x1 x2 x3 z0 (gt_w u) (gt_h u) (gt_aw u) (gt_ah u) (gt_fw u) (gt_fh u) (gt_col u) (gt_oc u) (gt_lim u) (gt_low u) (gt_rng u) (gt_code u) (gt_held u) (gt_wait u) (gt_src u) (gt_end u) (gt_crc u) (gt_hand u) (gt_aside u) (gt_first u) (gt_by u) (gt_used u) (gt_tb u) (gt_pw u) (gt_ph u) (gt_ps u) (gt_num u) (gt_lg u) (gt_sm u) (gt_clr u) (gt_ch u) (gt_out u)
theorem ks_takePlain_3_36 {post : Int32 → St1 → Prop} {J4 : Int32 → Int32 → St1 → Prop} {x1 : Int32} {x2 : Int32} {x3 : Int32} {z0 : Int32} {u : St1} (h : ((z0 = 1 → (kw_takePlain_3_57 post J4 x1 x2 x3 z0 (gt_rng u) (gt_code u) u)) ∧ (¬ z0 = 1 → (kw_takePlain_3_57 post J4 x1 x2 x3 z0 0 (gt_code u) u)))) : kw_takePlain_3_36 post J4 x1 x2 x3 z0 u := h
def kw_takePlain_3_4 (post : Int32 → St1 → Prop) (x1 : Int32) (n : Nat) (x2 : Int32) (x3 : Int32) (u : St1) : Prop := wX_takePlain_3_4 post x1 n x2 x3 (gt_w u) (gt_h u) (gt_aw u) (gt_ah u) (gt_fw u) (gt_fh u) (gt_col u) (gt_oc u) (gt_lim u) (gt_low u) (gt_rng u) (gt_code u) (gt_held u) (gt_wait u) (gt_src u) (gt_end u) (gt_crc u) (gt_hand u) (gt_aside u) (gt_first u) (gt_by u) (gt_used u) (gt_tb u) (gt_pw u) (gt_ph u) (gt_ps u) (gt_num u) (gt_lg u) (gt_sm u) (gt_clr u) (gt_ch u) (gt_out u)
theorem ks_takePlain_3_4 {post : Int32 → St1 → Prop} {x1 : Int32} {n : Nat} {x2 : Int32} {x3 : Int32} {u : St1} (h : ((x1 ≤ x3 → (post x2 u)) ∧ (¬ x1 ≤ x3 → (∀ f_2 : Int64, f_2 = (gt_rng u) >>> ((1 : Int32).toInt64 &&& 63) → (((f_2 ≤ (gt_code u) → (kw_takePlain_3_36 post ((kw_takePlain_3_4 post x1 n)) x1 x2 x3 1 (st_rng u f_2))) ∧ (¬ f_2 ≤ (gt_code u) → (kw_takePlain_3_36 post ((kw_takePlain_3_4 post x1 n)) x1 x2 x3 0 (st_rng u f_2))))))))) : kw_takePlain_3_4 post x1 (n + 1) x2 x3 u := h
theorem ks_takePlain_3 {post : Int32 → St1 → Prop} {u : St1} {p0 : Int32} (h : ∃ fu4 : Nat, kw_takePlain_3_4 post p0 fu4 0 0 u) : wpX_takePlain_3 post u p0 := h
def kw_takeNumber_45 (post : Int32 → St1 → Prop) (x2 : Int32) (x3 : Int32) (u : St1) : Prop := wX_takeNumber_45 post x2 x3 (gt_w u) (gt_h u) (gt_aw u) (gt_ah u) (gt_fw u) (gt_fh u) (gt_col u) (gt_oc u) (gt_lim u) (gt_low u) (gt_rng u) (gt_code u) (gt_held u) (gt_wait u) (gt_src u) (gt_end u) (gt_crc u) (gt_hand u) (gt_aside u) (gt_first u) (gt_by u) (gt_used u) (gt_tb u) (gt_pw u) (gt_ph u) (gt_ps u) (gt_num u) (gt_lg u) (gt_sm u) (gt_clr u) (gt_ch u) (gt_out u)
theorem ks_takeNumber_45 {post : Int32 → St1 → Prop} {x2 : Int32} {x3 : Int32} {u : St1} (h : wpX_takePlain_3 (fun r_125 u1 => (∀ x4_186 : Int32, x4_186 = ((1 : Int32) <<< (x3 &&& 31)) ||| r_125 → (((x2 = 1 → (post (-x4_186) u1)) ∧ (¬ x2 = 1 → (post x4_186 u1)))))) u x3) : kw_takeNumber_45 post x2 x3 u := h
def kw_takeNumber_20 (post : Int32 → St1 → Prop) (x1 : Int32) (x2 : Int32) (n : Nat) (x3 : Int32) (u : St1) : Prop := wX_takeNumber_20 post x1 x2 n x3 (gt_w u) (gt_h u) (gt_aw u) (gt_ah u) (gt_fw u) (gt_fh u) (gt_col u) (gt_oc u) (gt_lim u) (gt_low u) (gt_rng u) (gt_code u) (gt_held u) (gt_wait u) (gt_src u) (gt_end u) (gt_crc u) (gt_hand u) (gt_aside u) (gt_first u) (gt_by u) (gt_used u) (gt_tb u) (gt_pw u) (gt_ph u) (gt_ps u) (gt_num u) (gt_lg u) (gt_sm u) (gt_clr u) (gt_ch u) (gt_out u)
theorem ks_takeNumber_20 {post : Int32 → St1 → Prop} {x1 : Int32} {x2 : Int32} {n : Nat} {x3 : Int32} {u : St1} (h : ((10 ≤ x3 → (kw_takeNumber_45 post x2 x3 u)) ∧ (¬ 10 ≤ x3 → (wpX_takeBit_2 (fun r_188 u1 => (((r_188 = 1 → (∀ x3_250 : Int32, x3_250 = x3 + 1 → (kw_takeNumber_20 post x1 x2 n x3_250 u1))) ∧ (¬ r_188 = 1 → (kw_takeNumber_45 post x2 x3 u1))))) u ((x1 + 2) + x3))))) : kw_takeNumber_20 post x1 x2 (n + 1) x3 u := h
theorem ks_takeNumber {post : Int32 → St1 → Prop} {u : St1} {p0 : Int32} (h : wpX_takeBit_2 (fun r_1 u1 => (((r_1 = 0 → (post 0 u1)) ∧ (¬ r_1 = 0 → (wpX_takeBit_2 (fun r_63 u2 => (∃ fu20 : Nat, kw_takeNumber_20 post p0 r_63 fu20 0 u2)) u1 (p0 + 1)))))) u p0) : wpX_takeNumber post u p0 := h
def kw_readPart_2 (post : St1 → Prop) (x1 : Int32) (x2 : Int32) (n : Nat) (x3 : Int32) (u : St1) : Prop := wX_readPart_2 post x1 x2 n x3 (gt_w u) (gt_h u) (gt_aw u) (gt_ah u) (gt_fw u) (gt_fh u) (gt_col u) (gt_oc u) (gt_lim u) (gt_low u) (gt_rng u) (gt_code u) (gt_held u) (gt_wait u) (gt_src u) (gt_end u) (gt_crc u) (gt_hand u) (gt_aside u) (gt_first u) (gt_by u) (gt_used u) (gt_tb u) (gt_pw u) (gt_ph u) (gt_ps u) (gt_num u) (gt_lg u) (gt_sm u) (gt_clr u) (gt_ch u) (gt_out u)
theorem ks_readPart_2 {post : St1 → Prop} {x1 : Int32} {x2 : Int32} {n : Nat} {x3 : Int32} {u : St1} (h : vp_in x1 5 ∧ (vp_in x1 5 ∧ ((((((gt_pw u) x1.toNatClampNeg) * ((gt_ph u) x1.toNatClampNeg)) ≤ x3 → (post u)) ∧ (¬ (((gt_pw u) x1.toNatClampNeg) * ((gt_ph u) x1.toNatClampNeg)) ≤ x3 → (vp_in x1 5 ∧ (¬ ((gt_pw u) x1.toNatClampNeg) = 0 ∧ (∀ x4_6 : Int32, x4_6 = x3 - x3 / ((gt_pw u) x1.toNatClampNeg) * ((gt_pw u) x1.toNatClampNeg) → (vp_in x1 5 ∧ (¬ ((gt_pw u) x1.toNatClampNeg) = 0 ∧ (∀ x5_9 : Int32, x5_9 = x3 / ((gt_pw u) x1.toNatClampNeg) → (vp_in x1 5 ∧ (∀ x6_11 : Int32, x6_11 = ((144 * x2) + ((gt_ps u) x1.toNatClampNeg)) + x3 → (wpX_contextOf (fun r_12 => (wpX_foretold (fun r_13 => (wpX_takeNumber (fun r_14 u1 => (vp_in x6_11 432 ∧ ∀ a10_76 : Nat → Int32, a10_76 = upd (gt_num u1) x6_11.toNatClampNeg (r_13 + r_14) → (∀ x3_77 : Int32, x3_77 = x3 + 1 → (kw_readPart_2 post x1 x2 n x3_77 (st_num u1 a10_76))))) u r_12)) u x1 x6_11 x4_6 x5_9)) u x1 x2 x6_11 x4_6 x5_9)))))))))))))) : kw_readPart_2 post x1 x2 (n + 1) x3 u := h
theorem ks_readPart {post : St1 → Prop} {u : St1} {p0 : Int32} {p1 : Int32} (h : ∃ fu2 : Nat, kw_readPart_2 post p0 p1 fu2 0 u) : wpX_readPart post u p0 p1 := h
def kw_readPlanes_236 (post : St1 → Prop) (J182 : Int32 → St1 → Prop) (x1 : Int32) (x2 : Int32) (x3 : Int32) (x6 : Int32) (x7 : Int32) (x8 : Int32) (u : St1) : Prop := wX_readPlanes_236 post (fun y1 y2 y3 y4 y5 y6 y7 y8 y9 y10 y11 y12 y13 y14 y15 y16 y17 y18 y19 y20 y21 y22 y23 y24 y25 y26 y27 y28 y29 y30 y31 y32 y33 => J182 y1 (y2, y3, y4, y5, y6, y7, y8, y9, y10, y11, y12, y13, y14, y15, y16, y17, y18, y19, y20, y21, y22, y23, y24, y25, y26, y27, y28, y29, y30, y31, y32, y33)) x1 x2 x3 x6 x7 x8 (gt_w u) (gt_h u) (gt_aw u) (gt_ah u) (gt_fw u) (gt_fh u) (gt_col u) (gt_oc u) (gt_lim u) (gt_low u) (gt_rng u) (gt_code u) (gt_held u) (gt_wait u) (gt_src u) (gt_end u) (gt_crc u) (gt_hand u) (gt_aside u) (gt_first u) (gt_by u) (gt_used u) (gt_tb u) (gt_pw u) (gt_ph u) (gt_ps u) (gt_num u) (gt_lg u) (gt_sm u) (gt_clr u) (gt_ch u) (gt_out u)
theorem ks_readPlanes_236 {post : St1 → Prop} {J182 : Int32 → St1 → Prop} {x1 : Int32} {x2 : Int32} {x3 : Int32} {x6 : Int32} {x7 : Int32} {x8 : Int32} {u : St1} (h : wpX_takePlane (fun u1 => (∀ x8_210 : Int32, x8_210 = x8 + 1 → (J182 x8_210 u1))) u (144 * x8)) : kw_readPlanes_236 post J182 x1 x2 x3 x6 x7 x8 u := h
def kw_readPlanes_218 (post : St1 → Prop) (J182 : Int32 → St1 → Prop) (x1 : Int32) (x2 : Int32) (x3 : Int32) (x6 : Int32) (x7 : Int32) (x8 : Int32) (u : St1) : Prop := wX_readPlanes_218 post (fun y1 y2 y3 y4 y5 y6 y7 y8 y9 y10 y11 y12 y13 y14 y15 y16 y17 y18 y19 y20 y21 y22 y23 y24 y25 y26 y27 y28 y29 y30 y31 y32 y33 => J182 y1 (y2, y3, y4, y5, y6, y7, y8, y9, y10, y11, y12, y13, y14, y15, y16, y17, y18, y19, y20, y21, y22, y23, y24, y25, y26, y27, y28, y29, y30, y31, y32, y33)) x1 x2 x3 x6 x7 x8 (gt_w u) (gt_h u) (gt_aw u) (gt_ah u) (gt_fw u) (gt_fh u) (gt_col u) (gt_oc u) (gt_lim u) (gt_low u) (gt_rng u) (gt_code u) (gt_held u) (gt_wait u) (gt_src u) (gt_end u) (gt_crc u) (gt_hand u) (gt_aside u) (gt_first u) (gt_by u) (gt_used u) (gt_tb u) (gt_pw u) (gt_ph u) (gt_ps u) (gt_num u) (gt_lg u) (gt_sm u) (gt_clr u) (gt_ch u) (gt_out u)
theorem ks_readPlanes_218 {post : St1 → Prop} {J182 : Int32 → St1 → Prop} {x1 : Int32} {x2 : Int32} {x3 : Int32} {x6 : Int32} {x7 : Int32} {x8 : Int32} {u : St1} (h : ((1 ≤ x3 → (kw_readPlanes_236 post J182 x1 x2 x3 x6 x7 x8 u)) ∧ (¬ 1 ≤ x3 → (wpX_join (fun u1 => (kw_readPlanes_236 post J182 x1 x2 x3 x6 x7 x8 u1)) u (144 * x8) x1 x2 3)))) : kw_readPlanes_218 post J182 x1 x2 x3 x6 x7 x8 u := h
def kw_readPlanes_182 (post : St1 → Prop) (x1 : Int32) (x2 : Int32) (x3 : Int32) (x6 : Int32) (x7 : Int32) (n : Nat) (x8 : Int32) (u : St1) : Prop := wX_readPlanes_182 post x1 x2 x3 x6 x7 n x8 (gt_w u) (gt_h u) (gt_aw u) (gt_ah u) (gt_fw u) (gt_fh u) (gt_col u) (gt_oc u) (gt_lim u) (gt_low u) (gt_rng u) (gt_code u) (gt_held u) (gt_wait u) (gt_src u) (gt_end u) (gt_crc u) (gt_hand u) (gt_aside u) (gt_first u) (gt_by u) (gt_used u) (gt_tb u) (gt_pw u) (gt_ph u) (gt_ps u) (gt_num u) (gt_lg u) (gt_sm u) (gt_clr u) (gt_ch u) (gt_out u)
theorem ks_readPlanes_182 {post : St1 → Prop} {x1 : Int32} {x2 : Int32} {x3 : Int32} {x6 : Int32} {x7 : Int32} {n : Nat} {x8 : Int32} {u : St1} (h : ((3 ≤ x8 → (post u)) ∧ (¬ 3 ≤ x8 → (wpX_layPlane (fun u1 => (((2 ≤ x3 → (kw_readPlanes_218 post ((kw_readPlanes_182 post x1 x2 x3 x6 x7 n)) x1 x2 x3 x6 x7 x8 u1)) ∧ (¬ 2 ≤ x3 → (wpX_join (fun u2 => (kw_readPlanes_218 post ((kw_readPlanes_182 post x1 x2 x3 x6 x7 n)) x1 x2 x3 x6 x7 x8 u2)) u1 (144 * x8) x6 x7 1))))) u (144 * x8))))) : kw_readPlanes_182 post x1 x2 x3 x6 x7 (n + 1) x8 u := h
def kw_readPlanes_148 (post : St1 → Prop) (x1 : Int32) (x2 : Int32) (x3 : Int32) (x6 : Int32) (x7 : Int32) (z0 : Int32) (u : St1) : Prop := wX_readPlanes_148 post x1 x2 x3 x6 x7 z0 (gt_w u) (gt_h u) (gt_aw u) (gt_ah u) (gt_fw u) (gt_fh u) (gt_col u) (gt_oc u) (gt_lim u) (gt_low u) (gt_rng u) (gt_code u) (gt_held u) (gt_wait u) (gt_src u) (gt_end u) (gt_crc u) (gt_hand u) (gt_aside u) (gt_first u) (gt_by u) (gt_used u) (gt_tb u) (gt_pw u) (gt_ph u) (gt_ps u) (gt_num u) (gt_lg u) (gt_sm u) (gt_clr u) (gt_ch u) (gt_out u)
theorem ks_readPlanes_148 {post : St1 → Prop} {x1 : Int32} {x2 : Int32} {x3 : Int32} {x6 : Int32} {x7 : Int32} {z0 : Int32} {u : St1} (h : ((x3 = 0 → (∃ fu182 : Nat, kw_readPlanes_182 post x1 x2 x3 x6 x7 fu182 0 (st_h (st_w u z0) x2))) ∧ (¬ x3 = 0 → (((x3 = 1 → (∃ fu182 : Nat, kw_readPlanes_182 post x1 x2 x3 x6 x7 fu182 0 (st_h (st_w u z0) x7))) ∧ (¬ x3 = 1 → (∀ f_80 : Int32, f_80 = (gt_ph u) 0 → (∃ fu182 : Nat, kw_readPlanes_182 post x1 x2 x3 x6 x7 fu182 0 (st_h (st_w u z0) f_80))))))))) : kw_readPlanes_148 post x1 x2 x3 x6 x7 z0 u := h
def kw_readPlanes_90 (post : St1 → Prop) (x1 : Int32) (x2 : Int32) (x3 : Int32) (x5 : Int32) (n : Nat) (x6 : Int32) (u : St1) : Prop := wX_readPlanes_90 post x1 x2 x3 x5 n x6 (gt_w u) (gt_h u) (gt_aw u) (gt_ah u) (gt_fw u) (gt_fh u) (gt_col u) (gt_oc u) (gt_lim u) (gt_low u) (gt_rng u) (gt_code u) (gt_held u) (gt_wait u) (gt_src u) (gt_end u) (gt_crc u) (gt_hand u) (gt_aside u) (gt_first u) (gt_by u) (gt_used u) (gt_tb u) (gt_pw u) (gt_ph u) (gt_ps u) (gt_num u) (gt_lg u) (gt_sm u) (gt_clr u) (gt_ch u) (gt_out u)
theorem ks_readPlanes_90 {post : St1 → Prop} {x1 : Int32} {x2 : Int32} {x3 : Int32} {x5 : Int32} {n : Nat} {x6 : Int32} {u : St1} (h : ((x5 ≤ x6 → (¬ (2 : Int32) = 0 ∧ (∀ x6_73 : Int32, x6_73 = (x1 + 1) / 2 → (¬ (2 : Int32) = 0 ∧ (∀ x7_75 : Int32, x7_75 = (x2 + 1) / 2 → (((x3 = 0 → (kw_readPlanes_148 post x1 x2 x3 x6_73 x7_75 x1 u)) ∧ (¬ x3 = 0 → (((x3 = 1 → (kw_readPlanes_148 post x1 x2 x3 x6_73 x7_75 x6_73 u)) ∧ (¬ x3 = 1 → (kw_readPlanes_148 post x1 x2 x3 x6_73 x7_75 ((gt_pw u) 0) u)))))))))))) ∧ (¬ x5 ≤ x6 → (wpX_unmix (fun u1 => (∀ x6_400 : Int32, x6_400 = x6 + 1 → (kw_readPlanes_90 post x1 x2 x3 x5 n x6_400 u1))) u x6)))) : kw_readPlanes_90 post x1 x2 x3 x5 (n + 1) x6 u := h
def kw_readPlanes_29 (post : St1 → Prop) (x1 : Int32) (x2 : Int32) (x3 : Int32) (x4 : Int32) (n : Nat) (x5 : Int32) (u : St1) : Prop := wX_readPlanes_29 post x1 x2 x3 x4 n x5 (gt_w u) (gt_h u) (gt_aw u) (gt_ah u) (gt_fw u) (gt_fh u) (gt_col u) (gt_oc u) (gt_lim u) (gt_low u) (gt_rng u) (gt_code u) (gt_held u) (gt_wait u) (gt_src u) (gt_end u) (gt_crc u) (gt_hand u) (gt_aside u) (gt_first u) (gt_by u) (gt_used u) (gt_tb u) (gt_pw u) (gt_ph u) (gt_ps u) (gt_num u) (gt_lg u) (gt_sm u) (gt_clr u) (gt_ch u) (gt_out u)
theorem ks_readPlanes_29 {post : St1 → Prop} {x1 : Int32} {x2 : Int32} {x3 : Int32} {x4 : Int32} {n : Nat} {x5 : Int32} {u : St1} (h : (((3 * x4) ≤ x5 → (vp_in (x4 - 1) 5 ∧ (vp_in (x4 - 1) 5 ∧ (vp_in (x4 - 1) 5 ∧ (∀ x5_70 : Int32, x5_70 = ((gt_ps u) (x4 - 1).toNatClampNeg) + (((gt_pw u) (x4 - 1).toNatClampNeg) * ((gt_ph u) (x4 - 1).toNatClampNeg)) → (∃ fu90 : Nat, kw_readPlanes_90 post x1 x2 x3 x5_70 fu90 0 u)))))) ∧ (¬ (3 * x4) ≤ x5 → (¬ (3 : Int32) = 0 ∧ (¬ (3 : Int32) = 0 ∧ (wpX_readPart (fun u1 => (∀ x5_466 : Int32, x5_466 = x5 + 1 → (kw_readPlanes_29 post x1 x2 x3 x4 n x5_466 u1))) u (x5 / 3) (x5 - x5 / 3 * 3))))))) : kw_readPlanes_29 post x1 x2 x3 x4 (n + 1) x5 u := h
theorem ks_readPlanes {post : St1 → Prop} {u : St1} {p0 : Int32} {p1 : Int32} {p2 : Int32} (h : wpX_measure (fun u1 => (((p2 = 0 → (∃ fu29 : Nat, kw_readPlanes_29 post p0 p1 p2 5 fu29 0 u1)) ∧ (¬ p2 = 0 → (((p2 = 1 → (∃ fu29 : Nat, kw_readPlanes_29 post p0 p1 p2 3 fu29 0 u1)) ∧ (¬ p2 = 1 → (∃ fu29 : Nat, kw_readPlanes_29 post p0 p1 p2 1 fu29 0 u1)))))))) u p0 p1) : wpX_readPlanes post u p0 p1 p2 := h
def kw_unpackFrom_99 (post : St1 → Prop) (x2 : Int32) (n : Nat) (x6 : Int32) (u : St1) : Prop := wX_unpackFrom_99 post x2 n x6 (gt_w u) (gt_h u) (gt_aw u) (gt_ah u) (gt_fw u) (gt_fh u) (gt_col u) (gt_oc u) (gt_lim u) (gt_low u) (gt_rng u) (gt_code u) (gt_held u) (gt_wait u) (gt_src u) (gt_end u) (gt_crc u) (gt_hand u) (gt_aside u) (gt_first u) (gt_by u) (gt_used u) (gt_tb u) (gt_pw u) (gt_ph u) (gt_ps u) (gt_num u) (gt_lg u) (gt_sm u) (gt_clr u) (gt_ch u) (gt_out u)
theorem ks_unpackFrom_99 {post : St1 → Prop} {x2 : Int32} {n : Nat} {x6 : Int32} {u : St1} (h : ((x2 ≤ x6 → (post u)) ∧ (¬ x2 ≤ x6 → (wpX_halve (fun r_73 u1 => (∀ x6_136 : Int32, x6_136 = x6 + 1 → (kw_unpackFrom_99 post x2 n x6_136 u1))) u)))) : kw_unpackFrom_99 post x2 (n + 1) x6 u := h
theorem ks_unpackFrom {post : St1 → Prop} {u : St1} {p0 : Int32} {p1 : Int32} (h : vp_in (512 * p0) 2048 ∧ (∀ x3_2 : Int32, x3_2 = ((gt_by u) (512 * p0).toNatClampNeg) >>> ((4 : Int32) &&& 31) → (vp_in (512 * p0) 2048 ∧ (∀ x4_4 : Int32, x4_4 = ((gt_by u) (512 * p0).toNatClampNeg) &&& 15 → (vp_in ((512 * p0) + 1) 2048 ∧ (∀ x5_6 : Int32, x5_6 = (gt_by u) ((512 * p0) + 1).toNatClampNeg → (((x5_6 = 1 → (wpX_open (fun u1 => (wpX_readPlanes (fun u2 => (post u2)) u1 x3_2 x4_4 p1)) (st_h (st_w u x3_2) x4_4) p0)) ∧ (¬ x5_6 = 1 → (((x5_6 = 2 → (wpX_open (fun u3 => (wpX_readPalette (fun u4 => (∃ fu99 : Nat, kw_unpackFrom_99 post p1 fu99 0 u4)) u3)) (st_h (st_w u x3_2) x4_4) p0)) ∧ (¬ x5_6 = 2 → (wpX_readRaw (fun u5 => (∃ fu99 : Nat, kw_unpackFrom_99 post p1 fu99 0 u5)) (st_h (st_w u x3_2) x4_4) p0))))))))))))) : wpX_unpackFrom post u p0 p1 := h
def kw_keepFirst_18 (post : St1 → Prop) (n : Nat) (x1 : Int32) (u : St1) : Prop := wX_keepFirst_18 post (gt_w u) (gt_h u) (gt_aw u) (gt_ah u) (gt_fw u) (gt_fh u) (gt_col u) (gt_oc u) (gt_lim u) (gt_low u) (gt_rng u) (gt_code u) (gt_held u) (gt_wait u) (gt_src u) (gt_end u) (gt_crc u) n x1 (gt_hand u) (gt_aside u) (gt_first u) (gt_by u) (gt_used u) (gt_tb u) (gt_pw u) (gt_ph u) (gt_ps u) (gt_num u) (gt_lg u) (gt_sm u) (gt_clr u) (gt_ch u) (gt_out u)
theorem ks_keepFirst_18 {post : St1 → Prop} {n : Nat} {x1 : Int32} {u : St1} (h : ((432 ≤ x1 → (post u)) ∧ (¬ 432 ≤ x1 → (vp_in x1 432 ∧ (vp_in x1 432 ∧ ∀ a3_4 : Nat → Int32, a3_4 = upd (gt_first u) x1.toNatClampNeg ((gt_hand u) x1.toNatClampNeg) → (∀ x1_5 : Int32, x1_5 = x1 + 1 → (kw_keepFirst_18 post n x1_5 (st_first u a3_4)))))))) : kw_keepFirst_18 post (n + 1) x1 u := h
theorem ks_keepFirst {post : St1 → Prop} {u : St1} (h : ∃ fu18 : Nat, kw_keepFirst_18 post fu18 0 (st_fh (st_fw u (gt_w u)) (gt_h u))) : wpX_keepFirst post u := h
def kw_isFirst_26 (post : Int32 → Prop) (n : Nat) (x1 : Int32) (u : St1) : Prop := wX_isFirst_26 post (gt_w u) (gt_h u) (gt_aw u) (gt_ah u) (gt_fw u) (gt_fh u) (gt_col u) (gt_oc u) (gt_lim u) (gt_low u) (gt_rng u) (gt_code u) (gt_held u) (gt_wait u) (gt_src u) (gt_end u) (gt_crc u) (gt_hand u) (gt_aside u) (gt_first u) (gt_by u) (gt_used u) (gt_tb u) (gt_pw u) (gt_ph u) (gt_ps u) (gt_num u) (gt_lg u) (gt_sm u) (gt_clr u) (gt_ch u) (gt_out u) n x1
theorem ks_isFirst_26 {post : Int32 → Prop} {n : Nat} {x1 : Int32} {u : St1} (h : ((((3 * (gt_w u)) * (gt_h u)) ≤ x1 → (post 1)) ∧ (¬ ((3 * (gt_w u)) * (gt_h u)) ≤ x1 → (¬ (3 : Int32) = 0 ∧ (¬ (3 : Int32) = 0 ∧ (∀ x2_6 : Int32, x2_6 = (144 * (x1 - x1 / 3 * 3)) + (x1 / 3) → (vp_in x2_6 432 ∧ (vp_in x2_6 432 ∧ (((((gt_hand u) x2_6.toNatClampNeg) = ((gt_first u) x2_6.toNatClampNeg) → (∀ x1_10 : Int32, x1_10 = x1 + 1 → (kw_isFirst_26 post n x1_10 u))) ∧ (¬ ((gt_hand u) x2_6.toNatClampNeg) = ((gt_first u) x2_6.toNatClampNeg) → (post 0)))))))))))) : kw_isFirst_26 post (n + 1) x1 u := h
theorem ks_isFirst {post : Int32 → Prop} {u : St1} (h : (((gt_w u) = (gt_fw u) → ((((gt_h u) = (gt_fh u) → (∃ fu26 : Nat, kw_isFirst_26 post fu26 0 u)) ∧ (¬ (gt_h u) = (gt_fh u) → (post 0))))) ∧ (¬ (gt_w u) = (gt_fw u) → (post 0)))) : wpX_isFirst post u := h
def kw_same_88 (post : Int32 → St1 → Prop) (z0 : Int32) (u : St1) : Prop := wX_same_88 post z0 (gt_w u) (gt_h u) (gt_aw u) (gt_ah u) (gt_fw u) (gt_fh u) (gt_col u) (gt_oc u) (gt_lim u) (gt_low u) (gt_rng u) (gt_code u) (gt_held u) (gt_wait u) (gt_src u) (gt_end u) (gt_crc u) (gt_hand u) (gt_aside u) (gt_first u) (gt_by u) (gt_used u) (gt_tb u) (gt_pw u) (gt_ph u) (gt_ps u) (gt_num u) (gt_lg u) (gt_sm u) (gt_clr u) (gt_ch u) (gt_out u)
theorem ks_same_88 {post : Int32 → St1 → Prop} {z0 : Int32} {u : St1} (h : wpX_exchange (fun u1 => (post z0 u1)) u) : kw_same_88 post z0 u := h
theorem ks_same {post : Int32 → St1 → Prop} {u : St1} {p0 : Int32} {p1 : Int32} (h : wpX_isSlot (fun r_1 => (((r_1 = 0 → (post (-1) u)) ∧ (¬ r_1 = 0 → (wpX_isSlot (fun r_3 => (((r_3 = 0 → (post (-1) u)) ∧ (¬ r_3 = 0 → (vp_in p0 4 ∧ (((((gt_used u) p0.toNatClampNeg) = 0 → (post (-2) u)) ∧ (¬ ((gt_used u) p0.toNatClampNeg) = 0 → (vp_in p1 4 ∧ (((((gt_used u) p1.toNatClampNeg) = 0 → (post (-2) u)) ∧ (¬ ((gt_used u) p1.toNatClampNeg) = 0 → (wpX_isSound (fun r_9 u1 => (((r_9 = 0 → (post (-3) u1)) ∧ (¬ r_9 = 0 → (wpX_isSound (fun r_73 u2 => (((r_73 = 0 → (post (-3) u2)) ∧ (¬ r_73 = 0 → (wpX_exchange (fun u3 => (wpX_unpackFrom (fun u4 => (wpX_keepFirst (fun u5 => (wpX_unpackFrom (fun u6 => (wpX_isFirst (fun r_389 => (((r_389 = 0 → (kw_same_88 post 0 u6)) ∧ (¬ r_389 = 0 → (kw_same_88 post 1 u6))))) u6)) u5 p1 0)) u4)) u3 p0 0)) u2))))) u1 p1))))) u p0))))))))))))) () p1))))) () p0) : wpX_same post u p0 p1 := h
theorem ks_troubleOf {post : Int32 → St1 → Prop} {u : St1} {p0 : Int32} (h : wpX_isSlot (fun r_1 => (((r_1 = 0 → (post (-1) u)) ∧ (¬ r_1 = 0 → (vp_in p0 4 ∧ (((((gt_used u) p0.toNatClampNeg) = 0 → (post (-2) u)) ∧ (¬ ((gt_used u) p0.toNatClampNeg) = 0 → (wpX_isSound (fun r_5 u1 => (((r_5 = 0 → (post (-3) u1)) ∧ (¬ r_5 = 0 → (post 0 u1))))) u p0))))))))) () p0) : wpX_troubleOf post u p0 := h
theorem ks_unpack {post : Int32 → St1 → Prop} {u : St1} {p0 : Int32} (h : wpX_troubleOf (fun r_1 u1 => (((0 ≤ r_1 → (wpX_unpackFrom (fun u2 => (post ((gt_w u2) * (gt_h u2)) u2)) u1 p0 0)) ∧ (¬ 0 ≤ r_1 → (post r_1 u1))))) u p0) : wpX_unpack post u p0 := h
theorem ks_width {post : Int32 → Prop} {u : St1} (h : post (gt_w u)) : wpX_width post u := h
theorem ks_height {post : Int32 → Prop} {u : St1} (h : post (gt_h u)) : wpX_height post u := h
def kw_digest_4 (post : Int32 → Prop) (n : Nat) (x1 : Int32) (x2 : Int32) (u : St1) : Prop := wX_digest_4 post (gt_w u) (gt_h u) (gt_aw u) (gt_ah u) (gt_fw u) (gt_fh u) (gt_col u) (gt_oc u) (gt_lim u) (gt_low u) (gt_rng u) (gt_code u) (gt_held u) (gt_wait u) (gt_src u) (gt_end u) (gt_crc u) (gt_hand u) (gt_aside u) (gt_first u) (gt_by u) (gt_used u) (gt_tb u) (gt_pw u) (gt_ph u) (gt_ps u) (gt_num u) (gt_lg u) (gt_sm u) (gt_clr u) (gt_ch u) (gt_out u) n x1 x2
theorem ks_digest_4 {post : Int32 → Prop} {n : Nat} {x1 : Int32} {x2 : Int32} {u : St1} (h : ((((gt_w u) * (gt_h u)) ≤ x2 → (post x1)) ∧ (¬ ((gt_w u) * (gt_h u)) ≤ x2 → (wpX_colourAt (fun r_2 => (∀ x1_3 : Int32, x1_3 = x1 + ((x2 + 1) * r_2) → (∀ x2_4 : Int32, x2_4 = x2 + 1 → (kw_digest_4 post n x1_3 x2_4 u)))) u x2)))) : kw_digest_4 post (n + 1) x1 x2 u := h
theorem ks_digest {post : Int32 → Prop} {u : St1} (h : ∃ fu4 : Nat, kw_digest_4 post fu4 0 0 u) : wpX_digest post u := h
theorem ks_get {post : Int32 → Prop} {u : St1} {p0 : Int32} {p1 : Int32} (h : wpX_isPlace (fun r_1 => (((r_1 = 0 → (post (-1))) ∧ (¬ r_1 = 0 → (wpX_colourAt (fun r_3 => (post r_3)) u (((gt_w u) * p1) + p0)))))) u p0 p1) : wpX_get post u p0 p1 := h
def kw_equal_37 (post : Int32 → Prop) (n : Nat) (x2 : Int32) (u v : St1) : Prop := wL_equal_37 post (gt_w u) (gt_h u) (gt_aw u) (gt_ah u) (gt_fw u) (gt_fh u) (gt_col u) (gt_oc u) (gt_lim u) (gt_low u) (gt_rng u) (gt_code u) (gt_held u) (gt_wait u) (gt_src u) (gt_end u) (gt_crc u) (gt_hand u) (gt_aside u) (gt_first u) (gt_by u) (gt_used u) (gt_tb u) (gt_pw u) (gt_ph u) (gt_ps u) (gt_num u) (gt_lg u) (gt_sm u) (gt_clr u) (gt_ch u) (gt_out u) (gt_w v) (gt_h v) (gt_aw v) (gt_ah v) (gt_fw v) (gt_fh v) (gt_col v) (gt_oc v) (gt_lim v) (gt_low v) (gt_rng v) (gt_code v) (gt_held v) (gt_wait v) (gt_src v) (gt_end v) (gt_crc v) (gt_hand v) (gt_aside v) (gt_first v) (gt_by v) (gt_used v) (gt_tb v) (gt_pw v) (gt_ph v) (gt_ps v) (gt_num v) (gt_lg v) (gt_sm v) (gt_clr v) (gt_ch v) (gt_out v) n x2
theorem ks_equal_37 {post : Int32 → Prop} {n : Nat} {x2 : Int32} {u v : St1} (h : wpX_width (fun r_10 => (wpX_height (fun r_11 => ((((r_10 * r_11) ≤ x2 → (post 1)) ∧ (¬ (r_10 * r_11) ≤ x2 → (wpX_width (fun r_13 => (¬ r_13 = 0 ∧ (∀ x3_15 : Int32, x3_15 = x2 - x2 / r_13 * r_13 → (wpX_width (fun r_16 => (¬ r_16 = 0 ∧ (∀ x4_18 : Int32, x4_18 = x2 / r_16 → (wpX_get (fun r_19 => (wpX_get (fun r_20 => (((r_19 = r_20 → (∀ x2_22 : Int32, x2_22 = x2 + 1 → (kw_equal_37 post n x2_22 u v))) ∧ (¬ r_19 = r_20 → (post 0))))) v x3_15 x4_18)) u x3_15 x4_18)))) u)))) u))))) u)) u) : kw_equal_37 post (n + 1) x2 u v := h
theorem ks_equal {post : Int32 → Prop} {u v : St1} (h : wpX_width (fun r_1 => (wpX_width (fun r_2 => (((r_1 = r_2 → (wpX_height (fun r_4 => (wpX_height (fun r_5 => (((r_4 = r_5 → (wpX_digest (fun r_7 => (wpX_digest (fun r_8 => (((r_7 = r_8 → (∃ fu37 : Nat, kw_equal_37 post fu37 0 u v)) ∧ (¬ r_7 = r_8 → (post 0))))) v)) u)) ∧ (¬ r_4 = r_5 → (post 0))))) v)) u)) ∧ (¬ r_1 = r_2 → (post 0))))) v)) u) : wpL_equal post (mk_3 u v) := h
def kw_turnPlane_125 (post : St1 → Prop) (J37 : Int32 → St1 → Prop) (x1 : Int32) (x2 : Int32) (x3 : Int32) (z0 : Int32) (u : St1) : Prop := wX_turnPlane_125 post (fun y1 y2 y3 y4 y5 y6 y7 y8 y9 y10 y11 y12 y13 y14 y15 y16 => J37 y1 (gt_w u, gt_h u, gt_aw u, gt_ah u, gt_fw u, gt_fh u, gt_col u, gt_oc u, gt_lim u, gt_low u, gt_rng u, gt_code u, gt_held u, gt_wait u, gt_src u, gt_end u, gt_crc u, y2, y3, y4, y5, y6, y7, y8, y9, y10, y11, y12, y13, y14, y15, y16)) x1 x2 x3 z0 (gt_w u) (gt_h u) (gt_aw u) (gt_ah u) (gt_fw u) (gt_fh u) (gt_col u) (gt_oc u) (gt_lim u) (gt_low u) (gt_rng u) (gt_code u) (gt_held u) (gt_wait u) (gt_src u) (gt_end u) (gt_crc u) (gt_hand u) (gt_aside u) (gt_first u) (gt_by u) (gt_used u) (gt_tb u) (gt_pw u) (gt_ph u) (gt_ps u) (gt_num u) (gt_lg u) (gt_sm u) (gt_clr u) (gt_ch u) (gt_out u)
theorem ks_turnPlane_125 {post : St1 → Prop} {J37 : Int32 → St1 → Prop} {x1 : Int32} {x2 : Int32} {x3 : Int32} {z0 : Int32} {u : St1} (h : vp_in x3 144 ∧ (vp_in (x1 + z0) 432 ∧ ∀ a1_11 : Nat → Int32, a1_11 = upd (gt_hand u) (x1 + z0).toNatClampNeg ((gt_lg u) x3.toNatClampNeg) → (∀ x3_12 : Int32, x3_12 = x3 + 1 → (J37 x3_12 (st_hand u a1_11))))) : kw_turnPlane_125 post J37 x1 x2 x3 z0 u := h
def kw_turnPlane_37 (post : St1 → Prop) (x1 : Int32) (x2 : Int32) (n : Nat) (x3 : Int32) (u : St1) : Prop := wX_turnPlane_37 post x1 x2 (gt_w u) (gt_h u) (gt_aw u) (gt_ah u) (gt_fw u) (gt_fh u) (gt_col u) (gt_oc u) (gt_lim u) (gt_low u) (gt_rng u) (gt_code u) (gt_held u) (gt_wait u) (gt_src u) (gt_end u) (gt_crc u) n x3 (gt_hand u) (gt_aside u) (gt_first u) (gt_by u) (gt_used u) (gt_tb u) (gt_pw u) (gt_ph u) (gt_ps u) (gt_num u) (gt_lg u) (gt_sm u) (gt_clr u) (gt_ch u) (gt_out u)
theorem ks_turnPlane_37 {post : St1 → Prop} {x1 : Int32} {x2 : Int32} {n : Nat} {x3 : Int32} {u : St1} (h : ((((gt_w u) * (gt_h u)) ≤ x3 → (post u)) ∧ (¬ ((gt_w u) * (gt_h u)) ≤ x3 → (¬ (gt_w u) = 0 ∧ (∀ x4_4 : Int32, x4_4 = x3 - x3 / (gt_w u) * (gt_w u) → (¬ (gt_w u) = 0 ∧ (∀ x5_6 : Int32, x5_6 = x3 / (gt_w u) → (((x2 = 0 → (kw_turnPlane_125 post ((kw_turnPlane_37 post x1 x2 n)) x1 x2 x3 (((((gt_w u) * x5_6) + (gt_w u)) - 1) - x4_4) u)) ∧ (¬ x2 = 0 → (((x2 = 1 → (kw_turnPlane_125 post ((kw_turnPlane_37 post x1 x2 n)) x1 x2 x3 (((gt_w u) * (((gt_h u) - 1) - x5_6)) + x4_4) u)) ∧ (¬ x2 = 1 → (kw_turnPlane_125 post ((kw_turnPlane_37 post x1 x2 n)) x1 x2 x3 (((gt_h u) * x4_4) + x5_6) u)))))))))))))) : kw_turnPlane_37 post x1 x2 (n + 1) x3 u := h
def kw_turnPlane_2 (post : St1 → Prop) (x1 : Int32) (x2 : Int32) (n : Nat) (x3 : Int32) (u : St1) : Prop := wX_turnPlane_2 post x1 x2 (gt_w u) (gt_h u) (gt_aw u) (gt_ah u) (gt_fw u) (gt_fh u) (gt_col u) (gt_oc u) (gt_lim u) (gt_low u) (gt_rng u) (gt_code u) (gt_held u) (gt_wait u) (gt_src u) (gt_end u) (gt_crc u) n x3 (gt_hand u) (gt_aside u) (gt_first u) (gt_by u) (gt_used u) (gt_tb u) (gt_pw u) (gt_ph u) (gt_ps u) (gt_num u) (gt_lg u) (gt_sm u) (gt_clr u) (gt_ch u) (gt_out u)
theorem ks_turnPlane_2 {post : St1 → Prop} {x1 : Int32} {x2 : Int32} {n : Nat} {x3 : Int32} {u : St1} (h : ((((gt_w u) * (gt_h u)) ≤ x3 → (∃ fu37 : Nat, kw_turnPlane_37 post x1 x2 fu37 0 u)) ∧ (¬ ((gt_w u) * (gt_h u)) ≤ x3 → (vp_in (x1 + x3) 432 ∧ (vp_in x3 144 ∧ ∀ a11_15 : Nat → Int32, a11_15 = upd (gt_lg u) x3.toNatClampNeg ((gt_hand u) (x1 + x3).toNatClampNeg) → (∀ x3_16 : Int32, x3_16 = x3 + 1 → (kw_turnPlane_2 post x1 x2 n x3_16 (st_lg u a11_15)))))))) : kw_turnPlane_2 post x1 x2 (n + 1) x3 u := h
theorem ks_turnPlane {post : St1 → Prop} {u : St1} {p0 : Int32} {p1 : Int32} (h : ∃ fu2 : Nat, kw_turnPlane_2 post p0 p1 fu2 0 u) : wpX_turnPlane post u p0 p1 := h
def kw_turn_13 (post : Int32 → St1 → Prop) (x1 : Int32) (n : Nat) (x2 : Int32) (u : St1) : Prop := wX_turn_13 post x1 n x2 (gt_w u) (gt_h u) (gt_aw u) (gt_ah u) (gt_fw u) (gt_fh u) (gt_col u) (gt_oc u) (gt_lim u) (gt_low u) (gt_rng u) (gt_code u) (gt_held u) (gt_wait u) (gt_src u) (gt_end u) (gt_crc u) (gt_hand u) (gt_aside u) (gt_first u) (gt_by u) (gt_used u) (gt_tb u) (gt_pw u) (gt_ph u) (gt_ps u) (gt_num u) (gt_lg u) (gt_sm u) (gt_clr u) (gt_ch u) (gt_out u)
theorem ks_turn_13 {post : Int32 → St1 → Prop} {x1 : Int32} {n : Nat} {x2 : Int32} {u : St1} (h : ((3 ≤ x2 → (((x1 = 2 → (post ((gt_h u) * (gt_w u)) (st_h (st_w u (gt_h u)) (gt_w u)))) ∧ (¬ x1 = 2 → (post ((gt_w u) * (gt_h u)) u))))) ∧ (¬ 3 ≤ x2 → (wpX_turnPlane (fun u1 => (∀ x2_68 : Int32, x2_68 = x2 + 1 → (kw_turn_13 post x1 n x2_68 u1))) u (144 * x2) x1)))) : kw_turn_13 post x1 (n + 1) x2 u := h
theorem ks_turn {post : Int32 → St1 → Prop} {u : St1} {p0 : Int32} (h : ((p0 < 0 → (post (-1) u)) ∧ (¬ p0 < 0 → (((p0 ≤ 2 → (∃ fu13 : Nat, kw_turn_13 post p0 fu13 0 u)) ∧ (¬ p0 ≤ 2 → (post (-1) u))))))) : wpX_turn post u p0 := h
def kw_rework_50 (post : Int32 → St1 → Prop) (x1 : Int32) (z0 : Int32) (u : St1) : Prop := wX_rework_50 post x1 z0 (gt_w u) (gt_h u) (gt_aw u) (gt_ah u) (gt_fw u) (gt_fh u) (gt_col u) (gt_oc u) (gt_lim u) (gt_low u) (gt_rng u) (gt_code u) (gt_held u) (gt_wait u) (gt_src u) (gt_end u) (gt_crc u) (gt_hand u) (gt_aside u) (gt_first u) (gt_by u) (gt_used u) (gt_tb u) (gt_pw u) (gt_ph u) (gt_ps u) (gt_num u) (gt_lg u) (gt_sm u) (gt_clr u) (gt_ch u) (gt_out u)
theorem ks_rework_50 {post : Int32 → St1 → Prop} {x1 : Int32} {z0 : Int32} {u : St1} (h : wpX_packInto (fun u1 => (wpX_exchange (fun u2 => (post z0 u2)) u1)) u x1 3) : kw_rework_50 post x1 z0 u := h
theorem ks_rework {post : Int32 → St1 → Prop} {u : St1} {p0 : Int32} {p1 : Int32} (h : ((p1 < 0 → (post (-1) u)) ∧ (¬ p1 < 0 → (((p1 ≤ 3 → (wpX_troubleOf (fun r_3 u1 => (((0 ≤ r_3 → (wpX_exchange (fun u2 => (wpX_unpackFrom (fun u3 => (((p1 = 3 → (wpX_halve (fun r_383 u4 => (kw_rework_50 post p0 r_383 u4)) u3)) ∧ (¬ p1 = 3 → (wpX_turn (fun r_194 u5 => (kw_rework_50 post p0 r_194 u5)) u3 p1))))) u2 p0 0)) u1)) ∧ (¬ 0 ≤ r_3 → (post r_3 u1))))) u p0)) ∧ (¬ p1 ≤ 3 → (post (-1) u))))))) : wpX_rework post u p0 p1 := h
theorem ks_preview {post : Int32 → St1 → Prop} {u : St1} {p0 : Int32} {p1 : Int32} (h : ((p1 < 1 → (post (-1) u)) ∧ (¬ p1 < 1 → (((p1 ≤ 2 → (wpX_troubleOf (fun r_3 u1 => (((0 ≤ r_3 → (wpX_unpackFrom (fun u2 => (post ((gt_w u2) * (gt_h u2)) u2)) u1 p0 p1)) ∧ (¬ 0 ≤ r_3 → (post r_3 u1))))) u p0)) ∧ (¬ p1 ≤ 2 → (post (-1) u))))))) : wpX_preview post u p0 p1 := h
theorem ks_turnBit {post : St1 → Prop} {u : St1} {p0 : Int32} {p1 : Int32} (h : vp_in ((512 * p0) + (p1 >>> ((3 : Int32) &&& 31))) 2048 ∧ (vp_in ((512 * p0) + (p1 >>> ((3 : Int32) &&& 31))) 2048 ∧ ∀ a4_3 : Nat → Int32, a4_3 = upd (gt_by u) ((512 * p0) + (p1 >>> ((3 : Int32) &&& 31))).toNatClampNeg (((gt_by u) ((512 * p0) + (p1 >>> ((3 : Int32) &&& 31))).toNatClampNeg) ^^^ ((1 : Int32) <<< ((p1 &&& 7) &&& 31))) → (post (st_by u a4_3)))) : wpX_turnBit post u p0 p1 := h
def kw_damage_59 (post : Int32 → St1 → Prop) (x1 : Int32) (z0 : Int32) (z1 : Int32) (u : St1) : Prop := wX_damage_59 post x1 z0 z1 (gt_w u) (gt_h u) (gt_aw u) (gt_ah u) (gt_fw u) (gt_fh u) (gt_col u) (gt_oc u) (gt_lim u) (gt_low u) (gt_rng u) (gt_code u) (gt_held u) (gt_wait u) (gt_src u) (gt_end u) (gt_crc u) (gt_hand u) (gt_aside u) (gt_first u) (gt_by u) (gt_used u) (gt_tb u) (gt_pw u) (gt_ph u) (gt_ps u) (gt_num u) (gt_lg u) (gt_sm u) (gt_clr u) (gt_ch u) (gt_out u)
theorem ks_damage_59 {post : Int32 → St1 → Prop} {x1 : Int32} {z0 : Int32} {z1 : Int32} {u : St1} (h : ∀ x4_74 : Int32, x4_74 = z1 + z0 → (wpX_turnBit (fun u1 => (vp_in x1 4 ∧ ∀ am666_139 : Nat → Int32, am666_139 = upd (gt_tb u1) x1.toNatClampNeg x4_74 → (post 0 (st_tb u1 am666_139)))) u x1 x4_74)) : kw_damage_59 post x1 z0 z1 u := h
theorem ks_damage {post : Int32 → St1 → Prop} {u : St1} {p0 : Int32} {p1 : Int32} (h : wpX_isSlot (fun r_1 => (((r_1 = 0 → (post (-1) u)) ∧ (¬ r_1 = 0 → (vp_in p0 4 ∧ (((((gt_used u) p0.toNatClampNeg) = 0 → (post (-2) u)) ∧ (¬ ((gt_used u) p0.toNatClampNeg) = 0 → (wpX_isSound (fun r_5 u1 => (((r_5 = 0 → (post (-4) u1)) ∧ (¬ r_5 = 0 → (vp_in p0 4 ∧ (∀ x3_70 : Int32, x3_70 = 8 * ((gt_used u1) p0.toNatClampNeg) → (¬ x3_70 = 0 ∧ (∀ x4_72 : Int32, x4_72 = p1 - p1 / x3_70 * x3_70 → (((0 ≤ x4_72 → (kw_damage_59 post p0 0 x4_72 u1)) ∧ (¬ 0 ≤ x4_72 → (kw_damage_59 post p0 x3_70 x4_72 u1)))))))))))) u p0))))))))) () p0) : wpX_damage post u p0 p1 := h
theorem ks_peek {post : Int32 → St1 → Prop} {u : St1} {p0 : Int32} {p1 : Int32} {p2 : Int32} (h : wpX_troubleOf (fun r_1 u1 => (((0 ≤ r_1 → (wpX_exchange (fun u2 => (wpX_unpackFrom (fun u3 => (wpX_get (fun r_191 => (wpX_exchange (fun u4 => (post r_191 u4)) u3)) u3 p1 p2)) u2 p0 0)) u1)) ∧ (¬ 0 ≤ r_1 → (post r_1 u1))))) u p0) : wpX_peek post u p0 p1 p2 := h
theorem ks_repair {post : Int32 → St1 → Prop} {u : St1} {p0 : Int32} (h : wpX_isSlot (fun r_1 => (((r_1 = 0 → (post (-1) u)) ∧ (¬ r_1 = 0 → (vp_in p0 4 ∧ (((((gt_used u) p0.toNatClampNeg) = 0 → (post (-2) u)) ∧ (¬ ((gt_used u) p0.toNatClampNeg) = 0 → (vp_in p0 4 ∧ (((0 ≤ ((gt_tb u) p0.toNatClampNeg) → (vp_in p0 4 ∧ (wpX_turnBit (fun u1 => (vp_in p0 4 ∧ ∀ am386_72 : Nat → Int32, am386_72 = upd (gt_tb u1) p0.toNatClampNeg (-1) → (post 0 (st_tb u1 am386_72)))) u p0 ((gt_tb u) p0.toNatClampNeg)))) ∧ (¬ 0 ≤ ((gt_tb u) p0.toNatClampNeg) → (post (-2) u))))))))))))) () p0) : wpX_repair post u p0 := h
theorem ks_damaged {post : Int32 → St1 → Prop} {u : St1} {p1 : Int32} {p2 : Int32} {p3 : Int32} (h : wpX_damage (fun r_1 u1 => (((r_1 = 0 → (wpX_unpack (fun r_65 u2 => (((r_65 = (-3) → (wpX_preview (fun r_129 u3 => (((r_129 = (-3) → (wpX_peek (fun r_193 u4 => (((r_193 = (-3) → (wpX_same (fun r_257 u5 => (((r_257 = (-3) → (wpX_same (fun r_321 u6 => (((r_321 = (-3) → (wpX_rework (fun r_385 u7 => (((r_385 = (-3) → (wpX_repair (fun r_449 u8 => (((r_449 = 0 → (post 1 u8)) ∧ (¬ r_449 = 0 → (post 0 u8))))) u7 p1)) ∧ (¬ r_385 = (-3) → (post 0 u7))))) u6 p1 (p2 &&& 3))) ∧ (¬ r_321 = (-3) → (post 0 u6))))) u5 p3 p1)) ∧ (¬ r_257 = (-3) → (post 0 u5))))) u4 p1 p3)) ∧ (¬ r_193 = (-3) → (post 0 u4))))) u3 p1 0 0)) ∧ (¬ r_129 = (-3) → (post 0 u3))))) u2 p1 (1 + (p2 &&& 1)))) ∧ (¬ r_65 = (-3) → (post 0 u2))))) u1 p1)) ∧ (¬ r_1 = 0 → (post 0 u1))))) u p1 p2) : wpL_damaged post u p1 p2 p3 := h
def kw_law_323 (post : Int32 → Prop) (L : Nat) (xs : Nat → Int32) (x4 : Int32) (kc : Nat) (ks : Nat) (u v : St1) : Prop := wL_law_323 post L xs x4 kc ks (gt_w u) (gt_h u) (gt_aw u) (gt_ah u) (gt_fw u) (gt_fh u) (gt_col u) (gt_oc u) (gt_lim u) (gt_low u) (gt_rng u) (gt_code u) (gt_held u) (gt_wait u) (gt_src u) (gt_end u) (gt_crc u) (gt_hand u) (gt_aside u) (gt_first u) (gt_by u) (gt_used u) (gt_tb u) (gt_pw u) (gt_ph u) (gt_ps u) (gt_num u) (gt_lg u) (gt_sm u) (gt_clr u) (gt_ch u) (gt_out u) (gt_w v) (gt_h v) (gt_aw v) (gt_ah v) (gt_fw v) (gt_fh v) (gt_col v) (gt_oc v) (gt_lim v) (gt_low v) (gt_rng v) (gt_code v) (gt_held v) (gt_wait v) (gt_src v) (gt_end v) (gt_crc v) (gt_hand v) (gt_aside v) (gt_first v) (gt_by v) (gt_used v) (gt_tb v) (gt_pw v) (gt_ph v) (gt_ps v) (gt_num v) (gt_lg v) (gt_sm v) (gt_clr v) (gt_ch v) (gt_out v)
theorem ks_law_323 {post : Int32 → Prop} {L : Nat} {xs : Nat → Int32} {x4 : Int32} {kc : Nat} {ks : Nat} {u v : St1} (h : wpL_make (fun u1 => (wpX_halve (fun r_1049 u2 => (((r_1049 < 1 → (post 0)) ∧ (¬ r_1049 < 1 → (wpX_preview (fun r_1113 u3 => (((r_1113 < 1 → (post 0)) ∧ (¬ r_1113 < 1 → (wpL_equal (fun r_1177 => (((r_1177 = 0 → (post 0)) ∧ (¬ r_1177 = 0 → (wpX_halve (fun r_1179 u4 => (((r_1179 < 1 → (post 0)) ∧ (¬ r_1179 < 1 → (wpX_preview (fun r_1243 u5 => (((r_1243 < 1 → (post 0)) ∧ (¬ r_1243 < 1 → (wpL_equal (fun r_1307 => (((r_1307 = 0 → (post 0)) ∧ (¬ r_1307 = 0 → (wpX_unpack (fun r_1309 u6 => (((r_1309 < 1 → (post 0)) ∧ (¬ r_1309 < 1 → (wpX_halve (fun r_1373 u7 => (((r_1373 < 1 → (post 0)) ∧ (¬ r_1373 < 1 → (wpX_preview (fun r_1437 u8 => (wpX_width (fun r_1500 => (wpX_height (fun r_1501 => (((r_1437 = (r_1500 * r_1501) → (wpL_make (fun u9 => (wpX_unpack (fun r_1566 u10 => (wpX_width (fun r_1629 => (wpX_height (fun r_1630 => (((r_1566 = (r_1629 * r_1630) → (wpL_equal (fun r_1632 => (((r_1632 = 0 → (post 0)) ∧ (¬ r_1632 = 0 → (post 1))))) (mk_3 u10 u9))) ∧ (¬ r_1566 = (r_1629 * r_1630) → (post 0))))) u9)) u9)) u8 x4)) L xs u4)) ∧ (¬ r_1437 = (r_1500 * r_1501) → (post 0))))) u8)) u8)) u7 x4 1))))) u6))))) u5 x4))))) (mk_3 u5 u4)))))) u3 x4 2))))) u2))))) (mk_3 u3 u2)))))) u x4 1))))) u1)) L xs v) : kw_law_323 post L xs x4 kc ks u v := h
def kw_law_277 (post : Int32 → Prop) (L : Nat) (xs : Nat → Int32) (x4 : Int32) (x5 : Int32) (x6 : Int32) (z0 : Int32) (kc : Nat) (ks : Nat) (u v : St1) : Prop := wL_law_277 post L xs x4 x5 x6 z0 kc ks (gt_w u) (gt_h u) (gt_aw u) (gt_ah u) (gt_fw u) (gt_fh u) (gt_col u) (gt_oc u) (gt_lim u) (gt_low u) (gt_rng u) (gt_code u) (gt_held u) (gt_wait u) (gt_src u) (gt_end u) (gt_crc u) (gt_hand u) (gt_aside u) (gt_first u) (gt_by u) (gt_used u) (gt_tb u) (gt_pw u) (gt_ph u) (gt_ps u) (gt_num u) (gt_lg u) (gt_sm u) (gt_clr u) (gt_ch u) (gt_out u) (gt_w v) (gt_h v) (gt_aw v) (gt_ah v) (gt_fw v) (gt_fh v) (gt_col v) (gt_oc v) (gt_lim v) (gt_low v) (gt_rng v) (gt_code v) (gt_held v) (gt_wait v) (gt_src v) (gt_end v) (gt_crc v) (gt_hand v) (gt_aside v) (gt_first v) (gt_by v) (gt_used v) (gt_tb v) (gt_pw v) (gt_ph v) (gt_ps v) (gt_num v) (gt_lg v) (gt_sm v) (gt_clr v) (gt_ch v) (gt_out v)
theorem ks_law_277 {post : Int32 → Prop} {L : Nat} {xs : Nat → Int32} {x4 : Int32} {x5 : Int32} {x6 : Int32} {z0 : Int32} {kc : Nat} {ks : Nat} {u v : St1} (h : ((z0 < 1 → (post 0)) ∧ (¬ z0 < 1 → (wpL_equal (fun r_983 => (((r_983 = 0 → (post 0)) ∧ (¬ r_983 = 0 → (((3 ≤ x6 → (kw_law_323 post L xs x4 kc ks u v)) ∧ (¬ 3 ≤ x6 → (wpX_rework (fun r_1634 u1 => (((r_1634 < 1 → (post 0)) ∧ (¬ r_1634 < 1 → (wpX_same (fun r_1698 u2 => (((r_1698 = 1 → (kw_law_323 post L xs x4 kc ks u2 v)) ∧ (¬ r_1698 = 1 → (post 0))))) u1 x4 x5))))) u x5 x6)))))))) (mk_3 u v))))) : kw_law_277 post L xs x4 x5 x6 z0 kc ks u v := h
def kw_law_186 (post : Int32 → Prop) (L : Nat) (xs : Nat → Int32) (x3 : Int32) (x4 : Int32) (x5 : Int32) (kc : Nat) (ks : Nat) (u v : St1) : Prop := wL_law_186 post L xs x3 x4 x5 kc ks (gt_w u) (gt_h u) (gt_aw u) (gt_ah u) (gt_fw u) (gt_fh u) (gt_col u) (gt_oc u) (gt_lim u) (gt_low u) (gt_rng u) (gt_code u) (gt_held u) (gt_wait u) (gt_src u) (gt_end u) (gt_crc u) (gt_hand u) (gt_aside u) (gt_first u) (gt_by u) (gt_used u) (gt_tb u) (gt_pw u) (gt_ph u) (gt_ps u) (gt_num u) (gt_lg u) (gt_sm u) (gt_clr u) (gt_ch u) (gt_out u) (gt_w v) (gt_h v) (gt_aw v) (gt_ah v) (gt_fw v) (gt_fh v) (gt_col v) (gt_oc v) (gt_lim v) (gt_low v) (gt_rng v) (gt_code v) (gt_held v) (gt_wait v) (gt_src v) (gt_end v) (gt_crc v) (gt_hand v) (gt_aside v) (gt_first v) (gt_by v) (gt_used v) (gt_tb v) (gt_pw v) (gt_ph v) (gt_ps v) (gt_num v) (gt_lg v) (gt_sm v) (gt_clr v) (gt_ch v) (gt_out v)
theorem ks_law_186 {post : Int32 → Prop} {L : Nat} {xs : Nat → Int32} {x3 : Int32} {x4 : Int32} {x5 : Int32} {kc : Nat} {ks : Nat} {u v : St1} (h : wpX_blank (fun r_595 u1 => (((r_595 = 1 → (wpX_unpack (fun r_659 u2 => (((r_659 < 1 → (post 0)) ∧ (¬ r_659 < 1 → (wpL_equal (fun r_723 => (((r_723 = 0 → (post 0)) ∧ (¬ r_723 = 0 → (wpX_same (fun r_725 u3 => (((r_725 = 1 → (∀ x6_789 : Int32, x6_789 = (x3 >>> ((14 : Int32) &&& 31)) &&& 3 → (wpX_rework (fun r_790 u4 => (((r_790 < 1 → (post 0)) ∧ (¬ r_790 < 1 → (wpX_unpack (fun r_854 u5 => (((r_854 < 1 → (post 0)) ∧ (¬ r_854 < 1 → (((3 ≤ x6_789 → (wpX_halve (fun r_919 u6 => (kw_law_277 post L xs x4 x5 x6_789 r_919 kc ks u5 u6)) v)) ∧ (¬ 3 ≤ x6_789 → (wpX_turn (fun r_1762 u7 => (kw_law_277 post L xs x4 x5 x6_789 r_1762 kc ks u5 u7)) v x6_789)))))))) u4 x5))))) u3 x5 x6_789))) ∧ (¬ r_725 = 1 → (post 0))))) u2 x4 x5))))) (mk_3 u2 v)))))) u1 x4)) ∧ (¬ r_595 = 1 → (post 0))))) u 1 1) : kw_law_186 post L xs x3 x4 x5 kc ks u v := h
def kw_law_136 (post : Int32 → Prop) (L : Nat) (xs : Nat → Int32) (x3 : Int32) (x4 : Int32) (x5 : Int32) (kc : Nat) (ks : Nat) (n : Nat) (x6 : Int32) (u v : St1) : Prop := wL_law_136 post L xs x3 x4 x5 kc ks n x6 (gt_w u) (gt_h u) (gt_aw u) (gt_ah u) (gt_fw u) (gt_fh u) (gt_col u) (gt_oc u) (gt_lim u) (gt_low u) (gt_rng u) (gt_code u) (gt_held u) (gt_wait u) (gt_src u) (gt_end u) (gt_crc u) (gt_hand u) (gt_aside u) (gt_first u) (gt_by u) (gt_used u) (gt_tb u) (gt_pw u) (gt_ph u) (gt_ps u) (gt_num u) (gt_lg u) (gt_sm u) (gt_clr u) (gt_ch u) (gt_out u) (gt_w v) (gt_h v) (gt_aw v) (gt_ah v) (gt_fw v) (gt_fh v) (gt_col v) (gt_oc v) (gt_lim v) (gt_low v) (gt_rng v) (gt_code v) (gt_held v) (gt_wait v) (gt_src v) (gt_end v) (gt_crc v) (gt_hand v) (gt_aside v) (gt_first v) (gt_by v) (gt_used v) (gt_tb v) (gt_pw v) (gt_ph v) (gt_ps v) (gt_num v) (gt_lg v) (gt_sm v) (gt_clr v) (gt_ch v) (gt_out v)
theorem ks_law_136 {post : Int32 → Prop} {L : Nat} {xs : Nat → Int32} {x3 : Int32} {x4 : Int32} {x5 : Int32} {kc : Nat} {ks : Nat} {n : Nat} {x6 : Int32} {u v : St1} (h : (((Int32.ofNat L) ≤ x6 → (kw_law_186 post L xs x3 x4 x5 kc ks u v)) ∧ (¬ (Int32.ofNat L) ≤ x6 → (((40 ≤ x6 → (kw_law_186 post L xs x3 x4 x5 kc ks u v)) ∧ (¬ 40 ≤ x6 → (vp_in x6 L ∧ (wpL_damaged (fun r_1827 u1 => (((r_1827 = 0 → (post 0)) ∧ (¬ r_1827 = 0 → (wpL_damaged (fun r_1891 u2 => (((r_1891 = 0 → (post 0)) ∧ (¬ r_1891 = 0 → (∀ x6_1955 : Int32, x6_1955 = x6 + 1 → (kw_law_136 post L xs x3 x4 x5 kc ks n x6_1955 u2 v)))))) u1 x5 x6 x4))))) u x4 (xs x6.toNatClampNeg) x5)))))))) : kw_law_136 post L xs x3 x4 x5 kc ks (n + 1) x6 u v := h
theorem ks_law {post : Int32 → Prop} {L : Nat} {xs : Nat → Int32} (h : ∃ mc_65 ms_66 : Nat, 1 + mc_65 ≤ 32 ∧ 32 + ms_66 ≤ 10406 ∧ (wpX_init (fun u1 => (1 + mc_65 + 1 ≤ 32 ∧ (32 + ms_66 + 32 ≤ 10406 ∧ (∃ mc_135 ms_136 : Nat, 1 + mc_65 + 1 + mc_135 ≤ 32 ∧ 32 + ms_66 + 32 + ms_136 ≤ 10406 ∧ (wpX_init (fun u2 => (wpL_make (fun u3 => (wpL_make (fun u4 => (wpL_cell (fun r_265 => (∀ x4_266 : Int32, x4_266 = (r_265 >>> ((4 : Int32) &&& 31)) &&& 3 → (¬ (3 : Int32) = 0 ∧ (¬ (4 : Int32) = 0 ∧ (∀ x5_269 : Int32, x5_269 = ((x4_266 + 1) + (((r_265 >>> ((6 : Int32) &&& 31)) &&& 255) - ((r_265 >>> ((6 : Int32) &&& 31)) &&& 255) / 3 * 3)) - ((x4_266 + 1) + (((r_265 >>> ((6 : Int32) &&& 31)) &&& 255) - ((r_265 >>> ((6 : Int32) &&& 31)) &&& 255) / 3 * 3)) / 4 * 4 → (wpL_cell (fun r_270 => (wpX_pack (fun r_271 u5 => (((r_271 = 0 → (wpL_cell (fun r_335 => (wpX_pack (fun r_336 u6 => (((r_336 = 0 → (wpX_same (fun r_400 u7 => (((r_400 = 1 → (wpX_blank (fun r_464 u8 => (((r_464 < 1 → (post 0)) ∧ (¬ r_464 < 1 → (wpX_unpack (fun r_528 u9 => (((r_528 < 1 → (post 0)) ∧ (¬ r_528 < 1 → (wpL_equal (fun r_592 => (((r_592 = 0 → (post 0)) ∧ (¬ r_592 = 0 → (∃ fu136 : Nat, kw_law_136 post L xs r_265 x4_266 x5_269 (1 + mc_65 + 1 + mc_135) (32 + ms_66 + 32 + ms_136) fu136 0 u9 u4))))) (mk_3 u9 u4)))))) u8 x4_266))))) u7 (1 + (r_265 &&& 7)) 2)) ∧ (¬ r_400 = 1 → (post 0))))) u6 x4_266 x5_269)) ∧ (¬ r_336 = 0 → (post 0))))) u5 x5_269 r_335)) L xs () 3)) ∧ (¬ r_271 = 0 → (post 0))))) u3 x4_266 r_270)) L xs () 2)))))) L xs () 1)) L xs u2)) L xs u1)) mc_135 ms_136 (0, 0, 0, 0, 0, 0, 0, 0, 0, 0, 0, 0, 0, 0, 0, 0, 0)))))) mc_65 ms_66 (0, 0, 0, 0, 0, 0, 0, 0, 0, 0, 0, 0, 0, 0, 0, 0, 0))) : wpL_law post L xs := h
end
section
/-! ===== Int32 by its bits: zb_t x i ===== -/
def zb_t (x : Int32) (i : Nat) : Bool := x.toBitVec.getLsbD i
theorem zb_ext {x y : Int32} (h : ∀ i, i < 32 → zb_t x i = zb_t y i) : x = y := Int32.toBitVec_inj.mp (BitVec.eq_of_getLsbD_eq (fun i hi => h i hi))
theorem zb_or (x y : Int32) (i : Nat) : zb_t (x ||| y) i = (zb_t x i || zb_t y i) := by unfold zb_t; rw [Int32.toBitVec_or, BitVec.getLsbD_or]
theorem zb_and (x y : Int32) (i : Nat) : zb_t (x &&& y) i = (zb_t x i && zb_t y i) := by unfold zb_t; rw [Int32.toBitVec_and, BitVec.getLsbD_and]
theorem zb_xor (x y : Int32) (i : Nat) : zb_t (x ^^^ y) i = (zb_t x i ^^ zb_t y i) := by unfold zb_t; rw [Int32.toBitVec_xor, BitVec.getLsbD_xor]
theorem zb_big {x : Int32} {i : Nat} (h : 32 ≤ i) : zb_t x i = false := BitVec.getLsbD_of_ge _ _ h
theorem zb_255 (i : Nat) : zb_t 255 i = decide (i < 8) := by
  rcases Nat.lt_or_ge i 32 with h | h
  · exact (by decide +kernel : ∀ i, i < 32 → zb_t 255 i = decide (i < 8)) i h
  · rw [zb_big h, decide_eq_false (by omega)]
theorem zb_65535 (i : Nat) : zb_t 65535 i = decide (i < 16) := by
  rcases Nat.lt_or_ge i 32 with h | h
  · exact (by decide +kernel : ∀ i, i < 32 → zb_t 65535 i = decide (i < 16)) i h
  · rw [zb_big h, decide_eq_false (by omega)]
theorem zb_m1 : ∀ i, i < 32 → zb_t (-1) i = true := by decide +kernel
theorem zb_0 (i : Nat) : zb_t 0 i = false := BitVec.getLsbD_zero
theorem zb_sl : ∀ n, n < 32 → ((nI n &&& 31).toBitVec.smod 32).toNat = n := by decide +kernel
theorem zb_su : ∀ n, n < 32 → (((nI n).toUInt32 &&& Int32.toUInt32 31).toBitVec % 32).toNat = n := by decide +kernel
theorem zb_shl (n : Nat) (hn : n < 32) (x : Int32) {i : Nat} (hi : i < 32) : zb_t (x <<< (nI n &&& 31)) i = (decide (n ≤ i) && zb_t x (i - n)) := by
  unfold zb_t
  rw [Int32.toBitVec_shiftLeft]
  show (x.toBitVec <<< ((nI n &&& 31).toBitVec.smod 32).toNat).getLsbD i = _
  rw [zb_sl n hn, BitVec.getLsbD_shiftLeft]
  rcases Nat.lt_or_ge i n with h | h
  · simp [h, Nat.not_le.mpr h]
  · simp [hi, h, Nat.not_lt.mpr h]
theorem zb_ushr (n : Nat) (hn : n < 32) (x : Int32) (i : Nat) : zb_t ((x.toUInt32 >>> ((nI n).toUInt32 &&& Int32.toUInt32 31)).toInt32) i = zb_t x (n + i) := by
  show (x.toUInt32 >>> ((nI n).toUInt32 &&& Int32.toUInt32 31)).toBitVec.getLsbD i = x.toUInt32.toBitVec.getLsbD (n + i)
  rw [UInt32.toBitVec_shiftRight]
  show (x.toUInt32.toBitVec >>> (((nI n).toUInt32 &&& Int32.toUInt32 31).toBitVec % 32).toNat).getLsbD i = _
  rw [zb_su n hn, BitVec.getLsbD_ushiftRight]
theorem zb_sshr (n : Nat) (hn : n < 32) (x : Int32) {i : Nat} (hi : i < 32) : zb_t (x >>> (nI n &&& 31)) i = if n + i < 32 then zb_t x (n + i) else zb_t x 31 := by
  unfold zb_t
  rw [Int32.toBitVec_shiftRight]
  show (x.toBitVec.sshiftRight ((nI n &&& 31).toBitVec.smod 32).toNat).getLsbD i = _
  rw [zb_sl n hn, BitVec.getLsbD_sshiftRight, BitVec.msb_eq_getLsbD_last]
  simp [hi]
theorem zb_shl8 (x : Int32) {i : Nat} (hi : i < 32) : zb_t (x <<< ((8 : Int32) &&& 31)) i = (decide (8 ≤ i) && zb_t x (i - 8)) := zb_shl 8 (by omega) x hi
theorem zb_shl16 (x : Int32) {i : Nat} (hi : i < 32) : zb_t (x <<< ((16 : Int32) &&& 31)) i = (decide (16 ≤ i) && zb_t x (i - 16)) := zb_shl 16 (by omega) x hi
theorem zb_shl24 (x : Int32) {i : Nat} (hi : i < 32) : zb_t (x <<< ((24 : Int32) &&& 31)) i = (decide (24 ≤ i) && zb_t x (i - 24)) := zb_shl 24 (by omega) x hi
theorem zb_sshr8 (x : Int32) {i : Nat} (hi : i < 32) : zb_t (x >>> ((8 : Int32) &&& 31)) i = if 8 + i < 32 then zb_t x (8 + i) else zb_t x 31 := zb_sshr 8 (by omega) x hi
/-! ===== nI under and, xor, >>>, one bit, 65535 ===== -/
theorem nx_and (a b : Nat) : nI a &&& nI b = nI (a &&& b) := by
  apply Int32.toBitVec_inj.1
  show BitVec.ofNat 32 a &&& BitVec.ofNat 32 b = BitVec.ofNat 32 (a &&& b)
  apply BitVec.eq_of_getLsbD_eq
  intro i hi
  simp [hi]
theorem nx_xor (a b : Nat) : nI a ^^^ nI b = nI (a ^^^ b) := by
  apply Int32.toBitVec_inj.1
  show BitVec.ofNat 32 a ^^^ BitVec.ofNat 32 b = BitVec.ofNat 32 (a ^^^ b)
  apply BitVec.eq_of_getLsbD_eq
  intro i hi
  simp [hi]
/-! ===== Int32 as a set of bits: test, set ===== -/
def nf_M (m : Int32) : Nat := 4294967296 - m.toBitVec.toNat
theorem nf_sh : ∀ l, l < 32 → ((1 : Int32) <<< (nI l &&& 31)).toBitVec = BitVec.twoPow 32 l := by decide +kernel
theorem nf_sl : ∀ l, l < 32 → (((nI l).toUInt32 &&& Int32.toUInt32 31).toBitVec % 32).toNat = l := by decide +kernel
theorem nf_tp : ∀ l, l < 32 → BitVec.twoPow 32 l ≠ 0#32 := by decide +kernel
/-! ===== lN n to 2^64: shifts, and, or, masks, one bit ===== -/
theorem wb_tb (n : Nat) : (lN n).toBitVec = BitVec.ofNat 64 n := rfl
theorem wb_inj {a b : Int64} (h : a.toBitVec = b.toBitVec) : a = b := Int64.toBitVec_inj.mp h
theorem wb_tn {n : Nat} (h : n < 2 ^ 64) : (lN n).toBitVec.toNat = n := by rw [wb_tb, BitVec.toNat_ofNat, Nat.mod_eq_of_lt h]
theorem wb_of (x : Int64) : ∃ n, n < 2 ^ 64 ∧ x = lN n := ⟨x.toBitVec.toNat, x.toBitVec.isLt, wb_inj (by rw [wb_tb]; simp)⟩
theorem wb_of32 (x : Int32) : ∃ n, n < 2 ^ 32 ∧ x = nI n := ⟨x.toBitVec.toNat, x.toBitVec.isLt, Int32.toBitVec_inj.mp (by show _ = BitVec.ofNat 32 _; simp)⟩
theorem wb_c : ∀ k, k < 64 → ((nI k).toInt64 &&& 63) = lN k := by decide +kernel
theorem wb_cu : ∀ k, k < 64 → ((nI k).toInt64.toUInt64 &&& Int64.toUInt64 63) = UInt64.ofNat k := by decide +kernel
theorem wb_sm : ∀ k, k < 64 → (BitVec.ofNat 64 k).smod 64 = BitVec.ofNat 64 k := by decide +kernel
theorem wb_pw {a b : Nat} (h : a ≤ b) : 2 ^ b = 2 ^ a * 2 ^ (b - a) := by rw [← Nat.pow_add]; congr 1; omega
theorem wb_lt2 {a b : Nat} (h : a < b) : 2 ^ a < 2 ^ b := Nat.pow_lt_pow_right (by decide) h
theorem wb_mod (n : Nat) : lN n = lN (n % 2 ^ 64) := wb_inj (by rw [wb_tb, wb_tb]; apply BitVec.eq_of_toNat_eq; rw [BitVec.toNat_ofNat, BitVec.toNat_ofNat, Nat.mod_mod])
theorem wb_shr {n k : Nat} (hn : n < 2 ^ 64) (hk : k < 64) : ((lN n).toUInt64 >>> ((nI k).toInt64.toUInt64 &&& Int64.toUInt64 63)).toInt64 = lN (n / 2 ^ k) := by
  rw [wb_cu k hk]
  apply wb_inj
  apply BitVec.eq_of_toNat_eq
  show ((lN n).toUInt64 >>> UInt64.ofNat k).toNat = (BitVec.ofNat 64 _).toNat
  have h1 : (UInt64.ofNat k).toNat = k := by
    show (BitVec.ofNat 64 k).toNat = k
    rw [BitVec.toNat_ofNat, Nat.mod_eq_of_lt (by omega)]
  have h2 : (lN n).toUInt64.toNat = n := wb_tn hn
  rw [UInt64.toNat_shiftRight, h1, h2, Nat.mod_eq_of_lt hk, Nat.shiftRight_eq_div_pow, BitVec.toNat_ofNat, Nat.mod_eq_of_lt (Nat.lt_of_le_of_lt (Nat.div_le_self _ _) hn)]
theorem wb_shl (n : Nat) {k : Nat} (hk : k < 64) : lN n <<< ((nI k).toInt64 &&& 63) = lN (n * 2 ^ k) := by
  rw [wb_c k hk]
  apply wb_inj
  rw [Int64.toBitVec_shiftLeft, wb_tb, wb_tb, wb_tb, wb_sm k hk]
  apply BitVec.eq_of_toNat_eq
  rw [BitVec.shiftLeft_eq', BitVec.toNat_shiftLeft, BitVec.toNat_ofNat, BitVec.toNat_ofNat, BitVec.toNat_ofNat, Nat.mod_eq_of_lt (show k < 2 ^ 64 by omega), Nat.shiftLeft_eq, Nat.mul_mod, Nat.mod_mod, ← Nat.mul_mod]
theorem wb_and {a b : Nat} (ha : a < 2 ^ 64) (hb : b < 2 ^ 64) : lN a &&& lN b = lN (a &&& b) := by
  apply wb_inj
  rw [Int64.toBitVec_and, wb_tb, wb_tb, wb_tb]
  apply BitVec.eq_of_toNat_eq
  rw [BitVec.toNat_and, BitVec.toNat_ofNat, BitVec.toNat_ofNat, BitVec.toNat_ofNat, Nat.mod_eq_of_lt ha, Nat.mod_eq_of_lt hb, Nat.mod_eq_of_lt (Nat.and_lt_two_pow _ hb)]
theorem wb_or {a b : Nat} (ha : a < 2 ^ 64) (hb : b < 2 ^ 64) : lN a ||| lN b = lN (a ||| b) := by
  apply wb_inj
  rw [Int64.toBitVec_or, wb_tb, wb_tb, wb_tb]
  apply BitVec.eq_of_toNat_eq
  rw [BitVec.toNat_or, BitVec.toNat_ofNat, BitVec.toNat_ofNat, BitVec.toNat_ofNat, Nat.mod_eq_of_lt ha, Nat.mod_eq_of_lt hb, Nat.mod_eq_of_lt (Nat.or_lt_two_pow ha hb)]
theorem wb_mask {n k : Nat} (hn : n < 2 ^ 64) (hk : k < 64) : lN n &&& lN (2 ^ k - 1) = lN (n % 2 ^ k) := by
  rw [wb_and hn (by have := wb_lt2 hk; omega), Nat.and_two_pow_sub_one_eq_mod]
theorem wb_a1 {n : Nat} (hn : n < 2 ^ 64) : lN n &&& 1 = lN (n % 2) := wb_mask (k := 1) hn (by decide)
theorem wb_bit {n k : Nat} (hn : n < 2 ^ 64) (hk : k < 64) : ((lN n).toUInt64 >>> ((nI k).toInt64.toUInt64 &&& Int64.toUInt64 63)).toInt64 &&& 1 = lN (n / 2 ^ k % 2) := by
  rw [wb_shr hn hk, wb_a1 (Nat.lt_of_le_of_lt (Nat.div_le_self _ _) hn)]
theorem wb_xor {q k : Nat} (hk : k < 63) (h : 2 ^ k ≤ q) (h2 : q < 2 ^ (k + 1)) : lN q ^^^ lN (2 ^ k) = lN (q - 2 ^ k) := by
  obtain ⟨r, rfl⟩ : ∃ r, q = 2 ^ k + r := ⟨q - 2 ^ k, by omega⟩
  have hr : r < 2 ^ k := by rw [Nat.pow_succ] at h2; omega
  have hx : (2 ^ k + r) ^^^ 2 ^ k = r := by
    apply Nat.eq_of_testBit_eq
    intro i
    rw [Nat.testBit_xor, Nat.testBit_two_pow]
    rcases Nat.lt_trichotomy i k with h | h | h
    · rw [Nat.testBit_two_pow_add_gt h]
      simp [show ¬ k = i by omega]
    · subst h
      rw [Nat.testBit_two_pow_add_eq]
      simp
    · have a1 : 2 ^ (k + 1) ≤ 2 ^ i := Nat.pow_le_pow_right (by decide) h
      rw [Nat.testBit_lt_two_pow (show 2 ^ k + r < 2 ^ i by omega), Nat.testBit_lt_two_pow (show r < 2 ^ i by omega)]
      simp [show ¬ k = i by omega]
  have b1 := wb_lt2 (show k + 1 < 64 by omega)
  have b2 := wb_lt2 (show k < 64 by omega)
  apply wb_inj
  rw [Int64.toBitVec_xor, wb_tb, wb_tb, wb_tb]
  apply BitVec.eq_of_toNat_eq
  rw [BitVec.toNat_xor, BitVec.toNat_ofNat, BitVec.toNat_ofNat, BitVec.toNat_ofNat, Nat.mod_eq_of_lt (by omega : 2 ^ k + r < 2 ^ 64), Nat.mod_eq_of_lt b2, hx, Nat.add_sub_cancel_left, Nat.mod_eq_of_lt (by omega)]
/-! ===== lN: masks, 'or' of parts that don't overlap is a sum ===== -/
theorem zu_tn {n : Nat} (h : n < 2 ^ 64) : (UInt64.ofNat n).toNat = n := Nat.mod_eq_of_lt h
theorem zg_and {a b c : Nat} (ha : a < 2 ^ 64) (hb : b < 2 ^ 64) (hc : a &&& b = c) : lN a &&& lN b = lN c := by
  subst hc
  have h : UInt64.ofNat a &&& UInt64.ofNat b = UInt64.ofNat (a &&& b) := UInt64.toNat_inj.mp (by rw [UInt64.toNat_and, zu_tn ha, zu_tn hb, zu_tn (Nat.and_lt_two_pow a hb)])
  have h2 := congrArg UInt64.toInt64 h
  exact h2
theorem zg_and1 {a : Nat} (ha : a < 2 ^ 64) : lN a &&& 1 = lN (a % 2) := zg_and (b := 1) ha (by decide) (Nat.and_two_pow_sub_one_eq_mod a 1)
theorem zg_mask {a s p : Nat} (hp : 2 ^ s = p) (hs : s < 64) (ha : a < 2 ^ 64) : lN a &&& lN (p - 1) = lN (a % p) := by
  subst hp
  have := Nat.pow_lt_pow_right (show 1 < 2 by decide) hs
  exact zg_and ha (by omega) (Nat.and_two_pow_sub_one_eq_mod a s)
theorem zg_or {k p a b : Nat} (hp : 2 ^ k = p) (ha : a < p) (h : b * p + a < 2 ^ 64) : lN (b * p) ||| lN a = lN (b * p + a) := by
  subst hp
  have h1 : b * 2 ^ k ||| a = b * 2 ^ k + a := by rw [← Nat.shiftLeft_eq, Nat.shiftLeft_add_eq_or_of_lt ha]
  have h3 : UInt64.ofNat (b * 2 ^ k) ||| UInt64.ofNat a = UInt64.ofNat (b * 2 ^ k + a) := UInt64.toNat_inj.mp (by rw [UInt64.toNat_or, zu_tn (by omega), zu_tn (by omega), zu_tn h, h1])
  have h2 := congrArg UInt64.toInt64 h3
  exact h2
theorem zg_or' {k p a b : Nat} (hp : 2 ^ k = p) (ha : a < p) (h : a + b * p < 2 ^ 64) : lN a ||| lN (b * p) = lN (a + b * p) := by
  rw [Int64.or_comm, zg_or hp ha (by omega), Nat.add_comm]
theorem zg_ushr {a k p : Nat} {y : UInt64} (hy : y = UInt64.ofNat k) (hk : k < 64) (hp : 2 ^ k = p) (ha : a < 2 ^ 64) : ((lN a).toUInt64 >>> y).toInt64 = lN (a / p) := by
  subst hy hp
  have h : UInt64.ofNat a >>> UInt64.ofNat k = UInt64.ofNat (a / 2 ^ k) := UInt64.toNat_inj.mp (by rw [UInt64.toNat_shiftRight, zu_tn ha, zu_tn (by omega), zu_tn (Nat.lt_of_le_of_lt (Nat.div_le_self _ _) ha), Nat.mod_eq_of_lt hk, Nat.shiftRight_eq_div_pow])
  have h2 := congrArg UInt64.toInt64 h
  exact h2
theorem zg_shl {a k p : Nat} {y : Int64} (hy : y.toBitVec.smod 64 = BitVec.ofNat 64 k) (hk : k < 64) (hp : 2 ^ k = p) (ha : a < 2 ^ 64) : lN a <<< y = lN (a * p) := by
  subst hp
  apply Int64.toBitVec_inj.mp
  rw [Int64.toBitVec_shiftLeft, hy]
  apply BitVec.eq_of_toNat_eq
  have hb : (lN a).toBitVec.toNat = a := Nat.mod_eq_of_lt ha
  have hk' : (BitVec.ofNat 64 k).toNat = k := Nat.mod_eq_of_lt (by omega)
  have h : ((lN a).toBitVec <<< BitVec.ofNat 64 k).toNat = (a * 2 ^ k) % 2 ^ 64 := by simp only [BitVec.shiftLeft_eq', BitVec.toNat_shiftLeft, hb, hk', Nat.shiftLeft_eq]
  exact h
/-! ===== lN to 2^62 under >> and >>> ===== -/
theorem pf_lI {a : Nat} (h : a < 2 ^ 63) : (lN a).toInt = (a : Int) := lg_ofNat_toInt h
theorem pf_shr {a d : Nat} {D : Int64} (hD : (D.toBitVec.smod 64).toNat = d) (h : a < 2 ^ 62) : lN a >>> D = lN (a / 2 ^ d) := by
  have hd : a / 2 ^ d ≤ a := Nat.div_le_self _ _
  apply Int64.toInt_inj.mp
  have e : (lN a >>> D).toInt = (lN a).toInt >>> d := by
    rw [← hD]
    exact BitVec.toInt_sshiftRight ..
  rw [e, Int.shiftRight_eq_div_pow, pf_lI (by omega), pf_lI (by omega)]
  rfl
theorem pf_ushr {a d : Nat} {D : UInt64} (hD : D.toNat % 64 = d) (h : a < 2 ^ 62) : ((lN a).toUInt64 >>> D).toInt64 = lN (a / 2 ^ d) := by
  have hd : a / 2 ^ d ≤ a := Nat.div_le_self _ _
  have e : (lN a).toUInt64 >>> D = UInt64.ofNat (a / 2 ^ d) := UInt64.toNat_inj.mp (by
    rw [UInt64.toNat_shiftRight, hD, Nat.shiftRight_eq_div_pow, UInt64.toNat_ofNat']
    show (UInt64.ofNat a).toNat / 2 ^ d = _
    rw [UInt64.toNat_ofNat', Nat.mod_eq_of_lt (by omega), Nat.mod_eq_of_lt (by omega)])
  rw [e]
  rfl
theorem pf_andw (x : Int64) : ∃ m, m < 2 ^ 32 ∧ x &&& 4294967295 = lN m := ⟨x.toBitVec.toNat % 2 ^ 32, Nat.mod_lt _ (by decide), Int64.toBitVec_inj.mp (BitVec.eq_of_toNat_eq (by
  show (x.toBitVec &&& 4294967295#64).toNat = (BitVec.ofNat 64 (x.toBitVec.toNat % 2 ^ 32)).toNat
  rw [BitVec.toNat_and, show (4294967295#64).toNat = 2 ^ 32 - 1 from by decide, Nat.and_two_pow_sub_one_eq_mod, BitVec.toNat_ofNat]
  omega))⟩
end
section
theorem gs_w (u : St1) (x : Int32) : gt_w (st_w u x) = x ∧ gt_h (st_w u x) = gt_h u ∧ gt_aw (st_w u x) = gt_aw u ∧ gt_ah (st_w u x) = gt_ah u ∧ gt_fw (st_w u x) = gt_fw u ∧ gt_fh (st_w u x) = gt_fh u ∧ gt_col (st_w u x) = gt_col u ∧ gt_oc (st_w u x) = gt_oc u ∧ gt_lim (st_w u x) = gt_lim u ∧ gt_low (st_w u x) = gt_low u ∧ gt_rng (st_w u x) = gt_rng u ∧ gt_code (st_w u x) = gt_code u ∧ gt_held (st_w u x) = gt_held u ∧ gt_wait (st_w u x) = gt_wait u ∧ gt_src (st_w u x) = gt_src u ∧ gt_end (st_w u x) = gt_end u ∧ gt_crc (st_w u x) = gt_crc u ∧ gt_hand (st_w u x) = gt_hand u ∧ gt_aside (st_w u x) = gt_aside u ∧ gt_first (st_w u x) = gt_first u ∧ gt_by (st_w u x) = gt_by u ∧ gt_used (st_w u x) = gt_used u ∧ gt_tb (st_w u x) = gt_tb u ∧ gt_pw (st_w u x) = gt_pw u ∧ gt_ph (st_w u x) = gt_ph u ∧ gt_ps (st_w u x) = gt_ps u ∧ gt_num (st_w u x) = gt_num u ∧ gt_lg (st_w u x) = gt_lg u ∧ gt_sm (st_w u x) = gt_sm u ∧ gt_clr (st_w u x) = gt_clr u ∧ gt_ch (st_w u x) = gt_ch u ∧ gt_out (st_w u x) = gt_out u := ⟨rfl, rfl, rfl, rfl, rfl, rfl, rfl, rfl, rfl, rfl, rfl, rfl, rfl, rfl, rfl, rfl, rfl, rfl, rfl, rfl, rfl, rfl, rfl, rfl, rfl, rfl, rfl, rfl, rfl, rfl, rfl, rfl⟩
theorem gs_h (u : St1) (x : Int32) : gt_w (st_h u x) = gt_w u ∧ gt_h (st_h u x) = x ∧ gt_aw (st_h u x) = gt_aw u ∧ gt_ah (st_h u x) = gt_ah u ∧ gt_fw (st_h u x) = gt_fw u ∧ gt_fh (st_h u x) = gt_fh u ∧ gt_col (st_h u x) = gt_col u ∧ gt_oc (st_h u x) = gt_oc u ∧ gt_lim (st_h u x) = gt_lim u ∧ gt_low (st_h u x) = gt_low u ∧ gt_rng (st_h u x) = gt_rng u ∧ gt_code (st_h u x) = gt_code u ∧ gt_held (st_h u x) = gt_held u ∧ gt_wait (st_h u x) = gt_wait u ∧ gt_src (st_h u x) = gt_src u ∧ gt_end (st_h u x) = gt_end u ∧ gt_crc (st_h u x) = gt_crc u ∧ gt_hand (st_h u x) = gt_hand u ∧ gt_aside (st_h u x) = gt_aside u ∧ gt_first (st_h u x) = gt_first u ∧ gt_by (st_h u x) = gt_by u ∧ gt_used (st_h u x) = gt_used u ∧ gt_tb (st_h u x) = gt_tb u ∧ gt_pw (st_h u x) = gt_pw u ∧ gt_ph (st_h u x) = gt_ph u ∧ gt_ps (st_h u x) = gt_ps u ∧ gt_num (st_h u x) = gt_num u ∧ gt_lg (st_h u x) = gt_lg u ∧ gt_sm (st_h u x) = gt_sm u ∧ gt_clr (st_h u x) = gt_clr u ∧ gt_ch (st_h u x) = gt_ch u ∧ gt_out (st_h u x) = gt_out u := ⟨rfl, rfl, rfl, rfl, rfl, rfl, rfl, rfl, rfl, rfl, rfl, rfl, rfl, rfl, rfl, rfl, rfl, rfl, rfl, rfl, rfl, rfl, rfl, rfl, rfl, rfl, rfl, rfl, rfl, rfl, rfl, rfl⟩
theorem gs_aw (u : St1) (x : Int32) : gt_w (st_aw u x) = gt_w u ∧ gt_h (st_aw u x) = gt_h u ∧ gt_aw (st_aw u x) = x ∧ gt_ah (st_aw u x) = gt_ah u ∧ gt_fw (st_aw u x) = gt_fw u ∧ gt_fh (st_aw u x) = gt_fh u ∧ gt_col (st_aw u x) = gt_col u ∧ gt_oc (st_aw u x) = gt_oc u ∧ gt_lim (st_aw u x) = gt_lim u ∧ gt_low (st_aw u x) = gt_low u ∧ gt_rng (st_aw u x) = gt_rng u ∧ gt_code (st_aw u x) = gt_code u ∧ gt_held (st_aw u x) = gt_held u ∧ gt_wait (st_aw u x) = gt_wait u ∧ gt_src (st_aw u x) = gt_src u ∧ gt_end (st_aw u x) = gt_end u ∧ gt_crc (st_aw u x) = gt_crc u ∧ gt_hand (st_aw u x) = gt_hand u ∧ gt_aside (st_aw u x) = gt_aside u ∧ gt_first (st_aw u x) = gt_first u ∧ gt_by (st_aw u x) = gt_by u ∧ gt_used (st_aw u x) = gt_used u ∧ gt_tb (st_aw u x) = gt_tb u ∧ gt_pw (st_aw u x) = gt_pw u ∧ gt_ph (st_aw u x) = gt_ph u ∧ gt_ps (st_aw u x) = gt_ps u ∧ gt_num (st_aw u x) = gt_num u ∧ gt_lg (st_aw u x) = gt_lg u ∧ gt_sm (st_aw u x) = gt_sm u ∧ gt_clr (st_aw u x) = gt_clr u ∧ gt_ch (st_aw u x) = gt_ch u ∧ gt_out (st_aw u x) = gt_out u := ⟨rfl, rfl, rfl, rfl, rfl, rfl, rfl, rfl, rfl, rfl, rfl, rfl, rfl, rfl, rfl, rfl, rfl, rfl, rfl, rfl, rfl, rfl, rfl, rfl, rfl, rfl, rfl, rfl, rfl, rfl, rfl, rfl⟩
theorem gs_ah (u : St1) (x : Int32) : gt_w (st_ah u x) = gt_w u ∧ gt_h (st_ah u x) = gt_h u ∧ gt_aw (st_ah u x) = gt_aw u ∧ gt_ah (st_ah u x) = x ∧ gt_fw (st_ah u x) = gt_fw u ∧ gt_fh (st_ah u x) = gt_fh u ∧ gt_col (st_ah u x) = gt_col u ∧ gt_oc (st_ah u x) = gt_oc u ∧ gt_lim (st_ah u x) = gt_lim u ∧ gt_low (st_ah u x) = gt_low u ∧ gt_rng (st_ah u x) = gt_rng u ∧ gt_code (st_ah u x) = gt_code u ∧ gt_held (st_ah u x) = gt_held u ∧ gt_wait (st_ah u x) = gt_wait u ∧ gt_src (st_ah u x) = gt_src u ∧ gt_end (st_ah u x) = gt_end u ∧ gt_crc (st_ah u x) = gt_crc u ∧ gt_hand (st_ah u x) = gt_hand u ∧ gt_aside (st_ah u x) = gt_aside u ∧ gt_first (st_ah u x) = gt_first u ∧ gt_by (st_ah u x) = gt_by u ∧ gt_used (st_ah u x) = gt_used u ∧ gt_tb (st_ah u x) = gt_tb u ∧ gt_pw (st_ah u x) = gt_pw u ∧ gt_ph (st_ah u x) = gt_ph u ∧ gt_ps (st_ah u x) = gt_ps u ∧ gt_num (st_ah u x) = gt_num u ∧ gt_lg (st_ah u x) = gt_lg u ∧ gt_sm (st_ah u x) = gt_sm u ∧ gt_clr (st_ah u x) = gt_clr u ∧ gt_ch (st_ah u x) = gt_ch u ∧ gt_out (st_ah u x) = gt_out u := ⟨rfl, rfl, rfl, rfl, rfl, rfl, rfl, rfl, rfl, rfl, rfl, rfl, rfl, rfl, rfl, rfl, rfl, rfl, rfl, rfl, rfl, rfl, rfl, rfl, rfl, rfl, rfl, rfl, rfl, rfl, rfl, rfl⟩
theorem gs_fw (u : St1) (x : Int32) : gt_w (st_fw u x) = gt_w u ∧ gt_h (st_fw u x) = gt_h u ∧ gt_aw (st_fw u x) = gt_aw u ∧ gt_ah (st_fw u x) = gt_ah u ∧ gt_fw (st_fw u x) = x ∧ gt_fh (st_fw u x) = gt_fh u ∧ gt_col (st_fw u x) = gt_col u ∧ gt_oc (st_fw u x) = gt_oc u ∧ gt_lim (st_fw u x) = gt_lim u ∧ gt_low (st_fw u x) = gt_low u ∧ gt_rng (st_fw u x) = gt_rng u ∧ gt_code (st_fw u x) = gt_code u ∧ gt_held (st_fw u x) = gt_held u ∧ gt_wait (st_fw u x) = gt_wait u ∧ gt_src (st_fw u x) = gt_src u ∧ gt_end (st_fw u x) = gt_end u ∧ gt_crc (st_fw u x) = gt_crc u ∧ gt_hand (st_fw u x) = gt_hand u ∧ gt_aside (st_fw u x) = gt_aside u ∧ gt_first (st_fw u x) = gt_first u ∧ gt_by (st_fw u x) = gt_by u ∧ gt_used (st_fw u x) = gt_used u ∧ gt_tb (st_fw u x) = gt_tb u ∧ gt_pw (st_fw u x) = gt_pw u ∧ gt_ph (st_fw u x) = gt_ph u ∧ gt_ps (st_fw u x) = gt_ps u ∧ gt_num (st_fw u x) = gt_num u ∧ gt_lg (st_fw u x) = gt_lg u ∧ gt_sm (st_fw u x) = gt_sm u ∧ gt_clr (st_fw u x) = gt_clr u ∧ gt_ch (st_fw u x) = gt_ch u ∧ gt_out (st_fw u x) = gt_out u := ⟨rfl, rfl, rfl, rfl, rfl, rfl, rfl, rfl, rfl, rfl, rfl, rfl, rfl, rfl, rfl, rfl, rfl, rfl, rfl, rfl, rfl, rfl, rfl, rfl, rfl, rfl, rfl, rfl, rfl, rfl, rfl, rfl⟩
theorem gs_fh (u : St1) (x : Int32) : gt_w (st_fh u x) = gt_w u ∧ gt_h (st_fh u x) = gt_h u ∧ gt_aw (st_fh u x) = gt_aw u ∧ gt_ah (st_fh u x) = gt_ah u ∧ gt_fw (st_fh u x) = gt_fw u ∧ gt_fh (st_fh u x) = x ∧ gt_col (st_fh u x) = gt_col u ∧ gt_oc (st_fh u x) = gt_oc u ∧ gt_lim (st_fh u x) = gt_lim u ∧ gt_low (st_fh u x) = gt_low u ∧ gt_rng (st_fh u x) = gt_rng u ∧ gt_code (st_fh u x) = gt_code u ∧ gt_held (st_fh u x) = gt_held u ∧ gt_wait (st_fh u x) = gt_wait u ∧ gt_src (st_fh u x) = gt_src u ∧ gt_end (st_fh u x) = gt_end u ∧ gt_crc (st_fh u x) = gt_crc u ∧ gt_hand (st_fh u x) = gt_hand u ∧ gt_aside (st_fh u x) = gt_aside u ∧ gt_first (st_fh u x) = gt_first u ∧ gt_by (st_fh u x) = gt_by u ∧ gt_used (st_fh u x) = gt_used u ∧ gt_tb (st_fh u x) = gt_tb u ∧ gt_pw (st_fh u x) = gt_pw u ∧ gt_ph (st_fh u x) = gt_ph u ∧ gt_ps (st_fh u x) = gt_ps u ∧ gt_num (st_fh u x) = gt_num u ∧ gt_lg (st_fh u x) = gt_lg u ∧ gt_sm (st_fh u x) = gt_sm u ∧ gt_clr (st_fh u x) = gt_clr u ∧ gt_ch (st_fh u x) = gt_ch u ∧ gt_out (st_fh u x) = gt_out u := ⟨rfl, rfl, rfl, rfl, rfl, rfl, rfl, rfl, rfl, rfl, rfl, rfl, rfl, rfl, rfl, rfl, rfl, rfl, rfl, rfl, rfl, rfl, rfl, rfl, rfl, rfl, rfl, rfl, rfl, rfl, rfl, rfl⟩
theorem gs_col (u : St1) (x : Int32) : gt_w (st_col u x) = gt_w u ∧ gt_h (st_col u x) = gt_h u ∧ gt_aw (st_col u x) = gt_aw u ∧ gt_ah (st_col u x) = gt_ah u ∧ gt_fw (st_col u x) = gt_fw u ∧ gt_fh (st_col u x) = gt_fh u ∧ gt_col (st_col u x) = x ∧ gt_oc (st_col u x) = gt_oc u ∧ gt_lim (st_col u x) = gt_lim u ∧ gt_low (st_col u x) = gt_low u ∧ gt_rng (st_col u x) = gt_rng u ∧ gt_code (st_col u x) = gt_code u ∧ gt_held (st_col u x) = gt_held u ∧ gt_wait (st_col u x) = gt_wait u ∧ gt_src (st_col u x) = gt_src u ∧ gt_end (st_col u x) = gt_end u ∧ gt_crc (st_col u x) = gt_crc u ∧ gt_hand (st_col u x) = gt_hand u ∧ gt_aside (st_col u x) = gt_aside u ∧ gt_first (st_col u x) = gt_first u ∧ gt_by (st_col u x) = gt_by u ∧ gt_used (st_col u x) = gt_used u ∧ gt_tb (st_col u x) = gt_tb u ∧ gt_pw (st_col u x) = gt_pw u ∧ gt_ph (st_col u x) = gt_ph u ∧ gt_ps (st_col u x) = gt_ps u ∧ gt_num (st_col u x) = gt_num u ∧ gt_lg (st_col u x) = gt_lg u ∧ gt_sm (st_col u x) = gt_sm u ∧ gt_clr (st_col u x) = gt_clr u ∧ gt_ch (st_col u x) = gt_ch u ∧ gt_out (st_col u x) = gt_out u := ⟨rfl, rfl, rfl, rfl, rfl, rfl, rfl, rfl, rfl, rfl, rfl, rfl, rfl, rfl, rfl, rfl, rfl, rfl, rfl, rfl, rfl, rfl, rfl, rfl, rfl, rfl, rfl, rfl, rfl, rfl, rfl, rfl⟩
theorem gs_oc (u : St1) (x : Int32) : gt_w (st_oc u x) = gt_w u ∧ gt_h (st_oc u x) = gt_h u ∧ gt_aw (st_oc u x) = gt_aw u ∧ gt_ah (st_oc u x) = gt_ah u ∧ gt_fw (st_oc u x) = gt_fw u ∧ gt_fh (st_oc u x) = gt_fh u ∧ gt_col (st_oc u x) = gt_col u ∧ gt_oc (st_oc u x) = x ∧ gt_lim (st_oc u x) = gt_lim u ∧ gt_low (st_oc u x) = gt_low u ∧ gt_rng (st_oc u x) = gt_rng u ∧ gt_code (st_oc u x) = gt_code u ∧ gt_held (st_oc u x) = gt_held u ∧ gt_wait (st_oc u x) = gt_wait u ∧ gt_src (st_oc u x) = gt_src u ∧ gt_end (st_oc u x) = gt_end u ∧ gt_crc (st_oc u x) = gt_crc u ∧ gt_hand (st_oc u x) = gt_hand u ∧ gt_aside (st_oc u x) = gt_aside u ∧ gt_first (st_oc u x) = gt_first u ∧ gt_by (st_oc u x) = gt_by u ∧ gt_used (st_oc u x) = gt_used u ∧ gt_tb (st_oc u x) = gt_tb u ∧ gt_pw (st_oc u x) = gt_pw u ∧ gt_ph (st_oc u x) = gt_ph u ∧ gt_ps (st_oc u x) = gt_ps u ∧ gt_num (st_oc u x) = gt_num u ∧ gt_lg (st_oc u x) = gt_lg u ∧ gt_sm (st_oc u x) = gt_sm u ∧ gt_clr (st_oc u x) = gt_clr u ∧ gt_ch (st_oc u x) = gt_ch u ∧ gt_out (st_oc u x) = gt_out u := ⟨rfl, rfl, rfl, rfl, rfl, rfl, rfl, rfl, rfl, rfl, rfl, rfl, rfl, rfl, rfl, rfl, rfl, rfl, rfl, rfl, rfl, rfl, rfl, rfl, rfl, rfl, rfl, rfl, rfl, rfl, rfl, rfl⟩
theorem gs_lim (u : St1) (x : Int32) : gt_w (st_lim u x) = gt_w u ∧ gt_h (st_lim u x) = gt_h u ∧ gt_aw (st_lim u x) = gt_aw u ∧ gt_ah (st_lim u x) = gt_ah u ∧ gt_fw (st_lim u x) = gt_fw u ∧ gt_fh (st_lim u x) = gt_fh u ∧ gt_col (st_lim u x) = gt_col u ∧ gt_oc (st_lim u x) = gt_oc u ∧ gt_lim (st_lim u x) = x ∧ gt_low (st_lim u x) = gt_low u ∧ gt_rng (st_lim u x) = gt_rng u ∧ gt_code (st_lim u x) = gt_code u ∧ gt_held (st_lim u x) = gt_held u ∧ gt_wait (st_lim u x) = gt_wait u ∧ gt_src (st_lim u x) = gt_src u ∧ gt_end (st_lim u x) = gt_end u ∧ gt_crc (st_lim u x) = gt_crc u ∧ gt_hand (st_lim u x) = gt_hand u ∧ gt_aside (st_lim u x) = gt_aside u ∧ gt_first (st_lim u x) = gt_first u ∧ gt_by (st_lim u x) = gt_by u ∧ gt_used (st_lim u x) = gt_used u ∧ gt_tb (st_lim u x) = gt_tb u ∧ gt_pw (st_lim u x) = gt_pw u ∧ gt_ph (st_lim u x) = gt_ph u ∧ gt_ps (st_lim u x) = gt_ps u ∧ gt_num (st_lim u x) = gt_num u ∧ gt_lg (st_lim u x) = gt_lg u ∧ gt_sm (st_lim u x) = gt_sm u ∧ gt_clr (st_lim u x) = gt_clr u ∧ gt_ch (st_lim u x) = gt_ch u ∧ gt_out (st_lim u x) = gt_out u := ⟨rfl, rfl, rfl, rfl, rfl, rfl, rfl, rfl, rfl, rfl, rfl, rfl, rfl, rfl, rfl, rfl, rfl, rfl, rfl, rfl, rfl, rfl, rfl, rfl, rfl, rfl, rfl, rfl, rfl, rfl, rfl, rfl⟩
theorem gs_low (u : St1) (x : Int64) : gt_w (st_low u x) = gt_w u ∧ gt_h (st_low u x) = gt_h u ∧ gt_aw (st_low u x) = gt_aw u ∧ gt_ah (st_low u x) = gt_ah u ∧ gt_fw (st_low u x) = gt_fw u ∧ gt_fh (st_low u x) = gt_fh u ∧ gt_col (st_low u x) = gt_col u ∧ gt_oc (st_low u x) = gt_oc u ∧ gt_lim (st_low u x) = gt_lim u ∧ gt_low (st_low u x) = x ∧ gt_rng (st_low u x) = gt_rng u ∧ gt_code (st_low u x) = gt_code u ∧ gt_held (st_low u x) = gt_held u ∧ gt_wait (st_low u x) = gt_wait u ∧ gt_src (st_low u x) = gt_src u ∧ gt_end (st_low u x) = gt_end u ∧ gt_crc (st_low u x) = gt_crc u ∧ gt_hand (st_low u x) = gt_hand u ∧ gt_aside (st_low u x) = gt_aside u ∧ gt_first (st_low u x) = gt_first u ∧ gt_by (st_low u x) = gt_by u ∧ gt_used (st_low u x) = gt_used u ∧ gt_tb (st_low u x) = gt_tb u ∧ gt_pw (st_low u x) = gt_pw u ∧ gt_ph (st_low u x) = gt_ph u ∧ gt_ps (st_low u x) = gt_ps u ∧ gt_num (st_low u x) = gt_num u ∧ gt_lg (st_low u x) = gt_lg u ∧ gt_sm (st_low u x) = gt_sm u ∧ gt_clr (st_low u x) = gt_clr u ∧ gt_ch (st_low u x) = gt_ch u ∧ gt_out (st_low u x) = gt_out u := ⟨rfl, rfl, rfl, rfl, rfl, rfl, rfl, rfl, rfl, rfl, rfl, rfl, rfl, rfl, rfl, rfl, rfl, rfl, rfl, rfl, rfl, rfl, rfl, rfl, rfl, rfl, rfl, rfl, rfl, rfl, rfl, rfl⟩
theorem gs_rng (u : St1) (x : Int64) : gt_w (st_rng u x) = gt_w u ∧ gt_h (st_rng u x) = gt_h u ∧ gt_aw (st_rng u x) = gt_aw u ∧ gt_ah (st_rng u x) = gt_ah u ∧ gt_fw (st_rng u x) = gt_fw u ∧ gt_fh (st_rng u x) = gt_fh u ∧ gt_col (st_rng u x) = gt_col u ∧ gt_oc (st_rng u x) = gt_oc u ∧ gt_lim (st_rng u x) = gt_lim u ∧ gt_low (st_rng u x) = gt_low u ∧ gt_rng (st_rng u x) = x ∧ gt_code (st_rng u x) = gt_code u ∧ gt_held (st_rng u x) = gt_held u ∧ gt_wait (st_rng u x) = gt_wait u ∧ gt_src (st_rng u x) = gt_src u ∧ gt_end (st_rng u x) = gt_end u ∧ gt_crc (st_rng u x) = gt_crc u ∧ gt_hand (st_rng u x) = gt_hand u ∧ gt_aside (st_rng u x) = gt_aside u ∧ gt_first (st_rng u x) = gt_first u ∧ gt_by (st_rng u x) = gt_by u ∧ gt_used (st_rng u x) = gt_used u ∧ gt_tb (st_rng u x) = gt_tb u ∧ gt_pw (st_rng u x) = gt_pw u ∧ gt_ph (st_rng u x) = gt_ph u ∧ gt_ps (st_rng u x) = gt_ps u ∧ gt_num (st_rng u x) = gt_num u ∧ gt_lg (st_rng u x) = gt_lg u ∧ gt_sm (st_rng u x) = gt_sm u ∧ gt_clr (st_rng u x) = gt_clr u ∧ gt_ch (st_rng u x) = gt_ch u ∧ gt_out (st_rng u x) = gt_out u := ⟨rfl, rfl, rfl, rfl, rfl, rfl, rfl, rfl, rfl, rfl, rfl, rfl, rfl, rfl, rfl, rfl, rfl, rfl, rfl, rfl, rfl, rfl, rfl, rfl, rfl, rfl, rfl, rfl, rfl, rfl, rfl, rfl⟩
theorem gs_code (u : St1) (x : Int64) : gt_w (st_code u x) = gt_w u ∧ gt_h (st_code u x) = gt_h u ∧ gt_aw (st_code u x) = gt_aw u ∧ gt_ah (st_code u x) = gt_ah u ∧ gt_fw (st_code u x) = gt_fw u ∧ gt_fh (st_code u x) = gt_fh u ∧ gt_col (st_code u x) = gt_col u ∧ gt_oc (st_code u x) = gt_oc u ∧ gt_lim (st_code u x) = gt_lim u ∧ gt_low (st_code u x) = gt_low u ∧ gt_rng (st_code u x) = gt_rng u ∧ gt_code (st_code u x) = x ∧ gt_held (st_code u x) = gt_held u ∧ gt_wait (st_code u x) = gt_wait u ∧ gt_src (st_code u x) = gt_src u ∧ gt_end (st_code u x) = gt_end u ∧ gt_crc (st_code u x) = gt_crc u ∧ gt_hand (st_code u x) = gt_hand u ∧ gt_aside (st_code u x) = gt_aside u ∧ gt_first (st_code u x) = gt_first u ∧ gt_by (st_code u x) = gt_by u ∧ gt_used (st_code u x) = gt_used u ∧ gt_tb (st_code u x) = gt_tb u ∧ gt_pw (st_code u x) = gt_pw u ∧ gt_ph (st_code u x) = gt_ph u ∧ gt_ps (st_code u x) = gt_ps u ∧ gt_num (st_code u x) = gt_num u ∧ gt_lg (st_code u x) = gt_lg u ∧ gt_sm (st_code u x) = gt_sm u ∧ gt_clr (st_code u x) = gt_clr u ∧ gt_ch (st_code u x) = gt_ch u ∧ gt_out (st_code u x) = gt_out u := ⟨rfl, rfl, rfl, rfl, rfl, rfl, rfl, rfl, rfl, rfl, rfl, rfl, rfl, rfl, rfl, rfl, rfl, rfl, rfl, rfl, rfl, rfl, rfl, rfl, rfl, rfl, rfl, rfl, rfl, rfl, rfl, rfl⟩
theorem gs_held (u : St1) (x : Int32) : gt_w (st_held u x) = gt_w u ∧ gt_h (st_held u x) = gt_h u ∧ gt_aw (st_held u x) = gt_aw u ∧ gt_ah (st_held u x) = gt_ah u ∧ gt_fw (st_held u x) = gt_fw u ∧ gt_fh (st_held u x) = gt_fh u ∧ gt_col (st_held u x) = gt_col u ∧ gt_oc (st_held u x) = gt_oc u ∧ gt_lim (st_held u x) = gt_lim u ∧ gt_low (st_held u x) = gt_low u ∧ gt_rng (st_held u x) = gt_rng u ∧ gt_code (st_held u x) = gt_code u ∧ gt_held (st_held u x) = x ∧ gt_wait (st_held u x) = gt_wait u ∧ gt_src (st_held u x) = gt_src u ∧ gt_end (st_held u x) = gt_end u ∧ gt_crc (st_held u x) = gt_crc u ∧ gt_hand (st_held u x) = gt_hand u ∧ gt_aside (st_held u x) = gt_aside u ∧ gt_first (st_held u x) = gt_first u ∧ gt_by (st_held u x) = gt_by u ∧ gt_used (st_held u x) = gt_used u ∧ gt_tb (st_held u x) = gt_tb u ∧ gt_pw (st_held u x) = gt_pw u ∧ gt_ph (st_held u x) = gt_ph u ∧ gt_ps (st_held u x) = gt_ps u ∧ gt_num (st_held u x) = gt_num u ∧ gt_lg (st_held u x) = gt_lg u ∧ gt_sm (st_held u x) = gt_sm u ∧ gt_clr (st_held u x) = gt_clr u ∧ gt_ch (st_held u x) = gt_ch u ∧ gt_out (st_held u x) = gt_out u := ⟨rfl, rfl, rfl, rfl, rfl, rfl, rfl, rfl, rfl, rfl, rfl, rfl, rfl, rfl, rfl, rfl, rfl, rfl, rfl, rfl, rfl, rfl, rfl, rfl, rfl, rfl, rfl, rfl, rfl, rfl, rfl, rfl⟩
theorem gs_wait (u : St1) (x : Int32) : gt_w (st_wait u x) = gt_w u ∧ gt_h (st_wait u x) = gt_h u ∧ gt_aw (st_wait u x) = gt_aw u ∧ gt_ah (st_wait u x) = gt_ah u ∧ gt_fw (st_wait u x) = gt_fw u ∧ gt_fh (st_wait u x) = gt_fh u ∧ gt_col (st_wait u x) = gt_col u ∧ gt_oc (st_wait u x) = gt_oc u ∧ gt_lim (st_wait u x) = gt_lim u ∧ gt_low (st_wait u x) = gt_low u ∧ gt_rng (st_wait u x) = gt_rng u ∧ gt_code (st_wait u x) = gt_code u ∧ gt_held (st_wait u x) = gt_held u ∧ gt_wait (st_wait u x) = x ∧ gt_src (st_wait u x) = gt_src u ∧ gt_end (st_wait u x) = gt_end u ∧ gt_crc (st_wait u x) = gt_crc u ∧ gt_hand (st_wait u x) = gt_hand u ∧ gt_aside (st_wait u x) = gt_aside u ∧ gt_first (st_wait u x) = gt_first u ∧ gt_by (st_wait u x) = gt_by u ∧ gt_used (st_wait u x) = gt_used u ∧ gt_tb (st_wait u x) = gt_tb u ∧ gt_pw (st_wait u x) = gt_pw u ∧ gt_ph (st_wait u x) = gt_ph u ∧ gt_ps (st_wait u x) = gt_ps u ∧ gt_num (st_wait u x) = gt_num u ∧ gt_lg (st_wait u x) = gt_lg u ∧ gt_sm (st_wait u x) = gt_sm u ∧ gt_clr (st_wait u x) = gt_clr u ∧ gt_ch (st_wait u x) = gt_ch u ∧ gt_out (st_wait u x) = gt_out u := ⟨rfl, rfl, rfl, rfl, rfl, rfl, rfl, rfl, rfl, rfl, rfl, rfl, rfl, rfl, rfl, rfl, rfl, rfl, rfl, rfl, rfl, rfl, rfl, rfl, rfl, rfl, rfl, rfl, rfl, rfl, rfl, rfl⟩
theorem gs_src (u : St1) (x : Int32) : gt_w (st_src u x) = gt_w u ∧ gt_h (st_src u x) = gt_h u ∧ gt_aw (st_src u x) = gt_aw u ∧ gt_ah (st_src u x) = gt_ah u ∧ gt_fw (st_src u x) = gt_fw u ∧ gt_fh (st_src u x) = gt_fh u ∧ gt_col (st_src u x) = gt_col u ∧ gt_oc (st_src u x) = gt_oc u ∧ gt_lim (st_src u x) = gt_lim u ∧ gt_low (st_src u x) = gt_low u ∧ gt_rng (st_src u x) = gt_rng u ∧ gt_code (st_src u x) = gt_code u ∧ gt_held (st_src u x) = gt_held u ∧ gt_wait (st_src u x) = gt_wait u ∧ gt_src (st_src u x) = x ∧ gt_end (st_src u x) = gt_end u ∧ gt_crc (st_src u x) = gt_crc u ∧ gt_hand (st_src u x) = gt_hand u ∧ gt_aside (st_src u x) = gt_aside u ∧ gt_first (st_src u x) = gt_first u ∧ gt_by (st_src u x) = gt_by u ∧ gt_used (st_src u x) = gt_used u ∧ gt_tb (st_src u x) = gt_tb u ∧ gt_pw (st_src u x) = gt_pw u ∧ gt_ph (st_src u x) = gt_ph u ∧ gt_ps (st_src u x) = gt_ps u ∧ gt_num (st_src u x) = gt_num u ∧ gt_lg (st_src u x) = gt_lg u ∧ gt_sm (st_src u x) = gt_sm u ∧ gt_clr (st_src u x) = gt_clr u ∧ gt_ch (st_src u x) = gt_ch u ∧ gt_out (st_src u x) = gt_out u := ⟨rfl, rfl, rfl, rfl, rfl, rfl, rfl, rfl, rfl, rfl, rfl, rfl, rfl, rfl, rfl, rfl, rfl, rfl, rfl, rfl, rfl, rfl, rfl, rfl, rfl, rfl, rfl, rfl, rfl, rfl, rfl, rfl⟩
theorem gs_end (u : St1) (x : Int32) : gt_w (st_end u x) = gt_w u ∧ gt_h (st_end u x) = gt_h u ∧ gt_aw (st_end u x) = gt_aw u ∧ gt_ah (st_end u x) = gt_ah u ∧ gt_fw (st_end u x) = gt_fw u ∧ gt_fh (st_end u x) = gt_fh u ∧ gt_col (st_end u x) = gt_col u ∧ gt_oc (st_end u x) = gt_oc u ∧ gt_lim (st_end u x) = gt_lim u ∧ gt_low (st_end u x) = gt_low u ∧ gt_rng (st_end u x) = gt_rng u ∧ gt_code (st_end u x) = gt_code u ∧ gt_held (st_end u x) = gt_held u ∧ gt_wait (st_end u x) = gt_wait u ∧ gt_src (st_end u x) = gt_src u ∧ gt_end (st_end u x) = x ∧ gt_crc (st_end u x) = gt_crc u ∧ gt_hand (st_end u x) = gt_hand u ∧ gt_aside (st_end u x) = gt_aside u ∧ gt_first (st_end u x) = gt_first u ∧ gt_by (st_end u x) = gt_by u ∧ gt_used (st_end u x) = gt_used u ∧ gt_tb (st_end u x) = gt_tb u ∧ gt_pw (st_end u x) = gt_pw u ∧ gt_ph (st_end u x) = gt_ph u ∧ gt_ps (st_end u x) = gt_ps u ∧ gt_num (st_end u x) = gt_num u ∧ gt_lg (st_end u x) = gt_lg u ∧ gt_sm (st_end u x) = gt_sm u ∧ gt_clr (st_end u x) = gt_clr u ∧ gt_ch (st_end u x) = gt_ch u ∧ gt_out (st_end u x) = gt_out u := ⟨rfl, rfl, rfl, rfl, rfl, rfl, rfl, rfl, rfl, rfl, rfl, rfl, rfl, rfl, rfl, rfl, rfl, rfl, rfl, rfl, rfl, rfl, rfl, rfl, rfl, rfl, rfl, rfl, rfl, rfl, rfl, rfl⟩
theorem gs_crc (u : St1) (x : Int32) : gt_w (st_crc u x) = gt_w u ∧ gt_h (st_crc u x) = gt_h u ∧ gt_aw (st_crc u x) = gt_aw u ∧ gt_ah (st_crc u x) = gt_ah u ∧ gt_fw (st_crc u x) = gt_fw u ∧ gt_fh (st_crc u x) = gt_fh u ∧ gt_col (st_crc u x) = gt_col u ∧ gt_oc (st_crc u x) = gt_oc u ∧ gt_lim (st_crc u x) = gt_lim u ∧ gt_low (st_crc u x) = gt_low u ∧ gt_rng (st_crc u x) = gt_rng u ∧ gt_code (st_crc u x) = gt_code u ∧ gt_held (st_crc u x) = gt_held u ∧ gt_wait (st_crc u x) = gt_wait u ∧ gt_src (st_crc u x) = gt_src u ∧ gt_end (st_crc u x) = gt_end u ∧ gt_crc (st_crc u x) = x ∧ gt_hand (st_crc u x) = gt_hand u ∧ gt_aside (st_crc u x) = gt_aside u ∧ gt_first (st_crc u x) = gt_first u ∧ gt_by (st_crc u x) = gt_by u ∧ gt_used (st_crc u x) = gt_used u ∧ gt_tb (st_crc u x) = gt_tb u ∧ gt_pw (st_crc u x) = gt_pw u ∧ gt_ph (st_crc u x) = gt_ph u ∧ gt_ps (st_crc u x) = gt_ps u ∧ gt_num (st_crc u x) = gt_num u ∧ gt_lg (st_crc u x) = gt_lg u ∧ gt_sm (st_crc u x) = gt_sm u ∧ gt_clr (st_crc u x) = gt_clr u ∧ gt_ch (st_crc u x) = gt_ch u ∧ gt_out (st_crc u x) = gt_out u := ⟨rfl, rfl, rfl, rfl, rfl, rfl, rfl, rfl, rfl, rfl, rfl, rfl, rfl, rfl, rfl, rfl, rfl, rfl, rfl, rfl, rfl, rfl, rfl, rfl, rfl, rfl, rfl, rfl, rfl, rfl, rfl, rfl⟩
theorem gs_hand (u : St1) (x : Nat → Int32) : gt_w (st_hand u x) = gt_w u ∧ gt_h (st_hand u x) = gt_h u ∧ gt_aw (st_hand u x) = gt_aw u ∧ gt_ah (st_hand u x) = gt_ah u ∧ gt_fw (st_hand u x) = gt_fw u ∧ gt_fh (st_hand u x) = gt_fh u ∧ gt_col (st_hand u x) = gt_col u ∧ gt_oc (st_hand u x) = gt_oc u ∧ gt_lim (st_hand u x) = gt_lim u ∧ gt_low (st_hand u x) = gt_low u ∧ gt_rng (st_hand u x) = gt_rng u ∧ gt_code (st_hand u x) = gt_code u ∧ gt_held (st_hand u x) = gt_held u ∧ gt_wait (st_hand u x) = gt_wait u ∧ gt_src (st_hand u x) = gt_src u ∧ gt_end (st_hand u x) = gt_end u ∧ gt_crc (st_hand u x) = gt_crc u ∧ gt_hand (st_hand u x) = x ∧ gt_aside (st_hand u x) = gt_aside u ∧ gt_first (st_hand u x) = gt_first u ∧ gt_by (st_hand u x) = gt_by u ∧ gt_used (st_hand u x) = gt_used u ∧ gt_tb (st_hand u x) = gt_tb u ∧ gt_pw (st_hand u x) = gt_pw u ∧ gt_ph (st_hand u x) = gt_ph u ∧ gt_ps (st_hand u x) = gt_ps u ∧ gt_num (st_hand u x) = gt_num u ∧ gt_lg (st_hand u x) = gt_lg u ∧ gt_sm (st_hand u x) = gt_sm u ∧ gt_clr (st_hand u x) = gt_clr u ∧ gt_ch (st_hand u x) = gt_ch u ∧ gt_out (st_hand u x) = gt_out u := ⟨rfl, rfl, rfl, rfl, rfl, rfl, rfl, rfl, rfl, rfl, rfl, rfl, rfl, rfl, rfl, rfl, rfl, rfl, rfl, rfl, rfl, rfl, rfl, rfl, rfl, rfl, rfl, rfl, rfl, rfl, rfl, rfl⟩
theorem gs_aside (u : St1) (x : Nat → Int32) : gt_w (st_aside u x) = gt_w u ∧ gt_h (st_aside u x) = gt_h u ∧ gt_aw (st_aside u x) = gt_aw u ∧ gt_ah (st_aside u x) = gt_ah u ∧ gt_fw (st_aside u x) = gt_fw u ∧ gt_fh (st_aside u x) = gt_fh u ∧ gt_col (st_aside u x) = gt_col u ∧ gt_oc (st_aside u x) = gt_oc u ∧ gt_lim (st_aside u x) = gt_lim u ∧ gt_low (st_aside u x) = gt_low u ∧ gt_rng (st_aside u x) = gt_rng u ∧ gt_code (st_aside u x) = gt_code u ∧ gt_held (st_aside u x) = gt_held u ∧ gt_wait (st_aside u x) = gt_wait u ∧ gt_src (st_aside u x) = gt_src u ∧ gt_end (st_aside u x) = gt_end u ∧ gt_crc (st_aside u x) = gt_crc u ∧ gt_hand (st_aside u x) = gt_hand u ∧ gt_aside (st_aside u x) = x ∧ gt_first (st_aside u x) = gt_first u ∧ gt_by (st_aside u x) = gt_by u ∧ gt_used (st_aside u x) = gt_used u ∧ gt_tb (st_aside u x) = gt_tb u ∧ gt_pw (st_aside u x) = gt_pw u ∧ gt_ph (st_aside u x) = gt_ph u ∧ gt_ps (st_aside u x) = gt_ps u ∧ gt_num (st_aside u x) = gt_num u ∧ gt_lg (st_aside u x) = gt_lg u ∧ gt_sm (st_aside u x) = gt_sm u ∧ gt_clr (st_aside u x) = gt_clr u ∧ gt_ch (st_aside u x) = gt_ch u ∧ gt_out (st_aside u x) = gt_out u := ⟨rfl, rfl, rfl, rfl, rfl, rfl, rfl, rfl, rfl, rfl, rfl, rfl, rfl, rfl, rfl, rfl, rfl, rfl, rfl, rfl, rfl, rfl, rfl, rfl, rfl, rfl, rfl, rfl, rfl, rfl, rfl, rfl⟩
theorem gs_first (u : St1) (x : Nat → Int32) : gt_w (st_first u x) = gt_w u ∧ gt_h (st_first u x) = gt_h u ∧ gt_aw (st_first u x) = gt_aw u ∧ gt_ah (st_first u x) = gt_ah u ∧ gt_fw (st_first u x) = gt_fw u ∧ gt_fh (st_first u x) = gt_fh u ∧ gt_col (st_first u x) = gt_col u ∧ gt_oc (st_first u x) = gt_oc u ∧ gt_lim (st_first u x) = gt_lim u ∧ gt_low (st_first u x) = gt_low u ∧ gt_rng (st_first u x) = gt_rng u ∧ gt_code (st_first u x) = gt_code u ∧ gt_held (st_first u x) = gt_held u ∧ gt_wait (st_first u x) = gt_wait u ∧ gt_src (st_first u x) = gt_src u ∧ gt_end (st_first u x) = gt_end u ∧ gt_crc (st_first u x) = gt_crc u ∧ gt_hand (st_first u x) = gt_hand u ∧ gt_aside (st_first u x) = gt_aside u ∧ gt_first (st_first u x) = x ∧ gt_by (st_first u x) = gt_by u ∧ gt_used (st_first u x) = gt_used u ∧ gt_tb (st_first u x) = gt_tb u ∧ gt_pw (st_first u x) = gt_pw u ∧ gt_ph (st_first u x) = gt_ph u ∧ gt_ps (st_first u x) = gt_ps u ∧ gt_num (st_first u x) = gt_num u ∧ gt_lg (st_first u x) = gt_lg u ∧ gt_sm (st_first u x) = gt_sm u ∧ gt_clr (st_first u x) = gt_clr u ∧ gt_ch (st_first u x) = gt_ch u ∧ gt_out (st_first u x) = gt_out u := ⟨rfl, rfl, rfl, rfl, rfl, rfl, rfl, rfl, rfl, rfl, rfl, rfl, rfl, rfl, rfl, rfl, rfl, rfl, rfl, rfl, rfl, rfl, rfl, rfl, rfl, rfl, rfl, rfl, rfl, rfl, rfl, rfl⟩
theorem gs_by (u : St1) (x : Nat → Int32) : gt_w (st_by u x) = gt_w u ∧ gt_h (st_by u x) = gt_h u ∧ gt_aw (st_by u x) = gt_aw u ∧ gt_ah (st_by u x) = gt_ah u ∧ gt_fw (st_by u x) = gt_fw u ∧ gt_fh (st_by u x) = gt_fh u ∧ gt_col (st_by u x) = gt_col u ∧ gt_oc (st_by u x) = gt_oc u ∧ gt_lim (st_by u x) = gt_lim u ∧ gt_low (st_by u x) = gt_low u ∧ gt_rng (st_by u x) = gt_rng u ∧ gt_code (st_by u x) = gt_code u ∧ gt_held (st_by u x) = gt_held u ∧ gt_wait (st_by u x) = gt_wait u ∧ gt_src (st_by u x) = gt_src u ∧ gt_end (st_by u x) = gt_end u ∧ gt_crc (st_by u x) = gt_crc u ∧ gt_hand (st_by u x) = gt_hand u ∧ gt_aside (st_by u x) = gt_aside u ∧ gt_first (st_by u x) = gt_first u ∧ gt_by (st_by u x) = x ∧ gt_used (st_by u x) = gt_used u ∧ gt_tb (st_by u x) = gt_tb u ∧ gt_pw (st_by u x) = gt_pw u ∧ gt_ph (st_by u x) = gt_ph u ∧ gt_ps (st_by u x) = gt_ps u ∧ gt_num (st_by u x) = gt_num u ∧ gt_lg (st_by u x) = gt_lg u ∧ gt_sm (st_by u x) = gt_sm u ∧ gt_clr (st_by u x) = gt_clr u ∧ gt_ch (st_by u x) = gt_ch u ∧ gt_out (st_by u x) = gt_out u := ⟨rfl, rfl, rfl, rfl, rfl, rfl, rfl, rfl, rfl, rfl, rfl, rfl, rfl, rfl, rfl, rfl, rfl, rfl, rfl, rfl, rfl, rfl, rfl, rfl, rfl, rfl, rfl, rfl, rfl, rfl, rfl, rfl⟩
theorem gs_used (u : St1) (x : Nat → Int32) : gt_w (st_used u x) = gt_w u ∧ gt_h (st_used u x) = gt_h u ∧ gt_aw (st_used u x) = gt_aw u ∧ gt_ah (st_used u x) = gt_ah u ∧ gt_fw (st_used u x) = gt_fw u ∧ gt_fh (st_used u x) = gt_fh u ∧ gt_col (st_used u x) = gt_col u ∧ gt_oc (st_used u x) = gt_oc u ∧ gt_lim (st_used u x) = gt_lim u ∧ gt_low (st_used u x) = gt_low u ∧ gt_rng (st_used u x) = gt_rng u ∧ gt_code (st_used u x) = gt_code u ∧ gt_held (st_used u x) = gt_held u ∧ gt_wait (st_used u x) = gt_wait u ∧ gt_src (st_used u x) = gt_src u ∧ gt_end (st_used u x) = gt_end u ∧ gt_crc (st_used u x) = gt_crc u ∧ gt_hand (st_used u x) = gt_hand u ∧ gt_aside (st_used u x) = gt_aside u ∧ gt_first (st_used u x) = gt_first u ∧ gt_by (st_used u x) = gt_by u ∧ gt_used (st_used u x) = x ∧ gt_tb (st_used u x) = gt_tb u ∧ gt_pw (st_used u x) = gt_pw u ∧ gt_ph (st_used u x) = gt_ph u ∧ gt_ps (st_used u x) = gt_ps u ∧ gt_num (st_used u x) = gt_num u ∧ gt_lg (st_used u x) = gt_lg u ∧ gt_sm (st_used u x) = gt_sm u ∧ gt_clr (st_used u x) = gt_clr u ∧ gt_ch (st_used u x) = gt_ch u ∧ gt_out (st_used u x) = gt_out u := ⟨rfl, rfl, rfl, rfl, rfl, rfl, rfl, rfl, rfl, rfl, rfl, rfl, rfl, rfl, rfl, rfl, rfl, rfl, rfl, rfl, rfl, rfl, rfl, rfl, rfl, rfl, rfl, rfl, rfl, rfl, rfl, rfl⟩
theorem gs_tb (u : St1) (x : Nat → Int32) : gt_w (st_tb u x) = gt_w u ∧ gt_h (st_tb u x) = gt_h u ∧ gt_aw (st_tb u x) = gt_aw u ∧ gt_ah (st_tb u x) = gt_ah u ∧ gt_fw (st_tb u x) = gt_fw u ∧ gt_fh (st_tb u x) = gt_fh u ∧ gt_col (st_tb u x) = gt_col u ∧ gt_oc (st_tb u x) = gt_oc u ∧ gt_lim (st_tb u x) = gt_lim u ∧ gt_low (st_tb u x) = gt_low u ∧ gt_rng (st_tb u x) = gt_rng u ∧ gt_code (st_tb u x) = gt_code u ∧ gt_held (st_tb u x) = gt_held u ∧ gt_wait (st_tb u x) = gt_wait u ∧ gt_src (st_tb u x) = gt_src u ∧ gt_end (st_tb u x) = gt_end u ∧ gt_crc (st_tb u x) = gt_crc u ∧ gt_hand (st_tb u x) = gt_hand u ∧ gt_aside (st_tb u x) = gt_aside u ∧ gt_first (st_tb u x) = gt_first u ∧ gt_by (st_tb u x) = gt_by u ∧ gt_used (st_tb u x) = gt_used u ∧ gt_tb (st_tb u x) = x ∧ gt_pw (st_tb u x) = gt_pw u ∧ gt_ph (st_tb u x) = gt_ph u ∧ gt_ps (st_tb u x) = gt_ps u ∧ gt_num (st_tb u x) = gt_num u ∧ gt_lg (st_tb u x) = gt_lg u ∧ gt_sm (st_tb u x) = gt_sm u ∧ gt_clr (st_tb u x) = gt_clr u ∧ gt_ch (st_tb u x) = gt_ch u ∧ gt_out (st_tb u x) = gt_out u := ⟨rfl, rfl, rfl, rfl, rfl, rfl, rfl, rfl, rfl, rfl, rfl, rfl, rfl, rfl, rfl, rfl, rfl, rfl, rfl, rfl, rfl, rfl, rfl, rfl, rfl, rfl, rfl, rfl, rfl, rfl, rfl, rfl⟩
theorem gs_pw (u : St1) (x : Nat → Int32) : gt_w (st_pw u x) = gt_w u ∧ gt_h (st_pw u x) = gt_h u ∧ gt_aw (st_pw u x) = gt_aw u ∧ gt_ah (st_pw u x) = gt_ah u ∧ gt_fw (st_pw u x) = gt_fw u ∧ gt_fh (st_pw u x) = gt_fh u ∧ gt_col (st_pw u x) = gt_col u ∧ gt_oc (st_pw u x) = gt_oc u ∧ gt_lim (st_pw u x) = gt_lim u ∧ gt_low (st_pw u x) = gt_low u ∧ gt_rng (st_pw u x) = gt_rng u ∧ gt_code (st_pw u x) = gt_code u ∧ gt_held (st_pw u x) = gt_held u ∧ gt_wait (st_pw u x) = gt_wait u ∧ gt_src (st_pw u x) = gt_src u ∧ gt_end (st_pw u x) = gt_end u ∧ gt_crc (st_pw u x) = gt_crc u ∧ gt_hand (st_pw u x) = gt_hand u ∧ gt_aside (st_pw u x) = gt_aside u ∧ gt_first (st_pw u x) = gt_first u ∧ gt_by (st_pw u x) = gt_by u ∧ gt_used (st_pw u x) = gt_used u ∧ gt_tb (st_pw u x) = gt_tb u ∧ gt_pw (st_pw u x) = x ∧ gt_ph (st_pw u x) = gt_ph u ∧ gt_ps (st_pw u x) = gt_ps u ∧ gt_num (st_pw u x) = gt_num u ∧ gt_lg (st_pw u x) = gt_lg u ∧ gt_sm (st_pw u x) = gt_sm u ∧ gt_clr (st_pw u x) = gt_clr u ∧ gt_ch (st_pw u x) = gt_ch u ∧ gt_out (st_pw u x) = gt_out u := ⟨rfl, rfl, rfl, rfl, rfl, rfl, rfl, rfl, rfl, rfl, rfl, rfl, rfl, rfl, rfl, rfl, rfl, rfl, rfl, rfl, rfl, rfl, rfl, rfl, rfl, rfl, rfl, rfl, rfl, rfl, rfl, rfl⟩
theorem gs_ph (u : St1) (x : Nat → Int32) : gt_w (st_ph u x) = gt_w u ∧ gt_h (st_ph u x) = gt_h u ∧ gt_aw (st_ph u x) = gt_aw u ∧ gt_ah (st_ph u x) = gt_ah u ∧ gt_fw (st_ph u x) = gt_fw u ∧ gt_fh (st_ph u x) = gt_fh u ∧ gt_col (st_ph u x) = gt_col u ∧ gt_oc (st_ph u x) = gt_oc u ∧ gt_lim (st_ph u x) = gt_lim u ∧ gt_low (st_ph u x) = gt_low u ∧ gt_rng (st_ph u x) = gt_rng u ∧ gt_code (st_ph u x) = gt_code u ∧ gt_held (st_ph u x) = gt_held u ∧ gt_wait (st_ph u x) = gt_wait u ∧ gt_src (st_ph u x) = gt_src u ∧ gt_end (st_ph u x) = gt_end u ∧ gt_crc (st_ph u x) = gt_crc u ∧ gt_hand (st_ph u x) = gt_hand u ∧ gt_aside (st_ph u x) = gt_aside u ∧ gt_first (st_ph u x) = gt_first u ∧ gt_by (st_ph u x) = gt_by u ∧ gt_used (st_ph u x) = gt_used u ∧ gt_tb (st_ph u x) = gt_tb u ∧ gt_pw (st_ph u x) = gt_pw u ∧ gt_ph (st_ph u x) = x ∧ gt_ps (st_ph u x) = gt_ps u ∧ gt_num (st_ph u x) = gt_num u ∧ gt_lg (st_ph u x) = gt_lg u ∧ gt_sm (st_ph u x) = gt_sm u ∧ gt_clr (st_ph u x) = gt_clr u ∧ gt_ch (st_ph u x) = gt_ch u ∧ gt_out (st_ph u x) = gt_out u := ⟨rfl, rfl, rfl, rfl, rfl, rfl, rfl, rfl, rfl, rfl, rfl, rfl, rfl, rfl, rfl, rfl, rfl, rfl, rfl, rfl, rfl, rfl, rfl, rfl, rfl, rfl, rfl, rfl, rfl, rfl, rfl, rfl⟩
theorem gs_ps (u : St1) (x : Nat → Int32) : gt_w (st_ps u x) = gt_w u ∧ gt_h (st_ps u x) = gt_h u ∧ gt_aw (st_ps u x) = gt_aw u ∧ gt_ah (st_ps u x) = gt_ah u ∧ gt_fw (st_ps u x) = gt_fw u ∧ gt_fh (st_ps u x) = gt_fh u ∧ gt_col (st_ps u x) = gt_col u ∧ gt_oc (st_ps u x) = gt_oc u ∧ gt_lim (st_ps u x) = gt_lim u ∧ gt_low (st_ps u x) = gt_low u ∧ gt_rng (st_ps u x) = gt_rng u ∧ gt_code (st_ps u x) = gt_code u ∧ gt_held (st_ps u x) = gt_held u ∧ gt_wait (st_ps u x) = gt_wait u ∧ gt_src (st_ps u x) = gt_src u ∧ gt_end (st_ps u x) = gt_end u ∧ gt_crc (st_ps u x) = gt_crc u ∧ gt_hand (st_ps u x) = gt_hand u ∧ gt_aside (st_ps u x) = gt_aside u ∧ gt_first (st_ps u x) = gt_first u ∧ gt_by (st_ps u x) = gt_by u ∧ gt_used (st_ps u x) = gt_used u ∧ gt_tb (st_ps u x) = gt_tb u ∧ gt_pw (st_ps u x) = gt_pw u ∧ gt_ph (st_ps u x) = gt_ph u ∧ gt_ps (st_ps u x) = x ∧ gt_num (st_ps u x) = gt_num u ∧ gt_lg (st_ps u x) = gt_lg u ∧ gt_sm (st_ps u x) = gt_sm u ∧ gt_clr (st_ps u x) = gt_clr u ∧ gt_ch (st_ps u x) = gt_ch u ∧ gt_out (st_ps u x) = gt_out u := ⟨rfl, rfl, rfl, rfl, rfl, rfl, rfl, rfl, rfl, rfl, rfl, rfl, rfl, rfl, rfl, rfl, rfl, rfl, rfl, rfl, rfl, rfl, rfl, rfl, rfl, rfl, rfl, rfl, rfl, rfl, rfl, rfl⟩
theorem gs_num (u : St1) (x : Nat → Int32) : gt_w (st_num u x) = gt_w u ∧ gt_h (st_num u x) = gt_h u ∧ gt_aw (st_num u x) = gt_aw u ∧ gt_ah (st_num u x) = gt_ah u ∧ gt_fw (st_num u x) = gt_fw u ∧ gt_fh (st_num u x) = gt_fh u ∧ gt_col (st_num u x) = gt_col u ∧ gt_oc (st_num u x) = gt_oc u ∧ gt_lim (st_num u x) = gt_lim u ∧ gt_low (st_num u x) = gt_low u ∧ gt_rng (st_num u x) = gt_rng u ∧ gt_code (st_num u x) = gt_code u ∧ gt_held (st_num u x) = gt_held u ∧ gt_wait (st_num u x) = gt_wait u ∧ gt_src (st_num u x) = gt_src u ∧ gt_end (st_num u x) = gt_end u ∧ gt_crc (st_num u x) = gt_crc u ∧ gt_hand (st_num u x) = gt_hand u ∧ gt_aside (st_num u x) = gt_aside u ∧ gt_first (st_num u x) = gt_first u ∧ gt_by (st_num u x) = gt_by u ∧ gt_used (st_num u x) = gt_used u ∧ gt_tb (st_num u x) = gt_tb u ∧ gt_pw (st_num u x) = gt_pw u ∧ gt_ph (st_num u x) = gt_ph u ∧ gt_ps (st_num u x) = gt_ps u ∧ gt_num (st_num u x) = x ∧ gt_lg (st_num u x) = gt_lg u ∧ gt_sm (st_num u x) = gt_sm u ∧ gt_clr (st_num u x) = gt_clr u ∧ gt_ch (st_num u x) = gt_ch u ∧ gt_out (st_num u x) = gt_out u := ⟨rfl, rfl, rfl, rfl, rfl, rfl, rfl, rfl, rfl, rfl, rfl, rfl, rfl, rfl, rfl, rfl, rfl, rfl, rfl, rfl, rfl, rfl, rfl, rfl, rfl, rfl, rfl, rfl, rfl, rfl, rfl, rfl⟩
theorem gs_lg (u : St1) (x : Nat → Int32) : gt_w (st_lg u x) = gt_w u ∧ gt_h (st_lg u x) = gt_h u ∧ gt_aw (st_lg u x) = gt_aw u ∧ gt_ah (st_lg u x) = gt_ah u ∧ gt_fw (st_lg u x) = gt_fw u ∧ gt_fh (st_lg u x) = gt_fh u ∧ gt_col (st_lg u x) = gt_col u ∧ gt_oc (st_lg u x) = gt_oc u ∧ gt_lim (st_lg u x) = gt_lim u ∧ gt_low (st_lg u x) = gt_low u ∧ gt_rng (st_lg u x) = gt_rng u ∧ gt_code (st_lg u x) = gt_code u ∧ gt_held (st_lg u x) = gt_held u ∧ gt_wait (st_lg u x) = gt_wait u ∧ gt_src (st_lg u x) = gt_src u ∧ gt_end (st_lg u x) = gt_end u ∧ gt_crc (st_lg u x) = gt_crc u ∧ gt_hand (st_lg u x) = gt_hand u ∧ gt_aside (st_lg u x) = gt_aside u ∧ gt_first (st_lg u x) = gt_first u ∧ gt_by (st_lg u x) = gt_by u ∧ gt_used (st_lg u x) = gt_used u ∧ gt_tb (st_lg u x) = gt_tb u ∧ gt_pw (st_lg u x) = gt_pw u ∧ gt_ph (st_lg u x) = gt_ph u ∧ gt_ps (st_lg u x) = gt_ps u ∧ gt_num (st_lg u x) = gt_num u ∧ gt_lg (st_lg u x) = x ∧ gt_sm (st_lg u x) = gt_sm u ∧ gt_clr (st_lg u x) = gt_clr u ∧ gt_ch (st_lg u x) = gt_ch u ∧ gt_out (st_lg u x) = gt_out u := ⟨rfl, rfl, rfl, rfl, rfl, rfl, rfl, rfl, rfl, rfl, rfl, rfl, rfl, rfl, rfl, rfl, rfl, rfl, rfl, rfl, rfl, rfl, rfl, rfl, rfl, rfl, rfl, rfl, rfl, rfl, rfl, rfl⟩
theorem gs_sm (u : St1) (x : Nat → Int32) : gt_w (st_sm u x) = gt_w u ∧ gt_h (st_sm u x) = gt_h u ∧ gt_aw (st_sm u x) = gt_aw u ∧ gt_ah (st_sm u x) = gt_ah u ∧ gt_fw (st_sm u x) = gt_fw u ∧ gt_fh (st_sm u x) = gt_fh u ∧ gt_col (st_sm u x) = gt_col u ∧ gt_oc (st_sm u x) = gt_oc u ∧ gt_lim (st_sm u x) = gt_lim u ∧ gt_low (st_sm u x) = gt_low u ∧ gt_rng (st_sm u x) = gt_rng u ∧ gt_code (st_sm u x) = gt_code u ∧ gt_held (st_sm u x) = gt_held u ∧ gt_wait (st_sm u x) = gt_wait u ∧ gt_src (st_sm u x) = gt_src u ∧ gt_end (st_sm u x) = gt_end u ∧ gt_crc (st_sm u x) = gt_crc u ∧ gt_hand (st_sm u x) = gt_hand u ∧ gt_aside (st_sm u x) = gt_aside u ∧ gt_first (st_sm u x) = gt_first u ∧ gt_by (st_sm u x) = gt_by u ∧ gt_used (st_sm u x) = gt_used u ∧ gt_tb (st_sm u x) = gt_tb u ∧ gt_pw (st_sm u x) = gt_pw u ∧ gt_ph (st_sm u x) = gt_ph u ∧ gt_ps (st_sm u x) = gt_ps u ∧ gt_num (st_sm u x) = gt_num u ∧ gt_lg (st_sm u x) = gt_lg u ∧ gt_sm (st_sm u x) = x ∧ gt_clr (st_sm u x) = gt_clr u ∧ gt_ch (st_sm u x) = gt_ch u ∧ gt_out (st_sm u x) = gt_out u := ⟨rfl, rfl, rfl, rfl, rfl, rfl, rfl, rfl, rfl, rfl, rfl, rfl, rfl, rfl, rfl, rfl, rfl, rfl, rfl, rfl, rfl, rfl, rfl, rfl, rfl, rfl, rfl, rfl, rfl, rfl, rfl, rfl⟩
theorem gs_clr (u : St1) (x : Nat → Int32) : gt_w (st_clr u x) = gt_w u ∧ gt_h (st_clr u x) = gt_h u ∧ gt_aw (st_clr u x) = gt_aw u ∧ gt_ah (st_clr u x) = gt_ah u ∧ gt_fw (st_clr u x) = gt_fw u ∧ gt_fh (st_clr u x) = gt_fh u ∧ gt_col (st_clr u x) = gt_col u ∧ gt_oc (st_clr u x) = gt_oc u ∧ gt_lim (st_clr u x) = gt_lim u ∧ gt_low (st_clr u x) = gt_low u ∧ gt_rng (st_clr u x) = gt_rng u ∧ gt_code (st_clr u x) = gt_code u ∧ gt_held (st_clr u x) = gt_held u ∧ gt_wait (st_clr u x) = gt_wait u ∧ gt_src (st_clr u x) = gt_src u ∧ gt_end (st_clr u x) = gt_end u ∧ gt_crc (st_clr u x) = gt_crc u ∧ gt_hand (st_clr u x) = gt_hand u ∧ gt_aside (st_clr u x) = gt_aside u ∧ gt_first (st_clr u x) = gt_first u ∧ gt_by (st_clr u x) = gt_by u ∧ gt_used (st_clr u x) = gt_used u ∧ gt_tb (st_clr u x) = gt_tb u ∧ gt_pw (st_clr u x) = gt_pw u ∧ gt_ph (st_clr u x) = gt_ph u ∧ gt_ps (st_clr u x) = gt_ps u ∧ gt_num (st_clr u x) = gt_num u ∧ gt_lg (st_clr u x) = gt_lg u ∧ gt_sm (st_clr u x) = gt_sm u ∧ gt_clr (st_clr u x) = x ∧ gt_ch (st_clr u x) = gt_ch u ∧ gt_out (st_clr u x) = gt_out u := ⟨rfl, rfl, rfl, rfl, rfl, rfl, rfl, rfl, rfl, rfl, rfl, rfl, rfl, rfl, rfl, rfl, rfl, rfl, rfl, rfl, rfl, rfl, rfl, rfl, rfl, rfl, rfl, rfl, rfl, rfl, rfl, rfl⟩
theorem gs_ch (u : St1) (x : Nat → Int32) : gt_w (st_ch u x) = gt_w u ∧ gt_h (st_ch u x) = gt_h u ∧ gt_aw (st_ch u x) = gt_aw u ∧ gt_ah (st_ch u x) = gt_ah u ∧ gt_fw (st_ch u x) = gt_fw u ∧ gt_fh (st_ch u x) = gt_fh u ∧ gt_col (st_ch u x) = gt_col u ∧ gt_oc (st_ch u x) = gt_oc u ∧ gt_lim (st_ch u x) = gt_lim u ∧ gt_low (st_ch u x) = gt_low u ∧ gt_rng (st_ch u x) = gt_rng u ∧ gt_code (st_ch u x) = gt_code u ∧ gt_held (st_ch u x) = gt_held u ∧ gt_wait (st_ch u x) = gt_wait u ∧ gt_src (st_ch u x) = gt_src u ∧ gt_end (st_ch u x) = gt_end u ∧ gt_crc (st_ch u x) = gt_crc u ∧ gt_hand (st_ch u x) = gt_hand u ∧ gt_aside (st_ch u x) = gt_aside u ∧ gt_first (st_ch u x) = gt_first u ∧ gt_by (st_ch u x) = gt_by u ∧ gt_used (st_ch u x) = gt_used u ∧ gt_tb (st_ch u x) = gt_tb u ∧ gt_pw (st_ch u x) = gt_pw u ∧ gt_ph (st_ch u x) = gt_ph u ∧ gt_ps (st_ch u x) = gt_ps u ∧ gt_num (st_ch u x) = gt_num u ∧ gt_lg (st_ch u x) = gt_lg u ∧ gt_sm (st_ch u x) = gt_sm u ∧ gt_clr (st_ch u x) = gt_clr u ∧ gt_ch (st_ch u x) = x ∧ gt_out (st_ch u x) = gt_out u := ⟨rfl, rfl, rfl, rfl, rfl, rfl, rfl, rfl, rfl, rfl, rfl, rfl, rfl, rfl, rfl, rfl, rfl, rfl, rfl, rfl, rfl, rfl, rfl, rfl, rfl, rfl, rfl, rfl, rfl, rfl, rfl, rfl⟩
theorem gs_out (u : St1) (x : Nat → Int32) : gt_w (st_out u x) = gt_w u ∧ gt_h (st_out u x) = gt_h u ∧ gt_aw (st_out u x) = gt_aw u ∧ gt_ah (st_out u x) = gt_ah u ∧ gt_fw (st_out u x) = gt_fw u ∧ gt_fh (st_out u x) = gt_fh u ∧ gt_col (st_out u x) = gt_col u ∧ gt_oc (st_out u x) = gt_oc u ∧ gt_lim (st_out u x) = gt_lim u ∧ gt_low (st_out u x) = gt_low u ∧ gt_rng (st_out u x) = gt_rng u ∧ gt_code (st_out u x) = gt_code u ∧ gt_held (st_out u x) = gt_held u ∧ gt_wait (st_out u x) = gt_wait u ∧ gt_src (st_out u x) = gt_src u ∧ gt_end (st_out u x) = gt_end u ∧ gt_crc (st_out u x) = gt_crc u ∧ gt_hand (st_out u x) = gt_hand u ∧ gt_aside (st_out u x) = gt_aside u ∧ gt_first (st_out u x) = gt_first u ∧ gt_by (st_out u x) = gt_by u ∧ gt_used (st_out u x) = gt_used u ∧ gt_tb (st_out u x) = gt_tb u ∧ gt_pw (st_out u x) = gt_pw u ∧ gt_ph (st_out u x) = gt_ph u ∧ gt_ps (st_out u x) = gt_ps u ∧ gt_num (st_out u x) = gt_num u ∧ gt_lg (st_out u x) = gt_lg u ∧ gt_sm (st_out u x) = gt_sm u ∧ gt_clr (st_out u x) = gt_clr u ∧ gt_ch (st_out u x) = gt_ch u ∧ gt_out (st_out u x) = x := ⟨rfl, rfl, rfl, rfl, rfl, rfl, rfl, rfl, rfl, rfl, rfl, rfl, rfl, rfl, rfl, rfl, rfl, rfl, rfl, rfl, rfl, rfl, rfl, rfl, rfl, rfl, rfl, rfl, rfl, rfl, rfl, rfl⟩
/-- what the coder leaves alone -/
def kf_ (u v : St1) : Prop := gt_w v = gt_w u ∧ gt_h v = gt_h u ∧ gt_hand v = gt_hand u ∧ gt_fw v = gt_fw u ∧ gt_fh v = gt_fh u ∧ gt_first v = gt_first u ∧ gt_by v = gt_by u ∧ gt_used v = gt_used u ∧ gt_tb v = gt_tb u ∧ gt_pw v = gt_pw u ∧ gt_ph v = gt_ph u ∧ gt_ps v = gt_ps u ∧ gt_num v = gt_num u ∧ gt_lg v = gt_lg u ∧ gt_sm v = gt_sm u ∧ gt_col v = gt_col u ∧ gt_clr v = gt_clr u ∧ gt_end v = gt_end u
theorem kf_rfl (u : St1) : kf_ u u := ⟨rfl, rfl, rfl, rfl, rfl, rfl, rfl, rfl, rfl, rfl, rfl, rfl, rfl, rfl, rfl, rfl, rfl, rfl⟩
theorem kf_tr {u v w : St1} (h : kf_ u v) (k : kf_ v w) : kf_ u w := by
  obtain ⟨h0, h1, h2, h3, h4, h5, h6, h7, h8, h9, h10, h11, h12, h13, h14, h15, h16, h17⟩ := h
  obtain ⟨k0, k1, k2, k3, k4, k5, k6, k7, k8, k9, k10, k11, k12, k13, k14, k15, k16, k17⟩ := k
  exact ⟨k0.trans h0, k1.trans h1, k2.trans h2, k3.trans h3, k4.trans h4, k5.trans h5, k6.trans h6, k7.trans h7, k8.trans h8, k9.trans h9, k10.trans h10, k11.trans h11, k12.trans h12, k13.trans h13, k14.trans h14, k15.trans h15, k16.trans h16, k17.trans h17⟩
theorem kf_w {u v : St1} (h : kf_ u v) : gt_w v = gt_w u := h.1
theorem kf_h {u v : St1} (h : kf_ u v) : gt_h v = gt_h u := h.2.1
theorem kf_hand {u v : St1} (h : kf_ u v) : gt_hand v = gt_hand u := h.2.2.1
theorem kf_fw {u v : St1} (h : kf_ u v) : gt_fw v = gt_fw u := h.2.2.2.1
theorem kf_fh {u v : St1} (h : kf_ u v) : gt_fh v = gt_fh u := h.2.2.2.2.1
theorem kf_first {u v : St1} (h : kf_ u v) : gt_first v = gt_first u := h.2.2.2.2.2.1
theorem kf_by {u v : St1} (h : kf_ u v) : gt_by v = gt_by u := h.2.2.2.2.2.2.1
theorem kf_used {u v : St1} (h : kf_ u v) : gt_used v = gt_used u := h.2.2.2.2.2.2.2.1
theorem kf_tb {u v : St1} (h : kf_ u v) : gt_tb v = gt_tb u := h.2.2.2.2.2.2.2.2.1
theorem kf_pw {u v : St1} (h : kf_ u v) : gt_pw v = gt_pw u := h.2.2.2.2.2.2.2.2.2.1
theorem kf_ph {u v : St1} (h : kf_ u v) : gt_ph v = gt_ph u := h.2.2.2.2.2.2.2.2.2.2.1
theorem kf_ps {u v : St1} (h : kf_ u v) : gt_ps v = gt_ps u := h.2.2.2.2.2.2.2.2.2.2.2.1
theorem kf_num {u v : St1} (h : kf_ u v) : gt_num v = gt_num u := h.2.2.2.2.2.2.2.2.2.2.2.2.1
theorem kf_lg {u v : St1} (h : kf_ u v) : gt_lg v = gt_lg u := h.2.2.2.2.2.2.2.2.2.2.2.2.2.1
theorem kf_sm {u v : St1} (h : kf_ u v) : gt_sm v = gt_sm u := h.2.2.2.2.2.2.2.2.2.2.2.2.2.2.1
theorem kf_col {u v : St1} (h : kf_ u v) : gt_col v = gt_col u := h.2.2.2.2.2.2.2.2.2.2.2.2.2.2.2.1
theorem kf_clr {u v : St1} (h : kf_ u v) : gt_clr v = gt_clr u := h.2.2.2.2.2.2.2.2.2.2.2.2.2.2.2.2.1
theorem kf_end {u v : St1} (h : kf_ u v) : gt_end v = gt_end u := h.2.2.2.2.2.2.2.2.2.2.2.2.2.2.2.2.2
theorem kf_s_rng (u : St1) (x : Int64) : kf_ u (st_rng u x) := ⟨rfl, rfl, rfl, rfl, rfl, rfl, rfl, rfl, rfl, rfl, rfl, rfl, rfl, rfl, rfl, rfl, rfl, rfl⟩
theorem kf_s_ch (u : St1) (x : Nat → Int32) : kf_ u (st_ch u x) := ⟨rfl, rfl, rfl, rfl, rfl, rfl, rfl, rfl, rfl, rfl, rfl, rfl, rfl, rfl, rfl, rfl, rfl, rfl⟩
theorem kf_s_low (u : St1) (x : Int64) : kf_ u (st_low u x) := ⟨rfl, rfl, rfl, rfl, rfl, rfl, rfl, rfl, rfl, rfl, rfl, rfl, rfl, rfl, rfl, rfl, rfl, rfl⟩
theorem kf_s_oc (u : St1) (x : Int32) : kf_ u (st_oc u x) := ⟨rfl, rfl, rfl, rfl, rfl, rfl, rfl, rfl, rfl, rfl, rfl, rfl, rfl, rfl, rfl, rfl, rfl, rfl⟩
theorem kf_s_held (u : St1) (x : Int32) : kf_ u (st_held u x) := ⟨rfl, rfl, rfl, rfl, rfl, rfl, rfl, rfl, rfl, rfl, rfl, rfl, rfl, rfl, rfl, rfl, rfl, rfl⟩
theorem kf_s_wait (u : St1) (x : Int32) : kf_ u (st_wait u x) := ⟨rfl, rfl, rfl, rfl, rfl, rfl, rfl, rfl, rfl, rfl, rfl, rfl, rfl, rfl, rfl, rfl, rfl, rfl⟩
theorem kf_s_out (u : St1) (x : Nat → Int32) : kf_ u (st_out u x) := ⟨rfl, rfl, rfl, rfl, rfl, rfl, rfl, rfl, rfl, rfl, rfl, rfl, rfl, rfl, rfl, rfl, rfl, rfl⟩
theorem kf_s_code (u : St1) (x : Int64) : kf_ u (st_code u x) := ⟨rfl, rfl, rfl, rfl, rfl, rfl, rfl, rfl, rfl, rfl, rfl, rfl, rfl, rfl, rfl, rfl, rfl, rfl⟩
theorem kf_s_src (u : St1) (x : Int32) : kf_ u (st_src u x) := ⟨rfl, rfl, rfl, rfl, rfl, rfl, rfl, rfl, rfl, rfl, rfl, rfl, rfl, rfl, rfl, rfl, rfl, rfl⟩
theorem kf_s_crc (u : St1) (x : Int32) : kf_ u (st_crc u x) := ⟨rfl, rfl, rfl, rfl, rfl, rfl, rfl, rfl, rfl, rfl, rfl, rfl, rfl, rfl, rfl, rfl, rfl, rfl⟩
end
section
/-! ===== the coder, pure: a state is (total, range, shifts, chances) ===== -/
abbrev ec_T : Type := Nat × Nat × Nat × (Nat → Nat)
def ec_un (f : Nat → Nat) (k v : Nat) : Nat → Nat := fun j => if j = k then v else f j
def ec_lq (q b : Nat) : Nat := if b = 0 then q + (2048 - q) / 32 else q - q / 32
def ec_W (T R N : Nat) (ch : Nat → Nat) : ec_T := if R < 16777216 then (T * 256, R * 256, N + 1, ch) else (T, R, N, ch)
def ec_bd (e : ec_T) (c : Nat) : Nat := e.2.1 / 2048 * e.2.2.2 c
def ec_B (e : ec_T) (c b : Nat) : ec_T :=
  if b = 0 then ec_W e.1 (ec_bd e c) e.2.2.1 (ec_un e.2.2.2 c (ec_lq (e.2.2.2 c) b))
  else ec_W (e.1 + ec_bd e c) (e.2.1 - ec_bd e c) e.2.2.1 (ec_un e.2.2.2 c (ec_lq (e.2.2.2 c) b))
def ec_P (e : ec_T) (b : Nat) : ec_T := ec_W (e.1 + b * (e.2.1 / 2)) (e.2.1 / 2) e.2.2.1 e.2.2.2
def ec_cok (ch : Nat → Nat) : Prop := ∀ k, k < 428 → 31 ≤ ch k ∧ ch k ≤ 2017
def ec_ok (e : ec_T) : Prop := 16777216 ≤ e.2.1 ∧ e.2.1 < 4294967296 ∧ ec_cok e.2.2.2
def ec_val (b : Nat → Nat) : Nat → Nat
  | 0 => 0
  | k + 1 => ec_val b k * 256 + b k
def ec_sy (b : Nat → Nat) (e : ec_T) : Prop := e.1 ≤ ec_val b (e.2.2.1 + 5) ∧ ec_val b (e.2.2.1 + 5) < e.1 + e.2.1
/-- from e to e': well-formedness goes on, being in step goes back, at most m shifts -/
def ec_st (b : Nat → Nat) (e e' : ec_T) (m : Nat) : Prop := ec_ok e → (ec_ok e' ∧ (ec_sy b e' → ec_sy b e) ∧ e'.2.2.1 ≤ e.2.2.1 + m)
def ec_by (b : Nat → Nat) : Prop := ∀ k, b k < 256

theorem ec_st_refl (b : Nat → Nat) (e : ec_T) (m : Nat) : ec_st b e e m := fun h => ⟨h, fun z => z, by omega⟩
theorem ec_st_tr {b : Nat → Nat} {e e' e'' : ec_T} {m m' : Nat} (h : ec_st b e e' m) (h' : ec_st b e' e'' m') : ec_st b e e'' (m + m') := by
  intro ho
  obtain ⟨a1, a2, a3⟩ := h ho
  obtain ⟨b1, b2, b3⟩ := h' a1
  exact ⟨b1, fun z => a2 (b2 z), by omega⟩
theorem ec_st_le {b : Nat → Nat} {e e' : ec_T} {m m' : Nat} (h : ec_st b e e' m) (hm : m ≤ m') : ec_st b e e' m' := by
  intro ho
  obtain ⟨a1, a2, a3⟩ := h ho
  exact ⟨a1, a2, by omega⟩

theorem ec_lq_ok {q b : Nat} (h : 31 ≤ q ∧ q ≤ 2017) : 31 ≤ ec_lq q b ∧ ec_lq q b ≤ 2017 := by
  unfold ec_lq
  split <;> omega
theorem ec_cok_un {ch : Nat → Nat} (h : ec_cok ch) {c : Nat} (hc : c < 428) (b : Nat) : ec_cok (ec_un ch c (ec_lq (ch c) b)) := by
  intro k hk
  unfold ec_un
  by_cases e : k = c
  · rw [if_pos e]
    exact ec_lq_ok (h c hc)
  · rw [if_neg e]
    exact h k hk
theorem ec_W_ok {T R N : Nat} {ch : Nat → Nat} (h1 : 65536 ≤ R) (h2 : R < 4294967296) (h3 : ec_cok ch) : ec_ok (ec_W T R N ch) := by
  unfold ec_W
  split
  · exact ⟨by show _ ≤ R * 256; omega, by show R * 256 < _; omega, h3⟩
  · exact ⟨by show _ ≤ R; omega, by show R < _; omega, h3⟩
theorem ec_W_sy {b : Nat → Nat} (hb : ec_by b) {T R N : Nat} {ch : Nat → Nat} (h : ec_sy b (ec_W T R N ch)) : T ≤ ec_val b (N + 5) ∧ ec_val b (N + 5) < T + R := by
  unfold ec_W at h
  split at h
  · obtain ⟨h1, h2⟩ := h
    dsimp only at h1 h2
    have e : ec_val b (N + 1 + 5) = ec_val b (N + 5) * 256 + b (N + 5) := by
      rw [show N + 1 + 5 = (N + 5) + 1 by omega]
      rfl
    rw [e] at h1 h2
    have := hb (N + 5)
    constructor <;> omega
  · exact h
theorem ec_W_N (T R N : Nat) (ch : Nat → Nat) : (ec_W T R N ch).2.2.1 ≤ N + 1 := by
  unfold ec_W
  split
  · exact Nat.le_refl _
  · exact Nat.le_succ _
theorem ec_W_Ng (T R N : Nat) (ch : Nat → Nat) : N ≤ (ec_W T R N ch).2.2.1 := by
  unfold ec_W
  split
  · exact Nat.le_succ _
  · exact Nat.le_refl _
theorem ec_bd_in {e : ec_T} (h : ec_ok e) {c : Nat} (hc : c < 428) : 65536 ≤ ec_bd e c ∧ ec_bd e c < 4294967296 ∧ 65536 ≤ e.2.1 - ec_bd e c ∧ ec_bd e c ≤ e.2.1 := by
  obtain ⟨h1, h2, h3⟩ := h
  obtain ⟨q1, q2⟩ := h3 c hc
  unfold ec_bd
  generalize e.2.1 = R at *
  generalize e.2.2.2 c = q at *
  have a1 : 8192 ≤ R / 2048 := by omega
  have a2 : R / 2048 * 2048 ≤ R := Nat.div_mul_le_self R 2048
  have a3 : R / 2048 * 31 ≤ R / 2048 * q := Nat.mul_le_mul_left _ q1
  have a4 : R / 2048 * q ≤ R / 2048 * 2017 := Nat.mul_le_mul_left _ q2
  generalize R / 2048 = x at *
  generalize x * q = y at *
  omega
theorem ec_B_st {b : Nat → Nat} (hb : ec_by b) {e : ec_T} {c : Nat} (hc : c < 428) (bit : Nat) : ec_st b e (ec_B e c bit) 1 := by
  intro ho
  obtain ⟨k1, k2, k3, k4⟩ := ec_bd_in ho hc
  obtain ⟨h1, h2, h3⟩ := ho
  unfold ec_B
  split
  · refine ⟨ec_W_ok k1 k2 (ec_cok_un h3 hc _), fun z => ?_, ec_W_N _ _ _ _⟩
    obtain ⟨z1, z2⟩ := ec_W_sy hb z
    exact ⟨z1, by omega⟩
  · refine ⟨ec_W_ok k3 (by omega) (ec_cok_un h3 hc _), fun z => ?_, ec_W_N _ _ _ _⟩
    obtain ⟨z1, z2⟩ := ec_W_sy hb z
    exact ⟨by omega, by omega⟩
theorem ec_P_st {b : Nat → Nat} (hb : ec_by b) {e : ec_T} {bit : Nat} (hbit : bit ≤ 1) : ec_st b e (ec_P e bit) 1 := by
  intro ho
  obtain ⟨h1, h2, h3⟩ := ho
  unfold ec_P
  refine ⟨ec_W_ok (by omega) (by omega) h3, fun z => ?_, ec_W_N _ _ _ _⟩
  obtain ⟨z1, z2⟩ := ec_W_sy hb z
  have : bit = 0 ∨ bit = 1 := by omega
  rcases this with rfl | rfl
  · exact ⟨by omega, by omega⟩
  · exact ⟨by omega, by omega⟩
/-- a fold over a counter -/
def ec_fd {α : Type} (f : α → Nat → α) (e : α) : Nat → α
  | 0 => e
  | k + 1 => f (ec_fd f e k) k
theorem ec_fd_st {b : Nat → Nat} {f : ec_T → Nat → ec_T} {e : ec_T} {m n : Nat} (h : ∀ k e, k < n → ec_st b e (f e k) m) : ∀ j k, k + j ≤ n → ec_st b (ec_fd f e k) (ec_fd f e (k + j)) (m * j) := by
  intro j
  induction j with
  | zero => intro k _; exact ec_st_refl _ _ _
  | succ j ih =>
    intro k hk
    have a := ih k (by omega)
    have a2 := h (k + j) (ec_fd f e (k + j)) (by omega)
    exact ec_st_le (ec_st_tr a a2) (by rw [Nat.mul_succ]; omega)
theorem ec_fd_to {b : Nat → Nat} {f : ec_T → Nat → ec_T} {e : ec_T} {m n : Nat} (h : ∀ k e, k < n → ec_st b e (f e k) m) {k : Nat} (hk : k ≤ n) : ec_st b (ec_fd f e k) (ec_fd f e n) (m * (n - k)) := by
  have := ec_fd_st (e := e) h (n - k) k (by omega)
  rwa [show k + (n - k) = n by omega] at this
theorem ec_fd_0 {b : Nat → Nat} {f : ec_T → Nat → ec_T} {e : ec_T} {m n : Nat} (h : ∀ k e, k < n → ec_st b e (f e k) m) {k : Nat} (hk : k ≤ n) : ec_st b e (ec_fd f e k) (m * k) := by
  have := ec_fd_st (e := e) h k 0 (by omega)
  rwa [Nat.zero_add] at this
/-- plain digits of v, the highest first -/
def ec_Pl (v : Nat) : Nat → ec_T → ec_T
  | 0, e => e
  | k + 1, e => ec_Pl v k (ec_P e (v / 2 ^ k % 2))
theorem ec_Pl_st {b : Nat → Nat} (hb : ec_by b) (v : Nat) : ∀ k e, ec_st b e (ec_Pl v k e) k := by
  intro k
  induction k with
  | zero => intro e; exact ec_st_refl _ _ _
  | succ k ih =>
    intro e
    exact ec_st_le (ec_st_tr (ec_P_st hb (by omega)) (ih _)) (by omega)
/-- whole numbers -/
def ec_Un (base : Nat) (e : ec_T) (m : Nat) : ec_T := ec_fd (fun e k => ec_B e (base + 2 + k) 1) e m
theorem ec_Un_st {b : Nat → Nat} (hb : ec_by b) {base : Nat} (h : base ≤ 143) (e : ec_T) {m : Nat} (hm : m ≤ 10) : ec_st b e (ec_Un base e m) m := by
  have := ec_fd_0 (b := b) (f := fun e k => ec_B e (base + 2 + k) 1) (e := e) (m := 1) (n := m) (fun k e hk => ec_B_st hb (by omega) 1) (Nat.le_refl m)
  exact ec_st_le this (by omega)
def ec_N3 (base : Nat) (e : ec_T) (n m : Nat) : ec_T := ec_Pl n m (if m < 10 then ec_B (ec_Un base e m) (base + 2 + m) 0 else ec_Un base e m)
def ec_N (e : ec_T) (base : Nat) (x : Int32) : ec_T :=
  if x.toInt = 0 then ec_B e base 0
  else ec_N3 base (ec_B (ec_B e base 1) (base + 1) (if x.toInt < 0 then 1 else 0)) x.toInt.natAbs (Nat.log2 x.toInt.natAbs)
theorem ec_N3_st {b : Nat → Nat} (hb : ec_by b) {base : Nat} (h : base ≤ 143) (e : ec_T) (n : Nat) {m : Nat} (hm : m ≤ 10) : ec_st b e (ec_N3 base e n m) 21 := by
  unfold ec_N3
  have a := ec_Un_st hb h e hm
  split
  · exact ec_st_le (ec_st_tr (ec_st_tr a (ec_B_st hb (by omega) 0)) (ec_Pl_st hb n m _)) (by omega)
  · exact ec_st_le (ec_st_tr a (ec_Pl_st hb n m _)) (by omega)
theorem ec_log {n : Nat} (h0 : n ≠ 0) (h : n < 2048) : Nat.log2 n ≤ 10 := by
  have := (Nat.log2_lt h0 (k := 11)).mpr (by omega)
  omega
theorem ec_N_st {b : Nat → Nat} (hb : ec_by b) {base : Nat} (h : base ≤ 143) (e : ec_T) {x : Int32} (hx : x.toInt.natAbs < 2048) : ec_st b e (ec_N e base x) 25 := by
  unfold ec_N
  split
  · exact ec_st_le (ec_B_st hb (by omega) 0) (by omega)
  · rename_i hz
    exact ec_st_le (ec_st_tr (ec_st_tr (ec_B_st hb (by omega) 1) (ec_B_st hb (by omega) _)) (ec_N3_st hb h _ _ (ec_log (by omega) hx))) (by omega)
/-- the place of a colour: four digits down a tree -/
def ec_I (left k : Nat) : Nat → ec_T → ec_T
  | 0, e => e
  | j + 1, e => ec_I left k j (ec_B e (156 + 16 * left + (16 + k) / 2 ^ (j + 1)) (k / 2 ^ j % 2))
theorem ec_I_st {b : Nat → Nat} (hb : ec_by b) {left k : Nat} (hl : left ≤ 16) (hk : k < 16) : ∀ j e, ec_st b e (ec_I left k j e) j := by
  intro j
  induction j with
  | zero => intro e; exact ec_st_refl _ _ _
  | succ j ih =>
    intro e
    have h1 : (16 + k) / 2 ^ (j + 1) ≤ 15 := by
      rw [Nat.pow_succ, Nat.mul_comm, ← Nat.div_div_eq_div_mul]
      exact Nat.le_trans (Nat.div_le_self _ _) (by omega)
    exact ec_st_le (ec_st_tr (ec_B_st hb (by omega) _) (ih _)) (by omega)
end
section
/-! ===== the encoder: walk of shift, widen, learn, putBit, putPlain ===== -/
theorem zl_le {x y : Int64} {A B : Prop} (a b : Nat) (f : a ≤ b → A) (g : b < a → B) (hx : x = lN a) (hy : y = lN b) (ha : a < 2 ^ 63) (hb : b < 2 ^ 63) : (x ≤ y → A) ∧ (¬ x ≤ y → B) := by
  subst hx hy
  rw [pk_lLE ha hb]
  exact ⟨f, fun z => g (by omega)⟩
theorem zl_lt {x y : Int64} {A B : Prop} (a b : Nat) (f : a < b → A) (g : b ≤ a → B) (hx : x = lN a) (hy : y = lN b) (ha : a < 2 ^ 63) (hb : b < 2 ^ 63) : (x < y → A) ∧ (¬ x < y → B) := by
  subst hx hy
  rw [pk_lLT ha hb]
  exact ⟨f, fun z => g (by omega)⟩
theorem zl_shl8 (a : Nat) : lN a <<< ((8 : Int32).toInt64 &&& 63) = lN (a * 256) := wb_shl a (k := 8) (by decide)
theorem zl_shr (a : Nat) (h : a < 2 ^ 62) (k : Nat) (x : Int64) (hk : (x.toBitVec.smod 64).toNat = k) : lN a >>> x = lN (a / 2 ^ k) := pf_shr hk h
theorem zl_m24 {a : Nat} (h : a < 2 ^ 64) : lN a &&& 16777215 = lN (a % 16777216) := zg_mask (s := 24) (p := 16777216) (by decide) (by decide) h
theorem zi_b8 {a : Nat} (h : a < 2 ^ 32) : nI a &&& 255 = nI (a % 256) := pk_andN h 8 (by decide)

/-- frames: what a shift may have changed -/
def fr_S (u v : St1) : Prop := kf_ u v ∧ gt_rng v = gt_rng u ∧ gt_ch v = gt_ch u
theorem fr_S_tr {u v w : St1} (h : fr_S u v) (k : fr_S v w) : fr_S u w := ⟨kf_tr h.1 k.1, k.2.1.trans h.2.1, k.2.2.trans h.2.2⟩
theorem fr_S_rfl (u : St1) : fr_S u u := ⟨kf_rfl u, rfl, rfl⟩
theorem fr_S_low (u : St1) (x : Int64) : fr_S u (st_low u x) := ⟨kf_s_low u x, rfl, rfl⟩
theorem fr_S_held (u : St1) (x : Int32) : fr_S u (st_held u x) := ⟨kf_s_held u x, rfl, rfl⟩
theorem fr_S_wait (u : St1) (x : Int32) : fr_S u (st_wait u x) := ⟨kf_s_wait u x, rfl, rfl⟩
theorem fr_S_oc (u : St1) (x : Int32) : fr_S u (st_oc u x) := ⟨kf_s_oc u x, rfl, rfl⟩
theorem fr_S_out (u : St1) (x : Nat → Int32) : fr_S u (st_out u x) := ⟨kf_s_out u x, rfl, rfl⟩

def em_c (u : St1) (O : Nat → Nat) (l hd s cnt : Nat) : Prop :=
  gt_low u = lN l ∧ gt_held u = nI hd ∧ gt_wait u = nI (s + 1) ∧ gt_oc u = nI (min cnt 640) ∧ (∀ k, k < cnt → O k < 256) ∧ (∀ k, k < min cnt 640 → gt_out u k = nI (O k))
def em_a (T ρ : Nat) (O : Nat → Nat) (l hd s cnt : Nat) : Prop :=
  hd < 256 ∧ T + 4294967296 = (ec_val O cnt * 256 + hd + 1) * 256 ^ s * 4294967296 + l ∧ T + ρ ≤ (ec_val O cnt + 1) * 256 * 256 ^ s * 4294967296 ∧ l + ρ ≤ 8589934592
def em_ (u : St1) (T N ρ l : Nat) : Prop := ∃ O hd s cnt, em_c u O l hd s cnt ∧ em_a T ρ O l hd s cnt ∧ cnt + s = N
def em_O (O : Nat → Nat) (hd c cnt : Nat) : Nat → Nat := fun k => if k < cnt then O k else if k = cnt then hd + c else (255 + c) % 256
theorem ec_val_congr {b b' : Nat → Nat} : ∀ n, (∀ k, k < n → b k = b' k) → ec_val b n = ec_val b' n := by
  intro n
  induction n with
  | zero => intro _; rfl
  | succ n ih =>
    intro h
    show ec_val b n * 256 + b n = ec_val b' n * 256 + b' n
    rw [ih (fun k hk => h k (by omega)), h n (by omega)]
theorem em_val (O : Nat → Nat) (hd c cnt : Nat) (hc : c ≤ 1) : ∀ j, ec_val (em_O O hd c cnt) (cnt + j + 1) + 1 = (ec_val O cnt * 256 + hd + 1) * 256 ^ j + c := by
  intro j
  induction j with
  | zero =>
    show ec_val (em_O O hd c cnt) cnt * 256 + em_O O hd c cnt cnt + 1 = _
    rw [ec_val_congr (b := em_O O hd c cnt) (b' := O) cnt (fun k hk => by unfold em_O; rw [if_pos hk])]
    have : em_O O hd c cnt cnt = hd + c := by unfold em_O; rw [if_neg (by omega), if_pos rfl]
    rw [this]
    omega
  | succ j ih =>
    show ec_val (em_O O hd c cnt) (cnt + j + 1) * 256 + em_O O hd c cnt (cnt + j + 1) + 1 = _
    have : em_O O hd c cnt (cnt + j + 1) = (255 + c) % 256 := by unfold em_O; rw [if_neg (by omega), if_neg (by omega)]
    rw [this, Nat.pow_succ, ← Nat.mul_assoc]
    generalize ec_val (em_O O hd c cnt) (cnt + j + 1) = x at *
    generalize (ec_val O cnt * 256 + hd + 1) * 256 ^ j = y at *
    omega
theorem em_flush {T ρ : Nat} {O : Nat → Nat} {l hd s cnt : Nat} (h : em_a T ρ O l hd s cnt) (hl : l < 4278190080 ∨ 4294967296 ≤ l) (h1 : 1 ≤ ρ) (h2 : ρ ≤ 16777216) :
    hd + l / 4294967296 < 256 ∧ l / 4294967296 ≤ 1 ∧ em_a (T * 256) (ρ * 256) (em_O O hd (l / 4294967296) cnt) (l % 16777216 * 256) (l / 16777216 % 256) 0 (cnt + s + 1) := by
  obtain ⟨a1, a2, a3, a4⟩ := h
  have hc : l / 4294967296 ≤ 1 := by omega
  have hv := em_val O hd (l / 4294967296) cnt hc s
  refine ⟨?_, hc, ?_⟩
  · by_cases hz : l < 4278190080
    · omega
    · have hA : (ec_val O cnt * 256 + hd + 1) * 256 ^ s < (ec_val O cnt + 1) * 256 * 256 ^ s := by
        generalize (ec_val O cnt * 256 + hd + 1) * 256 ^ s = A at *
        generalize (ec_val O cnt + 1) * 256 * 256 ^ s = B at *
        omega
      have := Nat.lt_of_mul_lt_mul_right hA
      omega
  · refine ⟨by omega, ?_, ?_, ?_⟩
    · rw [Nat.pow_zero, Nat.mul_one]
      generalize (ec_val O cnt * 256 + hd + 1) * 256 ^ s = A at *
      generalize ec_val (em_O O hd (l / 4294967296) cnt) (cnt + s + 1) = V' at *
      omega
    · rw [Nat.pow_zero, Nat.mul_one]
      generalize (ec_val O cnt * 256 + hd + 1) * 256 ^ s = A at *
      generalize ec_val (em_O O hd (l / 4294967296) cnt) (cnt + s + 1) = V' at *
      omega
    · omega
theorem em_hold {T ρ : Nat} {O : Nat → Nat} {l hd s cnt : Nat} (h : em_a T ρ O l hd s cnt) (hl : 4278190080 ≤ l) (hl2 : l < 4294967296) (h2 : ρ ≤ 16777216) :
    em_a (T * 256) (ρ * 256) O (l % 16777216 * 256) hd (s + 1) cnt := by
  obtain ⟨a1, a2, a3, a4⟩ := h
  refine ⟨a1, ?_, ?_, by omega⟩
  · rw [Nat.pow_succ, ← Nat.mul_assoc]
    generalize (ec_val O cnt * 256 + hd + 1) * 256 ^ s = A at *
    omega
  · rw [Nat.pow_succ, ← Nat.mul_assoc]
    generalize (ec_val O cnt + 1) * 256 * 256 ^ s = A at *
    omega
def em_f (u : St1) (n T : Nat) : Prop := ∃ O, gt_oc u = nI (min n 640) ∧ (∀ k, k < n → O k < 256) ∧ (∀ k, k < min n 640 → gt_out u k = nI (O k)) ∧ ec_val O n * 4294967296 = T

theorem wk_s88 {post : St1 → Prop} {u : St1} {l s : Nat} (h1 : gt_low u = lN l) (hl : l < 2 ^ 62) (h2 : gt_wait u = nI s) (hp : post (st_wait (st_low u (lN (l % 16777216 * 256))) (nI (s + 1)))) : kw_shift_88 post u := by
  refine ks_shift_88 (nm_r (e' := nI (s + 1)) (by rw [h2, nI_1]) (nm_r (e' := lN (l % 16777216 * 256)) ?_ hp))
  rw [h1, zl_m24 (by omega), zl_shl8]
theorem wk_flush {post : St1 → Prop} {u : St1} {O : Nat → Nat} {l hd s cnt c : Nat} (hc : c ≤ 1) (hh : hd + c < 256) (hl : l < 2 ^ 34) (h : em_c u O l hd s cnt) (hs : cnt + s < 2 ^ 30)
    (hp : ∀ u', fr_S u u' → em_c u' (em_O O hd c cnt) (l % 16777216 * 256) (l / 16777216 % 256) 0 (cnt + s + 1) → post u') : ∃ n, kw_shift_31 post (nI c) n u := by
  obtain ⟨a1, a2, a3, a4, a5, a6⟩ := h
  refine pk_loop (fun n _ v => kw_shift_31 post (nI c) n v)
    (fun t v => fr_S u v ∧ gt_low v = lN l ∧ gt_wait v = nI (s + 1 - t) ∧ gt_held v = nI (if t = 0 then hd else 255) ∧ gt_oc v = nI (min (cnt + t) 640) ∧ (∀ k, k < min (cnt + t) 640 → gt_out v k = nI (em_O O hd c cnt k)))
    (s + 1) 0 u (by omega) ⟨fr_S_rfl u, a1, a3, a2, a4, fun k hk => ?_⟩ ?_ ?_
  · rw [a6 k hk]
    unfold em_O
    rw [if_pos (by omega)]
  · intro n v hv
    obtain ⟨f, b1, b2, b3, b4, b5⟩ := hv
    refine ks_shift_31 (pk_le (s + 1 - (s + 1)) 0 (fun _ => nm_r (e' := nI (l / 16777216 % 256)) ?_ ?_) (fun z => absurd z (by omega)) b2)
    · rw [b1, zl_shr l (by omega) 24 _ (by decide), lN_i, zi_b8 (by omega)]
    · refine wk_s88 (l := l) (s := 0) b1 (by omega) (by show gt_wait v = _; rw [b2]; congr 1; omega) (hp _ ?_ ?_)
      · exact fr_S_tr f (fr_S_tr (fr_S_held _ _) (fr_S_tr (fr_S_low _ _) (fr_S_wait _ _)))
      · refine ⟨rfl, rfl, rfl, ?_, ?_, ?_⟩
        · show gt_oc v = _
          rw [b4, Nat.add_assoc]
        · intro k hk
          unfold em_O
          split
          · exact a5 k (by assumption)
          · split <;> omega
        · intro k hk
          exact b5 k (by rw [← Nat.add_assoc]; exact hk)
  · intro n t v ht hv hw
    obtain ⟨f, b1, b2, b3, b4, b5⟩ := hv
    refine ks_shift_31 (pk_le (s + 1 - t) 0 (fun z => absurd z (by omega)) (fun _ => ?_) b2)
    have hq : (gt_held v + nI c) &&& 255 = nI (em_O O hd c cnt (cnt + t)) := by
      unfold em_O
      rw [b3, nI_add, if_neg (show ¬ cnt + t < cnt by omega)]
      by_cases e : t = 0
      · rw [if_pos e, if_pos (by omega), zi_b8 (by omega), Nat.mod_eq_of_lt hh]
      · rw [if_neg e, if_neg (by omega), zi_b8 (by omega)]
    refine ks_bring (pk_le 640 (min (cnt + t) 640) (fun z => ?_) (fun z => ?_) rfl b4)
    · refine nm_r (e' := nI (s + 1 - (t + 1))) ?_ ?_
      · rw [b2, show s + 1 - t = (s + 1 - (t + 1)) + 1 by omega, nI_pred]
      refine hw _ ⟨fr_S_tr f (fr_S_tr (fr_S_held _ _) (fr_S_wait _ _)), b1, ?_, ?_, ?_, ?_⟩
      · rfl
      · show (255 : Int32) = _
        rw [if_neg (by omega)]; rfl
      · show gt_oc v = _
        rw [b4]; congr 1; omega
      · intro k hk
        exact b5 k (by omega)
    · refine ⟨pk_in (min (cnt + t) 640) 640 (by omega) b4, nm_e (nm_r (e' := nI (min (cnt + (t + 1)) 640)) ?_ (nm_r (e' := nI (s + 1 - (t + 1))) ?_ ?_))⟩
      · rw [b4, nI_1]; congr 1; omega
      · show gt_wait v - 1 = _
        rw [b2, show s + 1 - t = (s + 1 - (t + 1)) + 1 by omega, nI_pred]
      refine hw _ ⟨fr_S_tr f (fr_S_tr (fr_S_oc _ _) (fr_S_tr (fr_S_out _ _) (fr_S_tr (fr_S_held _ _) (fr_S_wait _ _)))), b1, ?_, ?_, ?_, ?_⟩
      · rfl
      · show (255 : Int32) = _
        rw [if_neg (by omega)]; rfl
      · rfl
      · intro k hk
        show upd (gt_out v) (gt_oc v).toNatClampNeg _ k = _
        rw [b4, nI_clamp (by omega), hq]
        by_cases e : k = min (cnt + t) 640
        · rw [e, pk_us]
          congr 1
          congr 1
          omega
        · rw [pk_un e]
          exact b5 k (by omega)
theorem wk_shift {post : St1 → Prop} {u : St1} {T N ρ l : Nat} (h : em_ u T N ρ l) (h1 : 1 ≤ ρ) (h2 : ρ ≤ 16777216) (hN : N < 2 ^ 30)
    (hp : ∀ u', fr_S u u' → em_ u' (T * 256) (N + 1) (ρ * 256) (l % 16777216 * 256) → (l = 0 → em_f u' (N + 1) T) → post u') : wpX_shift post u := by
  obtain ⟨O, hd, s, cnt, hc, ha, hn⟩ := h
  have hl : l < 2 ^ 34 := by have := ha.2.2.2; omega
  have hlow := hc.1
  have main : (l < 4278190080 ∨ 4294967296 ≤ l) → ∃ n, kw_shift_31 post (nI (l / 4294967296)) n u := by
    intro hz
    obtain ⟨k1, k2, k3⟩ := em_flush ha hz h1 h2
    refine wk_flush k2 k1 hl hc (by omega) (fun u' f g => hp u' f ⟨_, _, _, _, g, k3, by omega⟩ (fun z => ?_))
    obtain ⟨g1, g2, g3, g4, g5, g6⟩ := g
    refine ⟨_, by rw [show N + 1 = cnt + s + 1 by omega]; exact g4, by rw [show N + 1 = cnt + s + 1 by omega]; exact g5, by rw [show N + 1 = cnt + s + 1 by omega]; exact g6, ?_⟩
    have := k3.2.1
    rw [show N + 1 = cnt + s + 1 by omega]
    rw [Nat.pow_zero, Nat.mul_one] at this
    generalize ec_val (em_O O hd (l / 4294967296) cnt) (cnt + s + 1) = V' at *
    subst z
    omega
  refine ks_shift (zl_lt l 4278190080 (fun z => nm_r (e' := nI (l / 4294967296)) ?_ (main (Or.inl z))) (fun z => zl_lt l 4294967296 (fun z2 => ?_) (fun z2 => nm_r (e' := nI (l / 4294967296)) ?_ (main (Or.inr z2))) hlow rfl (by omega) (by decide)) hlow rfl (by omega) (by decide))
  · rw [hlow, zl_shr l (by omega) 32 _ (by decide), lN_i]
  · have k3 := em_hold ha z z2 h2
    obtain ⟨g1, g2, g3, g4, g5, g6⟩ := hc
    refine wk_s88 g1 (by omega) g3 (hp _ (fr_S_tr (fr_S_low _ _) (fr_S_wait _ _)) ⟨O, hd, s + 1, cnt, ⟨rfl, g2, rfl, g4, g5, g6⟩, k3, by omega⟩ (fun z3 => absurd z (by omega)))
  · rw [hlow, zl_shr l (by omega) 32 _ (by decide), lN_i]
end
section
def em_E (u : St1) (e : ec_T) : Prop := (∃ l, em_ u e.1 e.2.2.1 e.2.1 l) ∧ gt_rng u = lN e.2.1 ∧ ∀ k, k < 428 → gt_ch u k = nI (e.2.2.2 k)
theorem wk_widen {post : St1 → Prop} {u : St1} {T N R l : Nat} {ch : Nat → Nat} (h : em_ u T N R l) (hr : gt_rng u = lN R) (h1 : 65536 ≤ R) (h2 : R < 4294967296) (hch : ∀ k, k < 428 → gt_ch u k = nI (ch k)) (hN : N < 2 ^ 30)
    (hp : ∀ u', kf_ u u' → em_E u' (ec_W T R N ch) → post u') : wpX_widen post u := by
  refine ks_widen ⟨2, ks_widen_0 (zl_le 16777216 R (fun z => hp u (kf_rfl u) ?_) (fun z => nm_r (e' := lN (R * 256)) (by rw [hr, zl_shl8]) ?_) rfl hr (by decide) (by omega))⟩
  · unfold ec_W
    rw [if_neg (by omega)]
    exact ⟨⟨l, h⟩, hr, hch⟩
  · refine wk_shift (u := st_rng u (lN (R * 256))) (T := T) (N := N) (ρ := R) (l := l) h (by omega) (by omega) hN (fun u' f g _ => ?_)
    have hr' : gt_rng u' = lN (R * 256) := f.2.1
    have hc' : gt_ch u' = gt_ch u := f.2.2
    refine ks_widen_0 (zl_le 16777216 (R * 256) (fun z => hp u' (kf_tr (kf_s_rng u _) f.1) ?_) (fun z => absurd z (by omega)) rfl hr' (by decide) (by omega))
    unfold ec_W
    rw [if_pos (by assumption)]
    exact ⟨⟨_, g⟩, hr', fun k hk => by rw [hc']; exact hch k hk⟩
theorem wk_learn {post : St1 → Prop} {u : St1} {c b q : Nat} (hc : c < 428) (hb : b < 2 ^ 31) (hq : gt_ch u c = nI q) (hq2 : q ≤ 2048) (hp : post (st_ch u (upd (gt_ch u) c (nI (ec_lq q b))))) : wpX_learn post u (nI c) (nI b) := by
  have hcl : (nI c).toNatClampNeg = c := nI_clamp (by omega)
  refine ks_learn ⟨pk_in c 428 hc, nm_r (e' := nI q) (by rw [hcl, hq]) (pk_eq b 0 (fun z => ⟨pk_in c 428 hc, nm_r (e' := upd (gt_ch u) c (nI (ec_lq q b))) ?_ hp⟩) (fun z => ⟨pk_in c 428 hc, nm_r (e' := upd (gt_ch u) c (nI (ec_lq q b))) ?_ hp⟩))⟩
  · rw [hcl]
    congr 1
    unfold ec_lq
    rw [if_pos z]
    rw [show (2048 : Int32) = nI 2048 from rfl, pk_sub hq2, pk_shrN (by omega) _ 5 (by decide), nI_add]
  · rw [hcl]
    congr 1
    unfold ec_lq
    rw [if_neg z]
    rw [pk_shrN (by omega) _ 5 (by decide), pk_sub (by omega)]
theorem zu_un {a : Nat → Int32} {ch : Nat → Nat} {n : Nat} (h : ∀ k, k < n → a k = nI (ch k)) (c v : Nat) : ∀ k, k < n → upd a c (nI v) k = nI (ec_un ch c v k) := by
  intro k hk
  unfold ec_un
  by_cases e : k = c
  · rw [if_pos e, e, pk_us]
  · rw [if_neg e, pk_un e]
    exact h k hk
theorem wk_pb48 {post : St1 → Prop} {u : St1} {T N R l c b : Nat} {ch : Nat → Nat} (h : em_ u T N R l) (hr : gt_rng u = lN R) (h1 : 65536 ≤ R) (h2 : R < 4294967296) (hch : ∀ k, k < 428 → gt_ch u k = nI (ch k)) (hN : N < 2 ^ 30) (hc : c < 428) (hb : b < 2 ^ 31) (hq : ch c ≤ 2048)
    (hp : ∀ u', kf_ u u' → em_E u' (ec_W T R N (ec_un ch c (ec_lq (ch c) b))) → post u') : kw_putBit_48 post (nI c) (nI b) u := by
  refine ks_putBit_48 (wk_learn hc hb (hch c hc) hq (wk_widen (T := T) (N := N) (R := R) (l := l) (ch := ec_un ch c (ec_lq (ch c) b)) h hr h1 h2 ?_ hN (fun u' f g => hp u' (kf_tr (kf_s_ch u _) f) g)))
  exact zu_un hch c _
theorem wk_putBit {post : St1 → Prop} {u : St1} {e : ec_T} {c b : Nat} (h : em_E u e) (ho : ec_ok e) (hc : c < 428) (hb : b ≤ 1) (hN : e.2.2.1 < 2 ^ 30)
    (hp : ∀ u', kf_ u u' → em_E u' (ec_B e c b) → post u') : wpX_putBit post u (nI c) (nI b) := by
  obtain ⟨⟨l, hem⟩, hr, hch⟩ := h
  obtain ⟨k1, k2, k3, k4⟩ := ec_bd_in ho hc
  obtain ⟨o1, o2, o3⟩ := ho
  have hq := o3 c hc
  have hl : l + e.2.1 ≤ 8589934592 := by
    obtain ⟨_, _, _, _, _, ha, _⟩ := hem
    exact ha.2.2.2
  refine ks_putBit ⟨pk_in c 428 hc, nm_r (e' := lN (ec_bd e c)) ?_ (pk_eq b 0 (fun z => ?_) (fun z => ?_))⟩
  · rw [hr, nI_clamp (by omega), hch c hc, zl_shr _ (by omega) 11 _ (by decide), nI_l (by omega), lN_mul]
    rfl
  · refine wk_pb48 (u := st_rng u (lN (ec_bd e c))) (T := e.1) (N := e.2.2.1) (R := ec_bd e c) (l := l) (ch := e.2.2.2) ?_ rfl k1 k2 hch hN hc (by omega) (by omega) (fun u' f g => hp u' (kf_tr (kf_s_rng u _) f) ?_)
    · obtain ⟨O, hd, s, cnt, hcc, ha, hn⟩ := hem
      exact ⟨O, hd, s, cnt, hcc, ⟨ha.1, ha.2.1, by have := ha.2.2.1; omega, by have := ha.2.2.2; omega⟩, hn⟩
    · unfold ec_B
      rw [if_pos z]
      exact g
  · refine nm_r (e' := lN (l + ec_bd e c)) ?_ (nm_r (e' := lN (e.2.1 - ec_bd e c)) ?_ ?_)
    · obtain ⟨O, hd, s, cnt, hcc, ha, hn⟩ := hem
      rw [hcc.1, lN_add]
    · rw [hr, lN_sub k4]
    · refine wk_pb48 (u := st_rng (st_low u (lN (l + ec_bd e c))) (lN (e.2.1 - ec_bd e c))) (T := e.1 + ec_bd e c) (N := e.2.2.1) (R := e.2.1 - ec_bd e c) (l := l + ec_bd e c) (ch := e.2.2.2) ?_ rfl k3 (by omega) hch hN hc (by omega) (by omega) (fun u' f g => hp u' (kf_tr (kf_tr (kf_s_low u _) (kf_s_rng _ _)) f) ?_)
      · obtain ⟨O, hd, s, cnt, hcc, ha, hn⟩ := hem
        exact ⟨O, hd, s, cnt, ⟨rfl, hcc.2⟩, ⟨ha.1, by have := ha.2.1; omega, by have := ha.2.2.1; omega, by have := ha.2.2.2; omega⟩, hn⟩
      · unfold ec_B
        rw [if_neg z]
        exact g
theorem zi_sub1 (x : Int32) : x + (-1) = x - 1 := by rw [Int32.sub_eq_add_neg]
theorem wk_pl4 {post : St1 → Prop} {v : Nat} (hv : v < 2 ^ 31) : ∀ (k : Nat) (u : St1) (e : ec_T), k ≤ 31 → em_E u e → ec_ok e → e.2.2.1 + k < 2 ^ 30 → (∀ u', kf_ u u' → em_E u' (ec_Pl v k e) → post u') → kw_putPlain_4 post (nI v) (k + 1) (nI k - 1) u := by
  intro k
  induction k with
  | zero =>
    intro u e _ h _ _ hp
    exact ks_putPlain_4 (br_t (by decide) (hp u (kf_rfl u) h))
  | succ k ih =>
    intro u e hk h ho hN hp
    obtain ⟨⟨l, hem⟩, hr, hch⟩ := h
    have ho' := ho
    obtain ⟨o1, o2, o3⟩ := ho
    have hst : ∀ bit, bit ≤ 1 → ec_ok (ec_P e bit) ∧ (ec_P e bit).2.2.1 ≤ e.2.2.1 + 1 := fun bit hb => by
      obtain ⟨q1, _, q3⟩ := ec_P_st (b := fun _ => 0) (fun _ => by show 0 < 256; omega) hb ho'
      exact ⟨q1, q3⟩
    rw [nI_pred]
    have go : ∀ bit, bit ≤ 1 → v / 2 ^ k % 2 = bit → kw_putPlain_40 post (kw_putPlain_4 post (nI v) (k + 1)) (nI v) (nI k) (lN (bit * (e.2.1 / 2))) (gt_low u) (st_rng u (lN (e.2.1 / 2))) := by
      intro bit hb hbit
      refine ks_putPlain_40 (nm_r (e' := lN (l + bit * (e.2.1 / 2))) ?_ ?_)
      · obtain ⟨O, hd, s, cnt, hcc, ha, hn⟩ := hem
        rw [hcc.1, lN_add]
      · refine wk_widen (u := st_low (st_rng u (lN (e.2.1 / 2))) (lN (l + bit * (e.2.1 / 2)))) (T := e.1 + bit * (e.2.1 / 2)) (N := e.2.2.1) (R := e.2.1 / 2) (l := l + bit * (e.2.1 / 2)) (ch := e.2.2.2) ?_ rfl (by omega) (by omega) hch (by omega) (fun u' f g => ?_)
        · obtain ⟨O, hd, s, cnt, hcc, ha, hn⟩ := hem
          have : bit = 0 ∨ bit = 1 := by omega
          rcases this with rfl | rfl
          · exact ⟨O, hd, s, cnt, ⟨rfl, hcc.2⟩, ⟨ha.1, by have := ha.2.1; omega, by have := ha.2.2.1; omega, by have := ha.2.2.2; omega⟩, hn⟩
          · exact ⟨O, hd, s, cnt, ⟨rfl, hcc.2⟩, ⟨ha.1, by have := ha.2.1; omega, by have := ha.2.2.1; omega, by have := ha.2.2.2; omega⟩, hn⟩
        · refine nm_r (e' := nI k - 1) (zi_sub1 _) (ih u' (ec_P e bit) (by omega) g (hst bit hb).1 (by have := (hst bit hb).2; omega) (fun u'' f' g' => hp u'' ?_ ?_))
          · exact kf_tr (kf_tr (kf_s_rng u _) (kf_s_low _ _)) (kf_tr f f')
          · show em_E u'' (ec_Pl v k (ec_P e (v / 2 ^ k % 2)))
            rw [hbit]
            exact g'
    have hbit2 : v / 2 ^ k % 2 ≤ 1 := by omega
    refine ks_putPlain_4 (br_f (nI_pos (by omega)) (nm_r (e' := lN (e.2.1 / 2)) ?_ ?_))
    · rw [hr, zl_shr _ (by omega) 1 _ (by decide)]
    · have hx : (nI v >>> (nI k &&& 31)) &&& 1 = nI (v / 2 ^ k % 2) := by
        rw [pk_shrN hv _ k (zb_sl k (by omega)), pk_andN (Nat.lt_of_le_of_lt (Nat.div_le_self _ _) (by omega)) 1 (by decide)]
      refine pk_eq (v / 2 ^ k % 2) 1 (fun z => ?_) (fun z => ?_) hx
      · have := go 1 (by omega) z
        rw [Nat.one_mul] at this
        exact this
      · have := go 0 (by omega) (by omega)
        rw [Nat.zero_mul] at this
        exact this
theorem wk_putPlain {post : St1 → Prop} {u : St1} {e : ec_T} {v k : Nat} (hv : v < 2 ^ 31) (hk : k ≤ 31) (h : em_E u e) (ho : ec_ok e) (hN : e.2.2.1 + k < 2 ^ 30) (hp : ∀ u', kf_ u u' → em_E u' (ec_Pl v k e) → post u') : wpX_putPlain post u (nI v) (nI k) :=
  ks_putPlain (nm_e ⟨k + 1, wk_pl4 hv k u e hk h ho hN hp⟩)
/-! begin and finish -/
def ec_0 : ec_T := (0, 4294967295, 0, fun _ => 1024)
theorem ec_0_ok : ec_ok ec_0 := ⟨by decide, by decide, fun k _ => ⟨by show 31 ≤ 1024; omega, by show 1024 ≤ 2017; omega⟩⟩
theorem wk_reset {post : St1 → Prop} {u : St1} (hp : ∀ ch, (∀ k, k < 428 → ch k = nI 1024) → post (st_ch u ch)) : wpX_resetChances post u := by
  refine ks_resetChances (pk_loop (fun n i v => kw_resetChances_2 post n (nI i) v) (fun i v => v = st_ch u (gt_ch v) ∧ ∀ k, k < i → gt_ch v k = nI 1024) 428 0 u (by omega) ⟨rfl, fun k hk => absurd hk (by omega)⟩ ?_ ?_)
  · intro n v hv
    refine ks_resetChances_2 (pk_le 428 428 (fun _ => ?_) (fun z => absurd z (by omega)))
    rw [hv.1]
    exact hp _ hv.2
  · intro n i v hi hv hw
    refine ks_resetChances_2 (pk_le 428 i (fun z => absurd z (by omega)) (fun _ => ⟨pk_in i 428 hi, nm_e (nm_r (nI_1 i) (hw _ ⟨?_, ?_⟩))⟩))
    · rw [hv.1]; rfl
    · intro k hk
      show upd (gt_ch v) (nI i).toNatClampNeg 1024 k = _
      rw [nI_clamp (by omega)]
      by_cases e : k = i
      · rw [e, pk_us]; rfl
      · rw [pk_un e]
        exact hv.2 k (by omega)
theorem wk_begin {post : St1 → Prop} {u : St1} (hp : ∀ u', kf_ u u' → em_E u' ec_0 → post u') : wpX_begin post u := by
  refine ks_begin (wk_reset (fun ch hch => hp _ (kf_tr (kf_tr (kf_tr (kf_tr (kf_tr (kf_s_oc u _) (kf_s_low _ _)) (kf_s_rng _ _)) (kf_s_held _ _)) (kf_s_wait _ _)) (kf_s_ch _ _)) ⟨⟨0, fun _ => 0, 0, 0, 0, ⟨rfl, rfl, rfl, rfl, fun k hk => absurd hk (by omega), fun k hk => absurd hk (by omega)⟩, ⟨by decide, by decide, by decide, by decide⟩, rfl⟩, rfl, hch⟩))
def em_F (u : St1) (n T : Nat) : Prop := ∃ O, gt_oc u = nI (min n 640) ∧ (∀ k, k < n → O k < 256) ∧ (∀ k, k < min n 640 → gt_out u k = nI (O k)) ∧ ec_val O n = T
theorem wk_finish {post : St1 → Prop} {u : St1} {e : ec_T} (h : em_E u e) (ho : ec_ok e) (hN : e.2.2.1 + 5 < 2 ^ 30) (hp : ∀ u', kf_ u u' → em_F u' (e.2.2.1 + 5) e.1 → post u') : wpX_finish post u := by
  obtain ⟨⟨l, hem⟩, _, _⟩ := h
  have hem1 : em_ u e.1 e.2.2.1 1 l := by
    obtain ⟨O, hd, s, cnt, hcc, ha, hn⟩ := hem
    have := ho.1
    exact ⟨O, hd, s, cnt, hcc, ⟨ha.1, ha.2.1, by have := ha.2.2.1; omega, by have := ha.2.2.2; omega⟩, hn⟩
  have weak : ∀ {v : St1} {T N ρ l : Nat}, 1 ≤ ρ → em_ v T N ρ l → em_ v T N 1 l := by
    intro v T N ρ l hρ hv
    obtain ⟨O, hd, s, cnt, hcc, ha, hn⟩ := hv
    exact ⟨O, hd, s, cnt, hcc, ⟨ha.1, ha.2.1, by have := ha.2.2.1; omega, by have := ha.2.2.2; omega⟩, hn⟩
  generalize e.1 = T at *
  generalize e.2.2.1 = N at *
  refine ks_finish ⟨6, ks_finish_2 (pk_le 5 0 (fun z => absurd z (by omega)) (fun _ => wk_shift hem1 (by omega) (by omega) (by omega) (fun u1 f1 g1 _ => nm_r (nI_1 0) ?_)))⟩
  refine ks_finish_2 (pk_le 5 1 (fun z => absurd z (by omega)) (fun _ => wk_shift (weak (by omega) g1) (by omega) (by omega) (by omega) (fun u2 f2 g2 _ => nm_r (nI_1 1) ?_)))
  refine ks_finish_2 (pk_le 5 2 (fun z => absurd z (by omega)) (fun _ => wk_shift (weak (by omega) g2) (by omega) (by omega) (by omega) (fun u3 f3 g3 _ => nm_r (nI_1 2) ?_)))
  refine ks_finish_2 (pk_le 5 3 (fun z => absurd z (by omega)) (fun _ => wk_shift (weak (by omega) g3) (by omega) (by omega) (by omega) (fun u4 f4 g4 _ => nm_r (nI_1 3) ?_)))
  refine ks_finish_2 (pk_le 5 4 (fun z => absurd z (by omega)) (fun _ => wk_shift (weak (by omega) g4) (by omega) (by omega) (by omega) (fun u5 f5 g5 g6 => nm_r (nI_1 4) ?_)))
  refine ks_finish_2 (pk_le 5 5 (fun _ => hp u5 ?_ ?_) (fun z => absurd z (by omega)))
  · exact (fr_S_tr (fr_S_tr (fr_S_tr (fr_S_tr f1 f2) f3) f4) f5).1
  · obtain ⟨O, q1, q2, q3, q4⟩ := g6 (by omega)
    refine ⟨O, q1, q2, q3, ?_⟩
    have : N + 1 + 1 + 1 + 1 + 1 = N + 5 := by omega
    rw [this] at q4
    generalize ec_val O (N + 5) = V at *
    omega
end
section
theorem ec_by0 : ec_by (fun _ => 0) := fun _ => by show 0 < 256; omega
theorem ec_go {e e' : ec_T} {m : Nat} (h : ec_st (fun _ => 0) e e' m) (ho : ec_ok e) : ec_ok e' ∧ e'.2.2.1 ≤ e.2.2.1 + m := ⟨(h ho).1, (h ho).2.2⟩
theorem zi_nonneg {x : Int32} (h : 0 ≤ x.toInt) : x = nI x.toInt.natAbs := by
  have h2 : x.toInt < 2 ^ 31 := Int32.toInt_lt x
  apply Int32.toInt_inj.mp
  rw [nI_toInt (by omega)]
  omega
theorem zi_neg {x : Int32} (h : x.toInt < 0) (h1 : -2147483648 < x.toInt) : -x = nI x.toInt.natAbs ∧ x = -nI x.toInt.natAbs := by
  have e : x = -nI x.toInt.natAbs := by
    apply Int32.toInt_inj.mp
    rw [sb_negT (by omega)]
    omega
  refine ⟨?_, e⟩
  have := congrArg (fun z => -z) e
  rw [Int32.neg_neg] at this
  exact this
theorem zi_le0 (x : Int32) : 0 ≤ x ↔ 0 ≤ x.toInt := by
  rw [Int32.le_iff_toInt_le]
  rfl
theorem zi_eq0 (x : Int32) : x = 0 ↔ x.toInt = 0 := by
  constructor
  · intro h; rw [h]; rfl
  · intro h
    apply Int32.toInt_inj.mp
    rw [h]; rfl
theorem wk_sizeOf {post : Int32 → Prop} {n : Nat} (h0 : n ≠ 0) (h : n < 2048) (hp : post (nI (Nat.log2 n))) : wpX_sizeOf post () (nI n) := by
  have hm := ec_log h0 h
  refine pk_loop (σ := Unit) (fun f i _ => wX_sizeOf_2 post (nI n) f (nI i)) (fun _ _ => True) (Nat.log2 n) 0 () (by omega) trivial ?_ ?_
  · intro f _ _
    refine pk_le 10 (Nat.log2 n) (fun _ => hp) (fun z => br_t ?_ hp)
    rw [nI_1, pk_shrN (by omega) _ _ (zb_sl _ (by omega)), Nat.div_eq_of_lt Nat.lt_log2_self]
    rfl
  · intro f i _ hi _ hw
    refine pk_le 10 i (fun z => absurd z (by omega)) (fun z => br_f ?_ (nm_r (nI_1 i) (hw () trivial)))
    rw [nI_1, pk_shrN (by omega) _ _ (zb_sl _ (by omega))]
    have a1 : 2 ^ (i + 1) ≤ n := Nat.le_trans (Nat.pow_le_pow_right (by decide) (by omega)) (Nat.log2_self_le h0)
    have a2 : 0 < n / 2 ^ (i + 1) := Nat.div_pos a1 (Nat.two_pow_pos _)
    have a3 : n / 2 ^ (i + 1) ≤ n := Nat.div_le_self _ _
    exact nI_ne0 a2 (by omega)
theorem wk_pn55 {post : St1 → Prop} {u : St1} {e : ec_T} {base n m : Nat} (hb : base ≤ 143) (hm : m ≤ 10) (hn : n < 2048) (h : em_E u e) (ho : ec_ok e) (hN : e.2.2.1 + 21 < 2 ^ 30) (hp : ∀ u', kf_ u u' → em_E u' (ec_N3 base e n m) → post u') : ∃ f, kw_putNumber_55 post (nI base) (nI n) (nI m) f 0 u := by
  have st : ∀ i, i ≤ m → ec_ok (ec_Un base e i) ∧ (ec_Un base e i).2.2.1 ≤ e.2.2.1 + i := fun i hi => ec_go (ec_Un_st ec_by0 hb e (by omega)) ho
  have ctx : ∀ i, nI base + 2 + nI i = nI (base + 2 + i) := fun i => by rw [show (2 : Int32) = nI 2 from rfl, nI_add, nI_add]
  refine pk_loop (fun f i v => kw_putNumber_55 post (nI base) (nI n) (nI m) f (nI i) v) (fun i v => kf_ u v ∧ em_E v (ec_Un base e i)) m 0 u (by omega) ⟨kf_rfl u, h⟩ ?_ ?_
  · intro f v hv
    obtain ⟨o1, o2⟩ := st m (Nat.le_refl m)
    refine ks_putNumber_55 (pk_le m m (fun _ => pk_le 10 m (fun z => ?_) (fun z => ?_)) (fun z => absurd z (by omega)))
    · refine ks_putNumber_97 (wk_putPlain (by omega) (by omega) hv.2 o1 (by omega) (fun u' f' g' => hp u' (kf_tr hv.1 f') ?_))
      unfold ec_N3
      rw [if_neg (by omega)]
      exact g'
    · rw [ctx m]
      refine wk_putBit (b := 0) hv.2 o1 (by omega) (by omega) (by omega) (fun u1 f1 g1 => ?_)
      obtain ⟨p1, p2⟩ := ec_go (ec_B_st ec_by0 (e := ec_Un base e m) (c := base + 2 + m) (by omega) 0) o1
      refine ks_putNumber_97 (wk_putPlain (by omega) (by omega) g1 p1 (by omega) (fun u' f' g' => hp u' (kf_tr hv.1 (kf_tr f1 f')) ?_))
      unfold ec_N3
      rw [if_pos z]
      exact g'
  · intro f i v hi hv hw
    obtain ⟨o1, o2⟩ := st i (by omega)
    refine ks_putNumber_55 (pk_le m i (fun z => absurd z (by omega)) (fun _ => ?_))
    rw [ctx i]
    exact wk_putBit (b := 1) hv.2 o1 (by omega) (by omega) (by omega) (fun u1 f1 g1 => nm_r (nI_1 i) (hw _ ⟨kf_tr hv.1 f1, g1⟩))
theorem wk_putNumber {post : St1 → Prop} {u : St1} {e : ec_T} {base : Nat} {x : Int32} (hx : x.toInt.natAbs < 2048) (hb : base ≤ 143) (h : em_E u e) (ho : ec_ok e) (hN : e.2.2.1 + 25 < 2 ^ 30) (hp : ∀ u', kf_ u u' → em_E u' (ec_N e base x) → post u') : wpX_putNumber post u (nI base) x := by
  by_cases hz : x.toInt = 0
  · have hx0 := (zi_eq0 x).mpr hz
    refine ks_putNumber (br_t hx0 (ks_putNumber_11 (wk_putBit (b := 0) h ho (by omega) (by omega) (by omega) (fun u1 f1 g1 => br_t hx0 (hp u1 f1 ?_)))))
    unfold ec_N
    rw [if_pos hz]
    exact g1
  · have hx0 : ¬ x = 0 := fun z => hz ((zi_eq0 x).mp z)
    obtain ⟨o1, o2⟩ := ec_go (ec_B_st ec_by0 (e := e) (c := base) (by omega) 1) ho
    refine ks_putNumber (br_f hx0 (ks_putNumber_11 (wk_putBit (b := 1) h ho (by omega) (by omega) (by omega) (fun u1 f1 g1 => br_f hx0 ?_))))
    have go : ∀ sg, sg ≤ 1 → sg = (if x.toInt < 0 then 1 else 0) → kw_putNumber_32 post (nI base) x (nI sg) (nI base + 1) u1 := by
      intro sg hs hsg
      obtain ⟨p1, p2⟩ := ec_go (ec_B_st ec_by0 (e := ec_B e base 1) (c := base + 1) (by omega) sg) o1
      refine ks_putNumber_32 ?_
      rw [nI_1]
      refine wk_putBit (b := sg) g1 o1 (by omega) hs (by omega) (fun u2 f2 g2 => ?_)
      have fin : kw_putNumber_45 post (nI base) (nI x.toInt.natAbs) u2 := by
        refine ks_putNumber_45 (wk_sizeOf (by omega) hx (wk_pn55 hb (ec_log (by omega) hx) hx g2 p1 (by omega) (fun u' f' g' => hp u' (kf_tr f1 (kf_tr f2 f')) ?_)))
        unfold ec_N
        rw [if_neg hz, ← hsg]
        exact g'
      by_cases hn : x.toInt < 0
      · refine br_f (fun z => ?_) ?_
        · have := (zi_le0 x).mp z
          omega
        · rw [(zi_neg hn (by omega)).1]
          exact fin
      · refine br_t ((zi_le0 x).mpr (by omega)) ?_
        rw [← zi_nonneg (show 0 ≤ x.toInt by omega)] at fin
        exact fin
    by_cases hn : x.toInt < 0
    · refine br_f (fun z => ?_) (go 1 (by omega) (by rw [if_pos hn]))
      have := (zi_le0 x).mp z
      omega
    · exact br_t ((zi_le0 x).mpr (by omega)) (go 0 (by omega) (by rw [if_neg hn]))
theorem ec_I_node {k j : Nat} (hk : k < 16) (hj : j ≤ 3) : 2 * ((16 + k) / 2 ^ (j + 1)) + k / 2 ^ j % 2 = (16 + k) / 2 ^ j := by
  have : j = 0 ∨ j = 1 ∨ j = 2 ∨ j = 3 := by omega
  rcases this with rfl | rfl | rfl | rfl
  · show 2 * ((16 + k) / 2) + k / 1 % 2 = (16 + k) / 1
    omega
  · show 2 * ((16 + k) / 4) + k / 2 % 2 = (16 + k) / 2
    omega
  · show 2 * ((16 + k) / 8) + k / 4 % 2 = (16 + k) / 4
    omega
  · show 2 * ((16 + k) / 16) + k / 8 % 2 = (16 + k) / 8
    omega
theorem ec_I_ctx {k j left : Nat} (hk : k < 16) (hl : left ≤ 16) : 156 + 16 * left + (16 + k) / 2 ^ (j + 1) < 428 := by
  have h1 : (16 + k) / 2 ^ (j + 1) ≤ 15 := by
    rw [Nat.pow_succ, Nat.mul_comm, ← Nat.div_div_eq_div_mul]
    exact Nat.le_trans (Nat.div_le_self _ _) (by omega)
  omega
theorem zi_ctx (left x : Nat) : (156 : Int32) + 16 * nI left + nI x = nI (156 + 16 * left + x) := by
  rw [show (156 : Int32) = nI 156 from rfl, show (16 : Int32) = nI 16 from rfl, pk_mul, nI_add, nI_add]
theorem wk_pi5 {post : St1 → Prop} {left k : Nat} (hl : left ≤ 16) (hk : k < 16) : ∀ (j : Nat) (u : St1) (e : ec_T), j ≤ 4 → em_E u e → ec_ok e → e.2.2.1 + j < 2 ^ 30 → (∀ u', kf_ u u' → em_E u' (ec_I left k j e) → post u') → kw_putIndex_5 post (nI left) (nI k) (j + 1) (nI ((16 + k) / 2 ^ j)) (nI j - 1) u := by
  intro j
  induction j with
  | zero =>
    intro u e _ h _ _ hp
    exact ks_putIndex_5 (br_t (by decide) (hp u (kf_rfl u) h))
  | succ j ih =>
    intro u e hj h ho hN hp
    rw [nI_pred]
    have hx : (nI k >>> (nI j &&& 31)) &&& 1 = nI (k / 2 ^ j % 2) := by
      rw [pk_shrN (by omega) _ j (zb_sl j (by omega)), pk_andN (Nat.lt_of_le_of_lt (Nat.div_le_self _ _) (by omega)) 1 (by decide)]
    refine ks_putIndex_5 (br_f (nI_pos (by omega)) (nm_r hx ?_))
    rw [zi_ctx]
    have hc := ec_I_ctx (j := j) hk hl
    obtain ⟨o1, o2⟩ := ec_go (ec_B_st ec_by0 (e := e) hc (k / 2 ^ j % 2)) ho
    refine wk_putBit h ho hc (by omega) (by omega) (fun u1 f1 g1 => nm_r (e' := nI ((16 + k) / 2 ^ j)) ?_ (nm_r (e' := nI j - 1) (zi_sub1 _) (ih u1 _ (by omega) g1 o1 (by omega) (fun u' f' g' => hp u' (kf_tr f1 f') g'))))
    rw [show (2 : Int32) = nI 2 from rfl, pk_mul, nI_add, ec_I_node hk (by omega)]
theorem wk_putIndex {post : St1 → Prop} {u : St1} {e : ec_T} {left k : Nat} (hl : left ≤ 16) (hk : k < 16) (h : em_E u e) (ho : ec_ok e) (hN : e.2.2.1 + 4 < 2 ^ 30) (hp : ∀ u', kf_ u u' → em_E u' (ec_I left k 4 e) → post u') : wpX_putIndex post u (nI left) (nI k) := by
  refine ks_putIndex ⟨5, ?_⟩
  have := wk_pi5 (post := post) hl hk 4 u e (by omega) h ho hN hp
  rw [show (16 + k) / 2 ^ 4 = 1 by show (16 + k) / 16 = 1; omega] at this
  exact this
end
section
/-! ===== the decoder ===== -/
theorem nx_or (a b : Nat) : nI a ||| nI b = nI (a ||| b) := by
  apply Int32.toBitVec_inj.mp
  rw [Int32.toBitVec_or]
  show BitVec.ofNat 32 a ||| BitVec.ofNat 32 b = BitVec.ofNat 32 (a ||| b)
  apply BitVec.eq_of_toNat_eq
  rw [BitVec.toNat_or, BitVec.toNat_ofNat, BitVec.toNat_ofNat, BitVec.toNat_ofNat, Nat.or_mod_two_pow]
def nb_ (u : St1) (b : Nat → Nat) (sl nu : Nat) : Prop := gt_end u = nI (512 * sl + nu) ∧ (∀ k, 6 + k < nu → gt_by u (512 * sl + 6 + k) = nI (b k)) ∧ (∀ k, nu ≤ 6 + k → b k = 0)
def dm_ (u : St1) (b : Nat → Nat) (sl nu : Nat) (e : ec_T) : Prop :=
  nb_ u b sl nu ∧ gt_rng u = lN e.2.1 ∧ gt_code u = lN (ec_val b (e.2.2.1 + 5) - e.1) ∧ gt_src u = nI (512 * sl + 6 + (e.2.2.1 + 5)) ∧ (∀ k, k < 428 → gt_ch u k = nI (e.2.2.2 k))
theorem nb_kf {u v : St1} {b : Nat → Nat} {sl nu : Nat} (h : nb_ u b sl nu) (k : kf_ u v) : nb_ v b sl nu := by
  obtain ⟨h1, h2, h3⟩ := h
  exact ⟨(kf_end k).trans h1, fun j hj => by rw [kf_by k]; exact h2 j hj, h3⟩
/-- the static side conditions of a source -/
def ds_ (b : Nat → Nat) (sl nu : Nat) : Prop := ec_by b ∧ sl < 4 ∧ nu ≤ 512
theorem wk_next {post : Int32 → St1 → Prop} {u : St1} {b : Nat → Nat} {sl nu j : Nat} (hd : ds_ b sl nu) (h : nb_ u b sl nu) (hj : j < 2 ^ 30) (hs : gt_src u = nI (512 * sl + 6 + j)) (hp : post (nI (b j)) (st_src u (nI (512 * sl + 6 + (j + 1))))) : wpX_nextByte post u := by
  obtain ⟨h1, h2, h3⟩ := h
  obtain ⟨d1, d2, d3⟩ := hd
  refine ks_nextByte (pk_le (512 * sl + nu) (512 * sl + 6 + j) (fun z => ?_) (fun z => ⟨pk_in (512 * sl + 6 + j) 2048 (by omega) hs, ?_⟩) h1 hs)
  · refine ks_nextByte_24 (nm_r (e' := nI (512 * sl + 6 + (j + 1))) (by rw [hs, nI_1]; rfl) ?_)
    rw [h3 j (by omega)] at hp
    exact hp
  · refine ks_nextByte_24 (nm_r (e' := nI (512 * sl + 6 + (j + 1))) (by rw [hs, nI_1]; rfl) ?_)
    rw [hs, nI_clamp (by omega), h2 j (by omega)]
    exact hp
theorem wk_refill {post : St1 → Prop} {u : St1} {b : Nat → Nat} {sl nu T R n : Nat} {ch : Nat → Nat} (hd : ds_ b sl nu) (h : nb_ u b sl nu) (hr : gt_rng u = lN R) (hc : gt_code u = lN (ec_val b (n + 5) - T)) (hs : gt_src u = nI (512 * sl + 6 + (n + 5)))
    (h1 : 65536 ≤ R) (h2 : R < 4294967296) (hT : T ≤ ec_val b (n + 5)) (hX : ec_val b (n + 5) < T + R) (hch : ∀ k, k < 428 → gt_ch u k = nI (ch k)) (hn : n < 2 ^ 29) (hp : ∀ u', kf_ u u' → dm_ u' b sl nu (ec_W T R n ch) → post u') : wpX_refill post u := by
  have hby := hd.1 (n + 5)
  refine ks_refill ⟨2, ks_refill_0 (zl_le 16777216 R (fun z => hp u (kf_rfl u) ?_) (fun z => nm_r (e' := lN (R * 256)) (by rw [hr, zl_shl8]) ?_) rfl hr (by decide) (by omega))⟩
  · unfold ec_W
    rw [if_neg (by omega)]
    exact ⟨h, hr, hc, hs, hch⟩
  · refine wk_next (u := st_rng u (lN (R * 256))) (j := n + 5) hd (nb_kf h (kf_s_rng u _)) (by omega) hs (nm_r (e' := lN ((ec_val b (n + 5) - T) * 256 + b (n + 5))) ?_ ?_)
    · rw [hc, zl_shl8, nI_l (by omega), zg_or (k := 8) (p := 256) (by decide) hby (by omega)]
    · refine ks_refill_0 (zl_le 16777216 (R * 256) (fun z2 => hp _ (kf_tr (kf_s_rng u _) (kf_tr (kf_s_src _ _) (kf_s_code _ _))) ?_) (fun z2 => absurd z2 (by omega)) rfl rfl (by decide) (by omega))
      unfold ec_W
      rw [if_pos z]
      refine ⟨nb_kf h (kf_tr (kf_s_rng u _) (kf_tr (kf_s_src _ _) (kf_s_code _ _))), rfl, ?_, ?_, hch⟩
      · show lN ((ec_val b (n + 5) - T) * 256 + b (n + 5)) = lN (ec_val b (n + 1 + 5) - T * 256)
        have e : ec_val b (n + 1 + 5) = ec_val b (n + 5) * 256 + b (n + 5) := by
          rw [show n + 1 + 5 = (n + 5) + 1 by omega]
          rfl
        rw [e]
        congr 1
        omega
      · show nI (512 * sl + 6 + (n + 5 + 1)) = nI (512 * sl + 6 + (n + 1 + 5))
        rw [show n + 5 + 1 = n + 1 + 5 by omega]
theorem wk_tp4 {post : Int32 → St1 → Prop} {b : Nat → Nat} {sl nu v cnt : Nat} (hd : ds_ b sl nu) (hcnt : cnt ≤ 24) : ∀ (r : Nat) (u : St1) (e : ec_T) (val : Nat), r ≤ cnt → val < 2 ^ (cnt - r) → dm_ u b sl nu e → ec_ok e → ec_sy b (ec_Pl v r e) → e.2.2.1 + r < 2 ^ 29 → (∀ u', kf_ u u' → dm_ u' b sl nu (ec_Pl v r e) → post (nI (val * 2 ^ r + v % 2 ^ r)) u') → kw_takePlain_4 post (nI cnt) (r + 1) (nI val) (nI (cnt - r)) u := by
  intro r
  induction r with
  | zero =>
    intro u e val _ hv h _ _ _ hp
    refine ks_takePlain_4 (pk_le cnt (cnt - 0) (fun _ => ?_) (fun z => absurd z (by omega)))
    have := hp u (kf_rfl u) h
    rw [Nat.pow_zero, Nat.mul_one, Nat.mod_one, Nat.add_zero] at this
    exact this
  | succ r ih =>
    intro u e val hr hv h ho hsy hN hp
    obtain ⟨hnb, hrg, hcd, hsrc, hch⟩ := h
    have ho' := ho
    obtain ⟨o1, o2, o3⟩ := ho
    have hbit : v / 2 ^ r % 2 ≤ 1 := by omega
    obtain ⟨s1, s2, s3⟩ := ec_P_st hd.1 hbit ho'
    have hsy1 : ec_sy b (ec_P e (v / 2 ^ r % 2)) := (ec_Pl_st hd.1 v r _ s1).2.1 hsy
    have hval : val < 2 ^ 24 := Nat.lt_of_lt_of_le hv (Nat.pow_le_pow_right (by decide) (by omega))
    obtain ⟨w1, w2⟩ := ec_W_sy hd.1 hsy1
    have go : ∀ bit, bit ≤ 1 → v / 2 ^ r % 2 = bit → kw_takePlain_36 post (kw_takePlain_4 post (nI cnt) (r + 1)) (nI cnt) (nI val) (nI (cnt - (r + 1))) (nI bit) (st_rng u (lN (e.2.1 / 2))) := by
      intro bit hb hbt
      rw [hbt] at hsy1 w1 w2 s1 s2 s3
      have tail : ∀ z0, z0 = lN (bit * (e.2.1 / 2)) → kw_takePlain_57 post (kw_takePlain_4 post (nI cnt) (r + 1)) (nI cnt) (nI val) (nI (cnt - (r + 1))) (nI bit) z0 (gt_code u) (st_rng u (lN (e.2.1 / 2))) := by
        intro z0 hz0
        refine ks_takePlain_57 (nm_r (e' := lN (ec_val b (e.2.2.1 + 5) - (e.1 + bit * (e.2.1 / 2)))) ?_ (nm_r (e' := nI (2 * val + bit)) ?_ ?_))
        · rw [hcd, hz0, lN_sub (by omega)]
          congr 1
          omega
        · rw [show (2 : Int32) = nI 2 from rfl, pk_mul, nI_add]
        · refine wk_refill (u := st_code (st_rng u (lN (e.2.1 / 2))) (lN (ec_val b (e.2.2.1 + 5) - (e.1 + bit * (e.2.1 / 2))))) (T := e.1 + bit * (e.2.1 / 2)) (R := e.2.1 / 2) (n := e.2.2.1) (ch := e.2.2.2) hd (nb_kf hnb (kf_tr (kf_s_rng u _) (kf_s_code _ _))) rfl rfl hsrc (by omega) (by omega) w1 w2 hch (by omega) (fun u1 f1 g1 => nm_r (e' := nI (cnt - r)) ?_ (ih u1 (ec_P e bit) (2 * val + bit) (by omega) ?_ g1 s1 ?_ (by omega) (fun u' f' g' => ?_)))
          · rw [nI_1]
            congr 1
            omega
          · rw [show cnt - r = (cnt - (r + 1)) + 1 by omega, Nat.pow_succ]
            omega
          · show ec_sy b (ec_Pl v r (ec_P e bit))
            rw [← hbt]
            exact hsy
          · have := hp u' (kf_tr (kf_tr (kf_s_rng u _) (kf_s_code _ _)) (kf_tr f1 f')) (by show dm_ u' b sl nu (ec_Pl v r (ec_P e (v / 2 ^ r % 2))); rw [hbt]; exact g')
            rw [Nat.mod_pow_succ, hbt] at this
            have e2 : (2 * val + bit) * 2 ^ r + v % 2 ^ r = val * 2 ^ (r + 1) + (v % 2 ^ r + 2 ^ r * bit) := by
              rw [Nat.pow_succ, Nat.add_mul, Nat.mul_comm (2 ^ r) bit, Nat.mul_comm (2 ^ r) 2, ← Nat.mul_assoc, Nat.mul_comm val 2]
              omega
            rw [e2]
            exact this
      refine ks_takePlain_36 (pk_eq bit 1 (fun z => ?_) (fun z => ?_))
      · exact tail _ (by rw [z, Nat.one_mul]; rfl)
      · have z0 : bit = 0 := by omega
        exact tail _ (by rw [z0, Nat.zero_mul]; rfl)
    refine ks_takePlain_4 (pk_le cnt (cnt - (r + 1)) (fun z => absurd z (by omega)) (fun _ => nm_r (e' := lN (e.2.1 / 2)) ?_ ?_))
    · rw [hrg, zl_shr _ (by omega) 1 _ (by decide)]
    · refine zl_le (e.2.1 / 2) (ec_val b (e.2.2.1 + 5) - e.1) (fun z => go 1 (by omega) ?_) (fun z => go 0 (by omega) ?_) rfl hcd (by omega) ?_
      · rcases Nat.lt_or_ge (v / 2 ^ r % 2) 1 with q | q
        · have q0 : v / 2 ^ r % 2 = 0 := by omega
          rw [q0] at w2
          omega
        · omega
      · rcases Nat.lt_or_ge (v / 2 ^ r % 2) 1 with q | q
        · omega
        · have q0 : v / 2 ^ r % 2 = 1 := by omega
          rw [q0] at w1
          omega
      · have : v / 2 ^ r % 2 = 0 ∨ v / 2 ^ r % 2 = 1 := by omega
        rcases this with q | q
        · rw [q] at w2; omega
        · rw [q] at w2; omega
theorem wk_takePlain {post : Int32 → St1 → Prop} {u : St1} {b : Nat → Nat} {sl nu v cnt : Nat} {e : ec_T} (hd : ds_ b sl nu) (hcnt : cnt ≤ 24) (h : dm_ u b sl nu e) (ho : ec_ok e) (hsy : ec_sy b (ec_Pl v cnt e)) (hN : e.2.2.1 + cnt < 2 ^ 29) (hp : ∀ u', kf_ u u' → dm_ u' b sl nu (ec_Pl v cnt e) → post (nI (v % 2 ^ cnt)) u') : wpX_takePlain post u (nI cnt) := by
  refine ks_takePlain ⟨cnt + 1, ?_⟩
  have := wk_tp4 (post := post) (v := v) hd hcnt cnt u e 0 (Nat.le_refl _) (Nat.two_pow_pos _) h ho hsy hN (fun u' f g => by rw [Nat.zero_mul, Nat.zero_add]; exact hp u' f g)
  rw [Nat.sub_self] at this
  exact this
theorem wk_tb65 {post : Int32 → St1 → Prop} {u : St1} {b : Nat → Nat} {sl nu T R n c bit : Nat} {ch : Nat → Nat} (hd : ds_ b sl nu) (h : nb_ u b sl nu) (hr : gt_rng u = lN R) (hc : gt_code u = lN (ec_val b (n + 5) - T)) (hs : gt_src u = nI (512 * sl + 6 + (n + 5)))
    (h1 : 65536 ≤ R) (h2 : R < 4294967296) (hT : T ≤ ec_val b (n + 5)) (hX : ec_val b (n + 5) < T + R) (hch : ∀ k, k < 428 → gt_ch u k = nI (ch k)) (hn : n < 2 ^ 29) (hcc : c < 428) (hbit : bit ≤ 1) (hq : ch c ≤ 2048)
    (hp : ∀ u', kf_ u u' → dm_ u' b sl nu (ec_W T R n (ec_un ch c (ec_lq (ch c) bit))) → post (nI bit) u') : kw_takeBit_65 post (nI c) (nI bit) u := by
  refine ks_takeBit_65 (wk_learn hcc (by omega) (hch c hcc) hq (wk_refill (T := T) (R := R) (n := n) (ch := ec_un ch c (ec_lq (ch c) bit)) hd (nb_kf h (kf_s_ch u _)) hr hc hs h1 h2 hT hX (zu_un hch c _) hn (fun u' f g => hp u' (kf_tr (kf_s_ch u _) f) g)))
theorem wk_takeBit {post : Int32 → St1 → Prop} {u : St1} {b : Nat → Nat} {sl nu c bit : Nat} {e : ec_T} (hd : ds_ b sl nu) (h : dm_ u b sl nu e) (ho : ec_ok e) (hc : c < 428) (hbit : bit ≤ 1) (hN : e.2.2.1 < 2 ^ 29) (hsy : ec_sy b (ec_B e c bit)) (hp : ∀ u', kf_ u u' → dm_ u' b sl nu (ec_B e c bit) → post (nI bit) u') : wpX_takeBit post u (nI c) := by
  obtain ⟨hnb, hrg, hcd, hsrc, hch⟩ := h
  obtain ⟨k1, k2, k3, k4⟩ := ec_bd_in ho hc
  obtain ⟨o1, o2, o3⟩ := ho
  have hq := o3 c hc
  refine ks_takeBit ⟨pk_in c 428 hc, nm_r (e' := lN (ec_bd e c)) ?_ ?_⟩
  · rw [hrg, nI_clamp (by omega), hch c hc, zl_shr _ (by omega) 11 _ (by decide), nI_l (by omega), lN_mul]
    rfl
  have hb2 : bit = 0 ∨ bit = 1 := by omega
  rcases hb2 with rfl | rfl
  · have hsy' : ec_sy b (ec_W e.1 (ec_bd e c) e.2.2.1 (ec_un e.2.2.2 c (ec_lq (e.2.2.2 c) 0))) := hsy
    obtain ⟨w1, w2⟩ := ec_W_sy hd.1 hsy'
    refine zl_le (ec_bd e c) (ec_val b (e.2.2.1 + 5) - e.1) (fun z => absurd z (by omega)) (fun z => ?_) rfl hcd (by omega) (by omega)
    refine ks_takeBit_30 (br_t rfl ?_)
    exact wk_tb65 (u := st_rng u (lN (ec_bd e c))) (T := e.1) (R := ec_bd e c) (n := e.2.2.1) (bit := 0) (ch := e.2.2.2) hd (nb_kf hnb (kf_s_rng u _)) rfl hcd hsrc k1 k2 w1 w2 hch hN hc (by omega) (by omega) (fun u' f g => hp u' (kf_tr (kf_s_rng u _) f) g)
  · have hsy' : ec_sy b (ec_W (e.1 + ec_bd e c) (e.2.1 - ec_bd e c) e.2.2.1 (ec_un e.2.2.2 c (ec_lq (e.2.2.2 c) 1))) := hsy
    obtain ⟨w1, w2⟩ := ec_W_sy hd.1 hsy'
    refine zl_le (ec_bd e c) (ec_val b (e.2.2.1 + 5) - e.1) (fun z => ?_) (fun z => absurd z (by omega)) rfl hcd (by omega) (by omega)
    refine ks_takeBit_30 (br_f (by decide) (nm_r (e' := lN (ec_val b (e.2.2.1 + 5) - (e.1 + ec_bd e c))) ?_ (nm_r (e' := lN (e.2.1 - ec_bd e c)) (by rw [hrg, lN_sub k4]) ?_)))
    · rw [hcd, lN_sub (by omega)]
      congr 1
      omega
    · exact wk_tb65 (u := st_code (st_rng u (lN (e.2.1 - ec_bd e c))) (lN (ec_val b (e.2.2.1 + 5) - (e.1 + ec_bd e c)))) (T := e.1 + ec_bd e c) (R := e.2.1 - ec_bd e c) (n := e.2.2.1) (bit := 1) (ch := e.2.2.2) hd (nb_kf hnb (kf_tr (kf_s_rng u _) (kf_s_code _ _))) rfl rfl hsrc k3 (by omega) w1 (by omega) hch hN hc (by omega) (by omega) (fun u' f g => hp u' (kf_tr (kf_tr (kf_s_rng u _) (kf_s_code _ _)) f) g)
theorem wk_next2 {post : Int32 → St1 → Prop} {u : St1} {b : Nat → Nat} {sl nu j : Nat} (hd : ds_ b sl nu) (h : nb_ u b sl nu) (hj : j < 2 ^ 30) (hs : gt_src u = nI (512 * sl + 6 + j)) (hp : post (nI (b j)) (st_src u (nI (512 * sl + 6 + (j + 1))))) : wpX_nextByte_2 post u := by
  obtain ⟨h1, h2, h3⟩ := h
  obtain ⟨d1, d2, d3⟩ := hd
  refine ks_nextByte_2 (pk_le (512 * sl + nu) (512 * sl + 6 + j) (fun z => ?_) (fun z => ⟨pk_in (512 * sl + 6 + j) 2048 (by omega) hs, ?_⟩) h1 hs)
  · refine ks_nextByte_2_24 (nm_r (e' := nI (512 * sl + 6 + (j + 1))) (by rw [hs, nI_1]; rfl) ?_)
    rw [h3 j (by omega)] at hp
    exact hp
  · refine ks_nextByte_2_24 (nm_r (e' := nI (512 * sl + 6 + (j + 1))) (by rw [hs, nI_1]; rfl) ?_)
    rw [hs, nI_clamp (by omega), h2 j (by omega)]
    exact hp
theorem wk_refill2 {post : St1 → Prop} {u : St1} {b : Nat → Nat} {sl nu T R n : Nat} {ch : Nat → Nat} (hd : ds_ b sl nu) (h : nb_ u b sl nu) (hr : gt_rng u = lN R) (hc : gt_code u = lN (ec_val b (n + 5) - T)) (hs : gt_src u = nI (512 * sl + 6 + (n + 5)))
    (h1 : 65536 ≤ R) (h2 : R < 4294967296) (hT : T ≤ ec_val b (n + 5)) (hX : ec_val b (n + 5) < T + R) (hch : ∀ k, k < 428 → gt_ch u k = nI (ch k)) (hn : n < 2 ^ 29) (hp : ∀ u', kf_ u u' → dm_ u' b sl nu (ec_W T R n ch) → post u') : wpX_refill_2 post u := by
  have hby := hd.1 (n + 5)
  refine ks_refill_2 ⟨2, ks_refill_2_0 (zl_le 16777216 R (fun z => hp u (kf_rfl u) ?_) (fun z => nm_r (e' := lN (R * 256)) (by rw [hr, zl_shl8]) ?_) rfl hr (by decide) (by omega))⟩
  · unfold ec_W
    rw [if_neg (by omega)]
    exact ⟨h, hr, hc, hs, hch⟩
  · refine wk_next2 (u := st_rng u (lN (R * 256))) (j := n + 5) hd (nb_kf h (kf_s_rng u _)) (by omega) hs (nm_r (e' := lN ((ec_val b (n + 5) - T) * 256 + b (n + 5))) ?_ ?_)
    · rw [hc, zl_shl8, nI_l (by omega), zg_or (k := 8) (p := 256) (by decide) hby (by omega)]
    · refine ks_refill_2_0 (zl_le 16777216 (R * 256) (fun z2 => hp _ (kf_tr (kf_s_rng u _) (kf_tr (kf_s_src _ _) (kf_s_code _ _))) ?_) (fun z2 => absurd z2 (by omega)) rfl rfl (by decide) (by omega))
      unfold ec_W
      rw [if_pos z]
      refine ⟨nb_kf h (kf_tr (kf_s_rng u _) (kf_tr (kf_s_src _ _) (kf_s_code _ _))), rfl, ?_, ?_, hch⟩
      · show lN ((ec_val b (n + 5) - T) * 256 + b (n + 5)) = lN (ec_val b (n + 1 + 5) - T * 256)
        have e : ec_val b (n + 1 + 5) = ec_val b (n + 5) * 256 + b (n + 5) := by
          rw [show n + 1 + 5 = (n + 5) + 1 by omega]
          rfl
        rw [e]
        congr 1
        omega
      · show nI (512 * sl + 6 + (n + 5 + 1)) = nI (512 * sl + 6 + (n + 1 + 5))
        rw [show n + 5 + 1 = n + 1 + 5 by omega]
theorem wk_tp42 {post : Int32 → St1 → Prop} {b : Nat → Nat} {sl nu v cnt : Nat} (hd : ds_ b sl nu) (hcnt : cnt ≤ 24) : ∀ (r : Nat) (u : St1) (e : ec_T) (val : Nat), r ≤ cnt → val < 2 ^ (cnt - r) → dm_ u b sl nu e → ec_ok e → ec_sy b (ec_Pl v r e) → e.2.2.1 + r < 2 ^ 29 → (∀ u', kf_ u u' → dm_ u' b sl nu (ec_Pl v r e) → post (nI (val * 2 ^ r + v % 2 ^ r)) u') → kw_takePlain_2_4 post (nI cnt) (r + 1) (nI val) (nI (cnt - r)) u := by
  intro r
  induction r with
  | zero =>
    intro u e val _ hv h _ _ _ hp
    refine ks_takePlain_2_4 (pk_le cnt (cnt - 0) (fun _ => ?_) (fun z => absurd z (by omega)))
    have := hp u (kf_rfl u) h
    rw [Nat.pow_zero, Nat.mul_one, Nat.mod_one, Nat.add_zero] at this
    exact this
  | succ r ih =>
    intro u e val hr hv h ho hsy hN hp
    obtain ⟨hnb, hrg, hcd, hsrc, hch⟩ := h
    have ho' := ho
    obtain ⟨o1, o2, o3⟩ := ho
    have hbit : v / 2 ^ r % 2 ≤ 1 := by omega
    obtain ⟨s1, s2, s3⟩ := ec_P_st hd.1 hbit ho'
    have hsy1 : ec_sy b (ec_P e (v / 2 ^ r % 2)) := (ec_Pl_st hd.1 v r _ s1).2.1 hsy
    have hval : val < 2 ^ 24 := Nat.lt_of_lt_of_le hv (Nat.pow_le_pow_right (by decide) (by omega))
    obtain ⟨w1, w2⟩ := ec_W_sy hd.1 hsy1
    have go : ∀ bit, bit ≤ 1 → v / 2 ^ r % 2 = bit → kw_takePlain_2_36 post (kw_takePlain_2_4 post (nI cnt) (r + 1)) (nI cnt) (nI val) (nI (cnt - (r + 1))) (nI bit) (st_rng u (lN (e.2.1 / 2))) := by
      intro bit hb hbt
      rw [hbt] at hsy1 w1 w2 s1 s2 s3
      have tail : ∀ z0, z0 = lN (bit * (e.2.1 / 2)) → kw_takePlain_2_57 post (kw_takePlain_2_4 post (nI cnt) (r + 1)) (nI cnt) (nI val) (nI (cnt - (r + 1))) (nI bit) z0 (gt_code u) (st_rng u (lN (e.2.1 / 2))) := by
        intro z0 hz0
        refine ks_takePlain_2_57 (nm_r (e' := lN (ec_val b (e.2.2.1 + 5) - (e.1 + bit * (e.2.1 / 2)))) ?_ (nm_r (e' := nI (2 * val + bit)) ?_ ?_))
        · rw [hcd, hz0, lN_sub (by omega)]
          congr 1
          omega
        · rw [show (2 : Int32) = nI 2 from rfl, pk_mul, nI_add]
        · refine wk_refill2 (u := st_code (st_rng u (lN (e.2.1 / 2))) (lN (ec_val b (e.2.2.1 + 5) - (e.1 + bit * (e.2.1 / 2))))) (T := e.1 + bit * (e.2.1 / 2)) (R := e.2.1 / 2) (n := e.2.2.1) (ch := e.2.2.2) hd (nb_kf hnb (kf_tr (kf_s_rng u _) (kf_s_code _ _))) rfl rfl hsrc (by omega) (by omega) w1 w2 hch (by omega) (fun u1 f1 g1 => nm_r (e' := nI (cnt - r)) ?_ (ih u1 (ec_P e bit) (2 * val + bit) (by omega) ?_ g1 s1 ?_ (by omega) (fun u' f' g' => ?_)))
          · rw [nI_1]
            congr 1
            omega
          · rw [show cnt - r = (cnt - (r + 1)) + 1 by omega, Nat.pow_succ]
            omega
          · show ec_sy b (ec_Pl v r (ec_P e bit))
            rw [← hbt]
            exact hsy
          · have := hp u' (kf_tr (kf_tr (kf_s_rng u _) (kf_s_code _ _)) (kf_tr f1 f')) (by show dm_ u' b sl nu (ec_Pl v r (ec_P e (v / 2 ^ r % 2))); rw [hbt]; exact g')
            rw [Nat.mod_pow_succ, hbt] at this
            have e2 : (2 * val + bit) * 2 ^ r + v % 2 ^ r = val * 2 ^ (r + 1) + (v % 2 ^ r + 2 ^ r * bit) := by
              rw [Nat.pow_succ, Nat.add_mul, Nat.mul_comm (2 ^ r) bit, Nat.mul_comm (2 ^ r) 2, ← Nat.mul_assoc, Nat.mul_comm val 2]
              omega
            rw [e2]
            exact this
      refine ks_takePlain_2_36 (pk_eq bit 1 (fun z => ?_) (fun z => ?_))
      · exact tail _ (by rw [z, Nat.one_mul]; rfl)
      · have z0 : bit = 0 := by omega
        exact tail _ (by rw [z0, Nat.zero_mul]; rfl)
    refine ks_takePlain_2_4 (pk_le cnt (cnt - (r + 1)) (fun z => absurd z (by omega)) (fun _ => nm_r (e' := lN (e.2.1 / 2)) ?_ ?_))
    · rw [hrg, zl_shr _ (by omega) 1 _ (by decide)]
    · refine zl_le (e.2.1 / 2) (ec_val b (e.2.2.1 + 5) - e.1) (fun z => go 1 (by omega) ?_) (fun z => go 0 (by omega) ?_) rfl hcd (by omega) ?_
      · rcases Nat.lt_or_ge (v / 2 ^ r % 2) 1 with q | q
        · have q0 : v / 2 ^ r % 2 = 0 := by omega
          rw [q0] at w2
          omega
        · omega
      · rcases Nat.lt_or_ge (v / 2 ^ r % 2) 1 with q | q
        · omega
        · have q0 : v / 2 ^ r % 2 = 1 := by omega
          rw [q0] at w1
          omega
      · have : v / 2 ^ r % 2 = 0 ∨ v / 2 ^ r % 2 = 1 := by omega
        rcases this with q | q
        · rw [q] at w2; omega
        · rw [q] at w2; omega
theorem wk_takePlain2 {post : Int32 → St1 → Prop} {u : St1} {b : Nat → Nat} {sl nu v cnt : Nat} {e : ec_T} (hd : ds_ b sl nu) (hcnt : cnt ≤ 24) (h : dm_ u b sl nu e) (ho : ec_ok e) (hsy : ec_sy b (ec_Pl v cnt e)) (hN : e.2.2.1 + cnt < 2 ^ 29) (hp : ∀ u', kf_ u u' → dm_ u' b sl nu (ec_Pl v cnt e) → post (nI (v % 2 ^ cnt)) u') : wpX_takePlain_2 post u (nI cnt) := by
  refine ks_takePlain_2 ⟨cnt + 1, ?_⟩
  have := wk_tp42 (post := post) (v := v) hd hcnt cnt u e 0 (Nat.le_refl _) (Nat.two_pow_pos _) h ho hsy hN (fun u' f g => by rw [Nat.zero_mul, Nat.zero_add]; exact hp u' f g)
  rw [Nat.sub_self] at this
  exact this
theorem wk_learn_2 {post : St1 → Prop} {u : St1} {c b q : Nat} (hc : c < 428) (hb : b < 2 ^ 31) (hq : gt_ch u c = nI q) (hq2 : q ≤ 2048) (hp : post (st_ch u (upd (gt_ch u) c (nI (ec_lq q b))))) : wpX_learn_2 post u (nI c) (nI b) := wk_learn hc hb hq hq2 hp
theorem wk_next3 {post : Int32 → St1 → Prop} {u : St1} {b : Nat → Nat} {sl nu j : Nat} (hd : ds_ b sl nu) (h : nb_ u b sl nu) (hj : j < 2 ^ 30) (hs : gt_src u = nI (512 * sl + 6 + j)) (hp : post (nI (b j)) (st_src u (nI (512 * sl + 6 + (j + 1))))) : wpX_nextByte_3 post u := by
  obtain ⟨h1, h2, h3⟩ := h
  obtain ⟨d1, d2, d3⟩ := hd
  refine ks_nextByte_3 (pk_le (512 * sl + nu) (512 * sl + 6 + j) (fun z => ?_) (fun z => ⟨pk_in (512 * sl + 6 + j) 2048 (by omega) hs, ?_⟩) h1 hs)
  · refine ks_nextByte_3_24 (nm_r (e' := nI (512 * sl + 6 + (j + 1))) (by rw [hs, nI_1]; rfl) ?_)
    rw [h3 j (by omega)] at hp
    exact hp
  · refine ks_nextByte_3_24 (nm_r (e' := nI (512 * sl + 6 + (j + 1))) (by rw [hs, nI_1]; rfl) ?_)
    rw [hs, nI_clamp (by omega), h2 j (by omega)]
    exact hp
theorem wk_refill3 {post : St1 → Prop} {u : St1} {b : Nat → Nat} {sl nu T R n : Nat} {ch : Nat → Nat} (hd : ds_ b sl nu) (h : nb_ u b sl nu) (hr : gt_rng u = lN R) (hc : gt_code u = lN (ec_val b (n + 5) - T)) (hs : gt_src u = nI (512 * sl + 6 + (n + 5)))
    (h1 : 65536 ≤ R) (h2 : R < 4294967296) (hT : T ≤ ec_val b (n + 5)) (hX : ec_val b (n + 5) < T + R) (hch : ∀ k, k < 428 → gt_ch u k = nI (ch k)) (hn : n < 2 ^ 29) (hp : ∀ u', kf_ u u' → dm_ u' b sl nu (ec_W T R n ch) → post u') : wpX_refill_3 post u := by
  have hby := hd.1 (n + 5)
  refine ks_refill_3 ⟨2, ks_refill_3_0 (zl_le 16777216 R (fun z => hp u (kf_rfl u) ?_) (fun z => nm_r (e' := lN (R * 256)) (by rw [hr, zl_shl8]) ?_) rfl hr (by decide) (by omega))⟩
  · unfold ec_W
    rw [if_neg (by omega)]
    exact ⟨h, hr, hc, hs, hch⟩
  · refine wk_next3 (u := st_rng u (lN (R * 256))) (j := n + 5) hd (nb_kf h (kf_s_rng u _)) (by omega) hs (nm_r (e' := lN ((ec_val b (n + 5) - T) * 256 + b (n + 5))) ?_ ?_)
    · rw [hc, zl_shl8, nI_l (by omega), zg_or (k := 8) (p := 256) (by decide) hby (by omega)]
    · refine ks_refill_3_0 (zl_le 16777216 (R * 256) (fun z2 => hp _ (kf_tr (kf_s_rng u _) (kf_tr (kf_s_src _ _) (kf_s_code _ _))) ?_) (fun z2 => absurd z2 (by omega)) rfl rfl (by decide) (by omega))
      unfold ec_W
      rw [if_pos z]
      refine ⟨nb_kf h (kf_tr (kf_s_rng u _) (kf_tr (kf_s_src _ _) (kf_s_code _ _))), rfl, ?_, ?_, hch⟩
      · show lN ((ec_val b (n + 5) - T) * 256 + b (n + 5)) = lN (ec_val b (n + 1 + 5) - T * 256)
        have e : ec_val b (n + 1 + 5) = ec_val b (n + 5) * 256 + b (n + 5) := by
          rw [show n + 1 + 5 = (n + 5) + 1 by omega]
          rfl
        rw [e]
        congr 1
        omega
      · show nI (512 * sl + 6 + (n + 5 + 1)) = nI (512 * sl + 6 + (n + 1 + 5))
        rw [show n + 5 + 1 = n + 1 + 5 by omega]
theorem wk_tp43 {post : Int32 → St1 → Prop} {b : Nat → Nat} {sl nu v cnt : Nat} (hd : ds_ b sl nu) (hcnt : cnt ≤ 24) : ∀ (r : Nat) (u : St1) (e : ec_T) (val : Nat), r ≤ cnt → val < 2 ^ (cnt - r) → dm_ u b sl nu e → ec_ok e → ec_sy b (ec_Pl v r e) → e.2.2.1 + r < 2 ^ 29 → (∀ u', kf_ u u' → dm_ u' b sl nu (ec_Pl v r e) → post (nI (val * 2 ^ r + v % 2 ^ r)) u') → kw_takePlain_3_4 post (nI cnt) (r + 1) (nI val) (nI (cnt - r)) u := by
  intro r
  induction r with
  | zero =>
    intro u e val _ hv h _ _ _ hp
    refine ks_takePlain_3_4 (pk_le cnt (cnt - 0) (fun _ => ?_) (fun z => absurd z (by omega)))
    have := hp u (kf_rfl u) h
    rw [Nat.pow_zero, Nat.mul_one, Nat.mod_one, Nat.add_zero] at this
    exact this
  | succ r ih =>
    intro u e val hr hv h ho hsy hN hp
    obtain ⟨hnb, hrg, hcd, hsrc, hch⟩ := h
    have ho' := ho
    obtain ⟨o1, o2, o3⟩ := ho
    have hbit : v / 2 ^ r % 2 ≤ 1 := by omega
    obtain ⟨s1, s2, s3⟩ := ec_P_st hd.1 hbit ho'
    have hsy1 : ec_sy b (ec_P e (v / 2 ^ r % 2)) := (ec_Pl_st hd.1 v r _ s1).2.1 hsy
    have hval : val < 2 ^ 24 := Nat.lt_of_lt_of_le hv (Nat.pow_le_pow_right (by decide) (by omega))
    obtain ⟨w1, w2⟩ := ec_W_sy hd.1 hsy1
    have go : ∀ bit, bit ≤ 1 → v / 2 ^ r % 2 = bit → kw_takePlain_3_36 post (kw_takePlain_3_4 post (nI cnt) (r + 1)) (nI cnt) (nI val) (nI (cnt - (r + 1))) (nI bit) (st_rng u (lN (e.2.1 / 2))) := by
      intro bit hb hbt
      rw [hbt] at hsy1 w1 w2 s1 s2 s3
      have tail : ∀ z0, z0 = lN (bit * (e.2.1 / 2)) → kw_takePlain_3_57 post (kw_takePlain_3_4 post (nI cnt) (r + 1)) (nI cnt) (nI val) (nI (cnt - (r + 1))) (nI bit) z0 (gt_code u) (st_rng u (lN (e.2.1 / 2))) := by
        intro z0 hz0
        refine ks_takePlain_3_57 (nm_r (e' := lN (ec_val b (e.2.2.1 + 5) - (e.1 + bit * (e.2.1 / 2)))) ?_ (nm_r (e' := nI (2 * val + bit)) ?_ ?_))
        · rw [hcd, hz0, lN_sub (by omega)]
          congr 1
          omega
        · rw [show (2 : Int32) = nI 2 from rfl, pk_mul, nI_add]
        · refine wk_refill3 (u := st_code (st_rng u (lN (e.2.1 / 2))) (lN (ec_val b (e.2.2.1 + 5) - (e.1 + bit * (e.2.1 / 2))))) (T := e.1 + bit * (e.2.1 / 2)) (R := e.2.1 / 2) (n := e.2.2.1) (ch := e.2.2.2) hd (nb_kf hnb (kf_tr (kf_s_rng u _) (kf_s_code _ _))) rfl rfl hsrc (by omega) (by omega) w1 w2 hch (by omega) (fun u1 f1 g1 => nm_r (e' := nI (cnt - r)) ?_ (ih u1 (ec_P e bit) (2 * val + bit) (by omega) ?_ g1 s1 ?_ (by omega) (fun u' f' g' => ?_)))
          · rw [nI_1]
            congr 1
            omega
          · rw [show cnt - r = (cnt - (r + 1)) + 1 by omega, Nat.pow_succ]
            omega
          · show ec_sy b (ec_Pl v r (ec_P e bit))
            rw [← hbt]
            exact hsy
          · have := hp u' (kf_tr (kf_tr (kf_s_rng u _) (kf_s_code _ _)) (kf_tr f1 f')) (by show dm_ u' b sl nu (ec_Pl v r (ec_P e (v / 2 ^ r % 2))); rw [hbt]; exact g')
            rw [Nat.mod_pow_succ, hbt] at this
            have e2 : (2 * val + bit) * 2 ^ r + v % 2 ^ r = val * 2 ^ (r + 1) + (v % 2 ^ r + 2 ^ r * bit) := by
              rw [Nat.pow_succ, Nat.add_mul, Nat.mul_comm (2 ^ r) bit, Nat.mul_comm (2 ^ r) 2, ← Nat.mul_assoc, Nat.mul_comm val 2]
              omega
            rw [e2]
            exact this
      refine ks_takePlain_3_36 (pk_eq bit 1 (fun z => ?_) (fun z => ?_))
      · exact tail _ (by rw [z, Nat.one_mul]; rfl)
      · have z0 : bit = 0 := by omega
        exact tail _ (by rw [z0, Nat.zero_mul]; rfl)
    refine ks_takePlain_3_4 (pk_le cnt (cnt - (r + 1)) (fun z => absurd z (by omega)) (fun _ => nm_r (e' := lN (e.2.1 / 2)) ?_ ?_))
    · rw [hrg, zl_shr _ (by omega) 1 _ (by decide)]
    · refine zl_le (e.2.1 / 2) (ec_val b (e.2.2.1 + 5) - e.1) (fun z => go 1 (by omega) ?_) (fun z => go 0 (by omega) ?_) rfl hcd (by omega) ?_
      · rcases Nat.lt_or_ge (v / 2 ^ r % 2) 1 with q | q
        · have q0 : v / 2 ^ r % 2 = 0 := by omega
          rw [q0] at w2
          omega
        · omega
      · rcases Nat.lt_or_ge (v / 2 ^ r % 2) 1 with q | q
        · omega
        · have q0 : v / 2 ^ r % 2 = 1 := by omega
          rw [q0] at w1
          omega
      · have : v / 2 ^ r % 2 = 0 ∨ v / 2 ^ r % 2 = 1 := by omega
        rcases this with q | q
        · rw [q] at w2; omega
        · rw [q] at w2; omega
theorem wk_takePlain3 {post : Int32 → St1 → Prop} {u : St1} {b : Nat → Nat} {sl nu v cnt : Nat} {e : ec_T} (hd : ds_ b sl nu) (hcnt : cnt ≤ 24) (h : dm_ u b sl nu e) (ho : ec_ok e) (hsy : ec_sy b (ec_Pl v cnt e)) (hN : e.2.2.1 + cnt < 2 ^ 29) (hp : ∀ u', kf_ u u' → dm_ u' b sl nu (ec_Pl v cnt e) → post (nI (v % 2 ^ cnt)) u') : wpX_takePlain_3 post u (nI cnt) := by
  refine ks_takePlain_3 ⟨cnt + 1, ?_⟩
  have := wk_tp43 (post := post) (v := v) hd hcnt cnt u e 0 (Nat.le_refl _) (Nat.two_pow_pos _) h ho hsy hN (fun u' f g => by rw [Nat.zero_mul, Nat.zero_add]; exact hp u' f g)
  rw [Nat.sub_self] at this
  exact this
theorem wk_tb653 {post : Int32 → St1 → Prop} {u : St1} {b : Nat → Nat} {sl nu T R n c bit : Nat} {ch : Nat → Nat} (hd : ds_ b sl nu) (h : nb_ u b sl nu) (hr : gt_rng u = lN R) (hc : gt_code u = lN (ec_val b (n + 5) - T)) (hs : gt_src u = nI (512 * sl + 6 + (n + 5)))
    (h1 : 65536 ≤ R) (h2 : R < 4294967296) (hT : T ≤ ec_val b (n + 5)) (hX : ec_val b (n + 5) < T + R) (hch : ∀ k, k < 428 → gt_ch u k = nI (ch k)) (hn : n < 2 ^ 29) (hcc : c < 428) (hbit : bit ≤ 1) (hq : ch c ≤ 2048)
    (hp : ∀ u', kf_ u u' → dm_ u' b sl nu (ec_W T R n (ec_un ch c (ec_lq (ch c) bit))) → post (nI bit) u') : kw_takeBit_2_65 post (nI c) (nI bit) u := by
  refine ks_takeBit_2_65 (wk_learn_2 hcc (by omega) (hch c hcc) hq (wk_refill3 (T := T) (R := R) (n := n) (ch := ec_un ch c (ec_lq (ch c) bit)) hd (nb_kf h (kf_s_ch u _)) hr hc hs h1 h2 hT hX (zu_un hch c _) hn (fun u' f g => hp u' (kf_tr (kf_s_ch u _) f) g)))
theorem wk_takeBit3 {post : Int32 → St1 → Prop} {u : St1} {b : Nat → Nat} {sl nu c bit : Nat} {e : ec_T} (hd : ds_ b sl nu) (h : dm_ u b sl nu e) (ho : ec_ok e) (hc : c < 428) (hbit : bit ≤ 1) (hN : e.2.2.1 < 2 ^ 29) (hsy : ec_sy b (ec_B e c bit)) (hp : ∀ u', kf_ u u' → dm_ u' b sl nu (ec_B e c bit) → post (nI bit) u') : wpX_takeBit_2 post u (nI c) := by
  obtain ⟨hnb, hrg, hcd, hsrc, hch⟩ := h
  obtain ⟨k1, k2, k3, k4⟩ := ec_bd_in ho hc
  obtain ⟨o1, o2, o3⟩ := ho
  have hq := o3 c hc
  refine ks_takeBit_2 ⟨pk_in c 428 hc, nm_r (e' := lN (ec_bd e c)) ?_ ?_⟩
  · rw [hrg, nI_clamp (by omega), hch c hc, zl_shr _ (by omega) 11 _ (by decide), nI_l (by omega), lN_mul]
    rfl
  have hb2 : bit = 0 ∨ bit = 1 := by omega
  rcases hb2 with rfl | rfl
  · have hsy' : ec_sy b (ec_W e.1 (ec_bd e c) e.2.2.1 (ec_un e.2.2.2 c (ec_lq (e.2.2.2 c) 0))) := hsy
    obtain ⟨w1, w2⟩ := ec_W_sy hd.1 hsy'
    refine zl_le (ec_bd e c) (ec_val b (e.2.2.1 + 5) - e.1) (fun z => absurd z (by omega)) (fun z => ?_) rfl hcd (by omega) (by omega)
    refine ks_takeBit_2_30 (br_t rfl ?_)
    exact wk_tb653 (u := st_rng u (lN (ec_bd e c))) (T := e.1) (R := ec_bd e c) (n := e.2.2.1) (bit := 0) (ch := e.2.2.2) hd (nb_kf hnb (kf_s_rng u _)) rfl hcd hsrc k1 k2 w1 w2 hch hN hc (by omega) (by omega) (fun u' f g => hp u' (kf_tr (kf_s_rng u _) f) g)
  · have hsy' : ec_sy b (ec_W (e.1 + ec_bd e c) (e.2.1 - ec_bd e c) e.2.2.1 (ec_un e.2.2.2 c (ec_lq (e.2.2.2 c) 1))) := hsy
    obtain ⟨w1, w2⟩ := ec_W_sy hd.1 hsy'
    refine zl_le (ec_bd e c) (ec_val b (e.2.2.1 + 5) - e.1) (fun z => ?_) (fun z => absurd z (by omega)) rfl hcd (by omega) (by omega)
    refine ks_takeBit_2_30 (br_f (by decide) (nm_r (e' := lN (ec_val b (e.2.2.1 + 5) - (e.1 + ec_bd e c))) ?_ (nm_r (e' := lN (e.2.1 - ec_bd e c)) (by rw [hrg, lN_sub k4]) ?_)))
    · rw [hcd, lN_sub (by omega)]
      congr 1
      omega
    · exact wk_tb653 (u := st_code (st_rng u (lN (e.2.1 - ec_bd e c))) (lN (ec_val b (e.2.2.1 + 5) - (e.1 + ec_bd e c)))) (T := e.1 + ec_bd e c) (R := e.2.1 - ec_bd e c) (n := e.2.2.1) (bit := 1) (ch := e.2.2.2) hd (nb_kf hnb (kf_tr (kf_s_rng u _) (kf_s_code _ _))) rfl rfl hsrc k3 (by omega) w1 (by omega) hch hN hc (by omega) (by omega) (fun u' f g => hp u' (kf_tr (kf_tr (kf_s_rng u _) (kf_s_code _ _)) f) g)
end
section
theorem ec_val_lt {b : Nat → Nat} (hb : ec_by b) : ∀ n, ec_val b n < 256 ^ n := by
  intro n
  induction n with
  | zero => exact Nat.one_pos
  | succ n ih =>
    show ec_val b n * 256 + b n < 256 ^ (n + 1)
    rw [Nat.pow_succ]
    have := hb n
    omega
theorem wk_ti4 {post : Int32 → St1 → Prop} {b : Nat → Nat} {sl nu left k : Nat} (hd : ds_ b sl nu) (hl : left ≤ 16) (hk : k < 16) : ∀ (j : Nat) (u : St1) (e : ec_T), j ≤ 4 → dm_ u b sl nu e → ec_ok e → ec_sy b (ec_I left k j e) → e.2.2.1 + j < 2 ^ 29 → (∀ u', kf_ u u' → dm_ u' b sl nu (ec_I left k j e) → post (nI k) u') → kw_takeIndex_4 post (nI left) (j + 1) (nI ((16 + k) / 2 ^ j)) (nI j - 1) u := by
  intro j
  induction j with
  | zero =>
    intro u e _ h _ _ _ hp
    refine ks_takeIndex_4 (br_t (by decide) ?_)
    rw [Nat.pow_zero, Nat.div_one, show (16 : Int32) = nI 16 from rfl, pk_sub (by omega), Nat.add_sub_cancel_left]
    exact hp u (kf_rfl u) h
  | succ j ih =>
    intro u e hj h ho hsy hN hp
    rw [nI_pred]
    refine ks_takeIndex_4 (br_f (nI_pos (by omega)) ?_)
    rw [zi_ctx]
    have hc := ec_I_ctx (j := j) hk hl
    obtain ⟨o1, o2, o3⟩ := ec_B_st hd.1 (e := e) hc (k / 2 ^ j % 2) ho
    refine wk_takeBit (bit := k / 2 ^ j % 2) hd h ho hc (by omega) (by omega) ((ec_I_st hd.1 hl hk j _ o1).2.1 hsy) (fun u1 f1 g1 => nm_r (e' := nI ((16 + k) / 2 ^ j)) ?_ (nm_r (e' := nI j - 1) (zi_sub1 _) (ih u1 _ (by omega) g1 o1 hsy (by omega) (fun u' f' g' => hp u' (kf_tr f1 f') g'))))
    rw [show (2 : Int32) = nI 2 from rfl, pk_mul, nI_add, ec_I_node hk (by omega)]
theorem wk_takeIndex {post : Int32 → St1 → Prop} {u : St1} {b : Nat → Nat} {sl nu left k : Nat} {e : ec_T} (hd : ds_ b sl nu) (hl : left ≤ 16) (hk : k < 16) (h : dm_ u b sl nu e) (ho : ec_ok e) (hsy : ec_sy b (ec_I left k 4 e)) (hN : e.2.2.1 + 4 < 2 ^ 29) (hp : ∀ u', kf_ u u' → dm_ u' b sl nu (ec_I left k 4 e) → post (nI k) u') : wpX_takeIndex post u (nI left) := by
  refine ks_takeIndex ⟨5, ?_⟩
  have := wk_ti4 (post := post) hd hl hk 4 u e (by omega) h ho hsy hN hp
  rw [show (16 + k) / 2 ^ 4 = 1 by show (16 + k) / 16 = 1; omega] at this
  exact this
theorem wk_tn45 {post : Int32 → St1 → Prop} {u : St1} {b : Nat → Nat} {sl nu n m sg : Nat} {e : ec_T} {x : Int32} (hd : ds_ b sl nu) (hn0 : n ≠ 0) (hn : n < 2048) (hm : m = Nat.log2 n) (hsg : sg ≤ 1) (hx : x = if sg = 1 then - nI n else nI n) (h : dm_ u b sl nu e) (ho : ec_ok e) (hsy : ec_sy b (ec_Pl n m e)) (hN : e.2.2.1 + 10 < 2 ^ 29)
    (hp : ∀ u', kf_ u u' → dm_ u' b sl nu (ec_Pl n m e) → post x u') : kw_takeNumber_45 post (nI sg) (nI m) u := by
  have hml := ec_log hn0 hn
  have e1 : 2 ^ m ≤ n := by rw [hm]; exact Nat.log2_self_le hn0
  have e2 : n < 2 ^ (m + 1) := by rw [hm]; exact Nat.lt_log2_self
  refine ks_takeNumber_45 (wk_takePlain3 (v := n) hd (by omega) h ho hsy (by omega) (fun u1 f1 g1 => nm_r (e' := nI n) ?_ (pk_eq sg 1 (fun z => ?_) (fun z => ?_))))
  · rw [show (1 : Int32) = nI 1 from rfl, pk_shlN _ m (zb_sl m (by omega)) (by rw [Nat.one_mul]; exact Nat.lt_of_le_of_lt e1 (by omega)), Nat.one_mul, nx_or]
    congr 1
    have a := Nat.two_pow_add_eq_or_of_lt (i := m) (b := n % 2 ^ m) (Nat.mod_lt _ (Nat.two_pow_pos m)) 1
    rw [Nat.mul_one] at a
    rw [← a]
    have a2 := Nat.div_add_mod n (2 ^ m)
    have a3 : n / 2 ^ m = 1 := by
      rw [Nat.pow_succ] at e2
      refine (Nat.div_eq_iff (Nat.two_pow_pos m)).mpr ?_
      omega
    rw [a3, Nat.mul_one] at a2
    omega
  · rw [hx, if_pos z] at hp
    exact hp u1 f1 g1
  · rw [hx, if_neg z] at hp
    exact hp u1 f1 g1
theorem wk_takeNumber {post : Int32 → St1 → Prop} {u : St1} {b : Nat → Nat} {sl nu base : Nat} {e : ec_T} {x : Int32} (hd : ds_ b sl nu) (hx : x.toInt.natAbs < 2048) (hb : base ≤ 143) (h : dm_ u b sl nu e) (ho : ec_ok e) (hN : e.2.2.1 + 25 < 2 ^ 29) (hsy : ec_sy b (ec_N e base x)) (hp : ∀ u', kf_ u u' → dm_ u' b sl nu (ec_N e base x) → post x u') : wpX_takeNumber post u (nI base) := by
  by_cases hz : x.toInt = 0
  · have hx0 := (zi_eq0 x).mpr hz
    unfold ec_N at hsy hp
    rw [if_pos hz] at hsy hp
    rw [hx0] at hp
    exact ks_takeNumber (wk_takeBit3 (bit := 0) hd h ho (by omega) (by omega) (by omega) hsy (fun u1 f1 g1 => br_t rfl (hp u1 f1 g1)))
  · unfold ec_N at hsy hp
    rw [if_neg hz] at hsy hp
    have hn0 : x.toInt.natAbs ≠ 0 := by omega
    have hm := ec_log hn0 hx
    generalize hsg : (if x.toInt < 0 then 1 else 0) = sg at hsy hp
    have hsg1 : sg ≤ 1 := by rw [← hsg]; split <;> omega
    have hxv : x = if sg = 1 then - nI x.toInt.natAbs else nI x.toInt.natAbs := by
      by_cases hn : x.toInt < 0
      · rw [if_pos hn] at hsg
        rw [if_pos hsg.symm]
        exact (zi_neg hn (by omega)).2
      · rw [if_neg hn] at hsg
        rw [if_neg (by omega)]
        exact zi_nonneg (by omega)
    obtain ⟨o1, p1, q1⟩ := ec_B_st hd.1 (e := e) (c := base) (by omega) 1 ho
    obtain ⟨o2, p2, q2⟩ := ec_B_st hd.1 (e := ec_B e base 1) (c := base + 1) (by omega) sg o1
    obtain ⟨o3, p3, q3⟩ := ec_N3_st hd.1 hb (ec_B (ec_B e base 1) (base + 1) sg) x.toInt.natAbs hm o2
    have sy2 := p3 hsy
    have sy1 := p2 sy2
    generalize hn : x.toInt.natAbs = n at *
    generalize hmm : Nat.log2 n = m at *
    refine ks_takeNumber (wk_takeBit3 (bit := 1) hd h ho (by omega) (by omega) (by omega) sy1 (fun u1 f1 g1 => br_f (by decide) ?_))
    rw [nI_1]
    refine wk_takeBit3 (bit := sg) hd g1 o1 (by omega) hsg1 (by omega) sy2 (fun u2 f2 g2 => ?_)
    generalize ec_B (ec_B e base 1) (base + 1) sg = e2 at *
    have st : ∀ i, i ≤ m → ec_ok (ec_Un base e2 i) ∧ (ec_Un base e2 i).2.2.1 ≤ e2.2.2.1 + i := fun i hi => ec_go (ec_Un_st ec_by0 hb e2 (by omega)) o2
    have ctx : ∀ i, nI base + 2 + nI i = nI (base + 2 + i) := fun i => by rw [show (2 : Int32) = nI 2 from rfl, nI_add, nI_add]
    obtain ⟨om, nm⟩ := st m (Nat.le_refl m)
    have tb := ec_B_st hd.1 (e := ec_Un base e2 m) (c := base + 2 + m) (by omega) 0 om
    -- in step behind the ones
    have syU : ec_sy b (ec_Un base e2 m) := by
      unfold ec_N3 at hsy
      by_cases hm10 : m < 10
      · rw [if_pos hm10] at hsy
        exact tb.2.1 ((ec_Pl_st hd.1 n m _ tb.1).2.1 hsy)
      · rw [if_neg hm10] at hsy
        exact (ec_Pl_st hd.1 n m _ om).2.1 hsy
    have syi : ∀ i, i ≤ m → ec_sy b (ec_Un base e2 i) := fun i hi =>
      (ec_fd_to (b := b) (f := fun e k => ec_B e (base + 2 + k) 1) (e := e2) (m := 1) (n := m) (fun k e hk => ec_B_st hd.1 (by omega) 1) hi (st i hi).1).2.1 syU
    refine pk_loop (fun f i v => kw_takeNumber_20 post (nI base) (nI sg) f (nI i) v) (fun i v => kf_ u v ∧ dm_ v b sl nu (ec_Un base e2 i)) m 0 u2 (by omega) ⟨kf_tr f1 f2, g2⟩ ?_ ?_
    · intro f v hv
      refine ks_takeNumber_20 (pk_le 10 m (fun z => ?_) (fun z => ?_))
      · unfold ec_N3 at hsy hp
        rw [if_neg (by omega)] at hsy hp
        exact wk_tn45 hd hn0 hx hmm.symm hsg1 hxv hv.2 om hsy (by omega) (fun u' f' g' => hp u' (kf_tr hv.1 f') g')
      · unfold ec_N3 at hsy hp
        rw [if_pos z] at hsy hp
        rw [ctx m]
        have nb := tb.2.2
        refine wk_takeBit3 (bit := 0) hd hv.2 om (by omega) (by omega) (by omega) ((ec_Pl_st hd.1 n m _ tb.1).2.1 hsy) (fun u3 f3 g3 => br_f (by decide) ?_)
        exact wk_tn45 hd hn0 hx hmm.symm hsg1 hxv g3 tb.1 hsy (by omega) (fun u' f' g' => hp u' (kf_tr hv.1 (kf_tr f3 f')) g')
    · intro f i v hi hv hw
      obtain ⟨oi, ni⟩ := st i (by omega)
      refine ks_takeNumber_20 (pk_le 10 i (fun z => absurd z (by omega)) (fun z => ?_))
      rw [ctx i]
      exact wk_takeBit3 (bit := 1) hd hv.2 oi (by omega) (by omega) (by omega) (syi (i + 1) (by omega)) (fun u3 f3 g3 => br_t rfl (nm_r (nI_1 i) (hw _ ⟨kf_tr hv.1 f3, g3⟩)))
theorem kf_opn (u : St1) (r c : Int64) (f x : Int32) : kf_ (st_end u x) (st_end (st_src (st_code (st_rng u r) c) f) x) := by
  simp only [kf_, gs_end, gs_src, gs_code, gs_rng, and_self]
theorem wk_open {post : St1 → Prop} {u : St1} {b : Nat → Nat} {sl nu : Nat} (hd : ds_ b sl nu) (hu : gt_used u sl = nI nu) (h2 : ∀ k, 6 + k < nu → gt_by u (512 * sl + 6 + k) = nI (b k)) (h3 : ∀ k, nu ≤ 6 + k → b k = 0)
    (hp : ∀ u', kf_ (st_end u (nI (512 * sl + nu))) u' → dm_ u' b sl nu ec_0 → post u') : wpX_open post u (nI sl) := by
  obtain ⟨d1, d2, d3⟩ := hd
  have hd : ds_ b sl nu := ⟨d1, d2, d3⟩
  have e512 : (512 : Int32) * nI sl = nI (512 * sl) := by rw [show (512 : Int32) = nI 512 from rfl, pk_mul]
  refine ks_open (nm_r (e' := nI (512 * sl + 6)) (by rw [e512, show (6 : Int32) = nI 6 from rfl, nI_add]) ⟨pk_in sl 4 d2, nm_r (e' := nI (512 * sl + nu)) (by rw [e512, nI_clamp (by omega), hu, nI_add]) ?_⟩)
  refine pk_loop (fun n i v => kw_open_42 post n (nI i) v) (fun i v => kf_ (st_end u (nI (512 * sl + nu))) v ∧ gt_rng v = lN 4294967295 ∧ gt_code v = lN (ec_val b i) ∧ gt_src v = nI (512 * sl + 6 + i)) 5 0 _ (by omega) ⟨kf_opn _ _ _ _ _, rfl, rfl, rfl⟩ ?_ ?_
  · intro n v hv
    obtain ⟨k1, k2, k3, k4⟩ := hv
    refine ks_open_42 (pk_le 5 5 (fun _ => wk_reset (fun ch hch => hp _ (kf_tr k1 (kf_s_ch _ _)) ?_)) (fun z => absurd z (by omega)))
    exact ⟨⟨kf_end k1, fun k hk => by show gt_by v _ = _; rw [kf_by k1]; exact h2 k hk, h3⟩, k2, k3, k4, hch⟩
  · intro n i v hi hv hw
    obtain ⟨k1, k2, k3, k4⟩ := hv
    have hnb : nb_ v b sl nu := ⟨kf_end k1, fun k hk => by rw [kf_by k1]; exact h2 k hk, h3⟩
    refine ks_open_42 (pk_le 5 i (fun z => absurd z (by omega)) (fun _ => wk_next hd hnb (by omega) k4 (nm_r (e' := lN (ec_val b (i + 1))) ?_ (nm_r (nI_1 i) (hw _ ⟨kf_tr k1 (kf_tr (kf_s_src _ _) (kf_s_code _ _)), k2, rfl, rfl⟩)))))
    have hl := ec_val_lt d1 i
    have hl2 : 256 ^ i ≤ 256 ^ 4 := Nat.pow_le_pow_right (by decide) (by omega)
    have hb := d1 i
    rw [k3, zl_shl8, nI_l (by omega), zg_or (k := 8) (p := 256) (by decide) hb (by omega)]
    rfl
end
section
/-! frames. fields: 0 w, 1 h, 2 hand, 3 fw, 4 fh, 5 first, 6 by, 7 used, 8 tb, 9 pw, 10 ph, 11 ps, 12 num, 13 lg, 14 sm, 15 col, 16 clr, 17 end -/
def fe_ (u v : St1) : Nat → Prop
  | 0 => gt_w v = gt_w u
  | 1 => gt_h v = gt_h u
  | 2 => gt_hand v = gt_hand u
  | 3 => gt_fw v = gt_fw u
  | 4 => gt_fh v = gt_fh u
  | 5 => gt_first v = gt_first u
  | 6 => gt_by v = gt_by u
  | 7 => gt_used v = gt_used u
  | 8 => gt_tb v = gt_tb u
  | 9 => gt_pw v = gt_pw u
  | 10 => gt_ph v = gt_ph u
  | 11 => gt_ps v = gt_ps u
  | 12 => gt_num v = gt_num u
  | 13 => gt_lg v = gt_lg u
  | 14 => gt_sm v = gt_sm u
  | 15 => gt_col v = gt_col u
  | 16 => gt_clr v = gt_clr u
  | _ => gt_end v = gt_end u
def fm_ (l : List Nat) (u v : St1) : Prop := ∀ i, i < 18 → i ∉ l → fe_ u v i
theorem fm_w {l : List Nat} {u v : St1} (h : fm_ l u v) (hm : 0 ∉ l := by decide) : gt_w v = gt_w u := h 0 (by decide) hm
theorem fm_h {l : List Nat} {u v : St1} (h : fm_ l u v) (hm : 1 ∉ l := by decide) : gt_h v = gt_h u := h 1 (by decide) hm
theorem fm_hand {l : List Nat} {u v : St1} (h : fm_ l u v) (hm : 2 ∉ l := by decide) : gt_hand v = gt_hand u := h 2 (by decide) hm
theorem fm_fw {l : List Nat} {u v : St1} (h : fm_ l u v) (hm : 3 ∉ l := by decide) : gt_fw v = gt_fw u := h 3 (by decide) hm
theorem fm_fh {l : List Nat} {u v : St1} (h : fm_ l u v) (hm : 4 ∉ l := by decide) : gt_fh v = gt_fh u := h 4 (by decide) hm
theorem fm_first {l : List Nat} {u v : St1} (h : fm_ l u v) (hm : 5 ∉ l := by decide) : gt_first v = gt_first u := h 5 (by decide) hm
theorem fm_by {l : List Nat} {u v : St1} (h : fm_ l u v) (hm : 6 ∉ l := by decide) : gt_by v = gt_by u := h 6 (by decide) hm
theorem fm_used {l : List Nat} {u v : St1} (h : fm_ l u v) (hm : 7 ∉ l := by decide) : gt_used v = gt_used u := h 7 (by decide) hm
theorem fm_tb {l : List Nat} {u v : St1} (h : fm_ l u v) (hm : 8 ∉ l := by decide) : gt_tb v = gt_tb u := h 8 (by decide) hm
theorem fm_pw {l : List Nat} {u v : St1} (h : fm_ l u v) (hm : 9 ∉ l := by decide) : gt_pw v = gt_pw u := h 9 (by decide) hm
theorem fm_ph {l : List Nat} {u v : St1} (h : fm_ l u v) (hm : 10 ∉ l := by decide) : gt_ph v = gt_ph u := h 10 (by decide) hm
theorem fm_ps {l : List Nat} {u v : St1} (h : fm_ l u v) (hm : 11 ∉ l := by decide) : gt_ps v = gt_ps u := h 11 (by decide) hm
theorem fm_num {l : List Nat} {u v : St1} (h : fm_ l u v) (hm : 12 ∉ l := by decide) : gt_num v = gt_num u := h 12 (by decide) hm
theorem fm_lg {l : List Nat} {u v : St1} (h : fm_ l u v) (hm : 13 ∉ l := by decide) : gt_lg v = gt_lg u := h 13 (by decide) hm
theorem fm_sm {l : List Nat} {u v : St1} (h : fm_ l u v) (hm : 14 ∉ l := by decide) : gt_sm v = gt_sm u := h 14 (by decide) hm
theorem fm_col {l : List Nat} {u v : St1} (h : fm_ l u v) (hm : 15 ∉ l := by decide) : gt_col v = gt_col u := h 15 (by decide) hm
theorem fm_clr {l : List Nat} {u v : St1} (h : fm_ l u v) (hm : 16 ∉ l := by decide) : gt_clr v = gt_clr u := h 16 (by decide) hm
theorem fm_end {l : List Nat} {u v : St1} (h : fm_ l u v) (hm : 17 ∉ l := by decide) : gt_end v = gt_end u := h 17 (by decide) hm
theorem fm_tr {l : List Nat} {u v w : St1} (h : fm_ l u v) (k : fm_ l v w) : fm_ l u w := fun i hi hn => match i, hi, hn with
  | 0, hi, hn => Eq.trans (fm_w k hn) (fm_w h hn)
  | 1, hi, hn => Eq.trans (fm_h k hn) (fm_h h hn)
  | 2, hi, hn => Eq.trans (fm_hand k hn) (fm_hand h hn)
  | 3, hi, hn => Eq.trans (fm_fw k hn) (fm_fw h hn)
  | 4, hi, hn => Eq.trans (fm_fh k hn) (fm_fh h hn)
  | 5, hi, hn => Eq.trans (fm_first k hn) (fm_first h hn)
  | 6, hi, hn => Eq.trans (fm_by k hn) (fm_by h hn)
  | 7, hi, hn => Eq.trans (fm_used k hn) (fm_used h hn)
  | 8, hi, hn => Eq.trans (fm_tb k hn) (fm_tb h hn)
  | 9, hi, hn => Eq.trans (fm_pw k hn) (fm_pw h hn)
  | 10, hi, hn => Eq.trans (fm_ph k hn) (fm_ph h hn)
  | 11, hi, hn => Eq.trans (fm_ps k hn) (fm_ps h hn)
  | 12, hi, hn => Eq.trans (fm_num k hn) (fm_num h hn)
  | 13, hi, hn => Eq.trans (fm_lg k hn) (fm_lg h hn)
  | 14, hi, hn => Eq.trans (fm_sm k hn) (fm_sm h hn)
  | 15, hi, hn => Eq.trans (fm_col k hn) (fm_col h hn)
  | 16, hi, hn => Eq.trans (fm_clr k hn) (fm_clr h hn)
  | 17, hi, hn => Eq.trans (fm_end k hn) (fm_end h hn)
  | k + 18, hi, _ => absurd hi (by omega)
theorem fm_rfl {l : List Nat} (u : St1) : fm_ l u u := fun i hi hn => match i, hi, hn with
  | 0, hi, hn => rfl
  | 1, hi, hn => rfl
  | 2, hi, hn => rfl
  | 3, hi, hn => rfl
  | 4, hi, hn => rfl
  | 5, hi, hn => rfl
  | 6, hi, hn => rfl
  | 7, hi, hn => rfl
  | 8, hi, hn => rfl
  | 9, hi, hn => rfl
  | 10, hi, hn => rfl
  | 11, hi, hn => rfl
  | 12, hi, hn => rfl
  | 13, hi, hn => rfl
  | 14, hi, hn => rfl
  | 15, hi, hn => rfl
  | 16, hi, hn => rfl
  | 17, hi, hn => rfl
  | k + 18, hi, _ => absurd hi (by omega)
theorem fm_kf {l : List Nat} {u v : St1} (h : kf_ u v) : fm_ l u v := fun i hi hn => match i, hi, hn with
  | 0, hi, hn => kf_w h
  | 1, hi, hn => kf_h h
  | 2, hi, hn => kf_hand h
  | 3, hi, hn => kf_fw h
  | 4, hi, hn => kf_fh h
  | 5, hi, hn => kf_first h
  | 6, hi, hn => kf_by h
  | 7, hi, hn => kf_used h
  | 8, hi, hn => kf_tb h
  | 9, hi, hn => kf_pw h
  | 10, hi, hn => kf_ph h
  | 11, hi, hn => kf_ps h
  | 12, hi, hn => kf_num h
  | 13, hi, hn => kf_lg h
  | 14, hi, hn => kf_sm h
  | 15, hi, hn => kf_col h
  | 16, hi, hn => kf_clr h
  | 17, hi, hn => kf_end h
  | k + 18, hi, _ => absurd hi (by omega)
theorem fm_wk {l l' : List Nat} {u v : St1} (h : fm_ l u v) (hs : ∀ i, i < 18 → i ∈ l → i ∈ l' := by decide) : fm_ l' u v := fun i hi hn => h i hi (fun hm => hn (hs i hi hm))
theorem fm_s_w {l : List Nat} (u : St1) (x : Int32) (hm : 0 ∈ l := by decide) : fm_ l u (st_w u x) := fun i hi hn => match i, hi, hn with
  | 0, hi, hn => absurd hm hn
  | 1, hi, hn => rfl
  | 2, hi, hn => rfl
  | 3, hi, hn => rfl
  | 4, hi, hn => rfl
  | 5, hi, hn => rfl
  | 6, hi, hn => rfl
  | 7, hi, hn => rfl
  | 8, hi, hn => rfl
  | 9, hi, hn => rfl
  | 10, hi, hn => rfl
  | 11, hi, hn => rfl
  | 12, hi, hn => rfl
  | 13, hi, hn => rfl
  | 14, hi, hn => rfl
  | 15, hi, hn => rfl
  | 16, hi, hn => rfl
  | 17, hi, hn => rfl
  | k + 18, hi, _ => absurd hi (by omega)
theorem fm_s_h {l : List Nat} (u : St1) (x : Int32) (hm : 1 ∈ l := by decide) : fm_ l u (st_h u x) := fun i hi hn => match i, hi, hn with
  | 0, hi, hn => rfl
  | 1, hi, hn => absurd hm hn
  | 2, hi, hn => rfl
  | 3, hi, hn => rfl
  | 4, hi, hn => rfl
  | 5, hi, hn => rfl
  | 6, hi, hn => rfl
  | 7, hi, hn => rfl
  | 8, hi, hn => rfl
  | 9, hi, hn => rfl
  | 10, hi, hn => rfl
  | 11, hi, hn => rfl
  | 12, hi, hn => rfl
  | 13, hi, hn => rfl
  | 14, hi, hn => rfl
  | 15, hi, hn => rfl
  | 16, hi, hn => rfl
  | 17, hi, hn => rfl
  | k + 18, hi, _ => absurd hi (by omega)
theorem fm_s_hand {l : List Nat} (u : St1) (x : Nat → Int32) (hm : 2 ∈ l := by decide) : fm_ l u (st_hand u x) := fun i hi hn => match i, hi, hn with
  | 0, hi, hn => rfl
  | 1, hi, hn => rfl
  | 2, hi, hn => absurd hm hn
  | 3, hi, hn => rfl
  | 4, hi, hn => rfl
  | 5, hi, hn => rfl
  | 6, hi, hn => rfl
  | 7, hi, hn => rfl
  | 8, hi, hn => rfl
  | 9, hi, hn => rfl
  | 10, hi, hn => rfl
  | 11, hi, hn => rfl
  | 12, hi, hn => rfl
  | 13, hi, hn => rfl
  | 14, hi, hn => rfl
  | 15, hi, hn => rfl
  | 16, hi, hn => rfl
  | 17, hi, hn => rfl
  | k + 18, hi, _ => absurd hi (by omega)
theorem fm_s_fw {l : List Nat} (u : St1) (x : Int32) (hm : 3 ∈ l := by decide) : fm_ l u (st_fw u x) := fun i hi hn => match i, hi, hn with
  | 0, hi, hn => rfl
  | 1, hi, hn => rfl
  | 2, hi, hn => rfl
  | 3, hi, hn => absurd hm hn
  | 4, hi, hn => rfl
  | 5, hi, hn => rfl
  | 6, hi, hn => rfl
  | 7, hi, hn => rfl
  | 8, hi, hn => rfl
  | 9, hi, hn => rfl
  | 10, hi, hn => rfl
  | 11, hi, hn => rfl
  | 12, hi, hn => rfl
  | 13, hi, hn => rfl
  | 14, hi, hn => rfl
  | 15, hi, hn => rfl
  | 16, hi, hn => rfl
  | 17, hi, hn => rfl
  | k + 18, hi, _ => absurd hi (by omega)
theorem fm_s_fh {l : List Nat} (u : St1) (x : Int32) (hm : 4 ∈ l := by decide) : fm_ l u (st_fh u x) := fun i hi hn => match i, hi, hn with
  | 0, hi, hn => rfl
  | 1, hi, hn => rfl
  | 2, hi, hn => rfl
  | 3, hi, hn => rfl
  | 4, hi, hn => absurd hm hn
  | 5, hi, hn => rfl
  | 6, hi, hn => rfl
  | 7, hi, hn => rfl
  | 8, hi, hn => rfl
  | 9, hi, hn => rfl
  | 10, hi, hn => rfl
  | 11, hi, hn => rfl
  | 12, hi, hn => rfl
  | 13, hi, hn => rfl
  | 14, hi, hn => rfl
  | 15, hi, hn => rfl
  | 16, hi, hn => rfl
  | 17, hi, hn => rfl
  | k + 18, hi, _ => absurd hi (by omega)
theorem fm_s_first {l : List Nat} (u : St1) (x : Nat → Int32) (hm : 5 ∈ l := by decide) : fm_ l u (st_first u x) := fun i hi hn => match i, hi, hn with
  | 0, hi, hn => rfl
  | 1, hi, hn => rfl
  | 2, hi, hn => rfl
  | 3, hi, hn => rfl
  | 4, hi, hn => rfl
  | 5, hi, hn => absurd hm hn
  | 6, hi, hn => rfl
  | 7, hi, hn => rfl
  | 8, hi, hn => rfl
  | 9, hi, hn => rfl
  | 10, hi, hn => rfl
  | 11, hi, hn => rfl
  | 12, hi, hn => rfl
  | 13, hi, hn => rfl
  | 14, hi, hn => rfl
  | 15, hi, hn => rfl
  | 16, hi, hn => rfl
  | 17, hi, hn => rfl
  | k + 18, hi, _ => absurd hi (by omega)
theorem fm_s_by {l : List Nat} (u : St1) (x : Nat → Int32) (hm : 6 ∈ l := by decide) : fm_ l u (st_by u x) := fun i hi hn => match i, hi, hn with
  | 0, hi, hn => rfl
  | 1, hi, hn => rfl
  | 2, hi, hn => rfl
  | 3, hi, hn => rfl
  | 4, hi, hn => rfl
  | 5, hi, hn => rfl
  | 6, hi, hn => absurd hm hn
  | 7, hi, hn => rfl
  | 8, hi, hn => rfl
  | 9, hi, hn => rfl
  | 10, hi, hn => rfl
  | 11, hi, hn => rfl
  | 12, hi, hn => rfl
  | 13, hi, hn => rfl
  | 14, hi, hn => rfl
  | 15, hi, hn => rfl
  | 16, hi, hn => rfl
  | 17, hi, hn => rfl
  | k + 18, hi, _ => absurd hi (by omega)
theorem fm_s_used {l : List Nat} (u : St1) (x : Nat → Int32) (hm : 7 ∈ l := by decide) : fm_ l u (st_used u x) := fun i hi hn => match i, hi, hn with
  | 0, hi, hn => rfl
  | 1, hi, hn => rfl
  | 2, hi, hn => rfl
  | 3, hi, hn => rfl
  | 4, hi, hn => rfl
  | 5, hi, hn => rfl
  | 6, hi, hn => rfl
  | 7, hi, hn => absurd hm hn
  | 8, hi, hn => rfl
  | 9, hi, hn => rfl
  | 10, hi, hn => rfl
  | 11, hi, hn => rfl
  | 12, hi, hn => rfl
  | 13, hi, hn => rfl
  | 14, hi, hn => rfl
  | 15, hi, hn => rfl
  | 16, hi, hn => rfl
  | 17, hi, hn => rfl
  | k + 18, hi, _ => absurd hi (by omega)
theorem fm_s_tb {l : List Nat} (u : St1) (x : Nat → Int32) (hm : 8 ∈ l := by decide) : fm_ l u (st_tb u x) := fun i hi hn => match i, hi, hn with
  | 0, hi, hn => rfl
  | 1, hi, hn => rfl
  | 2, hi, hn => rfl
  | 3, hi, hn => rfl
  | 4, hi, hn => rfl
  | 5, hi, hn => rfl
  | 6, hi, hn => rfl
  | 7, hi, hn => rfl
  | 8, hi, hn => absurd hm hn
  | 9, hi, hn => rfl
  | 10, hi, hn => rfl
  | 11, hi, hn => rfl
  | 12, hi, hn => rfl
  | 13, hi, hn => rfl
  | 14, hi, hn => rfl
  | 15, hi, hn => rfl
  | 16, hi, hn => rfl
  | 17, hi, hn => rfl
  | k + 18, hi, _ => absurd hi (by omega)
theorem fm_s_pw {l : List Nat} (u : St1) (x : Nat → Int32) (hm : 9 ∈ l := by decide) : fm_ l u (st_pw u x) := fun i hi hn => match i, hi, hn with
  | 0, hi, hn => rfl
  | 1, hi, hn => rfl
  | 2, hi, hn => rfl
  | 3, hi, hn => rfl
  | 4, hi, hn => rfl
  | 5, hi, hn => rfl
  | 6, hi, hn => rfl
  | 7, hi, hn => rfl
  | 8, hi, hn => rfl
  | 9, hi, hn => absurd hm hn
  | 10, hi, hn => rfl
  | 11, hi, hn => rfl
  | 12, hi, hn => rfl
  | 13, hi, hn => rfl
  | 14, hi, hn => rfl
  | 15, hi, hn => rfl
  | 16, hi, hn => rfl
  | 17, hi, hn => rfl
  | k + 18, hi, _ => absurd hi (by omega)
theorem fm_s_ph {l : List Nat} (u : St1) (x : Nat → Int32) (hm : 10 ∈ l := by decide) : fm_ l u (st_ph u x) := fun i hi hn => match i, hi, hn with
  | 0, hi, hn => rfl
  | 1, hi, hn => rfl
  | 2, hi, hn => rfl
  | 3, hi, hn => rfl
  | 4, hi, hn => rfl
  | 5, hi, hn => rfl
  | 6, hi, hn => rfl
  | 7, hi, hn => rfl
  | 8, hi, hn => rfl
  | 9, hi, hn => rfl
  | 10, hi, hn => absurd hm hn
  | 11, hi, hn => rfl
  | 12, hi, hn => rfl
  | 13, hi, hn => rfl
  | 14, hi, hn => rfl
  | 15, hi, hn => rfl
  | 16, hi, hn => rfl
  | 17, hi, hn => rfl
  | k + 18, hi, _ => absurd hi (by omega)
theorem fm_s_ps {l : List Nat} (u : St1) (x : Nat → Int32) (hm : 11 ∈ l := by decide) : fm_ l u (st_ps u x) := fun i hi hn => match i, hi, hn with
  | 0, hi, hn => rfl
  | 1, hi, hn => rfl
  | 2, hi, hn => rfl
  | 3, hi, hn => rfl
  | 4, hi, hn => rfl
  | 5, hi, hn => rfl
  | 6, hi, hn => rfl
  | 7, hi, hn => rfl
  | 8, hi, hn => rfl
  | 9, hi, hn => rfl
  | 10, hi, hn => rfl
  | 11, hi, hn => absurd hm hn
  | 12, hi, hn => rfl
  | 13, hi, hn => rfl
  | 14, hi, hn => rfl
  | 15, hi, hn => rfl
  | 16, hi, hn => rfl
  | 17, hi, hn => rfl
  | k + 18, hi, _ => absurd hi (by omega)
theorem fm_s_num {l : List Nat} (u : St1) (x : Nat → Int32) (hm : 12 ∈ l := by decide) : fm_ l u (st_num u x) := fun i hi hn => match i, hi, hn with
  | 0, hi, hn => rfl
  | 1, hi, hn => rfl
  | 2, hi, hn => rfl
  | 3, hi, hn => rfl
  | 4, hi, hn => rfl
  | 5, hi, hn => rfl
  | 6, hi, hn => rfl
  | 7, hi, hn => rfl
  | 8, hi, hn => rfl
  | 9, hi, hn => rfl
  | 10, hi, hn => rfl
  | 11, hi, hn => rfl
  | 12, hi, hn => absurd hm hn
  | 13, hi, hn => rfl
  | 14, hi, hn => rfl
  | 15, hi, hn => rfl
  | 16, hi, hn => rfl
  | 17, hi, hn => rfl
  | k + 18, hi, _ => absurd hi (by omega)
theorem fm_s_lg {l : List Nat} (u : St1) (x : Nat → Int32) (hm : 13 ∈ l := by decide) : fm_ l u (st_lg u x) := fun i hi hn => match i, hi, hn with
  | 0, hi, hn => rfl
  | 1, hi, hn => rfl
  | 2, hi, hn => rfl
  | 3, hi, hn => rfl
  | 4, hi, hn => rfl
  | 5, hi, hn => rfl
  | 6, hi, hn => rfl
  | 7, hi, hn => rfl
  | 8, hi, hn => rfl
  | 9, hi, hn => rfl
  | 10, hi, hn => rfl
  | 11, hi, hn => rfl
  | 12, hi, hn => rfl
  | 13, hi, hn => absurd hm hn
  | 14, hi, hn => rfl
  | 15, hi, hn => rfl
  | 16, hi, hn => rfl
  | 17, hi, hn => rfl
  | k + 18, hi, _ => absurd hi (by omega)
theorem fm_s_sm {l : List Nat} (u : St1) (x : Nat → Int32) (hm : 14 ∈ l := by decide) : fm_ l u (st_sm u x) := fun i hi hn => match i, hi, hn with
  | 0, hi, hn => rfl
  | 1, hi, hn => rfl
  | 2, hi, hn => rfl
  | 3, hi, hn => rfl
  | 4, hi, hn => rfl
  | 5, hi, hn => rfl
  | 6, hi, hn => rfl
  | 7, hi, hn => rfl
  | 8, hi, hn => rfl
  | 9, hi, hn => rfl
  | 10, hi, hn => rfl
  | 11, hi, hn => rfl
  | 12, hi, hn => rfl
  | 13, hi, hn => rfl
  | 14, hi, hn => absurd hm hn
  | 15, hi, hn => rfl
  | 16, hi, hn => rfl
  | 17, hi, hn => rfl
  | k + 18, hi, _ => absurd hi (by omega)
theorem fm_s_col {l : List Nat} (u : St1) (x : Int32) (hm : 15 ∈ l := by decide) : fm_ l u (st_col u x) := fun i hi hn => match i, hi, hn with
  | 0, hi, hn => rfl
  | 1, hi, hn => rfl
  | 2, hi, hn => rfl
  | 3, hi, hn => rfl
  | 4, hi, hn => rfl
  | 5, hi, hn => rfl
  | 6, hi, hn => rfl
  | 7, hi, hn => rfl
  | 8, hi, hn => rfl
  | 9, hi, hn => rfl
  | 10, hi, hn => rfl
  | 11, hi, hn => rfl
  | 12, hi, hn => rfl
  | 13, hi, hn => rfl
  | 14, hi, hn => rfl
  | 15, hi, hn => absurd hm hn
  | 16, hi, hn => rfl
  | 17, hi, hn => rfl
  | k + 18, hi, _ => absurd hi (by omega)
theorem fm_s_clr {l : List Nat} (u : St1) (x : Nat → Int32) (hm : 16 ∈ l := by decide) : fm_ l u (st_clr u x) := fun i hi hn => match i, hi, hn with
  | 0, hi, hn => rfl
  | 1, hi, hn => rfl
  | 2, hi, hn => rfl
  | 3, hi, hn => rfl
  | 4, hi, hn => rfl
  | 5, hi, hn => rfl
  | 6, hi, hn => rfl
  | 7, hi, hn => rfl
  | 8, hi, hn => rfl
  | 9, hi, hn => rfl
  | 10, hi, hn => rfl
  | 11, hi, hn => rfl
  | 12, hi, hn => rfl
  | 13, hi, hn => rfl
  | 14, hi, hn => rfl
  | 15, hi, hn => rfl
  | 16, hi, hn => absurd hm hn
  | 17, hi, hn => rfl
  | k + 18, hi, _ => absurd hi (by omega)
theorem fm_s_end {l : List Nat} (u : St1) (x : Int32) (hm : 17 ∈ l := by decide) : fm_ l u (st_end u x) := fun i hi hn => match i, hi, hn with
  | 0, hi, hn => rfl
  | 1, hi, hn => rfl
  | 2, hi, hn => rfl
  | 3, hi, hn => rfl
  | 4, hi, hn => rfl
  | 5, hi, hn => rfl
  | 6, hi, hn => rfl
  | 7, hi, hn => rfl
  | 8, hi, hn => rfl
  | 9, hi, hn => rfl
  | 10, hi, hn => rfl
  | 11, hi, hn => rfl
  | 12, hi, hn => rfl
  | 13, hi, hn => rfl
  | 14, hi, hn => rfl
  | 15, hi, hn => rfl
  | 16, hi, hn => rfl
  | 17, hi, hn => absurd hm hn
  | k + 18, hi, _ => absurd hi (by omega)
theorem kf_fm {u v : St1} (h : fm_ [] u v) : kf_ u v := ⟨fm_w h, fm_h h, fm_hand h, fm_fw h, fm_fh h, fm_first h, fm_by h, fm_used h, fm_tb h, fm_pw h, fm_ph h, fm_ps h, fm_num h, fm_lg h, fm_sm h, fm_col h, fm_clr h, fm_end h⟩
end
section
/-! ===== the parts of halved planes: widths, heights, where they begin ===== -/
def gm_W (w : Nat) : Nat → Nat
  | 0 => ((w + 1) / 2 + 1) / 2
  | 1 => ((w + 1) / 2 + 1) / 2
  | 2 => (w + 1) / 2 / 2
  | 3 => (w + 1) / 2
  | _ => w / 2
def gm_H (h : Nat) : Nat → Nat
  | 0 => ((h + 1) / 2 + 1) / 2
  | 1 => (h + 1) / 2 / 2
  | 2 => (h + 1) / 2
  | 3 => h / 2
  | _ => h
def gm_S (w h : Nat) : Nat → Nat
  | 0 => 0
  | 1 => ((w + 1) / 2 + 1) / 2 * (((h + 1) / 2 + 1) / 2)
  | 2 => ((w + 1) / 2 + 1) / 2 * ((h + 1) / 2)
  | 3 => (w + 1) / 2 * ((h + 1) / 2)
  | 4 => (w + 1) / 2 * h
  | _ => w * h
theorem gm_next (w h : Nat) : ∀ k, k < 5 → gm_S w h k + gm_W w k * gm_H h k = gm_S w h (k + 1) := by
  intro k hk
  have : k = 0 ∨ k = 1 ∨ k = 2 ∨ k = 3 ∨ k = 4 := by omega
  rcases this with rfl | rfl | rfl | rfl | rfl
  · exact Nat.zero_add _
  · show ((w + 1) / 2 + 1) / 2 * (((h + 1) / 2 + 1) / 2) + ((w + 1) / 2 + 1) / 2 * ((h + 1) / 2 / 2) = ((w + 1) / 2 + 1) / 2 * ((h + 1) / 2)
    rw [← Nat.mul_add]
    congr 1
    omega
  · show ((w + 1) / 2 + 1) / 2 * ((h + 1) / 2) + (w + 1) / 2 / 2 * ((h + 1) / 2) = (w + 1) / 2 * ((h + 1) / 2)
    rw [← Nat.add_mul]
    congr 1
    omega
  · show (w + 1) / 2 * ((h + 1) / 2) + (w + 1) / 2 * (h / 2) = (w + 1) / 2 * h
    rw [← Nat.mul_add]
    congr 1
    omega
  · show (w + 1) / 2 * h + w / 2 * h = w * h
    rw [← Nat.add_mul]
    congr 1
    omega
def dm_ok (w h : Nat) : Prop := 1 ≤ w ∧ w ≤ 12 ∧ 1 ≤ h ∧ h ≤ 12
theorem dm_144 {w h : Nat} (d : dm_ok w h) : w * h ≤ 144 := Nat.mul_le_mul d.2.1 d.2.2.2
theorem gm_le {w h : Nat} : ∀ j k, k + j ≤ 5 → gm_S w h k ≤ gm_S w h (k + j) := by
  intro j
  induction j with
  | zero => intro k _; exact Nat.le_refl _
  | succ j ih =>
    intro k hk
    have a := ih k (by omega)
    have b := gm_next w h (k + j) (by omega)
    rw [← Nat.add_assoc, ← b]
    omega
theorem gm_top {w h k : Nat} (hk : k ≤ 5) : gm_S w h k ≤ w * h := by
  have := gm_le (w := w) (h := h) (5 - k) k (by omega)
  rw [show k + (5 - k) = 5 by omega] at this
  exact this
def gp_ (u : St1) (w h : Nat) : Prop := (∀ k, k < 5 → gt_pw u k = nI (gm_W w k)) ∧ (∀ k, k < 5 → gt_ph u k = nI (gm_H h k)) ∧ (∀ k, k < 5 → gt_ps u k = nI (gm_S w h k))
theorem gp_fm {l : List Nat} {u v : St1} {w h : Nat} (g : gp_ u w h) (f : fm_ l u v) (h1 : 9 ∉ l := by decide) (h2 : 10 ∉ l := by decide) (h3 : 11 ∉ l := by decide) : gp_ v w h :=
  ⟨fun k hk => by rw [fm_pw f h1]; exact g.1 k hk, fun k hk => by rw [fm_ph f h2]; exact g.2.1 k hk, fun k hk => by rw [fm_ps f h3]; exact g.2.2 k hk⟩
theorem zi_half {a : Nat} (h : a < 2 ^ 30) : (nI a + 1) / 2 = nI ((a + 1) / 2) := by
  rw [nI_1, show (2 : Int32) = nI 2 from rfl, pk_div (by omega) (by omega) (by omega)]
theorem zi_h2 {a : Nat} (h : a < 2 ^ 30) : nI a / 2 = nI (a / 2) := by
  rw [show (2 : Int32) = nI 2 from rfl, pk_div (by omega) (by omega) (by omega)]
def cq_ (u v : St1) : Prop := gt_rng v = gt_rng u ∧ gt_code v = gt_code u ∧ gt_src v = gt_src u ∧ gt_ch v = gt_ch u
theorem cq_tr {u v w : St1} (h : cq_ u v) (k : cq_ v w) : cq_ u w := ⟨k.1.trans h.1, k.2.1.trans h.2.1, k.2.2.1.trans h.2.2.1, k.2.2.2.trans h.2.2.2⟩
theorem wk_setPart {post : St1 → Prop} {u : St1} {k : Nat} {a b c : Int32} (hk : k < 5) (hp : ∀ u', fm_ [9, 10, 11] u u' → gt_pw u' = upd (gt_pw u) k a → gt_ph u' = upd (gt_ph u) k b → gt_ps u' = upd (gt_ps u) k c → cq_ u u' → post u') : wpX_setPart post u (nI k) a b c := by
  have hc : (nI k).toNatClampNeg = k := nI_clamp (by omega)
  refine ks_setPart ⟨pk_in k 5 hk, nm_e ⟨pk_in k 5 hk, nm_e ⟨pk_in k 5 hk, nm_e ?_⟩⟩⟩
  rw [hc]
  exact hp _ (fm_tr (fm_s_pw _ _) (fm_tr (fm_s_ph _ _) (fm_s_ps _ _))) rfl rfl rfl ⟨rfl, rfl, rfl, rfl⟩
theorem zi_ne2 : ¬ (2 : Int32) = 0 := by decide
theorem wk_measure2 {post : St1 → Prop} {u : St1} {w h : Nat} (hw : w < 2 ^ 20) (hh : h < 2 ^ 20) (hp : ∀ u', fm_ [9, 10, 11] u u' → gp_ u' w h → cq_ u u' → post u') : wpX_measure post u (nI w) (nI h) := by
  refine ks_measure ⟨zi_ne2, nm_r (zi_half (by omega)) ⟨zi_ne2, nm_r (zi_half (by omega)) ⟨zi_ne2, nm_r (zi_half (by omega)) ⟨zi_ne2, nm_r (zi_half (by omega)) ?_⟩⟩⟩⟩
  rw [zi_h2 (by omega), zi_h2 (by omega), zi_h2 (by omega), zi_h2 (by omega), pk_mul, pk_mul, pk_mul, pk_mul]
  refine wk_setPart (k := 0) (by omega) (fun u1 f1 a1 b1 c1 r1 => ⟨zi_ne2, wk_setPart (k := 1) (by omega) (fun u2 f2 a2 b2 c2 r2 => ⟨zi_ne2, wk_setPart (k := 2) (by omega) (fun u3 f3 a3 b3 c3 r3 => ⟨zi_ne2, wk_setPart (k := 3) (by omega) (fun u4 f4 a4 b4 c4 r4 => ⟨zi_ne2, wk_setPart (k := 4) (by omega) (fun u5 f5 a5 b5 c5 r5 => ?_)⟩)⟩)⟩)⟩)
  refine hp u5 (fm_tr f1 (fm_tr f2 (fm_tr f3 (fm_tr f4 f5)))) ⟨?_, ?_, ?_⟩ (cq_tr r1 (cq_tr r2 (cq_tr r3 (cq_tr r4 r5))))
  · intro k hk
    rw [a5, a4, a3, a2, a1]
    have : k = 0 ∨ k = 1 ∨ k = 2 ∨ k = 3 ∨ k = 4 := by omega
    rcases this with rfl | rfl | rfl | rfl | rfl <;> rfl
  · intro k hk
    rw [b5, b4, b3, b2, b1]
    have : k = 0 ∨ k = 1 ∨ k = 2 ∨ k = 3 ∨ k = 4 := by omega
    rcases this with rfl | rfl | rfl | rfl | rfl <;> rfl
  · intro k hk
    rw [c5, c4, c3, c2, c1]
    have : k = 0 ∨ k = 1 ∨ k = 2 ∨ k = 3 ∨ k = 4 := by omega
    rcases this with rfl | rfl | rfl | rfl | rfl <;> rfl
theorem wk_measure {post : St1 → Prop} {u : St1} {w h : Nat} (hw : w < 2 ^ 20) (hh : h < 2 ^ 20) (hp : ∀ u', fm_ [9, 10, 11] u u' → gp_ u' w h → post u') : wpX_measure post u (nI w) (nI h) := wk_measure2 hw hh (fun u' f g _ => hp u' f g)
/-! ===== contexts and what is foretold ===== -/
def cx_sz (x : Int32) : Int32 := if 0 ≤ x then x else -x
def cx_mu (part : Nat) (l a : Int32) : Int32 := if part = 0 then cx_sz (l - a) else cx_sz l + cx_sz a
def cx_b (part plane : Nat) (mu : Int32) : Nat := 13 * (3 * ((if part = 0 then 0 else 2) + (if plane = 0 then 0 else 1)) + (if mu = 0 then 0 else if 6 < mu then 2 else 1))
def cx_ (num : Nat → Int32) (part plane p x y pw : Nat) : Nat := cx_b part plane (cx_mu part (if x = 0 then 0 else num (p - 1)) (if y = 0 then 0 else num (p - pw)))
theorem cx_b_le (part plane : Nat) (mu : Int32) : cx_b part plane mu ≤ 143 := by
  unfold cx_b
  split <;> split <;> split <;> (try split) <;> omega
def fo_2 (l a c : Int32) (x y : Nat) : Int32 :=
  if x = 0 then l + a else if y = 0 then l + a else
    if c < (if l ≤ a then a else l) then (if (if l ≤ a then l else a) < c then l + a - c else (if l ≤ a then a else l)) else (if l ≤ a then l else a)
def fo_ (num : Nat → Int32) (part p x y pw : Nat) : Int32 := if part = 0 then fo_2 (if x = 0 then 0 else num (p - 1)) (if y = 0 then 0 else num (p - pw)) (num (p - pw - 1)) x y else 0
theorem wk_size {post : Int32 → Prop} {x : Int32} (hp : post (cx_sz x)) : wpX_size post () x := by
  unfold cx_sz at hp
  by_cases h : 0 ≤ x
  · rw [if_pos h] at hp
    exact br_t h hp
  · rw [if_neg h] at hp
    exact br_f h hp
theorem wk_cx89 {post : Int32 → Prop} {u : St1} {part plane : Nat} {mu z0 z1 : Int32} (h1 : z1 = nI (if part = 0 then 0 else 2)) (h0 : z0 = nI (if plane = 0 then 0 else 1)) (hp : post (nI (cx_b part plane mu))) : kw_contextOf_89 post mu z0 z1 u := by
  unfold cx_b at hp
  have e : ∀ s k : Nat, (13 : Int32) * (3 * nI s + nI k) = nI (13 * (3 * s + k)) := fun s k => by
    rw [show (13 : Int32) = nI 13 from rfl, show (3 : Int32) = nI 3 from rfl, pk_mul, nI_add, pk_mul]
  refine ks_contextOf_89 (nm_r (e' := nI ((if part = 0 then 0 else 2) + (if plane = 0 then 0 else 1))) (by rw [h0, h1, nI_add]) ?_)
  by_cases hm : mu = 0
  · rw [if_pos hm, ← e] at hp
    exact br_t hm hp
  · rw [if_neg hm] at hp
    refine br_f hm ?_
    by_cases h6 : 6 < mu
    · rw [if_pos h6, ← e] at hp
      exact br_t h6 hp
    · rw [if_neg h6, ← e] at hp
      exact br_f h6 hp
theorem wk_cx69 {post : Int32 → Prop} {u : St1} {part plane : Nat} {mu : Int32} (hpt : part < 2 ^ 31) (hpl : plane < 2 ^ 31) (hp : post (nI (cx_b part plane mu))) : kw_contextOf_69 post (nI part) (nI plane) mu u := by
  refine ks_contextOf_69 (pk_eq part 0 (fun z => ?_) (fun z => ?_))
  · refine ks_contextOf_80 (pk_eq plane 0 (fun z2 => wk_cx89 (part := part) (plane := plane) ?_ ?_ hp) (fun z2 => wk_cx89 (part := part) (plane := plane) ?_ ?_ hp))
    · rw [if_pos z]; rfl
    · rw [if_pos z2]; rfl
    · rw [if_pos z]; rfl
    · rw [if_neg z2]; rfl
  · refine ks_contextOf_80 (pk_eq plane 0 (fun z2 => wk_cx89 (part := part) (plane := plane) ?_ ?_ hp) (fun z2 => wk_cx89 (part := part) (plane := plane) ?_ ?_ hp))
    · rw [if_neg z]; rfl
    · rw [if_pos z2]; rfl
    · rw [if_neg z]; rfl
    · rw [if_neg z2]; rfl
theorem wk_cx41 {post : Int32 → Prop} {u : St1} {part plane : Nat} {l a : Int32} (hpt : part < 2 ^ 31) (hpl : plane < 2 ^ 31) (hp : post (nI (cx_b part plane (cx_mu part l a)))) : kw_contextOf_41 post (nI part) (nI plane) l a u := by
  unfold cx_mu at hp
  refine ks_contextOf_41 (pk_eq part 0 (fun z => ?_) (fun z => ?_))
  · rw [if_pos z] at hp
    exact wk_size (wk_cx69 hpt hpl hp)
  · rw [if_neg z] at hp
    exact wk_size (wk_size (wk_cx69 hpt hpl hp))
theorem wk_context {post : Int32 → Prop} {u : St1} {part plane p x y pw : Nat} (hpt : part < 5) (hpl : plane < 2 ^ 31) (hp4 : p < 432) (hx : x < 2 ^ 31) (hy : y < 2 ^ 31) (hw : gt_pw u part = nI pw) (h1 : x ≠ 0 → 1 ≤ p) (h2 : y ≠ 0 → pw ≤ p)
    (hp : post (nI (cx_ (gt_num u) part plane p x y pw))) : wpX_contextOf post u (nI part) (nI plane) (nI p) (nI x) (nI y) := by
  unfold cx_ at hp
  have go : ∀ l, post (nI (cx_b part plane (cx_mu part l (if y = 0 then 0 else gt_num u (p - pw))))) → kw_contextOf_17 post (nI part) (nI plane) (nI p) (nI y) l u := by
    intro l hl
    refine ks_contextOf_17 (pk_le y 0 (fun z => ?_) (fun z => ?_))
    · rw [if_pos (by omega)] at hl
      exact wk_cx41 (by omega) hpl hl
    · rw [if_neg (by omega)] at hl
      have hle := h2 (by omega)
      rw [nI_clamp (by omega), hw, pk_sub hle]
      refine ⟨pk_in part 5 hpt, pk_in (p - pw) 432 (by omega), ?_⟩
      rw [nI_clamp (by omega)]
      exact wk_cx41 (by omega) hpl hl
  refine ks_contextOf (pk_le x 0 (fun z => ?_) (fun z => ?_))
  · rw [if_pos (by omega)] at hp
    exact go _ hp
  · rw [if_neg (by omega)] at hp
    have hle := h1 (by omega)
    rw [show (1 : Int32) = nI 1 from rfl, pk_sub hle]
    refine ⟨pk_in (p - 1) 432 (by omega), ?_⟩
    rw [nI_clamp (by omega)]
    exact go _ hp
theorem wk_fo94 {post : Int32 → Prop} {u : St1} {l a c m : Int32} (hm : m = if l ≤ a then a else l) (hp : post (if c < (if l ≤ a then a else l) then (if (if l ≤ a then l else a) < c then l + a - c else (if l ≤ a then a else l)) else (if l ≤ a then l else a))) : kw_foretold_94 post l a c m u := by
  have go : ∀ q, (q = if l ≤ a then l else a) → kw_foretold_110 post l a c m q u := by
    intro q hq
    rw [← hm, ← hq] at hp
    refine ks_foretold_110 ?_
    by_cases h1 : c < m
    · rw [if_pos h1] at hp
      refine br_t h1 ?_
      by_cases h2 : q < c
      · rw [if_pos h2] at hp
        exact br_t h2 hp
      · rw [if_neg h2] at hp
        exact br_f h2 hp
    · rw [if_neg h1] at hp
      exact br_f h1 hp
  refine ks_foretold_94 ?_
  by_cases h : l ≤ a
  · exact br_t h (go l (by rw [if_pos h]))
  · exact br_f h (go a (by rw [if_neg h]))
theorem wk_foretold {post : Int32 → Prop} {u : St1} {part p x y pw : Nat} (hpt : part < 5) (hp4 : p < 432) (hx : x < 2 ^ 31) (hy : y < 2 ^ 31) (hw : part = 0 → gt_pw u 0 = nI pw) (h1 : x ≠ 0 → 1 ≤ p) (h2 : y ≠ 0 → pw ≤ p) (h3 : x ≠ 0 → y ≠ 0 → pw + 1 ≤ p)
    (hp : post (fo_ (gt_num u) part p x y pw)) : wpX_foretold post u (nI part) (nI p) (nI x) (nI y) := by
  unfold fo_ at hp
  refine ks_foretold (pk_le part 0 (fun z => ?_) (fun z => ?_))
  · rw [if_pos (by omega)] at hp
    have hw := hw (by omega)
    have f46 : ∀ l a, post (fo_2 l a (gt_num u (p - pw - 1)) x y) → kw_foretold_46 post (nI p) (nI x) (nI y) l a u := by
      intro l a hl
      unfold fo_2 at hl
      refine ks_foretold_46 (pk_eq x 0 (fun zx => ?_) (fun zx => pk_eq y 0 (fun zy => ?_) (fun zy => ?_)))
      · rw [if_pos zx] at hl
        exact hl
      · rw [if_neg zx, if_pos zy] at hl
        exact hl
      · rw [if_neg zx, if_neg zy] at hl
        have hle := h3 zx zy
        rw [hw, pk_sub (by omega), show (1 : Int32) = nI 1 from rfl, pk_sub (by omega)]
        refine ⟨pk_in (p - pw - 1) 432 (by omega), nm_r (e' := gt_num u (p - pw - 1)) (by rw [nI_clamp (by omega)]) ?_⟩
        by_cases hla : l ≤ a
        · exact br_t hla (wk_fo94 (by rw [if_pos hla]) hl)
        · exact br_f hla (wk_fo94 (by rw [if_neg hla]) hl)
    have f22 : ∀ l, post (fo_2 l (if y = 0 then 0 else gt_num u (p - pw)) (gt_num u (p - pw - 1)) x y) → kw_foretold_22 post (nI p) (nI x) (nI y) l u := by
      intro l hl
      refine ks_foretold_22 (pk_le y 0 (fun zy => ?_) (fun zy => ?_))
      · rw [if_pos (by omega)] at hl
        exact f46 _ _ hl
      · rw [if_neg (by omega)] at hl
        have hle := h2 (by omega)
        rw [hw, pk_sub hle]
        refine ⟨pk_in (p - pw) 432 (by omega), ?_⟩
        rw [nI_clamp (by omega)]
        exact f46 _ _ hl
    refine pk_le x 0 (fun zx => ?_) (fun zx => ?_)
    · rw [if_pos (by omega)] at hp
      exact f22 _ hp
    · rw [if_neg (by omega)] at hp
      have hle := h1 (by omega)
      rw [show (1 : Int32) = nI 1 from rfl, pk_sub hle]
      refine ⟨pk_in (p - 1) 432 (by omega), ?_⟩
      rw [nI_clamp (by omega)]
      exact f22 _ hp
  · rw [if_neg (by omega)] at hp
    exact hp
end
section
/-! ===== parts written and read ===== -/
def pp_ (w h part plane i : Nat) : Nat := 144 * plane + gm_S w h part + i
def pd_ (num : Nat → Int32) (w h part plane i : Nat) : Int32 := num (pp_ w h part plane i) - fo_ num part (pp_ w h part plane i) (i % gm_W w part) (i / gm_W w part) (gm_W w part)
def ec_ps (num : Nat → Int32) (w h part plane : Nat) (e : ec_T) (i : Nat) : ec_T :=
  ec_N e (cx_ num part plane (pp_ w h part plane i) (i % gm_W w part) (i / gm_W w part) (gm_W w part)) (pd_ num w h part plane i)
def ec_pt (e : ec_T) (num : Nat → Int32) (w h part plane : Nat) : ec_T := ec_fd (ec_ps num w h part plane) e (gm_W w part * gm_H h part)
def ec_al (e : ec_T) (num : Nat → Int32) (w h n : Nat) : ec_T := ec_fd (fun e k => ec_pt e num w h (k / 3) (k % 3)) e n
def pb_ (num : Nat → Int32) (w h : Nat) : Prop := ∀ part plane i, part < 5 → plane < 3 → i < gm_W w part * gm_H h part → (pd_ num w h part plane i).toInt.natAbs < 2048
theorem gm_wh {w h : Nat} (d : dm_ok w h) {part : Nat} (hp : part < 5) : gm_S w h part + gm_W w part * gm_H h part ≤ 144 := by
  rw [gm_next w h part hp]
  exact Nat.le_trans (gm_top (by omega)) (dm_144 d)
theorem ec_ps_st {b : Nat → Nat} (hb : ec_by b) {num : Nat → Int32} {w h part plane : Nat} (hn : pb_ num w h) (h1 : part < 5) (h2 : plane < 3) : ∀ k e, k < gm_W w part * gm_H h part → ec_st b e (ec_ps num w h part plane e k) 25 :=
  fun k e hk => ec_N_st hb (cx_b_le _ _ _) e (hn part plane k h1 h2 hk)
theorem ec_pt_st {b : Nat → Nat} (hb : ec_by b) {num : Nat → Int32} {w h part plane : Nat} (d : dm_ok w h) (hn : pb_ num w h) (h1 : part < 5) (h2 : plane < 3) (e : ec_T) : ec_st b e (ec_pt e num w h part plane) 3600 := by
  have := gm_wh d h1
  exact ec_st_le (ec_fd_0 (e := e) (ec_ps_st hb hn h1 h2) (Nat.le_refl _)) (by omega)
theorem ec_al_s1 {b : Nat → Nat} (hb : ec_by b) {num : Nat → Int32} {w h : Nat} (d : dm_ok w h) (hn : pb_ num w h) : ∀ k e, k < 15 → ec_st b e (ec_pt e num w h (k / 3) (k % 3)) 3600 :=
  fun k e hk => ec_pt_st hb d hn (by omega) (by omega) e
theorem ec_al_st {b : Nat → Nat} (hb : ec_by b) {num : Nat → Int32} {w h : Nat} (d : dm_ok w h) (hn : pb_ num w h) (e : ec_T) {n : Nat} (h15 : n ≤ 15) : ec_st b e (ec_al e num w h n) 54000 :=
  ec_st_le (ec_fd_0 (e := e) (ec_al_s1 hb d hn) h15) (by omega)
theorem ec_al_to {b : Nat → Nat} (hb : ec_by b) {num : Nat → Int32} {w h : Nat} (d : dm_ok w h) (hn : pb_ num w h) (e : ec_T) {n : Nat} (h15 : n ≤ 15) : ec_st b (ec_al e num w h n) (ec_al e num w h 15) (3600 * (15 - n)) :=
  ec_fd_to (e := e) (ec_al_s1 hb d hn) h15
theorem zi_pp {w h part plane i : Nat} {x : Int32} (hx : x = nI (gm_S w h part)) : (144 : Int32) * nI plane + x + nI i = nI (pp_ w h part plane i) := by
  rw [hx, show (144 : Int32) = nI 144 from rfl, pk_mul, nI_add, nI_add]
  rfl
theorem pp_y {i W : Nat} (hW : 0 < W) (h : i / W ≠ 0) : W ≤ i := by
  rcases Nat.lt_or_ge i W with z | z
  · exact absurd (Nat.div_eq_of_lt z) h
  · exact z
theorem pp_xy {i W : Nat} (hW : 0 < W) (hx : i % W ≠ 0) (h : i / W ≠ 0) : W + 1 ≤ i := by
  have a := Nat.div_add_mod i W
  have b : W * 1 ≤ W * (i / W) := Nat.mul_le_mul_left W (Nat.pos_of_ne_zero h)
  omega
theorem wk_writePart {post : St1 → Prop} {u : St1} {e : ec_T} {w h part plane : Nat} (d : dm_ok w h) (g : gp_ u w h) (h1 : part < 5) (h2 : plane < 3) (hn : pb_ (gt_num u) w h) (hm : em_E u e) (ho : ec_ok e) (hN : e.2.2.1 + 3600 < 2 ^ 29)
    (hp : ∀ u', kf_ u u' → em_E u' (ec_pt e (gt_num u) w h part plane) → post u') : wpX_writePart post u (nI part) (nI plane) := by
  have hwh := gm_wh d h1
  have hcl : (nI part).toNatClampNeg = part := nI_clamp (by omega)
  refine ks_writePart (pk_loop (fun n i v => kw_writePart_2 post (nI part) (nI plane) n (nI i) v) (fun i v => kf_ u v ∧ em_E v (ec_fd (ec_ps (gt_num u) w h part plane) e i)) (gm_W w part * gm_H h part) 0 u (by omega) ⟨kf_rfl u, hm⟩ ?_ ?_)
  · intro n v hv
    have gv := gp_fm g (fm_kf (l := []) hv.1)
    have ev : gt_pw v part * gt_ph v part = nI (gm_W w part * gm_H h part) := by rw [gv.1 part h1, gv.2.1 part h1, pk_mul]
    refine ks_writePart_2 ⟨pk_in part 5 h1, pk_in part 5 h1, ?_⟩
    rw [hcl, ev]
    exact pk_le (gm_W w part * gm_H h part) (gm_W w part * gm_H h part) (fun _ => hp v hv.1 hv.2) (fun z => absurd z (by omega))
  · intro n i v hi hv hw
    have gv := gp_fm g (fm_kf (l := []) hv.1)
    have ev : gt_pw v part * gt_ph v part = nI (gm_W w part * gm_H h part) := by rw [gv.1 part h1, gv.2.1 part h1, pk_mul]
    have hW : 0 < gm_W w part := by
      rcases Nat.eq_zero_or_pos (gm_W w part) with z | z
      · rw [z, Nat.zero_mul] at hi
        omega
      · exact z
    have hWs : gm_W w part < 2 ^ 20 := by
      have a1 : gm_W w part ≤ gm_W w part * gm_H h part := by
        rcases Nat.eq_zero_or_pos (gm_H h part) with z | z
        · rw [z, Nat.mul_zero] at hi
          omega
        · exact Nat.le_mul_of_pos_right _ z
      omega
    obtain ⟨o1, n1⟩ := ec_go (ec_fd_0 (e := e) (ec_ps_st ec_by0 hn h1 h2) (Nat.le_of_lt hi)) ho
    have hx : i % gm_W w part < 2 ^ 31 := by have := Nat.mod_lt i hW; omega
    have hy : i / gm_W w part < 2 ^ 31 := by have := Nat.div_le_self i (gm_W w part); omega
    have hx1 : i % gm_W w part ≠ 0 → 1 ≤ i := fun z => by
      rcases Nat.eq_zero_or_pos i with q | q
      · rw [q, Nat.zero_mod] at z
        omega
      · exact q
    have hppl : i ≤ pp_ w h part plane i := by unfold pp_; omega
    have hpp : pp_ w h part plane i < 432 := by unfold pp_; omega
    refine ks_writePart_2 ⟨pk_in part 5 h1, pk_in part 5 h1, ?_⟩
    rw [hcl, ev]
    refine pk_le (gm_W w part * gm_H h part) i (fun z => absurd z (by omega)) (fun _ => ?_)
    rw [gv.1 part h1, pk_rem (by omega) hW (by omega), pk_div (by omega) hW (by omega), zi_pp (gv.2.2 part h1)]
    refine ⟨pk_in part 5 h1, nI_ne0 hW (by omega), nm_e ⟨pk_in part 5 h1, nI_ne0 hW (by omega), nm_e ⟨pk_in part 5 h1, nm_e ?_⟩⟩⟩
    have enum : gt_num v = gt_num u := kf_num hv.1
    refine wk_context h1 (by omega) hpp hx hy (gv.1 part h1) (fun z => Nat.le_trans (hx1 z) hppl) (fun z => Nat.le_trans (pp_y hW z) hppl) ?_
    refine wk_foretold h1 hpp hx hy (fun z => by rw [← z]; exact gv.1 part h1) (fun z => Nat.le_trans (hx1 z) hppl) (fun z => Nat.le_trans (pp_y hW z) hppl) (fun z z2 => Nat.le_trans (pp_xy hW z z2) hppl) ?_
    rw [nI_clamp (by omega), enum]
    refine ⟨pk_in _ 432 hpp, wk_putNumber (hn part plane i h1 h2 hi) (cx_b_le _ _ _) hv.2 o1 (by omega) (fun u' f' g' => nm_r (nI_1 i) (hw u' ⟨kf_tr hv.1 f', ?_⟩))⟩
    exact g'
theorem wk_writePlanes {post : St1 → Prop} {u : St1} {e : ec_T} {w h : Nat} (d : dm_ok w h) (g : gp_ u w h) (hn : pb_ (gt_num u) w h) (hm : em_E u e) (ho : ec_ok e) (hN : e.2.2.1 + 60000 < 2 ^ 29)
    (hp : ∀ u', kf_ u u' → em_E u' (ec_al e (gt_num u) w h 15) → post u') : wpX_writePlanes post u := by
  refine ks_writePlanes (pk_loop (fun n i v => kw_writePlanes_2 post n (nI i) v) (fun i v => kf_ u v ∧ em_E v (ec_al e (gt_num u) w h i)) 15 0 u (by omega) ⟨kf_rfl u, hm⟩ ?_ ?_)
  · intro n v hv
    exact ks_writePlanes_2 (pk_le 15 15 (fun _ => hp v hv.1 hv.2) (fun z => absurd z (by omega)))
  · intro n i v hi hv hw
    obtain ⟨o1, n1⟩ := ec_go (ec_al_st ec_by0 d hn e (Nat.le_of_lt hi)) ho
    have enum : gt_num v = gt_num u := kf_num hv.1
    refine ks_writePlanes_2 (pk_le 15 i (fun z => absurd z (by omega)) (fun _ => ⟨by decide, by decide, ?_⟩))
    rw [show (3 : Int32) = nI 3 from rfl, pk_rem (by omega) (by omega) (by omega), pk_div (by omega) (by omega) (by omega)]
    refine wk_writePart d (gp_fm g (fm_kf (l := []) hv.1)) (by omega) (by omega) (by rw [enum]; exact hn) hv.2 o1 (by omega) (fun u' f' g' => nm_r (nI_1 i) (hw u' ⟨kf_tr hv.1 f', ?_⟩))
    rw [enum] at g'
    exact g'
theorem cx_congr {num num' : Nat → Int32} {part plane p x y pw : Nat} (h1 : x ≠ 0 → num (p - 1) = num' (p - 1)) (h2 : y ≠ 0 → num (p - pw) = num' (p - pw)) : cx_ num part plane p x y pw = cx_ num' part plane p x y pw := by
  unfold cx_
  have a1 : (if x = 0 then (0 : Int32) else num (p - 1)) = if x = 0 then 0 else num' (p - 1) := by
    by_cases z : x = 0
    · rw [if_pos z, if_pos z]
    · rw [if_neg z, if_neg z, h1 z]
  have a2 : (if y = 0 then (0 : Int32) else num (p - pw)) = if y = 0 then 0 else num' (p - pw) := by
    by_cases z : y = 0
    · rw [if_pos z, if_pos z]
    · rw [if_neg z, if_neg z, h2 z]
  rw [a1, a2]
theorem fo_congr {num num' : Nat → Int32} {part p x y pw : Nat} (h1 : x ≠ 0 → num (p - 1) = num' (p - 1)) (h2 : y ≠ 0 → num (p - pw) = num' (p - pw)) (h3 : x ≠ 0 → y ≠ 0 → num (p - pw - 1) = num' (p - pw - 1)) : fo_ num part p x y pw = fo_ num' part p x y pw := by
  unfold fo_ fo_2
  by_cases zp : part = 0
  · rw [if_pos zp, if_pos zp]
    by_cases zx : x = 0
    · rw [if_pos zx, if_pos zx, if_pos zx, if_pos zx]
      by_cases zy : y = 0
      · rw [if_pos zy, if_pos zy]
      · rw [if_neg zy, if_neg zy, h2 zy]
    · rw [if_neg zx, if_neg zx, if_neg zx, if_neg zx]
      by_cases zy : y = 0
      · rw [if_pos zy, if_pos zy, if_pos zy, if_pos zy, h1 zx]
      · rw [if_neg zy, if_neg zy, if_neg zy, if_neg zy, h1 zx, h2 zy, h3 zx zy]
  · rw [if_neg zp, if_neg zp]
theorem zi_addsub (a b : Int32) : a + (b - a) = b := by
  rw [Int32.add_comm, Int32.sub_add_cancel]
theorem wk_readPart {post : St1 → Prop} {u : St1} {b : Nat → Nat} {sl nu : Nat} {e : ec_T} {M : Nat → Int32} {w h part plane : Nat} (hd : ds_ b sl nu) (d : dm_ok w h) (g : gp_ u w h) (h1 : part < 5) (h2 : plane < 3) (hn : pb_ M w h) (hm : dm_ u b sl nu e) (ho : ec_ok e) (hN : e.2.2.1 + 3600 < 2 ^ 28) (hsy : ec_sy b (ec_pt e M w h part plane))
    (hp : ∀ u', fm_ [12] u u' → dm_ u' b sl nu (ec_pt e M w h part plane) → (∀ j, j < gm_W w part * gm_H h part → gt_num u' (pp_ w h part plane j) = M (pp_ w h part plane j)) → (∀ q, q < pp_ w h part plane 0 ∨ pp_ w h part plane (gm_W w part * gm_H h part) ≤ q → gt_num u' q = gt_num u q) → post u') : wpX_readPart post u (nI part) (nI plane) := by
  have hwh := gm_wh d h1
  have hcl : (nI part).toNatClampNeg = part := nI_clamp (by omega)
  refine ks_readPart (pk_loop (fun n i v => kw_readPart_2 post (nI part) (nI plane) n (nI i) v)
    (fun i v => fm_ [12] u v ∧ dm_ v b sl nu (ec_fd (ec_ps M w h part plane) e i) ∧ (∀ j, j < i → gt_num v (pp_ w h part plane j) = M (pp_ w h part plane j)) ∧ (∀ q, q < pp_ w h part plane 0 ∨ pp_ w h part plane i ≤ q → gt_num v q = gt_num u q))
    (gm_W w part * gm_H h part) 0 u (by omega) ⟨fm_rfl u, hm, fun j hj => absurd hj (by omega), fun q _ => rfl⟩ ?_ ?_)
  · intro n v hv
    have gv := gp_fm g hv.1
    have ev : gt_pw v part * gt_ph v part = nI (gm_W w part * gm_H h part) := by rw [gv.1 part h1, gv.2.1 part h1, pk_mul]
    refine ks_readPart_2 ⟨pk_in part 5 h1, pk_in part 5 h1, ?_⟩
    rw [hcl, ev]
    exact pk_le (gm_W w part * gm_H h part) (gm_W w part * gm_H h part) (fun _ => hp v hv.1 hv.2.1 hv.2.2.1 hv.2.2.2) (fun z => absurd z (by omega))
  · intro n i v hi hv hw
    obtain ⟨v1, v2, v3, v4⟩ := hv
    have gv := gp_fm g v1
    have ev : gt_pw v part * gt_ph v part = nI (gm_W w part * gm_H h part) := by rw [gv.1 part h1, gv.2.1 part h1, pk_mul]
    have hW : 0 < gm_W w part := by
      rcases Nat.eq_zero_or_pos (gm_W w part) with z | z
      · rw [z, Nat.zero_mul] at hi
        omega
      · exact z
    have hWs : gm_W w part < 2 ^ 20 := by
      have a1 : gm_W w part ≤ gm_W w part * gm_H h part := by
        rcases Nat.eq_zero_or_pos (gm_H h part) with z | z
        · rw [z, Nat.mul_zero] at hi
          omega
        · exact Nat.le_mul_of_pos_right _ z
      omega
    obtain ⟨o1, n1⟩ := ec_go (ec_fd_0 (e := e) (ec_ps_st ec_by0 hn h1 h2) (Nat.le_of_lt hi)) ho
    have sy1 : ec_sy b (ec_fd (ec_ps M w h part plane) e (i + 1)) :=
      (ec_fd_to (e := e) (ec_ps_st hd.1 hn h1 h2) (show i + 1 ≤ _ from hi) (ec_go (ec_fd_0 (e := e) (ec_ps_st ec_by0 hn h1 h2) (show i + 1 ≤ _ from hi)) ho).1).2.1 hsy
    have hx : i % gm_W w part < 2 ^ 31 := by have := Nat.mod_lt i hW; omega
    have hy : i / gm_W w part < 2 ^ 31 := by have := Nat.div_le_self i (gm_W w part); omega
    have hx1 : i % gm_W w part ≠ 0 → 1 ≤ i := fun z => by
      rcases Nat.eq_zero_or_pos i with q | q
      · rw [q, Nat.zero_mod] at z
        omega
      · exact q
    have hppl : i ≤ pp_ w h part plane i := by unfold pp_; omega
    have hpp : pp_ w h part plane i < 432 := by unfold pp_; omega
    have back : ∀ j, 1 ≤ j → j ≤ i → gt_num v (pp_ w h part plane i - j) = M (pp_ w h part plane i - j) := by
      intro j hj hji
      have := v3 (i - j) (by omega)
      rw [show pp_ w h part plane (i - j) = pp_ w h part plane i - j by unfold pp_; omega] at this
      exact this
    have ecx : cx_ (gt_num v) part plane (pp_ w h part plane i) (i % gm_W w part) (i / gm_W w part) (gm_W w part) = cx_ M part plane (pp_ w h part plane i) (i % gm_W w part) (i / gm_W w part) (gm_W w part) :=
      cx_congr (fun z => back 1 (by omega) (hx1 z)) (fun z => back _ hW (pp_y hW z))
    have efo : fo_ (gt_num v) part (pp_ w h part plane i) (i % gm_W w part) (i / gm_W w part) (gm_W w part) = fo_ M part (pp_ w h part plane i) (i % gm_W w part) (i / gm_W w part) (gm_W w part) :=
      fo_congr (fun z => back 1 (by omega) (hx1 z)) (fun z => back _ hW (pp_y hW z)) (fun z z2 => back _ (by omega) (pp_xy hW z z2))
    refine ks_readPart_2 ⟨pk_in part 5 h1, pk_in part 5 h1, ?_⟩
    rw [hcl, ev]
    refine pk_le (gm_W w part * gm_H h part) i (fun z => absurd z (by omega)) (fun _ => ?_)
    rw [gv.1 part h1, pk_rem (by omega) hW (by omega), pk_div (by omega) hW (by omega), zi_pp (gv.2.2 part h1)]
    refine ⟨pk_in part 5 h1, nI_ne0 hW (by omega), nm_e ⟨pk_in part 5 h1, nI_ne0 hW (by omega), nm_e ⟨pk_in part 5 h1, nm_e ?_⟩⟩⟩
    refine wk_context h1 (by omega) hpp hx hy (gv.1 part h1) (fun z => Nat.le_trans (hx1 z) hppl) (fun z => Nat.le_trans (pp_y hW z) hppl) ?_
    refine wk_foretold h1 hpp hx hy (fun z => by rw [← z]; exact gv.1 part h1) (fun z => Nat.le_trans (hx1 z) hppl) (fun z => Nat.le_trans (pp_y hW z) hppl) (fun z z2 => Nat.le_trans (pp_xy hW z z2) hppl) ?_
    rw [ecx, efo]
    refine wk_takeNumber (x := pd_ M w h part plane i) hd (hn part plane i h1 h2 hi) (cx_b_le _ _ _) v2 o1 (by omega) sy1 (fun u' f' g' => ⟨pk_in _ 432 hpp, nm_e (nm_r (nI_1 i) (hw _ ⟨?_, g', ?_, ?_⟩))⟩)
    · exact fm_tr v1 (fm_tr (fm_kf f') (fm_s_num _ _))
    · intro j hj
      show upd (gt_num u') (nI (pp_ w h part plane i)).toNatClampNeg _ _ = _
      rw [nI_clamp (by omega), kf_num f']
      by_cases ej : j = i
      · rw [ej, pk_us]
        unfold pd_
        exact zi_addsub _ _
      · rw [pk_un (by unfold pp_; omega)]
        exact v3 j (by omega)
    · intro q hq
      show upd (gt_num u') (nI (pp_ w h part plane i)).toNatClampNeg _ _ = _
      rw [nI_clamp (by omega), kf_num f', pk_un (by unfold pp_ at hq ⊢; omega)]
      exact v4 q (by unfold pp_ at hq ⊢; omega)
end
section
/-! ===== halving, pure ===== -/
def hx_ (w : Nat) (p : Nat → Nat) (y i : Nat) : Nat := if 2 * i + 1 < w then (p (w * y + 2 * i) + p (w * y + 2 * i + 1)) / 2 else p (w * y + 2 * i)
def hy_ (w h : Nat) (p : Nat → Nat) (i x : Nat) : Nat := if 2 * i + 1 < h then (hx_ w p (2 * i) x + hx_ w p (2 * i + 1) x) / 2 else hx_ w p (2 * i) x
def hf_ (w h : Nat) (p : Nat → Nat) (k : Nat) : Nat := hy_ w h p (k / ((w + 1) / 2)) (k % ((w + 1) / 2))
def dx_ (w : Nat) (p : Nat → Nat) (y i : Nat) : Int32 := nI (p (w * y + 2 * i)) - nI (p (w * y + 2 * i + 1))
def dy_ (w : Nat) (p : Nat → Nat) (i x : Nat) : Int32 := nI (hx_ w p (2 * i) x) - nI (hx_ w p (2 * i + 1) x)
/-- the differences of one halving, where they lie in the plane -/
def dd_ (w h : Nat) (p : Nat → Nat) (a : Nat) : Int32 :=
  if a < (w + 1) / 2 * h then dy_ w p ((a - (w + 1) / 2 * ((h + 1) / 2)) / ((w + 1) / 2)) ((a - (w + 1) / 2 * ((h + 1) / 2)) % ((w + 1) / 2))
  else dx_ w p ((a - (w + 1) / 2 * h) / (w / 2)) ((a - (w + 1) / 2 * h) % (w / 2))
/-- a plane of bytes -/
def pl_ (w h : Nat) (p : Nat → Nat) : Prop := ∀ k, k < w * h → p k < 256
theorem zz_lt {W y i H : Nat} (hi : i < W) (hy : y < H) : W * y + i < W * H := by
  have : W * (y + 1) ≤ W * H := Nat.mul_le_mul_left W hy
  rw [Nat.mul_succ] at this
  omega
theorem zz_d {W y i : Nat} (hi : i < W) : (W * y + i) / W = y := by
  rw [Nat.mul_add_div (by omega), Nat.div_eq_of_lt hi, Nat.add_zero]
theorem zz_m {W y i : Nat} (hi : i < W) : (W * y + i) % W = i := by
  rw [Nat.mul_add_mod, Nat.mod_eq_of_lt hi]
theorem zz_dm {W k H : Nat} (hk : k < W * H) : k % W < W ∧ k / W < H ∧ W * (k / W) + k % W = k := by
  have hW : 0 < W := by
    rcases Nat.eq_zero_or_pos W with z | z
    · rw [z, Nat.zero_mul] at hk
      omega
    · exact z
  exact ⟨Nat.mod_lt _ hW, Nat.div_lt_of_lt_mul hk, Nat.div_add_mod k W⟩
theorem hx_lt {w h : Nat} {p : Nat → Nat} (hp : pl_ w h p) {y i : Nat} (hy : y < h) (hi : i < (w + 1) / 2) : hx_ w p y i < 256 := by
  unfold hx_
  have a1 := hp (w * y + 2 * i) (zz_lt (by omega) hy)
  split
  · have a2 := hp (w * y + 2 * i + 1) (by rw [Nat.add_assoc]; exact zz_lt (by omega) hy)
    omega
  · exact a1
theorem hy_lt {w h : Nat} {p : Nat → Nat} (hp : pl_ w h p) {i x : Nat} (hi : i < (h + 1) / 2) (hx : x < (w + 1) / 2) : hy_ w h p i x < 256 := by
  unfold hy_
  have a1 := hx_lt hp (y := 2 * i) (by omega) hx
  split
  · have a2 := hx_lt hp (y := 2 * i + 1) (by omega) hx
    omega
  · exact a1
theorem hf_pl {w h : Nat} {p : Nat → Nat} (hp : pl_ w h p) : pl_ ((w + 1) / 2) ((h + 1) / 2) (hf_ w h p) := by
  intro k hk
  obtain ⟨a, b, _⟩ := zz_dm hk
  exact hy_lt hp b a
theorem hx_congr {w h : Nat} {p q : Nat → Nat} (e : ∀ k, k < w * h → p k = q k) {y i : Nat} (hy : y < h) (hi : i < (w + 1) / 2) : hx_ w p y i = hx_ w q y i := by
  unfold hx_
  rw [e (w * y + 2 * i) (zz_lt (by omega) hy)]
  split
  · rw [e (w * y + 2 * i + 1) (by rw [Nat.add_assoc]; exact zz_lt (by omega) hy)]
  · rfl
theorem hf_congr {w h : Nat} {p q : Nat → Nat} (e : ∀ k, k < w * h → p k = q k) : ∀ k, k < (w + 1) / 2 * ((h + 1) / 2) → hf_ w h p k = hf_ w h q k := by
  intro k hk
  obtain ⟨a, b, _⟩ := zz_dm hk
  unfold hf_ hy_
  rw [hx_congr e (y := 2 * (k / ((w + 1) / 2))) (by omega) a]
  split
  · rw [hx_congr e (y := 2 * (k / ((w + 1) / 2)) + 1) (by omega) a]
  · rfl
/-! Int32 rows -/
theorem zi_sr1 {n : Nat} (h : n < 2 ^ 31) : nI n >>> ((1 : Int32) &&& 31) = nI (n / 2) := pk_shrN h _ 1 (by decide)
theorem zi_2m (n : Nat) : (2 : Int32) * nI n = nI (2 * n) := pk_mul 2 n
theorem zt_add {a b : Int32} (ha : -1000000 ≤ a.toInt ∧ a.toInt ≤ 1000000) (hb : -1000000 ≤ b.toInt ∧ b.toInt ≤ 1000000) : (a + b).toInt = a.toInt + b.toInt := by
  rw [Int32.toInt_add]
  exact Int.bmod_eq_of_le (by omega) (by omega)
theorem zt_sub {a b : Int32} (ha : -1000000 ≤ a.toInt ∧ a.toInt ≤ 1000000) (hb : -1000000 ≤ b.toInt ∧ b.toInt ≤ 1000000) : (a - b).toInt = a.toInt - b.toInt := by
  rw [Int32.toInt_sub]
  exact Int.bmod_eq_of_le (by omega) (by omega)
theorem zt_shr (a : Int32) : (a >>> ((1 : Int32) &&& 31)).toInt = a.toInt / 2 := by
  rw [pk_shr a _ 1 (by decide), Int.shiftRight_eq_div_pow]
  rfl
/-- the way back of one halving -/
theorem zj_back {A B : Nat} (hA : A < 256) (hB : B < 256) : nI ((A + B) / 2) + ((nI A - nI B + 1) >>> ((1 : Int32) &&& 31)) = nI A := by
  apply Int32.toInt_inj.mp
  have hd : (nI A - nI B).toInt = (A : Int) - B := pk_sub_toInt (by omega) (by omega)
  have h1 : (1 : Int32).toInt = 1 := rfl
  have hd1 : (nI A - nI B + 1).toInt = (A : Int) - B + 1 := by
    rw [zt_add (by omega) (by omega), hd, h1]
  have hs : ((nI A - nI B + 1) >>> ((1 : Int32) &&& 31)).toInt = ((A : Int) - B + 1) / 2 := by rw [zt_shr, hd1]
  have hm : (nI ((A + B) / 2)).toInt = (((A + B) / 2 : Nat) : Int) := nI_toInt (by omega)
  rw [zt_add (by omega) (by omega), hs, hm, nI_toInt (by omega)]
  omega
theorem zj_sub (a b : Int32) : a - (a - b) = b := by
  rw [Int32.sub_eq_add_neg, Int32.neg_sub, zi_addsub]
theorem zj_0 (s : Int32) : s + (((0 : Int32) + 1) >>> ((1 : Int32) &&& 31)) = s := by
  rw [show (((0 : Int32) + 1) >>> ((1 : Int32) &&& 31)) = 0 by decide, Int32.add_zero]
theorem zj_or : ∀ y, y < 32 → y ||| 1 = 2 * (y / 2) + 1 := by decide
theorem zj_or32 {y : Nat} (h : y < 32) : nI y ||| 1 = nI (2 * (y / 2) + 1) := by
  rw [show (1 : Int32) = nI 1 from rfl, nx_or, zj_or y h]
theorem zj_and {y : Nat} (h : y < 32) : nI y &&& 1 = nI (y % 2) := pk_andN (by omega) 1 (by decide)
/-! the numbers of a plane, halved twice -/
def m0_ (w h : Nat) (p : Nat → Nat) (a : Nat) : Int32 :=
  if a < (w + 1) / 2 * ((h + 1) / 2) then
    (if a < ((w + 1) / 2 + 1) / 2 * (((h + 1) / 2 + 1) / 2) then nI (hf_ ((w + 1) / 2) ((h + 1) / 2) (hf_ w h p) a) else dd_ ((w + 1) / 2) ((h + 1) / 2) (hf_ w h p) a)
  else dd_ w h p a
theorem dx_in {A B : Nat} (hA : A < 256) (hB : B < 256) : -255 ≤ (nI A - nI B).toInt ∧ (nI A - nI B).toInt ≤ 255 := by
  rw [pk_sub_toInt (by omega) (by omega)]
  omega
theorem dd_in {w h : Nat} {p : Nat → Nat} (hp : pl_ w h p) {a : Nat} (h1 : (w + 1) / 2 * ((h + 1) / 2) ≤ a) (h2 : a < w * h) : -255 ≤ (dd_ w h p a).toInt ∧ (dd_ w h p a).toInt ≤ 255 := by
  unfold dd_
  split
  · rename_i hz
    have hk : a - (w + 1) / 2 * ((h + 1) / 2) < (w + 1) / 2 * (h / 2) := by
      have : (w + 1) / 2 * h = (w + 1) / 2 * ((h + 1) / 2) + (w + 1) / 2 * (h / 2) := by
        rw [← Nat.mul_add]
        congr 1
        omega
      omega
    obtain ⟨q1, q2, _⟩ := zz_dm hk
    exact dx_in (hx_lt hp (by omega) q1) (hx_lt hp (by omega) q1)
  · rename_i hz
    have hk : a - (w + 1) / 2 * h < w / 2 * h := by
      have : w * h = (w + 1) / 2 * h + w / 2 * h := by
        rw [← Nat.add_mul]
        congr 1
        omega
      omega
    obtain ⟨q1, q2, _⟩ := zz_dm hk
    exact dx_in (hp _ (zz_lt (by omega) q2)) (hp _ (by rw [Nat.add_assoc]; exact zz_lt (by omega) q2))
theorem m0_in {w h : Nat} {p : Nat → Nat} (hp : pl_ w h p) {a : Nat} (h2 : a < w * h) : -255 ≤ (m0_ w h p a).toInt ∧ (m0_ w h p a).toInt ≤ 255 := by
  unfold m0_
  split
  · split
    · have := hf_pl (hf_pl hp) a (by assumption)
      rw [nI_toInt (by omega)]
      omega
    · exact dd_in (hf_pl hp) (by omega) (by assumption)
  · exact dd_in hp (by omega) h2
/-! mixing -/
def mx_t (r b : Int32) : Int32 := b + ((r - b) >>> ((1 : Int32) &&& 31))
def mx_l (r g b : Int32) : Int32 := g - mx_t r b
def mx_y (r g b : Int32) : Int32 := mx_t r b + (mx_l r g b >>> ((1 : Int32) &&& 31))
/-- the mixed numbers of a picture: plane c, place a -/
def mm_ (w h : Nat) (P : Nat → Nat → Nat) (c a : Nat) : Int32 :=
  if c = 0 then mx_y (m0_ w h (P 0) a) (m0_ w h (P 1) a) (m0_ w h (P 2) a)
  else if c = 1 then m0_ w h (P 0) a - m0_ w h (P 2) a
  else mx_l (m0_ w h (P 0) a) (m0_ w h (P 1) a) (m0_ w h (P 2) a)
theorem mx_in {r g b : Int32} (hr : -255 ≤ r.toInt ∧ r.toInt ≤ 255) (hg : -255 ≤ g.toInt ∧ g.toInt ≤ 255) (hb : -255 ≤ b.toInt ∧ b.toInt ≤ 255) :
    (-893 ≤ (mx_y r g b).toInt ∧ (mx_y r g b).toInt ≤ 893) ∧ (-893 ≤ (r - b).toInt ∧ (r - b).toInt ≤ 893) ∧ (-893 ≤ (mx_l r g b).toInt ∧ (mx_l r g b).toInt ≤ 893) := by
  have e1 : (r - b).toInt = r.toInt - b.toInt := zt_sub (by omega) (by omega)
  have e2 : ((r - b) >>> ((1 : Int32) &&& 31)).toInt = (r.toInt - b.toInt) / 2 := by rw [zt_shr, e1]
  have e3 : (mx_t r b).toInt = b.toInt + (r.toInt - b.toInt) / 2 := by
    unfold mx_t
    rw [zt_add (by omega) (by omega), e2]
  have e4 : (mx_l r g b).toInt = g.toInt - (mx_t r b).toInt := by
    unfold mx_l
    rw [zt_sub (by omega) (by omega)]
  have e5 : (mx_l r g b >>> ((1 : Int32) &&& 31)).toInt = (mx_l r g b).toInt / 2 := zt_shr _
  have e6 : (mx_y r g b).toInt = (mx_t r b).toInt + (mx_l r g b).toInt / 2 := by
    unfold mx_y
    rw [zt_add (by omega) (by omega), e5]
  refine ⟨?_, ?_, ?_⟩ <;> omega
theorem mm_in {w h : Nat} {P : Nat → Nat → Nat} (hP : ∀ c, c < 3 → pl_ w h (P c)) {c a : Nat} (ha : a < w * h) : -893 ≤ (mm_ w h P c a).toInt ∧ (mm_ w h P c a).toInt ≤ 893 := by
  have := mx_in (m0_in (hP 0 (by omega)) ha) (m0_in (hP 1 (by omega)) ha) (m0_in (hP 2 (by omega)) ha)
  unfold mm_
  split
  · exact this.1
  · split
    · exact this.2.1
    · exact this.2.2
/-- what is foretold lies among the numbers -/
theorem fo_2_in {l a c : Int32} {x y : Nat} (hl : -893 ≤ l.toInt ∧ l.toInt ≤ 893) (ha : -893 ≤ a.toInt ∧ a.toInt ≤ 893) (h0 : x = 0 → l = 0) (h1 : y = 0 → a = 0) (hc : x ≠ 0 → y ≠ 0 → -893 ≤ c.toInt ∧ c.toInt ≤ 893) : -893 ≤ (fo_2 l a c x y).toInt ∧ (fo_2 l a c x y).toInt ≤ 893 := by
  unfold fo_2
  by_cases zx : x = 0
  · rw [if_pos zx, h0 zx, Int32.zero_add]
    exact ha
  · rw [if_neg zx]
    by_cases zy : y = 0
    · rw [if_pos zy, h1 zy, Int32.add_zero]
      exact hl
    · rw [if_neg zy]
      have hc := hc zx zy
      by_cases hla : l ≤ a
      · rw [if_pos hla, if_pos hla]
        split
        · rename_i q1
          split
          · rename_i q2
            have q1' := Int32.lt_iff_toInt_lt.mp q1
            have q2' := Int32.lt_iff_toInt_lt.mp q2
            have e1 : (l + a).toInt = l.toInt + a.toInt := zt_add (by omega) (by omega)
            rw [zt_sub (by omega) (by omega), e1]
            omega
          · exact ha
        · exact hl
      · rw [if_neg hla, if_neg hla]
        split
        · rename_i q1
          split
          · rename_i q2
            have q1' := Int32.lt_iff_toInt_lt.mp q1
            have q2' := Int32.lt_iff_toInt_lt.mp q2
            have e1 : (l + a).toInt = l.toInt + a.toInt := zt_add (by omega) (by omega)
            rw [zt_sub (by omega) (by omega), e1]
            omega
          · exact hl
        · exact ha
theorem pb_in {M : Nat → Int32} {w h : Nat} (hM : ∀ c a, c < 3 → a < w * h → -893 ≤ (M (144 * c + a)).toInt ∧ (M (144 * c + a)).toInt ≤ 893) : pb_ M w h := by
  intro part plane i h1 h2 hi
  have hnx := gm_next w h part h1
  have htop := gm_top (w := w) (h := h) (k := part + 1) (by omega)
  have hW : 0 < gm_W w part := by
    rcases Nat.eq_zero_or_pos (gm_W w part) with z | z
    · rw [z, Nat.zero_mul] at hi
      omega
    · exact z
  have hx1 : i % gm_W w part ≠ 0 → 1 ≤ i := fun z => by
    rcases Nat.eq_zero_or_pos i with q | q
    · rw [q, Nat.zero_mod] at z
      omega
    · exact q
  have bk : ∀ j, j ≤ i → -893 ≤ (M (pp_ w h part plane i - j)).toInt ∧ (M (pp_ w h part plane i - j)).toInt ≤ 893 := by
    intro j hj
    have := hM plane (gm_S w h part + i - j) h2 (by omega)
    rw [show pp_ w h part plane i - j = 144 * plane + (gm_S w h part + i - j) by unfold pp_; omega]
    exact this
  have e0 := bk 0 (by omega)
  rw [Nat.sub_zero] at e0
  have ef : -893 ≤ (fo_ M part (pp_ w h part plane i) (i % gm_W w part) (i / gm_W w part) (gm_W w part)).toInt ∧ (fo_ M part (pp_ w h part plane i) (i % gm_W w part) (i / gm_W w part) (gm_W w part)).toInt ≤ 893 := by
    unfold fo_
    split
    · refine fo_2_in ?_ ?_ (fun z => if_pos z) (fun z => if_pos z) (fun z z2 => ?_)
      · split
        · exact ⟨by decide, by decide⟩
        · exact bk 1 (hx1 (by assumption))
      · split
        · exact ⟨by decide, by decide⟩
        · exact bk _ (pp_y hW (by assumption))
      · rw [Nat.sub_sub]
        exact bk _ (pp_xy hW z z2)
    · exact ⟨by decide, by decide⟩
  unfold pd_
  rw [zt_sub (by omega) (by omega)]
  omega
/-- unmixing takes mixing back -/
theorem mx_back (r g b : Int32) : mx_y r g b - (mx_l r g b >>> ((1 : Int32) &&& 31)) = mx_t r b ∧ mx_t r b - ((r - b) >>> ((1 : Int32) &&& 31)) = b ∧ b + (r - b) = r ∧ mx_l r g b + mx_t r b = g := by
  refine ⟨?_, ?_, zi_addsub b r, ?_⟩
  · unfold mx_y
    rw [Int32.add_sub_cancel]
  · unfold mx_t
    rw [Int32.add_sub_cancel]
  · unfold mx_l
    rw [Int32.sub_add_cancel]
end
section
/-! ===== split ===== -/
def sp_h (u : St1) (p : Nat → Nat) (w h fr part : Nat) : Prop := dm_ok w h ∧ pl_ w h p ∧ part + 1 < 5 ∧ fr + w * h ≤ 432 ∧ gt_ps u part = nI ((w + 1) / 2 * ((h + 1) / 2)) ∧ gt_ps u (part + 1) = nI ((w + 1) / 2 * h) ∧ gt_pw u (part + 1) = nI (w / 2)
def sp_1 (u : St1) (p : Nat → Nat) (w h w1 wd fr y i : Nat) (v : St1) : Prop :=
  fm_ [12, 14] u v ∧ (∀ k, k < w1 * y + i → gt_sm v k = nI (hx_ w p (k / w1) (k % w1))) ∧ (∀ a, a < wd * y + min i wd → gt_num v (fr + w1 * h + a) = dx_ w p (a / wd) (a % wd)) ∧ (∀ q, q < fr + w1 * h ∨ fr + w1 * h + (wd * y + min i wd) ≤ q → gt_num v q = gt_num u q)
theorem zz_wh {w h w1 wd : Nat} (e1 : w1 = (w + 1) / 2) (e2 : wd = w / 2) : w * h = w1 * h + wd * h := by
  rw [← Nat.add_mul]
  congr 1
  omega
theorem wk_sp80 {post : St1 → Prop} {J17 J26 : Int32 → St1 → Prop} {u v : St1} {p : Nat → Nat} {w h w1 h1 wd fr part y i A B : Nat} (H : sp_h u p w h fr part) (e1 : w1 = (w + 1) / 2) (e2 : wd = w / 2) (hy : y < h) (hi : i < w1) (hA : A < 256) (hB : B < 256)
    (hm : (A + B) / 2 = hx_ w p y i) (hd : 2 * i + 1 < w → nI A - nI B = dx_ w p y i) (hv : sp_1 u p w h w1 wd fr y i v) (hJ : ∀ v', sp_1 u p w h w1 wd fr y (i + 1) v' → J26 (nI (i + 1)) v') : kw_split_80 post J17 J26 (nI fr) (nI w) (nI h) (nI part) (nI w1) (nI h1) (nI y) (nI i) (nI A) (nI B) v := by
  obtain ⟨d, hpl, hpt, hfr, s1, s2, s3⟩ := H
  obtain ⟨v1, v2, v3, v4⟩ := hv
  have h144 := dm_144 d
  have hwh := zz_wh (h := h) e1 e2
  have ea : nI w1 * nI y + nI i = nI (w1 * y + i) := by rw [pk_mul, nI_add]
  have hlt : w1 * y + i < w1 * h := zz_lt hi hy
  have ec : nI w ≤ 2 * nI i + 1 ↔ w ≤ 2 * i + 1 := by rw [zi_2m, nI_1, nI_leI (by have := d.2.1; omega) (by omega)]
  have hsm : ∀ k, k < w1 * y + (i + 1) → upd (gt_sm v) (w1 * y + i) (nI ((A + B) / 2)) k = nI (hx_ w p (k / w1) (k % w1)) := by
    intro k hk
    by_cases ek : k = w1 * y + i
    · rw [ek, pk_us, zz_d hi, zz_m hi, hm]
    · rw [pk_un ek]
      exact v2 k (by omega)
  refine ks_split_80 ⟨pk_in (w1 * y + i) 144 (by omega) ea, nm_r (e' := upd (gt_sm v) (w1 * y + i) (nI ((A + B) / 2))) ?_ ?_⟩
  · rw [ea, nI_clamp (by omega), nI_add, zi_sr1 (by omega)]
  · refine ek_if ec (fun z => nm_r (nI_1 i) (hJ _ ⟨fm_tr v1 (fm_s_sm _ _), hsm, ?_, ?_⟩)) (fun z => ?_)
    · intro a ha
      exact v3 a (by omega)
    · intro q hq
      exact v4 q (by omega)
    · have hpc : (nI part + 1).toNatClampNeg = part + 1 := by rw [nI_1, nI_clamp (by omega)]
      have ev2 : gt_ps v (part + 1) = nI (w1 * h) := by rw [fm_ps v1, s2, e1]
      have ev3 : gt_pw v (part + 1) = nI wd := by rw [fm_pw v1, s3, e2]
      have eb : nI fr + nI (w1 * h) + nI wd * nI y + nI i = nI (fr + w1 * h + (wd * y + i)) := by rw [pk_mul, nI_add, nI_add, nI_add, Nat.add_assoc (fr + w1 * h)]
      have hiw : i < wd := by omega
      have hlt2 : wd * y + i < wd * h := zz_lt hiw hy
      rw [hpc, ev2, ev3]
      refine ⟨pk_in (part + 1) 5 (by omega) (nI_1 part), pk_in (part + 1) 5 (by omega) (nI_1 part), pk_in (fr + w1 * h + (wd * y + i)) 432 (by omega) eb, nm_r (e' := upd (gt_num v) (fr + w1 * h + (wd * y + i)) (dx_ w p y i)) ?_ (nm_r (nI_1 i) (hJ _ ⟨fm_tr v1 (fm_tr (fm_s_num _ _) (fm_s_sm _ _)), hsm, ?_, ?_⟩))⟩
      · rw [eb, nI_clamp (by omega), hd (by omega)]
      · intro a ha
        show upd (gt_num v) _ _ _ = _
        by_cases ek : a = wd * y + i
        · rw [ek, pk_us, zz_d hiw, zz_m hiw]
        · rw [pk_un (by omega)]
          exact v3 a (by omega)
      · intro q hq
        show upd (gt_num v) _ _ _ = _
        rw [pk_un (by omega)]
        exact v4 q (by omega)
theorem wk_sp26 {post : St1 → Prop} {J17 : Int32 → St1 → Prop} {u v : St1} {p : Nat → Nat} {w h w1 h1 wd fr part y : Nat} (H : sp_h u p w h fr part) (hl : ∀ k, k < w * h → gt_lg u k = nI (p k)) (e1 : w1 = (w + 1) / 2) (e2 : wd = w / 2) (hy : y < h)
    (hv : sp_1 u p w h w1 wd fr y 0 v) (hJ : ∀ v', sp_1 u p w h w1 wd fr (y + 1) 0 v' → J17 (nI (y + 1)) v') : ∃ n, kw_split_26 post J17 (nI fr) (nI w) (nI h) (nI part) (nI w1) (nI h1) (nI y) n 0 v := by
  have d := H.1
  have hpl := H.2.1
  have h144 := dm_144 d
  have hw12 := d.2.1
  refine pk_loop (fun n i v => kw_split_26 post J17 (nI fr) (nI w) (nI h) (nI part) (nI w1) (nI h1) (nI y) n (nI i) v) (fun i v => sp_1 u p w h w1 wd fr y i v) w1 0 v (by omega) hv ?_ ?_
  · intro n v hv
    refine ks_split_26 (pk_le w1 w1 (fun _ => nm_r (nI_1 y) (hJ v ?_)) (fun z => absurd z (by omega)))
    obtain ⟨v1, v2, v3, v4⟩ := hv
    have q1 : w1 * (y + 1) + 0 = w1 * y + w1 := by rw [Nat.mul_succ]; rfl
    have q2 : wd * (y + 1) + min 0 wd = wd * y + min w1 wd := by rw [Nat.mul_succ]; omega
    unfold sp_1
    rw [q1, q2]
    exact ⟨v1, v2, v3, v4⟩
  · intro n i v hi hv hw
    have ea : nI w * nI y + 2 * nI i = nI (w * y + 2 * i) := by rw [zi_2m, pk_mul, nI_add]
    have hlt : w * y + 2 * i < w * h := zz_lt (by omega) hy
    have elg : gt_lg v = gt_lg u := fm_lg hv.1
    have hA := hpl _ hlt
    refine ks_split_26 (pk_le w1 i (fun z => absurd z (by omega)) (fun _ => ⟨pk_in (w * y + 2 * i) 144 (by omega) ea, nm_r (e' := nI (p (w * y + 2 * i))) ?_ (pk_le w (2 * i + 1) (fun z => ?_) (fun z => ?_) rfl (by rw [zi_2m, nI_1]))⟩))
    · rw [ea, nI_clamp (by omega), elg, hl _ hlt]
    · refine wk_sp80 H e1 e2 hy hi hA hA ?_ (fun z2 => absurd z2 (by omega)) hv hw
      unfold hx_
      rw [if_neg (by omega)]
      omega
    · have hlt2 : w * y + 2 * i + 1 < w * h := by rw [Nat.add_assoc]; exact zz_lt (by omega) hy
      have hB := hpl _ hlt2
      rw [ea, nI_1]
      refine ⟨pk_in (w * y + 2 * i + 1) 144 (by omega), ?_⟩
      rw [nI_clamp (by omega), elg, hl _ hlt2]
      refine wk_sp80 H e1 e2 hy hi hA hB ?_ (fun _ => rfl) hv hw
      unfold hx_
      rw [if_pos z]
def sp_c (w1 hd i x : Nat) : Nat := if i < hd then w1 * i + x else w1 * hd
def sp_2 (u : St1) (p : Nat → Nat) (w h w1 h1 hd fr i x : Nat) (v : St1) : Prop :=
  fm_ [12, 13] u v ∧ (∀ k, k < w1 * i + x → gt_lg v k = nI (hf_ w h p k)) ∧ (∀ a, a < sp_c w1 hd i x → gt_num v (fr + w1 * h1 + a) = dy_ w p (a / w1) (a % w1)) ∧ (∀ q, q < fr + w1 * h1 ∨ fr + w1 * h1 + sp_c w1 hd i x ≤ q → gt_num v q = gt_num u q)
theorem wk_sp230 {post : St1 → Prop} {J164 J174 : Int32 → St1 → Prop} {u v : St1} {p : Nat → Nat} {w h w1 h1 hd fr part i x A B : Nat} (H : sp_h u p w h fr part) (e1 : w1 = (w + 1) / 2) (e3 : h1 = (h + 1) / 2) (e4 : hd = h / 2) (hi : i < h1) (hx : x < w1) (hA : A < 256) (hB : B < 256)
    (hm : (A + B) / 2 = hy_ w h p i x) (hdf : 2 * i + 1 < h → nI A - nI B = dy_ w p i x) (hv : sp_2 u p w h w1 h1 hd fr i x v) (hJ : ∀ v', sp_2 u p w h w1 h1 hd fr i (x + 1) v' → J174 (nI (x + 1)) v') : kw_split_230 post J164 J174 (nI fr) (nI h) (nI part) (nI w1) (nI h1) (nI i) (nI x) (nI A) (nI B) v := by
  obtain ⟨d, hpl, hpt, hfr, s1, s2, s3⟩ := H
  obtain ⟨v1, v2, v3, v4⟩ := hv
  have h144 := dm_144 d
  have hw12 := d.2.2.2
  have ea : nI w1 * nI i + nI x = nI (w1 * i + x) := by rw [pk_mul, nI_add]
  have hlt : w1 * i + x < w1 * h1 := zz_lt hx hi
  have hle : w1 * h1 ≤ w * h := Nat.mul_le_mul (by omega) (by omega)
  have ec : nI h ≤ 2 * nI i + 1 ↔ h ≤ 2 * i + 1 := by rw [zi_2m, nI_1, nI_leI (by omega) (by omega)]
  have hlg : ∀ k, k < w1 * i + (x + 1) → upd (gt_lg v) (w1 * i + x) (nI ((A + B) / 2)) k = nI (hf_ w h p k) := by
    intro k hk
    by_cases ek : k = w1 * i + x
    · rw [ek, pk_us]
      unfold hf_
      rw [← e1, zz_d hx, zz_m hx, hm]
    · rw [pk_un ek]
      exact v2 k (by omega)
  refine ks_split_230 ⟨pk_in (w1 * i + x) 144 (by omega) ea, nm_r (e' := upd (gt_lg v) (w1 * i + x) (nI ((A + B) / 2))) ?_ ?_⟩
  · rw [ea, nI_clamp (by omega), nI_add, zi_sr1 (by omega)]
  · refine ek_if ec (fun z => nm_r (nI_1 x) (hJ _ ⟨fm_tr v1 (fm_s_lg _ _), hlg, ?_, ?_⟩)) (fun z => ?_)
    · intro a ha
      unfold sp_c at ha v3
      rw [if_neg (by omega)] at ha v3
      exact v3 a ha
    · intro q hq
      unfold sp_c at hq v4
      rw [if_neg (by omega)] at hq v4
      exact v4 q hq
    · have hih : i < hd := by omega
      have ev2 : gt_ps v part = nI (w1 * h1) := by rw [fm_ps v1, s1, e1, e3]
      have eb : nI fr + nI (w1 * h1) + nI w1 * nI i + nI x = nI (fr + w1 * h1 + (w1 * i + x)) := by rw [pk_mul, nI_add, nI_add, nI_add, Nat.add_assoc (fr + w1 * h1)]
      have hlt2 : w1 * i + x < w1 * hd := zz_lt hx hih
      have hsum : w1 * h1 + w1 * hd ≤ w * h := by
        rw [← Nat.mul_add]
        exact Nat.mul_le_mul (by omega) (by omega)
      rw [nI_clamp (show part < 2 ^ 31 by omega), ev2]
      refine ⟨pk_in part 5 (by omega), pk_in (fr + w1 * h1 + (w1 * i + x)) 432 (by omega) eb, nm_r (e' := upd (gt_num v) (fr + w1 * h1 + (w1 * i + x)) (dy_ w p i x)) ?_ (nm_r (nI_1 x) (hJ _ ⟨fm_tr v1 (fm_tr (fm_s_num _ _) (fm_s_lg _ _)), hlg, ?_, ?_⟩))⟩
      · rw [eb, nI_clamp (by omega), hdf (by omega)]
      · intro a ha
        show upd (gt_num v) _ _ _ = _
        unfold sp_c at ha v3
        rw [if_pos hih] at ha v3
        by_cases ek : a = w1 * i + x
        · rw [ek, pk_us, zz_d hx, zz_m hx]
        · rw [pk_un (by omega)]
          exact v3 a (by omega)
      · intro q hq
        show upd (gt_num v) _ _ _ = _
        unfold sp_c at hq v4
        rw [if_pos hih] at hq v4
        rw [pk_un (by omega)]
        exact v4 q (by omega)
theorem wk_sp174 {post : St1 → Prop} {J164 : Int32 → St1 → Prop} {u v : St1} {p : Nat → Nat} {w h w1 h1 hd fr part i : Nat} (H : sp_h u p w h fr part) (hs : ∀ k, k < (w + 1) / 2 * h → gt_sm u k = nI (hx_ w p (k / ((w + 1) / 2)) (k % ((w + 1) / 2)))) (e1 : w1 = (w + 1) / 2) (e3 : h1 = (h + 1) / 2) (e4 : hd = h / 2) (hi : i < h1)
    (hv : sp_2 u p w h w1 h1 hd fr i 0 v) (hJ : ∀ v', sp_2 u p w h w1 h1 hd fr (i + 1) 0 v' → J164 (nI (i + 1)) v') : ∃ n, kw_split_174 post J164 (nI fr) (nI h) (nI part) (nI w1) (nI h1) (nI i) n 0 v := by
  have d := H.1
  have hpl := H.2.1
  have h144 := dm_144 d
  have hw12 := d.2.2.2
  have hww := d.2.1
  have hle : w1 * h ≤ w * h := Nat.mul_le_mul (by omega) (Nat.le_refl _)
  refine pk_loop (fun n x v => kw_split_174 post J164 (nI fr) (nI h) (nI part) (nI w1) (nI h1) (nI i) n (nI x) v) (fun x v => sp_2 u p w h w1 h1 hd fr i x v) w1 0 v (by omega) hv ?_ ?_
  · intro n v hv
    refine ks_split_174 (pk_le w1 w1 (fun _ => nm_r (nI_1 i) (hJ v ?_)) (fun z => absurd z (by omega)))
    obtain ⟨v1, v2, v3, v4⟩ := hv
    have q1 : w1 * (i + 1) + 0 = w1 * i + w1 := by rw [Nat.mul_succ]; rfl
    have q2 : sp_c w1 hd (i + 1) 0 = sp_c w1 hd i w1 := by
      unfold sp_c
      by_cases z : i < hd
      · rw [if_pos z]
        by_cases z2 : i + 1 < hd
        · rw [if_pos z2, q1]
        · rw [if_neg z2, show hd = i + 1 by omega, Nat.mul_succ]
      · rw [if_neg z, if_neg (by omega)]
    unfold sp_2
    rw [q1, q2]
    exact ⟨v1, v2, v3, v4⟩
  · intro n x v hx hv hw
    have ea : 2 * nI i * nI w1 + nI x = nI (w1 * (2 * i) + x) := by rw [zi_2m, pk_mul, nI_add, Nat.mul_comm (2 * i)]
    have hlt : w1 * (2 * i) + x < w1 * h := zz_lt hx (by omega)
    have esm : gt_sm v = gt_sm u := fm_sm hv.1
    have hA := hx_lt hpl (y := 2 * i) (i := x) (by omega) (by omega)
    rw [← e1] at hs
    refine ks_split_174 (pk_le w1 x (fun z => absurd z (by omega)) (fun _ => ⟨pk_in (w1 * (2 * i) + x) 144 (by omega) ea, nm_r (e' := nI (hx_ w p (2 * i) x)) ?_ (pk_le h (2 * i + 1) (fun z => ?_) (fun z => ?_) rfl (by rw [zi_2m, nI_1]))⟩))
    · rw [ea, nI_clamp (by omega), esm, hs _ hlt, zz_d hx, zz_m hx]
    · refine wk_sp230 H e1 e3 e4 hi hx hA hA ?_ (fun z2 => absurd z2 (by omega)) hv hw
      unfold hy_
      rw [if_neg (by omega)]
      omega
    · have hlt2 : w1 * (2 * i + 1) + x < w1 * h := zz_lt hx (by omega)
      have hB := hx_lt hpl (y := 2 * i + 1) (i := x) (by omega) (by omega)
      have eb : (2 * nI i + 1) * nI w1 + nI x = nI (w1 * (2 * i + 1) + x) := by rw [zi_2m, nI_1, pk_mul, nI_add, Nat.mul_comm (2 * i + 1)]
      rw [eb]
      refine ⟨pk_in (w1 * (2 * i + 1) + x) 144 (by omega), ?_⟩
      rw [nI_clamp (by omega), esm, hs _ hlt2, zz_d hx, zz_m hx]
      refine wk_sp230 H e1 e3 e4 hi hx hA hB ?_ (fun _ => rfl) hv hw
      unfold hy_
      rw [if_pos z]
theorem wk_split {post : St1 → Prop} {u : St1} {p : Nat → Nat} {w h fr part : Nat} (H : sp_h u p w h fr part) (hl : ∀ k, k < w * h → gt_lg u k = nI (p k))
    (hp : ∀ u', fm_ [12, 13, 14] u u' → (∀ k, k < (w + 1) / 2 * ((h + 1) / 2) → gt_lg u' k = nI (hf_ w h p k)) → (∀ a, (w + 1) / 2 * ((h + 1) / 2) ≤ a → a < w * h → gt_num u' (fr + a) = dd_ w h p a) → (∀ q, q < fr + (w + 1) / 2 * ((h + 1) / 2) ∨ fr + w * h ≤ q → gt_num u' q = gt_num u q) → post u') :
    wpX_split post u (nI fr) (nI w) (nI h) (nI part) := by
  have d := H.1
  have hw12 := d.2.1
  have hh12 := d.2.2.2
  obtain ⟨_, _, hpt, hfr, s1, s2, s3⟩ := id H
  generalize e1 : (w + 1) / 2 = w1 at hp
  generalize e2 : w / 2 = wd at *
  generalize e3 : (h + 1) / 2 = h1 at hp
  generalize e4 : h / 2 = hd at *
  have hwh := zz_wh (h := h) e1.symm e2.symm
  have hhh : w1 * h = w1 * h1 + w1 * hd := by
    rw [← Nat.mul_add]
    congr 1
    omega
  refine ks_split ⟨zi_ne2, nm_r (e' := nI w1) (by rw [zi_half (by omega), e1]) ⟨zi_ne2, nm_r (e' := nI h1) (by rw [zi_half (by omega), e3]) ?_⟩⟩
  refine pk_loop (fun n y v => kw_split_17 post (nI fr) (nI w) (nI h) (nI part) (nI w1) (nI h1) n (nI y) v) (fun y v => sp_1 u p w h w1 wd fr y 0 v) h 0 u (by omega) ⟨fm_rfl u, fun k hk => absurd hk (by omega), fun a ha => absurd ha (by omega), fun q _ => rfl⟩ ?_ ?_
  · intro n v hv
    obtain ⟨v1, v2, v3, v4⟩ := hv
    have H2 : sp_h v p w h fr part := ⟨d, H.2.1, hpt, hfr, by rw [fm_ps v1]; exact s1, by rw [fm_ps v1]; exact s2, by rw [fm_pw v1]; rw [e2]; exact s3⟩
    have hs2 : ∀ k, k < (w + 1) / 2 * h → gt_sm v k = nI (hx_ w p (k / ((w + 1) / 2)) (k % ((w + 1) / 2))) := by
      rw [e1]
      exact fun k hk => v2 k (by omega)
    refine ks_split_17 (pk_le h h (fun _ => ?_) (fun z => absurd z (by omega)))
    refine pk_loop (fun n i v => kw_split_164 post (nI fr) (nI h) (nI part) (nI w1) (nI h1) n (nI i) v) (fun i v' => sp_2 v p w h w1 h1 hd fr i 0 v') h1 0 v (by omega) ⟨fm_rfl v, fun k hk => absurd hk (by omega), fun a ha => ?_, fun q _ => rfl⟩ ?_ ?_
    · unfold sp_c at ha
      split at ha
      · omega
      · have : hd = 0 := by omega
        rw [this] at ha
        omega
    · intro n v' hv'
      obtain ⟨t1, t2, t3, t4⟩ := hv'
      have ec : sp_c w1 hd h1 0 = w1 * hd := by
        unfold sp_c
        rw [if_neg (by omega)]
      rw [ec] at t3 t4
      refine ks_split_164 (pk_le h1 h1 (fun _ => hp v' (fm_tr (fm_wk v1) (fm_wk t1)) (fun k hk => t2 k (by omega)) ?_ ?_) (fun z => absurd z (by omega)))
      · intro a ha1 ha2
        unfold dd_
        rw [e1, e2, e3]
        by_cases z : a < w1 * h
        · rw [if_pos z]
          have := t3 (a - w1 * h1) (by omega)
          rw [show fr + w1 * h1 + (a - w1 * h1) = fr + a by omega] at this
          exact this
        · rw [if_neg z, t4 _ (by omega)]
          have := v3 (a - w1 * h) (by omega)
          rw [show fr + w1 * h + (a - w1 * h) = fr + a by omega] at this
          exact this
      · intro q hq
        rw [t4 q (by omega), v4 q (by omega)]
    · intro n i v' hi hv' hw
      exact ks_split_164 (pk_le h1 i (fun z => absurd z (by omega)) (fun _ => wk_sp174 H2 hs2 e1.symm e3.symm e4.symm hi hv' (fun v'' hv'' => hw v'' hv'')))
  · intro n y v hy hv hw
    exact ks_split_17 (pk_le h y (fun z => absurd z (by omega)) (fun _ => wk_sp26 H hl e1.symm e2.symm hy hv (fun v' hv' => hw v' hv')))
end
section
/-! ===== join ===== -/
def jn_1 (u : St1) (p : Nat → Nat) (w w1 y x : Nat) (v : St1) : Prop := fm_ [14] u v ∧ ∀ k, k < w1 * y + x → gt_sm v k = nI (hx_ w p (k / w1) (k % w1))
def jn_2 (u : St1) (p : Nat → Nat) (w y x : Nat) (v : St1) : Prop := fm_ [13] u v ∧ ∀ k, k < w * y + x → gt_lg v k = nI (p k)
theorem wk_jn80 {post : St1 → Prop} {J10 J19 : Int32 → St1 → Prop} {u v : St1} {p : Nat → Nat} {w w1 y x : Nat} {fr' w' h' part' s z : Int32} (hy : y < 32) (hx : x < w1) (hb : w1 * y + x < 144)
    (h0 : y % 2 = 0 → s + ((z + 1) >>> ((1 : Int32) &&& 31)) = nI (hx_ w p y x)) (h1 : y % 2 = 1 → s + ((z + 1) >>> ((1 : Int32) &&& 31)) - z = nI (hx_ w p y x))
    (hv : jn_1 u p w w1 y x v) (hJ : ∀ v', jn_1 u p w w1 y (x + 1) v' → J19 (nI (x + 1)) v') : kw_join_80 post J10 J19 fr' w' h' part' (nI w1) (nI y) (nI x) s z v := by
  have ea : nI w1 * nI y + nI x = nI (w1 * y + x) := by rw [pk_mul, nI_add]
  have fin : ∀ r, r = nI (hx_ w p y x) → jn_1 u p w w1 y (x + 1) (st_sm v (upd (gt_sm v) (w1 * y + x) r)) := by
    intro r hr
    refine ⟨fm_tr hv.1 (fm_s_sm _ _), fun k hk => ?_⟩
    show upd (gt_sm v) _ _ _ = _
    by_cases ek : k = w1 * y + x
    · rw [ek, pk_us, zz_d hx, zz_m hx, hr]
    · rw [pk_un ek]
      exact hv.2 k (by omega)
  refine ks_join_80 (nm_e ?_)
  rw [zj_and hy, ea, nI_clamp (by omega)]
  refine pk_eq (y % 2) 0 (fun q => ⟨vp_in_nI hb (by omega), nm_e (nm_r (nI_1 x) (hJ _ (fin _ (h0 q))))⟩) (fun q => ⟨vp_in_nI hb (by omega), nm_e (nm_r (nI_1 x) (hJ _ (fin _ (h1 (by omega)))))⟩)
theorem wk_jn216 {post : St1 → Prop} {J138 J147 : Int32 → St1 → Prop} {u v : St1} {p : Nat → Nat} {w y x : Nat} {fr' h' part' w1' s z : Int32} (hx : x < 32) (hb : w * y + x < 144)
    (h0 : x % 2 = 0 → s + ((z + 1) >>> ((1 : Int32) &&& 31)) = nI (p (w * y + x))) (h1 : x % 2 = 1 → s + ((z + 1) >>> ((1 : Int32) &&& 31)) - z = nI (p (w * y + x)))
    (hv : jn_2 u p w y x v) (hJ : ∀ v', jn_2 u p w y (x + 1) v' → J147 (nI (x + 1)) v') : kw_join_216 post J138 J147 fr' (nI w) h' part' w1' (nI y) (nI x) s z v := by
  have ea : nI w * nI y + nI x = nI (w * y + x) := by rw [pk_mul, nI_add]
  have fin : ∀ r, r = nI (p (w * y + x)) → jn_2 u p w y (x + 1) (st_lg v (upd (gt_lg v) (w * y + x) r)) := by
    intro r hr
    refine ⟨fm_tr hv.1 (fm_s_lg _ _), fun k hk => ?_⟩
    show upd (gt_lg v) _ _ _ = _
    by_cases ek : k = w * y + x
    · rw [ek, pk_us, hr]
    · rw [pk_un ek]
      exact hv.2 k (by omega)
  refine ks_join_216 (nm_e ?_)
  rw [zj_and hx, ea, nI_clamp (by omega)]
  refine pk_eq (x % 2) 0 (fun q => ⟨vp_in_nI hb (by omega), nm_e (nm_r (nI_1 x) (hJ _ (fin _ (h0 q))))⟩) (fun q => ⟨vp_in_nI hb (by omega), nm_e (nm_r (nI_1 x) (hJ _ (fin _ (h1 (by omega)))))⟩)
theorem wk_jn19 {post : St1 → Prop} {J10 : Int32 → St1 → Prop} {u v : St1} {p : Nat → Nat} {w h w1 h1 hd fr part y : Nat} (H : sp_h u p w h fr part) (e1 : w1 = (w + 1) / 2) (e3 : h1 = (h + 1) / 2) (e4 : hd = h / 2) (hl : ∀ k, k < w1 * h1 → gt_lg u k = nI (hf_ w h p k)) (hn : ∀ a, w1 * h1 ≤ a → a < w * h → gt_num u (fr + a) = dd_ w h p a) (hy : y < h)
    (hv : jn_1 u p w w1 y 0 v) (hJ : ∀ v', jn_1 u p w w1 (y + 1) 0 v' → J10 (nI (y + 1)) v') : ∃ n, kw_join_19 post J10 (nI fr) (nI w) (nI h) (nI part) (nI w1) (nI y) n 0 v := by
  obtain ⟨d, hpl, hpt, hfr, s1, s2, s3⟩ := H
  have h144 := dm_144 d
  have hww := d.2.1
  have hhh := d.2.2.2
  have hhs : w1 * h = w1 * h1 + w1 * hd := by
    rw [← Nat.mul_add]
    congr 1
    omega
  have hle : w1 * h ≤ w * h := Nat.mul_le_mul (by omega) (Nat.le_refl _)
  refine pk_loop (fun n x v => kw_join_19 post J10 (nI fr) (nI w) (nI h) (nI part) (nI w1) (nI y) n (nI x) v) (fun x v => jn_1 u p w w1 y x v) w1 0 v (by omega) hv ?_ ?_
  · intro n v hv
    refine ks_join_19 (pk_le w1 w1 (fun _ => nm_r (nI_1 y) (hJ v ?_)) (fun z => absurd z (by omega)))
    have q1 : w1 * (y + 1) + 0 = w1 * y + w1 := by rw [Nat.mul_succ]; rfl
    unfold jn_1
    rw [q1]
    exact hv
  · intro n x v hx hv hw
    have ea : nI w1 * nI (y / 2) + nI x = nI (w1 * (y / 2) + x) := by rw [pk_mul, nI_add]
    have hlt : w1 * (y / 2) + x < w1 * h1 := zz_lt hx (by omega)
    have hlt0 : w1 * y + x < w1 * h := zz_lt hx hy
    have elg : gt_lg v = gt_lg u := fm_lg hv.1
    have enum : gt_num v = gt_num u := fm_num hv.1
    have eps : gt_ps v = gt_ps u := fm_ps hv.1
    have hA := hx_lt hpl (y := 2 * (y / 2)) (i := x) (by omega) (by omega)
    refine ks_join_19 (pk_le w1 x (fun z => absurd z (by omega)) (fun _ => ?_))
    rw [zi_sr1 (by omega), ea, nI_clamp (by omega), elg, hl _ hlt, zj_or32 (by omega)]
    have ehf : hf_ w h p (w1 * (y / 2) + x) = hy_ w h p (y / 2) x := by
      unfold hf_
      rw [← e1, zz_d hx, zz_m hx]
    rw [ehf]
    refine ⟨vp_in_nI (by omega) (by omega), nm_e (pk_le h (2 * (y / 2) + 1) (fun z => ?_) (fun z => ?_))⟩
    · have ey : y = 2 * (y / 2) := by omega
      refine wk_jn80 (by omega) hx (by omega) (fun q => ?_) (fun q => absurd q (by omega)) hv hw
      rw [zj_0]
      unfold hy_
      rw [if_neg (by omega), ← ey]
    · have hB := hx_lt hpl (y := 2 * (y / 2) + 1) (i := x) (by omega) (by omega)
      have hlt2 : w1 * (y / 2) + x < w1 * hd := zz_lt hx (by omega)
      have eb : nI fr + nI (w1 * h1) + nI w1 * nI (y / 2) + nI x = nI (fr + w1 * h1 + (w1 * (y / 2) + x)) := by rw [pk_mul, nI_add, nI_add, nI_add, Nat.add_assoc (fr + w1 * h1)]
      rw [nI_clamp (show part < 2 ^ 31 by omega), eps, s1, ← e1, ← e3, eb, nI_clamp (by omega)]
      refine ⟨pk_in part 5 (by omega), vp_in_nI (by omega) (by omega), ?_⟩
      have en : gt_num v (fr + w1 * h1 + (w1 * (y / 2) + x)) = dy_ w p (y / 2) x := by
        rw [enum, Nat.add_assoc, hn _ (by omega) (by omega)]
        unfold dd_
        rw [← e1, ← e3, if_pos (by omega), Nat.add_sub_cancel_left, zz_d hx, zz_m hx]
      rw [en]
      have es : hy_ w h p (y / 2) x = (hx_ w p (2 * (y / 2)) x + hx_ w p (2 * (y / 2) + 1) x) / 2 := by
        unfold hy_
        rw [if_pos z]
      rw [es]
      refine wk_jn80 (by omega) hx (by omega) (fun q => ?_) (fun q => ?_) hv hw
      · unfold dy_
        rw [zj_back hA hB, show 2 * (y / 2) = y by omega]
      · unfold dy_
        rw [zj_back hA hB, zj_sub, show 2 * (y / 2) + 1 = y by omega]
theorem wk_jn147 {post : St1 → Prop} {J138 : Int32 → St1 → Prop} {u v : St1} {p : Nat → Nat} {w h w1 wd fr part y : Nat} (H : sp_h u p w h fr part) (e1 : w1 = (w + 1) / 2) (e2 : wd = w / 2) (hs : ∀ k, k < w1 * h → gt_sm u k = nI (hx_ w p (k / w1) (k % w1))) (hn : ∀ a, w1 * h ≤ a → a < w * h → gt_num u (fr + a) = dd_ w h p a) (hy : y < h)
    (hv : jn_2 u p w y 0 v) (hJ : ∀ v', jn_2 u p w (y + 1) 0 v' → J138 (nI (y + 1)) v') : ∃ n, kw_join_147 post J138 (nI fr) (nI w) (nI h) (nI part) (nI w1) (nI y) n 0 v := by
  obtain ⟨d, hpl, hpt, hfr, s1, s2, s3⟩ := H
  have h144 := dm_144 d
  have hww := d.2.1
  have hhh := d.2.2.2
  have hwh := zz_wh (h := h) e1 e2
  refine pk_loop (fun n x v => kw_join_147 post J138 (nI fr) (nI w) (nI h) (nI part) (nI w1) (nI y) n (nI x) v) (fun x v => jn_2 u p w y x v) w 0 v (by omega) hv ?_ ?_
  · intro n v hv
    refine ks_join_147 (pk_le w w (fun _ => nm_r (nI_1 y) (hJ v ?_)) (fun z => absurd z (by omega)))
    have q1 : w * (y + 1) + 0 = w * y + w := by rw [Nat.mul_succ]; rfl
    unfold jn_2
    rw [q1]
    exact hv
  · intro n x v hx hv hw
    have ea : nI w1 * nI y + nI (x / 2) = nI (w1 * y + x / 2) := by rw [pk_mul, nI_add]
    have hx1 : x / 2 < w1 := by omega
    have hlt : w1 * y + x / 2 < w1 * h := zz_lt hx1 hy
    have hlt0 : w * y + x < w * h := zz_lt hx hy
    have esm : gt_sm v = gt_sm u := fm_sm hv.1
    have enum : gt_num v = gt_num u := fm_num hv.1
    have eps : gt_ps v = gt_ps u := fm_ps hv.1
    have epw : gt_pw v = gt_pw u := fm_pw hv.1
    have hA := hpl (w * y + 2 * (x / 2)) (zz_lt (by omega) hy)
    refine ks_join_147 (pk_le w x (fun z => absurd z (by omega)) (fun _ => ?_))
    rw [zi_sr1 (by omega), ea, nI_clamp (by omega), esm, hs _ hlt, zz_d hx1, zz_m hx1, zj_or32 (by omega)]
    refine ⟨vp_in_nI (by omega) (by omega), nm_e (pk_le w (2 * (x / 2) + 1) (fun z => ?_) (fun z => ?_))⟩
    · refine wk_jn216 (by omega) (by omega) (fun q => ?_) (fun q => absurd q (by omega)) hv hw
      rw [zj_0]
      unfold hx_
      rw [if_neg (by omega), show 2 * (x / 2) = x by omega]
    · have hB := hpl (w * y + 2 * (x / 2) + 1) (by rw [Nat.add_assoc]; exact zz_lt (by omega) hy)
      have hx2 : x / 2 < wd := by omega
      have hlt2 : wd * y + x / 2 < wd * h := zz_lt hx2 hy
      have eb : nI fr + nI (w1 * h) + nI wd * nI y + nI (x / 2) = nI (fr + w1 * h + (wd * y + x / 2)) := by rw [pk_mul, nI_add, nI_add, nI_add, Nat.add_assoc (fr + w1 * h)]
      rw [nI_1, nI_clamp (show part + 1 < 2 ^ 31 by omega), eps, epw, s2, s3, ← e1, ← e2, eb, nI_clamp (by omega)]
      refine ⟨pk_in (part + 1) 5 (by omega), pk_in (part + 1) 5 (by omega), vp_in_nI (by omega) (by omega), ?_⟩
      have en : gt_num v (fr + w1 * h + (wd * y + x / 2)) = dx_ w p y (x / 2) := by
        rw [enum, Nat.add_assoc, hn _ (by omega) (by omega)]
        unfold dd_
        rw [← e1, ← e2, if_neg (by omega), Nat.add_sub_cancel_left, zz_d hx2, zz_m hx2]
      rw [en]
      have es : hx_ w p y (x / 2) = (p (w * y + 2 * (x / 2)) + p (w * y + 2 * (x / 2) + 1)) / 2 := by
        unfold hx_
        rw [if_pos z]
      rw [es]
      refine wk_jn216 (by omega) (by omega) (fun q => ?_) (fun q => ?_) hv hw
      · unfold dx_
        rw [zj_back hA hB, show 2 * (x / 2) = x by omega]
      · unfold dx_
        rw [zj_back hA hB, zj_sub, Nat.add_assoc, show 2 * (x / 2) + 1 = x by omega]
theorem wk_join {post : St1 → Prop} {u : St1} {p : Nat → Nat} {w h fr part : Nat} (H : sp_h u p w h fr part) (hl : ∀ k, k < (w + 1) / 2 * ((h + 1) / 2) → gt_lg u k = nI (hf_ w h p k)) (hn : ∀ a, (w + 1) / 2 * ((h + 1) / 2) ≤ a → a < w * h → gt_num u (fr + a) = dd_ w h p a)
    (hp : ∀ u', fm_ [13, 14] u u' → (∀ k, k < w * h → gt_lg u' k = nI (p k)) → post u') : wpX_join post u (nI fr) (nI w) (nI h) (nI part) := by
  obtain ⟨d, hpl, hpt, hfr, s1, s2, s3⟩ := id H
  have hww := d.2.1
  have hhh := d.2.2.2
  generalize e1 : (w + 1) / 2 = w1 at hl hn
  generalize e3 : (h + 1) / 2 = h1 at hl hn
  have hle : w1 * h1 ≤ w1 * h := Nat.mul_le_mul (Nat.le_refl _) (by omega)
  refine ks_join ⟨zi_ne2, nm_r (e' := nI w1) (by rw [zi_half (by omega), e1]) ?_⟩
  refine pk_loop (fun n y v => kw_join_10 post (nI fr) (nI w) (nI h) (nI part) (nI w1) n (nI y) v) (fun y v => jn_1 u p w w1 y 0 v) h 0 u (by omega) ⟨fm_rfl u, fun k hk => absurd hk (by omega)⟩ ?_ ?_
  · intro n v hv
    have v1 := hv.1
    have H2 : sp_h v p w h fr part := ⟨d, hpl, hpt, hfr, by rw [fm_ps v1]; exact s1, by rw [fm_ps v1]; exact s2, by rw [fm_pw v1]; exact s3⟩
    have hn2 : ∀ a, w1 * h ≤ a → a < w * h → gt_num v (fr + a) = dd_ w h p a := fun a ha hb => by rw [fm_num v1]; exact hn a (by omega) hb
    refine ks_join_10 (pk_le h h (fun _ => ?_) (fun z => absurd z (by omega)))
    refine pk_loop (fun n y v => kw_join_138 post (nI fr) (nI w) (nI h) (nI part) (nI w1) n (nI y) v) (fun y v' => jn_2 v p w y 0 v') h 0 v (by omega) ⟨fm_rfl v, fun k hk => absurd hk (by omega)⟩ ?_ ?_
    · intro n v' hv'
      exact ks_join_138 (pk_le h h (fun _ => hp v' (fm_tr (fm_wk v1) (fm_wk hv'.1)) (fun k hk => hv'.2 k (by omega))) (fun z => absurd z (by omega)))
    · intro n y v' hy hv' hw
      exact ks_join_138 (pk_le h y (fun z => absurd z (by omega)) (fun _ => wk_jn147 H2 e1.symm rfl (fun k hk => hv.2 k (by omega)) hn2 hy hv' (fun v'' hv'' => hw v'' hv'')))
  · intro n y v hy hv hw
    exact ks_join_10 (pk_le h y (fun z => absurd z (by omega)) (fun _ => wk_jn19 H e1.symm e3.symm rfl hl hn hy hv (fun v' hv' => hw v' hv')))
end
section
/-! ===== pictures; splitAll ===== -/
def po_ (w h : Nat) (P : Nat → Nat → Nat) : Prop := dm_ok w h ∧ ∀ c, c < 3 → pl_ w h (P c)
def pc_ (u : St1) (w h : Nat) (P : Nat → Nat → Nat) : Prop := gt_w u = nI w ∧ gt_h u = nI h ∧ ∀ c a, c < 3 → a < w * h → gt_hand u (144 * c + a) = nI (P c a)
theorem pc_fm {l : List Nat} {u v : St1} {w h : Nat} {P : Nat → Nat → Nat} (g : pc_ u w h P) (f : fm_ l u v) (h1 : 0 ∉ l := by decide) (h2 : 1 ∉ l := by decide) (h3 : 2 ∉ l := by decide) : pc_ v w h P :=
  ⟨(fm_w f h1).trans g.1, (fm_h f h2).trans g.2.1, fun c a hc ha => by rw [fm_hand f h3]; exact g.2.2 c a hc ha⟩
theorem zi_144 (c : Nat) : (144 : Int32) * nI c = nI (144 * c) := pk_mul 144 c
theorem zi_144a (c a : Nat) : (144 : Int32) * nI c + nI a = nI (144 * c + a) := by rw [zi_144, nI_add]
theorem zi_p144 (a : Nat) : (144 : Int32) + nI a = nI (144 + a) := nI_add 144 a
theorem zi_p288 (a : Nat) : (288 : Int32) + nI a = nI (288 + a) := nI_add 288 a
theorem wk_mix {post : St1 → Prop} {u : St1} {a : Nat} {r g b : Int32} (ha : a < 144) (hr : gt_num u a = r) (hg : gt_num u (144 + a) = g) (hb : gt_num u (288 + a) = b)
    (hp : ∀ num, num a = mx_y r g b → num (144 + a) = r - b → num (288 + a) = mx_l r g b → (∀ q, q ≠ a → q ≠ 144 + a → q ≠ 288 + a → num q = gt_num u q) → post (st_num u num)) : wpX_mix post u (nI a) := by
  refine ks_mix ?_
  rw [zi_p144, zi_p288, nI_clamp (show a < 2 ^ 31 by omega), nI_clamp (show 144 + a < 2 ^ 31 by omega), nI_clamp (show 288 + a < 2 ^ 31 by omega), hr, hg, hb]
  refine ⟨vp_in_nI (by omega) (by omega), nm_e ⟨vp_in_nI (by omega) (by omega), nm_e ⟨vp_in_nI (by omega) (by omega), nm_e (nm_e (nm_e (nm_e ⟨vp_in_nI (by omega) (by omega), nm_e ⟨vp_in_nI (by omega) (by omega), nm_e ⟨vp_in_nI (by omega) (by omega), nm_e ?_⟩⟩⟩)))⟩⟩⟩
  refine hp _ ?_ ?_ ?_ ?_
  · rw [pk_un (by omega), pk_un (by omega), pk_us]
    rfl
  · rw [pk_un (by omega), pk_us]
  · rw [pk_us]
    rfl
  · intro q h1 h2 h3
    rw [pk_un h3, pk_un h2, pk_un h1]
theorem wk_unmix {post : St1 → Prop} {u : St1} {a : Nat} {r g b : Int32} (ha : a < 144) (hr : gt_num u a = mx_y r g b) (hg : gt_num u (144 + a) = r - b) (hb : gt_num u (288 + a) = mx_l r g b)
    (hp : ∀ num, num a = r → num (144 + a) = g → num (288 + a) = b → (∀ q, q ≠ a → q ≠ 144 + a → q ≠ 288 + a → num q = gt_num u q) → post (st_num u num)) : wpX_unmix post u (nI a) := by
  obtain ⟨m1, m2, m3, m4⟩ := mx_back r g b
  refine ks_unmix ?_
  rw [zi_p144, zi_p288, nI_clamp (show a < 2 ^ 31 by omega), nI_clamp (show 144 + a < 2 ^ 31 by omega), nI_clamp (show 288 + a < 2 ^ 31 by omega), hr, hg, hb]
  refine ⟨vp_in_nI (by omega) (by omega), nm_e ⟨vp_in_nI (by omega) (by omega), nm_e ⟨vp_in_nI (by omega) (by omega), nm_r m1 (nm_r m2 ⟨vp_in_nI (by omega) (by omega), nm_e ⟨vp_in_nI (by omega) (by omega), nm_e ⟨vp_in_nI (by omega) (by omega), nm_e ?_⟩⟩⟩)⟩⟩⟩
  refine hp _ ?_ ?_ ?_ ?_
  · rw [pk_un (by omega), pk_un (by omega), pk_us, m3]
  · rw [pk_un (by omega), pk_us, m4]
  · rw [pk_us]
  · intro q h1 h2 h3
    rw [pk_un h3, pk_un h2, pk_un h1]
theorem dm_half {w h : Nat} (d : dm_ok w h) : dm_ok ((w + 1) / 2) ((h + 1) / 2) := by
  obtain ⟨a, b, c, e⟩ := d
  exact ⟨by omega, by omega, by omega, by omega⟩
theorem po_half {w h : Nat} {P : Nat → Nat → Nat} (o : po_ w h P) : po_ ((w + 1) / 2) ((h + 1) / 2) (fun c => hf_ w h (P c)) := ⟨dm_half o.1, fun c hc => hf_pl (o.2 c hc)⟩
theorem sp_h3 {u : St1} {p : Nat → Nat} {w h c : Nat} (d : dm_ok w h) (hp : pl_ w h p) (g : gp_ u w h) (hc : c < 3) : sp_h u p w h (144 * c) 3 :=
  ⟨d, hp, by omega, by have := dm_144 d; omega, g.2.2 3 (by omega), g.2.2 4 (by omega), g.1 4 (by omega)⟩
theorem sp_h1 {u : St1} {p : Nat → Nat} {w h c : Nat} (d : dm_ok w h) (hp : pl_ ((w + 1) / 2) ((h + 1) / 2) p) (g : gp_ u w h) (hc : c < 3) : sp_h u p ((w + 1) / 2) ((h + 1) / 2) (144 * c) 1 :=
  ⟨dm_half d, hp, by omega, by have := dm_144 (dm_half d); omega, g.2.2 1 (by omega), g.2.2 2 (by omega), g.1 2 (by omega)⟩
theorem wk_sa40 {post : St1 → Prop} {J32 : Int32 → St1 → Prop} {v : St1} {w h c : Nat} {P : Nat → Nat → Nat} (o : po_ w h P) (hpc : pc_ v w h P) (g : gp_ v w h) (hc : c < 3)
    (hJ : ∀ v', fm_ [12, 13, 14] v v' → (∀ a, a < w * h → gt_num v' (144 * c + a) = m0_ w h (P c) a) → (∀ q, q < 144 * c ∨ 144 * c + w * h ≤ q → gt_num v' q = gt_num v q) → J32 (nI (c + 1)) v') : ∃ n, kw_splitAll_40 post J32 (nI ((w + 1) / 2)) (nI ((h + 1) / 2)) (nI c) n 0 v := by
  obtain ⟨d, hpl⟩ := o
  have h144 := dm_144 d
  obtain ⟨dw0, dw, dh0, dh⟩ := id d
  refine pk_loop (fun n i v' => kw_splitAll_40 post J32 (nI ((w + 1) / 2)) (nI ((h + 1) / 2)) (nI c) n (nI i) v') (fun i v' => fm_ [13] v v' ∧ ∀ k, k < i → gt_lg v' k = nI (P c k)) (w * h) 0 v (by omega) ⟨fm_rfl v, fun k hk => absurd hk (by omega)⟩ ?_ ?_
  · intro n v1 hv1
    obtain ⟨f1, l1⟩ := hv1
    have p1 := pc_fm hpc f1
    have g1 := gp_fm g f1
    refine ks_splitAll_40 ?_
    rw [p1.1, p1.2.1, pk_mul, zi_144]
    refine pk_le (w * h) (w * h) (fun _ => ?_) (fun z => absurd z (by omega))
    refine wk_split (part := 3) (sp_h3 d (hpl c hc) g1 hc) l1 (fun v2 f2 l2 n2 k2 => ?_)
    have g2 := gp_fm g1 f2
    refine wk_split (part := 1) (sp_h1 d (hf_pl (hpl c hc)) g2 hc) l2 (fun v3 f3 l3 n3 k3 => ?_)
    have g3 := gp_fm g2 f3
    have s1 : gt_ps v3 1 = nI (((w + 1) / 2 + 1) / 2 * (((h + 1) / 2 + 1) / 2)) := g3.2.2 1 (by omega)
    have le1 : ((w + 1) / 2 + 1) / 2 * (((h + 1) / 2 + 1) / 2) ≤ (w + 1) / 2 * ((h + 1) / 2) := Nat.mul_le_mul (by omega) (by omega)
    have le2 : (w + 1) / 2 * ((h + 1) / 2) ≤ w * h := Nat.mul_le_mul (by omega) (by omega)
    refine pk_loop (fun n i v' => kw_splitAll_113 post J32 (nI ((w + 1) / 2)) (nI ((h + 1) / 2)) (nI c) n (nI i) v') (fun i v' => fm_ [12] v3 v' ∧ (∀ k, k < i → gt_num v' (144 * c + k) = nI (hf_ ((w + 1) / 2) ((h + 1) / 2) (hf_ w h (P c)) k)) ∧ (∀ q, q < 144 * c ∨ 144 * c + i ≤ q → gt_num v' q = gt_num v3 q)) (((w + 1) / 2 + 1) / 2 * (((h + 1) / 2 + 1) / 2)) 0 v3 (by omega) ⟨fm_rfl v3, fun k hk => absurd hk (by omega), fun q _ => rfl⟩ ?_ ?_
    · intro n v4 hv4
      obtain ⟨f4, n4, k4⟩ := hv4
      refine ks_splitAll_113 ?_
      rw [fm_ps f4, s1]
      refine pk_le (((w + 1) / 2 + 1) / 2 * (((h + 1) / 2 + 1) / 2)) (((w + 1) / 2 + 1) / 2 * (((h + 1) / 2 + 1) / 2)) (fun _ => nm_r (nI_1 c) (hJ v4 (fm_tr (fm_wk f1) (fm_tr f2 (fm_tr f3 (fm_wk f4)))) ?_ ?_)) (fun z => absurd z (by omega))
      · intro a ha
        unfold m0_
        by_cases z1 : a < (w + 1) / 2 * ((h + 1) / 2)
        · rw [if_pos z1]
          by_cases z2 : a < ((w + 1) / 2 + 1) / 2 * (((h + 1) / 2 + 1) / 2)
          · rw [if_pos z2]
            exact n4 a z2
          · rw [if_neg z2, k4 _ (by omega)]
            exact n3 a (by omega) z1
        · rw [if_neg z1, k4 _ (by omega), k3 _ (by omega)]
          exact n2 a (by omega) ha
      · intro q hq
        rw [k4 q (by omega), k3 q (by omega), k2 q (by omega), fm_num f1]
    · intro n i v4 hi hv4 hw
      obtain ⟨f4, n4, k4⟩ := hv4
      refine ks_splitAll_113 ?_
      rw [fm_ps f4, s1, zi_144a]
      refine pk_le (((w + 1) / 2 + 1) / 2 * (((h + 1) / 2 + 1) / 2)) i (fun z => absurd z (by omega)) (fun _ => ⟨vp_in_nI (by omega) (by omega), vp_in_nI (by omega) (by omega), nm_e (nm_r (nI_1 i) (hw _ ⟨fm_tr f4 (fm_s_num _ _), ?_, ?_⟩))⟩)
      · intro k hk
        show upd (gt_num v4) _ _ _ = _
        rw [nI_clamp (by omega), nI_clamp (by omega)]
        by_cases ek : k = i
        · rw [ek, pk_us, fm_lg f4]
          exact l3 i (by omega)
        · rw [pk_un (by omega)]
          exact n4 k (by omega)
      · intro q hq
        show upd (gt_num v4) _ _ _ = _
        rw [nI_clamp (by omega), pk_un (by omega)]
        exact k4 q (by omega)
  · intro n i v1 hi hv1 hw
    obtain ⟨f1, l1⟩ := hv1
    have p1 := pc_fm hpc f1
    refine ks_splitAll_40 ?_
    rw [p1.1, p1.2.1, pk_mul, zi_144a]
    refine pk_le (w * h) i (fun z => absurd z (by omega)) (fun _ => ⟨vp_in_nI (by omega) (by omega), vp_in_nI (by omega) (by omega), nm_e (nm_r (nI_1 i) (hw _ ⟨fm_tr f1 (fm_s_lg _ _), ?_⟩))⟩)
    intro k hk
    show upd (gt_lg v1) _ _ _ = _
    rw [nI_clamp (by omega), nI_clamp (by omega)]
    by_cases ek : k = i
    · rw [ek, pk_us]
      exact p1.2.2 c i hc hi
    · rw [pk_un ek]
      exact l1 k (by omega)
theorem mm_0 (w h : Nat) (P : Nat → Nat → Nat) (a : Nat) : mm_ w h P 0 a = mx_y (m0_ w h (P 0) a) (m0_ w h (P 1) a) (m0_ w h (P 2) a) := rfl
theorem mm_1 (w h : Nat) (P : Nat → Nat → Nat) (a : Nat) : mm_ w h P 1 a = m0_ w h (P 0) a - m0_ w h (P 2) a := rfl
theorem mm_2 (w h : Nat) (P : Nat → Nat → Nat) (a : Nat) : mm_ w h P 2 a = mx_l (m0_ w h (P 0) a) (m0_ w h (P 1) a) (m0_ w h (P 2) a) := rfl
theorem zz_3 {Q : Nat → Prop} (h0 : Q 0) (h1 : Q 1) (h2 : Q 2) : ∀ c, c < 3 → Q c := fun c hc => by
  have : c = 0 ∨ c = 1 ∨ c = 2 := by omega
  rcases this with rfl | rfl | rfl
  · exact h0
  · exact h1
  · exact h2
theorem wk_splitAll {post : St1 → Prop} {u : St1} {w h : Nat} {P : Nat → Nat → Nat} (o : po_ w h P) (hpc : pc_ u w h P)
    (hp : ∀ u', fm_ [9, 10, 11, 12, 13, 14] u u' → gp_ u' w h → (∀ c a, c < 3 → a < w * h → gt_num u' (144 * c + a) = mm_ w h P c a) → post u') : wpX_splitAll post u := by
  obtain ⟨d, hpl⟩ := id o
  have h144 := dm_144 d
  obtain ⟨dw0, dw, dh0, dh⟩ := id d
  refine ks_splitAll ?_
  rw [hpc.1, hpc.2.1]
  refine wk_measure (by omega) (by omega) (fun u1 f1 g1 => ?_)
  have p1 := pc_fm hpc f1
  rw [p1.1, p1.2.1, zi_half (by omega), zi_half (by omega)]
  refine ⟨zi_ne2, nm_e ⟨zi_ne2, nm_e ?_⟩⟩
  refine pk_loop (fun n c v => kw_splitAll_32 post (nI ((w + 1) / 2)) (nI ((h + 1) / 2)) n (nI c) v) (fun c v => fm_ [12, 13, 14] u1 v ∧ ∀ c' a, c' < c → a < w * h → gt_num v (144 * c' + a) = m0_ w h (P c') a) 3 0 u1 (by omega) ⟨fm_rfl u1, fun c' a hc' => absurd hc' (by omega)⟩ ?_ ?_
  · intro n v hv
    obtain ⟨f2, n2⟩ := hv
    refine ks_splitAll_32 (pk_le 3 3 (fun _ => ?_) (fun z => absurd z (by omega)))
    refine pk_loop (fun n i v' => kw_splitAll_158 post n (nI i) v') (fun i v' => fm_ [12] v v' ∧ (∀ c a, c < 3 → a < i → gt_num v' (144 * c + a) = mm_ w h P c a) ∧ (∀ c a, c < 3 → i ≤ a → a < w * h → gt_num v' (144 * c + a) = m0_ w h (P c) a)) (w * h) 0 v (by omega) ⟨fm_rfl v, fun c a _ ha => absurd ha (by omega), fun c a hc _ ha => n2 c a hc ha⟩ ?_ ?_
    · intro n v' hv'
      obtain ⟨f3, n3, _⟩ := hv'
      have p3 := pc_fm (pc_fm p1 f2) f3
      refine ks_splitAll_158 ?_
      rw [p3.1, p3.2.1, pk_mul]
      exact pk_le (w * h) (w * h) (fun _ => hp v' (fm_tr (fm_wk f1) (fm_tr (fm_wk f2) (fm_wk f3))) (gp_fm (gp_fm g1 f2) f3) n3) (fun z => absurd z (by omega))
    · intro n i v' hi hv' hw
      obtain ⟨f3, n3, k3⟩ := hv'
      have p3 := pc_fm (pc_fm p1 f2) f3
      refine ks_splitAll_158 ?_
      rw [p3.1, p3.2.1, pk_mul]
      refine pk_le (w * h) i (fun z => absurd z (by omega)) (fun _ => ?_)
      refine wk_mix (r := m0_ w h (P 0) i) (g := m0_ w h (P 1) i) (b := m0_ w h (P 2) i) (by omega) ?_ ?_ ?_ (fun num q0 q1 q2 q3 => nm_r (nI_1 i) (hw _ ⟨fm_tr f3 (fm_s_num _ _), ?_, ?_⟩))
      · have := k3 0 i (by omega) (by omega) hi
        rwa [Nat.mul_zero, Nat.zero_add] at this
      · exact k3 1 i (by omega) (by omega) hi
      · exact k3 2 i (by omega) (by omega) hi
      · intro c a hc ha
        show num _ = _
        by_cases ea : a = i
        · rw [ea]
          refine zz_3 (Q := fun c => num (144 * c + i) = mm_ w h P c i) ?_ ?_ ?_ c hc
          · rw [Nat.mul_zero, Nat.zero_add, q0, mm_0]
          · rw [Nat.mul_one, q1, mm_1]
          · rw [q2, mm_2]
        · rw [q3 _ (by omega) (by omega) (by omega)]
          exact n3 c a hc (by omega)
      · intro c a hc ha1 ha2
        show num _ = _
        rw [q3 _ (by omega) (by omega) (by omega)]
        exact k3 c a hc (by omega) ha2
  · intro n c v hc hv hw
    obtain ⟨f2, n2⟩ := hv
    refine ks_splitAll_32 (pk_le 3 c (fun z => absurd z (by omega)) (fun _ => ?_))
    refine wk_sa40 o (pc_fm p1 f2) (gp_fm g1 f2) hc (fun v' f3 n3 k3 => hw v' ⟨fm_tr f2 f3, fun c' a hc' ha => ?_⟩)
    by_cases ec : c' = c
    · rw [ec]
      exact n3 a ha
    · rw [k3 _ (by omega)]
      exact n2 c' a (by omega) ha
end
section
/-! ===== readPlanes ===== -/
def it_w : Nat → Nat → Nat
  | 0, w => w
  | t + 1, w => it_w t ((w + 1) / 2)
def it_P : Nat → Nat → Nat → (Nat → Nat → Nat) → (Nat → Nat → Nat)
  | 0, _, _, P => P
  | t + 1, w, h, P => it_P t ((w + 1) / 2) ((h + 1) / 2) (fun c => hf_ w h (P c))
theorem po_it : ∀ t w h P, po_ w h P → po_ (it_w t w) (it_w t h) (it_P t w h P) := by
  intro t
  induction t with
  | zero => intro w h P o; exact o
  | succ t ih => intro w h P o; exact ih _ _ _ (po_half o)
def rd_np (t : Nat) : Nat := if t = 0 then 5 else if t = 1 then 3 else 1
theorem wk_layPlane {post : St1 → Prop} {u : St1} {w h c : Nat} (d : dm_ok w h) (g : gp_ u w h) (hc : c < 3) (hp : ∀ u', fm_ [13] u u' → (∀ k, k < gm_S w h 1 → gt_lg u' k = gt_num u (144 * c + k)) → post u') : wpX_layPlane post u (nI (144 * c)) := by
  have h144 := dm_144 d
  have htop := gm_top (w := w) (h := h) (k := 1) (by omega)
  refine ks_layPlane (pk_loop (fun n i v => kw_layPlane_2 post (nI (144 * c)) n (nI i) v) (fun i v => fm_ [13] u v ∧ ∀ k, k < i → gt_lg v k = gt_num u (144 * c + k)) (gm_S w h 1) 0 u (by omega) ⟨fm_rfl u, fun k hk => absurd hk (by omega)⟩ ?_ ?_)
  · intro n v hv
    refine ks_layPlane_2 ?_
    rw [fm_ps hv.1, g.2.2 1 (by omega)]
    exact pk_le (gm_S w h 1) (gm_S w h 1) (fun _ => hp v hv.1 hv.2) (fun z => absurd z (by omega))
  · intro n i v hi hv hw
    refine ks_layPlane_2 ?_
    rw [fm_ps hv.1, g.2.2 1 (by omega), nI_add]
    refine pk_le (gm_S w h 1) i (fun z => absurd z (by omega)) (fun _ => ⟨vp_in_nI (by omega) (by omega), vp_in_nI (by omega) (by omega), nm_e (nm_r (nI_1 i) (hw _ ⟨fm_tr hv.1 (fm_s_lg _ _), ?_⟩))⟩)
    intro k hk
    show upd (gt_lg v) _ _ _ = _
    rw [nI_clamp (by omega), nI_clamp (by omega)]
    by_cases ek : k = i
    · rw [ek, pk_us, fm_num hv.1]
    · rw [pk_un ek]
      exact hv.2 k (by omega)
theorem wk_takePlane {post : St1 → Prop} {u : St1} {w h c : Nat} {p : Nat → Nat} (d : dm_ok w h) (hw : gt_w u = nI w) (hh : gt_h u = nI h) (hl : ∀ k, k < w * h → gt_lg u k = nI (p k)) (hc : c < 3) (hp : ∀ u', fm_ [2] u u' → (∀ k, k < w * h → gt_hand u' (144 * c + k) = nI (p k)) → (∀ q, q < 144 * c ∨ 144 * c + w * h ≤ q → gt_hand u' q = gt_hand u q) → post u') : wpX_takePlane post u (nI (144 * c)) := by
  have h144 := dm_144 d
  refine ks_takePlane (pk_loop (fun n i v => kw_takePlane_2 post (nI (144 * c)) n (nI i) v) (fun i v => fm_ [2] u v ∧ (∀ k, k < i → gt_hand v (144 * c + k) = nI (p k)) ∧ (∀ q, q < 144 * c ∨ 144 * c + i ≤ q → gt_hand v q = gt_hand u q)) (w * h) 0 u (by omega) ⟨fm_rfl u, fun k hk => absurd hk (by omega), fun q _ => rfl⟩ ?_ ?_)
  · intro n v hv
    refine ks_takePlane_2 ?_
    rw [fm_w hv.1, fm_h hv.1, hw, hh, pk_mul]
    exact pk_le (w * h) (w * h) (fun _ => hp v hv.1 hv.2.1 hv.2.2) (fun z => absurd z (by omega))
  · intro n i v hi hv hw'
    refine ks_takePlane_2 ?_
    rw [fm_w hv.1, fm_h hv.1, hw, hh, pk_mul, nI_add]
    refine pk_le (w * h) i (fun z => absurd z (by omega)) (fun _ => ⟨vp_in_nI (by omega) (by omega), vp_in_nI (by omega) (by omega), nm_e (nm_r (nI_1 i) (hw' _ ⟨fm_tr hv.1 (fm_s_hand _ _), ?_, ?_⟩))⟩)
    · intro k hk
      show upd (gt_hand v) _ _ _ = _
      rw [nI_clamp (by omega), nI_clamp (by omega)]
      by_cases ek : k = i
      · rw [ek, pk_us, fm_lg hv.1]
        exact hl i hi
      · rw [pk_un (by omega)]
        exact hv.2.1 k (by omega)
    · intro q hq
      show upd (gt_hand v) _ _ _ = _
      rw [nI_clamp (by omega), pk_un (by omega)]
      exact hv.2.2 q (by omega)
/-- the last loop: planes are laid, doubled and taken -/
theorem wk_rp182 {post : St1 → Prop} {u : St1} {w h t : Nat} {P : Nat → Nat → Nat} (o : po_ w h P) (ht : t ≤ 2) (g : gp_ u w h) (hw : gt_w u = nI (it_w t w)) (hh : gt_h u = nI (it_w t h)) (hn : ∀ c a, c < 3 → a < gm_S w h (rd_np t) → gt_num u (144 * c + a) = m0_ w h (P c) a)
    (hp : ∀ u', fm_ [2, 13, 14] u u' → pc_ u' (it_w t w) (it_w t h) (it_P t w h P) → post u') : ∃ n, kw_readPlanes_182 post (nI w) (nI h) (nI t) (nI ((w + 1) / 2)) (nI ((h + 1) / 2)) n 0 u := by
  obtain ⟨d, hpl⟩ := id o
  have h144 := dm_144 d
  have ot := po_it t w h P o
  have ht144 := dm_144 ot.1
  refine pk_loop (fun n c v => kw_readPlanes_182 post (nI w) (nI h) (nI t) (nI ((w + 1) / 2)) (nI ((h + 1) / 2)) n (nI c) v) (fun c v => fm_ [2, 13, 14] u v ∧ ∀ c' a, c' < c → a < it_w t w * it_w t h → gt_hand v (144 * c' + a) = nI (it_P t w h P c' a)) 3 0 u (by omega) ⟨fm_rfl u, fun c' a hc' => absurd hc' (by omega)⟩ ?_ ?_
  · intro n v hv
    exact ks_readPlanes_182 (pk_le 3 3 (fun _ => hp v hv.1 ⟨by rw [fm_w hv.1]; exact hw, by rw [fm_h hv.1]; exact hh, hv.2⟩) (fun z => absurd z (by omega)))
  · intro n c v hc hv hw'
    obtain ⟨f1, n1⟩ := hv
    have g1 := gp_fm g f1
    -- what follows when the plane lies in the large one
    have tail : ∀ v2, fm_ [13, 14] v v2 → (∀ k, k < it_w t w * it_w t h → gt_lg v2 k = nI (it_P t w h P c k)) → kw_readPlanes_236 post (kw_readPlanes_182 post (nI w) (nI h) (nI t) (nI ((w + 1) / 2)) (nI ((h + 1) / 2)) n) (nI w) (nI h) (nI t) (nI ((w + 1) / 2)) (nI ((h + 1) / 2)) (nI c) v2 := by
      intro v2 f2 l2
      refine ks_readPlanes_236 ?_
      rw [zi_144]
      refine wk_takePlane ot.1 (by rw [fm_w f2, fm_w f1]; exact hw) (by rw [fm_h f2, fm_h f1]; exact hh) l2 hc (fun v3 f3 n3 k3 => nm_r (nI_1 c) (hw' v3 ⟨fm_tr f1 (fm_tr (fm_wk f2) (fm_wk f3)), fun c' a hc' ha => ?_⟩))
      by_cases ec : c' = c
      · rw [ec]
        exact n3 a ha
      · rw [k3 _ (by omega), fm_hand f2]
        exact n1 c' a (by omega) ha
    refine ks_readPlanes_182 (pk_le 3 c (fun z => absurd z (by omega)) (fun _ => ?_))
    rw [zi_144]
    refine wk_layPlane d g1 hc (fun v2 f2 l2 => ?_)
    have g2 := gp_fm g1 f2
    have n2 : ∀ a, a < gm_S w h (rd_np t) → gt_num v2 (144 * c + a) = m0_ w h (P c) a := fun a ha => by
      rw [fm_num f2, fm_num f1]
      exact hn c a hc ha
    have le1 : ((w + 1) / 2 + 1) / 2 * (((h + 1) / 2 + 1) / 2) ≤ (w + 1) / 2 * ((h + 1) / 2) := Nat.mul_le_mul (by omega) (by omega)
    have le2 : (w + 1) / 2 * ((h + 1) / 2) ≤ w * h := Nat.mul_le_mul (by have := d.1; omega) (by have := d.2.2.1; omega)
    have l2' : ∀ k, k < ((w + 1) / 2 + 1) / 2 * (((h + 1) / 2 + 1) / 2) → gt_lg v2 k = nI (hf_ ((w + 1) / 2) ((h + 1) / 2) (hf_ w h (P c)) k) := by
      intro k hk
      have hk2 : k < gm_S w h (rd_np t) := by
        have : t = 0 ∨ t = 1 ∨ t = 2 := by omega
        rcases this with rfl | rfl | rfl
        · show k < w * h
          omega
        · show k < (w + 1) / 2 * ((h + 1) / 2)
          omega
        · exact hk
      rw [l2 k hk, fm_num f1, hn c k hc hk2]
      unfold m0_
      rw [if_pos (by omega), if_pos hk]
    -- one doubling
    have one : t ≤ 1 → ∀ {Q : St1 → Prop}, (∀ v3, fm_ [13, 14] v2 v3 → (∀ k, k < (w + 1) / 2 * ((h + 1) / 2) → gt_lg v3 k = nI (hf_ w h (P c) k)) → Q v3) → wpX_join Q v2 (nI (144 * c)) (nI ((w + 1) / 2)) (nI ((h + 1) / 2)) 1 := by
      intro ht1 Q hQ
      refine wk_join (part := 1) (sp_h1 d (hf_pl (hpl c hc)) g2 hc) l2' (fun a ha hb => ?_) hQ
      have hb2 : a < gm_S w h (rd_np t) := by
        have : t = 0 ∨ t = 1 := by omega
        rcases this with rfl | rfl
        · show a < w * h
          omega
        · exact hb
      rw [n2 a hb2]
      unfold m0_
      rw [if_pos hb, if_neg (by omega)]
    have : t = 0 ∨ t = 1 ∨ t = 2 := by omega
    rcases this with rfl | rfl | rfl
    · refine br_f (by decide) (one (by omega) (fun v3 f3 l3 => ?_))
      refine ks_readPlanes_218 (br_f (by decide) ?_)
      rw [zi_144]
      refine wk_join (part := 3) (sp_h3 d (hpl c hc) (gp_fm g2 f3) hc) l3 (fun a ha hb => ?_) (fun v4 f4 l4 => tail v4 (fm_tr (fm_wk f2) (fm_tr f3 f4)) l4)
      rw [fm_num f3, n2 a hb]
      unfold m0_
      rw [if_neg (by omega)]
    · refine br_f (by decide) ?_
      refine one (by omega) (fun v3 f3 l3 => ?_)
      exact ks_readPlanes_218 (br_t (by decide) (tail v3 (fm_tr (fm_wk f2) f3) l3))
    · refine br_t (by decide) (ks_readPlanes_218 (br_t (by decide) (tail v2 (fm_wk f2) l2')))
theorem rd_lim {w h k : Nat} (hk : k < 15) (c : Nat) (hc : c < 3) : (if c < (k + 1) % 3 then gm_S w h ((k + 1) / 3 + 1) else gm_S w h ((k + 1) / 3)) = if c ≤ k % 3 then gm_S w h (k / 3 + 1) else gm_S w h (k / 3) := by
  by_cases z : k % 3 = 2
  · rw [if_neg (by omega), if_pos (by omega), show (k + 1) / 3 = k / 3 + 1 by omega]
  · rw [show (k + 1) / 3 = k / 3 by omega, show (k + 1) % 3 = k % 3 + 1 by omega]
    by_cases z2 : c ≤ k % 3
    · rw [if_pos (by omega), if_pos z2]
    · rw [if_neg (by omega), if_neg z2]
theorem wk_rp29 {post : St1 → Prop} {u : St1} {b : Nat → Nat} {sl nu w h np : Nat} {M : Nat → Int32} {x3 : Int32} (hd : ds_ b sl nu) (d : dm_ok w h) (g : gp_ u w h) (hnp1 : 1 ≤ np) (hnp : np ≤ 5) (hn : pb_ M w h) (hm : dm_ u b sl nu ec_0) (hsy : ec_sy b (ec_al ec_0 M w h 15))
    (hp : ∀ u', fm_ [12] u u' → (∀ c a, c < 3 → a < gm_S w h np → gt_num u' (144 * c + a) = M (144 * c + a)) → ∃ n, kw_readPlanes_90 post (nI w) (nI h) x3 (nI (gm_S w h np)) n 0 u') : ∃ n, kw_readPlanes_29 post (nI w) (nI h) x3 (nI np) n 0 u := by
  have h144 := dm_144 d
  have e3 : (3 : Int32) * nI np = nI (3 * np) := pk_mul 3 np
  refine pk_loop (fun n k v => kw_readPlanes_29 post (nI w) (nI h) x3 (nI np) n (nI k) v) (fun k v => fm_ [12] u v ∧ dm_ v b sl nu (ec_al ec_0 M w h k) ∧ ∀ c a, c < 3 → a < (if c < k % 3 then gm_S w h (k / 3 + 1) else gm_S w h (k / 3)) → gt_num v (144 * c + a) = M (144 * c + a)) (3 * np) 0 u (by omega) ⟨fm_rfl u, hm, fun c a hc ha => absurd ha (Nat.not_lt_zero a)⟩ ?_ ?_
  · intro n v hv
    obtain ⟨f1, m1, n1⟩ := hv
    have g1 := gp_fm g f1
    refine ks_readPlanes_29 ?_
    rw [e3]
    refine pk_le (3 * np) (3 * np) (fun _ => ?_) (fun z => absurd z (by omega))
    rw [show (1 : Int32) = nI 1 from rfl, pk_sub hnp1, nI_clamp (by omega)]
    refine ⟨vp_in_nI (by omega) (by omega), vp_in_nI (by omega) (by omega), vp_in_nI (by omega) (by omega), nm_r (e' := nI (gm_S w h np)) ?_ (hp v f1 (fun c a hc ha => n1 c a hc ?_))⟩
    · rw [g1.1 _ (by omega), g1.2.1 _ (by omega), g1.2.2 _ (by omega), pk_mul, nI_add, gm_next w h (np - 1) (by omega), show np - 1 + 1 = np by omega]
    · rw [if_neg (by omega), show 3 * np / 3 = np by omega]
      exact ha
  · intro n k v hk hv hw
    obtain ⟨f1, m1, n1⟩ := hv
    have g1 := gp_fm g f1
    obtain ⟨o1, k1⟩ := ec_go (ec_al_st ec_by0 d hn ec_0 (n := k) (by omega)) ec_0_ok
    have o2 := (ec_go (ec_al_st ec_by0 d hn ec_0 (n := k + 1) (by omega)) ec_0_ok).1
    have k2 : ec_0.2.2.1 = 0 := rfl
    have sy1 : ec_sy b (ec_al ec_0 M w h (k + 1)) := (ec_al_to hd.1 d hn ec_0 (n := k + 1) (by omega) o2).2.1 hsy
    refine ks_readPlanes_29 ?_
    rw [e3]
    refine pk_le (3 * np) k (fun z => absurd z (by omega)) (fun _ => ⟨by decide, by decide, ?_⟩)
    rw [show (3 : Int32) = nI 3 from rfl, pk_rem (by omega) (by omega) (by omega), pk_div (by omega) (by omega) (by omega)]
    have hwh := gm_wh d (part := k / 3) (by omega)
    have hnx := gm_next w h (k / 3) (by omega)
    refine wk_readPart hd d g1 (by omega) (by omega) hn m1 o1 (by omega) sy1 (fun v2 f2 m2 n2 q2 => nm_r (nI_1 k) (hw v2 ⟨fm_tr f1 f2, m2, fun c a hc ha => ?_⟩))
    rw [rd_lim (by omega) c hc] at ha
    have ha144 : a < 144 := by
      have t1 := gm_top (w := w) (h := h) (k := k / 3 + 1) (by omega)
      have t2 := gm_top (w := w) (h := h) (k := k / 3) (by omega)
      split at ha <;> omega
    by_cases z1 : c = k % 3
    · rw [if_pos (by omega)] at ha
      by_cases z2 : a < gm_S w h (k / 3)
      · rw [q2 _ (by unfold pp_; omega)]
        exact n1 c a hc (by rw [if_neg (by omega)]; exact z2)
      · have := n2 (a - gm_S w h (k / 3)) (by omega)
        unfold pp_ at this
        rw [show 144 * (k % 3) + gm_S w h (k / 3) + (a - gm_S w h (k / 3)) = 144 * c + a by omega] at this
        exact this
    · rw [q2 _ (by unfold pp_; omega)]
      refine n1 c a hc ?_
      by_cases z2 : c < k % 3
      · rw [if_pos z2]
        rw [if_pos (by omega)] at ha
        exact ha
      · rw [if_neg z2]
        rw [if_neg (by omega)] at ha
        exact ha
theorem wk_rp90 {post : St1 → Prop} {u : St1} {w h t : Nat} {P : Nat → Nat → Nat} {M : Nat → Int32} (o : po_ w h P) (ht : t ≤ 2) (g : gp_ u w h) (hM : ∀ c a, c < 3 → a < w * h → M (144 * c + a) = mm_ w h P c a) (hn : ∀ c a, c < 3 → a < gm_S w h (rd_np t) → gt_num u (144 * c + a) = M (144 * c + a))
    (hp : ∀ u', fm_ [0, 1, 2, 12, 13, 14] u u' → pc_ u' (it_w t w) (it_w t h) (it_P t w h P) → post u') : ∃ n, kw_readPlanes_90 post (nI w) (nI h) (nI t) (nI (gm_S w h (rd_np t))) n 0 u := by
  obtain ⟨d, hpl⟩ := id o
  have h144 := dm_144 d
  have hnp : rd_np t ≤ 5 := by unfold rd_np; split <;> (try split) <;> omega
  have htop := gm_top (w := w) (h := h) hnp
  have dw := d.2.1
  have dh := d.2.2.2
  refine pk_loop (fun n i v => kw_readPlanes_90 post (nI w) (nI h) (nI t) (nI (gm_S w h (rd_np t))) n (nI i) v) (fun i v => fm_ [12] u v ∧ (∀ c a, c < 3 → a < i → gt_num v (144 * c + a) = m0_ w h (P c) a) ∧ (∀ c a, c < 3 → i ≤ a → a < gm_S w h (rd_np t) → gt_num v (144 * c + a) = mm_ w h P c a)) (gm_S w h (rd_np t)) 0 u (by omega) ⟨fm_rfl u, fun c a _ ha => absurd ha (by omega), fun c a hc _ ha => by rw [hn c a hc ha]; exact hM c a hc (by omega)⟩ ?_ ?_
  · intro n v hv
    obtain ⟨f1, n1, _⟩ := hv
    have g1 := gp_fm g f1
    refine ks_readPlanes_90 (pk_le (gm_S w h (rd_np t)) (gm_S w h (rd_np t)) (fun _ => ?_) (fun z => absurd z (by omega)))
    rw [zi_half (by omega), zi_half (by omega)]
    refine ⟨zi_ne2, nm_e ⟨zi_ne2, nm_e ?_⟩⟩
    -- width and height of what comes
    have fin : ∀ (zw zh : Int32), zw = nI (it_w t w) → zh = nI (it_w t h) → ∃ n, kw_readPlanes_182 post (nI w) (nI h) (nI t) (nI ((w + 1) / 2)) (nI ((h + 1) / 2)) n 0 (st_h (st_w v zw) zh) := by
      intro zw zh ew eh
      have f2 : fm_ [0, 1] v (st_h (st_w v zw) zh) := fm_tr (fm_s_w _ _) (fm_s_h _ _)
      exact wk_rp182 o ht (gp_fm g1 f2) ew eh (fun c a hc ha => by rw [fm_num f2]; exact n1 c a hc ha) (fun u' f' p' => hp u' (fm_tr (fm_wk f1) (fm_tr (fm_wk f2) (fm_wk f'))) p')
    have : t = 0 ∨ t = 1 ∨ t = 2 := by omega
    rcases this with rfl | rfl | rfl
    · exact br_t rfl (ks_readPlanes_148 (br_t rfl (fin _ _ rfl rfl)))
    · exact br_f (by decide) (br_t rfl (ks_readPlanes_148 (br_f (by decide) (br_t rfl (fin _ _ rfl rfl)))))
    · refine br_f (by decide) (br_f (by decide) (ks_readPlanes_148 (br_f (by decide) (br_f (by decide) (nm_e (fin _ _ ?_ ?_))))))
      · exact g1.1 0 (by omega)
      · exact g1.2.1 0 (by omega)
  · intro n i v hi hv hw
    obtain ⟨f1, n1, k1⟩ := hv
    refine ks_readPlanes_90 (pk_le (gm_S w h (rd_np t)) i (fun z => absurd z (by omega)) (fun _ => ?_))
    refine wk_unmix (r := m0_ w h (P 0) i) (g := m0_ w h (P 1) i) (b := m0_ w h (P 2) i) (by omega) ?_ ?_ ?_ (fun num q0 q1 q2 q3 => nm_r (nI_1 i) (hw _ ⟨fm_tr f1 (fm_s_num _ _), ?_, ?_⟩))
    · have := k1 0 i (by omega) (by omega) hi
      rwa [Nat.mul_zero, Nat.zero_add] at this
    · exact k1 1 i (by omega) (by omega) hi
    · exact k1 2 i (by omega) (by omega) hi
    · intro c a hc ha
      show num _ = _
      by_cases ea : a = i
      · rw [ea]
        refine zz_3 (Q := fun c => num (144 * c + i) = m0_ w h (P c) i) ?_ ?_ ?_ c hc
        · rw [Nat.mul_zero, Nat.zero_add, q0]
        · rw [Nat.mul_one, q1]
        · rw [q2]
      · rw [q3 _ (by omega) (by omega) (by omega)]
        exact n1 c a hc (by omega)
    · intro c a hc ha1 ha2
      show num _ = _
      rw [q3 _ (by omega) (by omega) (by omega)]
      exact k1 c a hc (by omega) ha2
theorem wk_readPlanes {post : St1 → Prop} {u : St1} {b : Nat → Nat} {sl nu w h t : Nat} {P : Nat → Nat → Nat} {M : Nat → Int32} (hd : ds_ b sl nu) (o : po_ w h P) (ht : t ≤ 2) (hM : ∀ c a, c < 3 → a < w * h → M (144 * c + a) = mm_ w h P c a) (hm : dm_ u b sl nu ec_0) (hsy : ec_sy b (ec_al ec_0 M w h 15))
    (hp : ∀ u', fm_ [0, 1, 2, 9, 10, 11, 12, 13, 14] u u' → pc_ u' (it_w t w) (it_w t h) (it_P t w h P) → post u') : wpX_readPlanes post u (nI w) (nI h) (nI t) := by
  obtain ⟨d, hpl⟩ := id o
  have dw := d.2.1
  have dh := d.2.2.2
  have hn : pb_ M w h := pb_in (fun c a hc ha => by rw [hM c a hc ha]; exact mm_in hpl ha)
  refine ks_readPlanes (wk_measure2 (by omega) (by omega) (fun u1 f1 g1 r1 => ?_))
  have m1 : dm_ u1 b sl nu ec_0 := by
    obtain ⟨q1, q2, q3, q4, q5⟩ := hm
    obtain ⟨c1, c2, c3, c4⟩ := r1
    exact ⟨⟨(fm_end f1).trans q1.1, fun k hk => by rw [fm_by f1]; exact q1.2.1 k hk, q1.2.2⟩, c1.trans q2, c2.trans q3, c3.trans q4, fun k hk => by rw [c4]; exact q5 k hk⟩
  have go : ∃ n, kw_readPlanes_29 post (nI w) (nI h) (nI t) (nI (rd_np t)) n 0 u1 := by
    refine wk_rp29 hd d g1 ?_ ?_ hn m1 hsy (fun u2 f2 n2 => wk_rp90 o ht (gp_fm g1 f2) hM n2 (fun u' f' p' => hp u' (fm_tr (fm_wk f1) (fm_tr (fm_wk f2) (fm_wk f'))) p'))
    · unfold rd_np; split <;> (try split) <;> omega
    · unfold rd_np; split <;> (try split) <;> omega
  have : t = 0 ∨ t = 1 ∨ t = 2 := by omega
  rcases this with rfl | rfl | rfl
  · exact br_t rfl go
  · exact br_f (by decide) (br_t rfl go)
  · exact br_f (by decide) (br_f (by decide) go)
end
section
theorem kf_s_aw (u : St1) (x : Int32) : kf_ u (st_aw u x) := ⟨rfl, rfl, rfl, rfl, rfl, rfl, rfl, rfl, rfl, rfl, rfl, rfl, rfl, rfl, rfl, rfl, rfl, rfl⟩
theorem kf_s_ah (u : St1) (x : Int32) : kf_ u (st_ah u x) := ⟨rfl, rfl, rfl, rfl, rfl, rfl, rfl, rfl, rfl, rfl, rfl, rfl, rfl, rfl, rfl, rfl, rfl, rfl⟩
theorem kf_s_aside (u : St1) (x : Nat → Int32) : kf_ u (st_aside u x) := ⟨rfl, rfl, rfl, rfl, rfl, rfl, rfl, rfl, rfl, rfl, rfl, rfl, rfl, rfl, rfl, rfl, rfl, rfl⟩
/-! ===== the picture at hand ===== -/
def cl_ (P : Nat → Nat → Nat) (a : Nat) : Nat := (P 0 a * 256 + P 1 a) * 256 + P 2 a
theorem zi_rgb {r g b : Nat} (hr : r < 256) (hg : g < 256) (hb : b < 256) : (nI r <<< ((16 : Int32) &&& 31)) ||| (nI g <<< ((8 : Int32) &&& 31)) ||| nI b = nI ((r * 256 + g) * 256 + b) := by
  rw [pk_shlN _ 16 (by decide) (by omega), pk_shlN _ 8 (by decide) (by omega), nx_or, nx_or]
  congr 1
  have a1 := Nat.two_pow_add_eq_or_of_lt (i := 16) (b := g * 2 ^ 8) (by omega) r
  have a2 := Nat.two_pow_add_eq_or_of_lt (i := 8) (b := b) (by omega) (r * 256 + g)
  rw [Nat.mul_comm r (2 ^ 16), ← a1, show 2 ^ 16 * r + g * 2 ^ 8 = 2 ^ 8 * (r * 256 + g) by omega, ← a2]
  omega
theorem cl_lt {w h : Nat} {P : Nat → Nat → Nat} (o : po_ w h P) {a : Nat} (ha : a < w * h) : cl_ P a < 16777216 := by
  have h0 := o.2 0 (by omega) a ha
  have h1 := o.2 1 (by omega) a ha
  have h2 := o.2 2 (by omega) a ha
  unfold cl_
  omega
theorem wk_colourAt {post : Int32 → Prop} {u : St1} {w h a : Nat} {P : Nat → Nat → Nat} (o : po_ w h P) (g : pc_ u w h P) (ha : a < w * h) (hp : post (nI (cl_ P a))) : wpX_colourAt post u (nI a) := by
  have h144 := dm_144 o.1
  have h0 := o.2 0 (by omega) a ha
  have h1 := o.2 1 (by omega) a ha
  have h2 := o.2 2 (by omega) a ha
  have g0 := g.2.2 0 a (by omega) ha
  have g1 := g.2.2 1 a (by omega) ha
  have g2 := g.2.2 2 a (by omega) ha
  rw [Nat.mul_zero, Nat.zero_add] at g0
  rw [Nat.mul_one] at g1
  refine ks_colourAt ?_
  rw [zi_p144, zi_p288, nI_clamp (show a < 2 ^ 31 by omega), nI_clamp (show 144 + a < 2 ^ 31 by omega), nI_clamp (show 288 + a < 2 ^ 31 by omega), g0, g1, g2, zi_rgb h0 h1 h2]
  exact ⟨vp_in_nI (by omega) (by omega), vp_in_nI (by omega) (by omega), vp_in_nI (by omega) (by omega), hp⟩
/-- the three bytes of a colour -/
def ch_ (v : Int32) (c : Nat) : Nat := if c = 0 then (v >>> ((16 : Int32) &&& 31)).toBitVec.toNat % 256 else if c = 1 then (v >>> ((8 : Int32) &&& 31)).toBitVec.toNat % 256 else v.toBitVec.toNat % 256
theorem ch_lt (v : Int32) (c : Nat) : ch_ v c < 256 := by
  unfold ch_
  split
  · omega
  · split <;> omega
theorem wk_setColour {post : St1 → Prop} {u : St1} {a : Nat} {v : Int32} (ha : a < 144) (hp : ∀ hand, (∀ c, c < 3 → hand (144 * c + a) = nI (ch_ v c)) → (∀ c a', c < 3 → a' < 144 → a' ≠ a → hand (144 * c + a') = gt_hand u (144 * c + a')) → post (st_hand u hand)) : wpX_setColour post u (nI a) v := by
  refine ks_setColour ?_
  rw [zi_p144, zi_p288, nI_clamp (show a < 2 ^ 31 by omega), nI_clamp (show 144 + a < 2 ^ 31 by omega), nI_clamp (show 288 + a < 2 ^ 31 by omega), pk_and (v >>> ((16 : Int32) &&& 31)) (m := 255) 8 (by decide), pk_and (v >>> ((8 : Int32) &&& 31)) (m := 255) 8 (by decide), pk_and v (m := 255) 8 (by decide)]
  refine ⟨vp_in_nI (by omega) (by omega), nm_e ⟨vp_in_nI (by omega) (by omega), nm_e ⟨vp_in_nI (by omega) (by omega), nm_e (hp _ ?_ ?_)⟩⟩⟩
  · intro c hc
    refine zz_3 (Q := fun c => upd (upd (upd (gt_hand u) a (nI ((v >>> ((16 : Int32) &&& 31)).toBitVec.toNat % 2 ^ 8))) (144 + a) (nI ((v >>> ((8 : Int32) &&& 31)).toBitVec.toNat % 2 ^ 8))) (288 + a) (nI (v.toBitVec.toNat % 2 ^ 8)) (144 * c + a) = nI (ch_ v c)) ?_ ?_ ?_ c hc
    · rw [Nat.mul_zero, Nat.zero_add, pk_un (by omega), pk_un (by omega), pk_us]
      rfl
    · rw [Nat.mul_one, pk_un (by omega), pk_us]
      rfl
    · rw [show 144 * 2 + a = 288 + a by omega, pk_us]
      rfl
  · intro c a' hc ha' hne
    rw [pk_un (by omega), pk_un (by omega), pk_un (by omega)]
theorem ch_cl {w h : Nat} {P : Nat → Nat → Nat} (o : po_ w h P) {a : Nat} (ha : a < w * h) : ∀ c, c < 3 → ch_ (nI (cl_ P a)) c = P c a := by
  have h0 := o.2 0 (by omega) a ha
  have h1 := o.2 1 (by omega) a ha
  have h2 := o.2 2 (by omega) a ha
  have hcl := cl_lt o ha
  refine zz_3 ?_ ?_ ?_
  · show (nI (cl_ P a) >>> ((16 : Int32) &&& 31)).toBitVec.toNat % 256 = P 0 a
    rw [pk_shrN (by omega) _ 16 (by decide), pk_tn (by omega)]
    unfold cl_
    omega
  · show (nI (cl_ P a) >>> ((8 : Int32) &&& 31)).toBitVec.toNat % 256 = P 1 a
    rw [pk_shrN (by omega) _ 8 (by decide), pk_tn (by omega)]
    unfold cl_
    omega
  · show (nI (cl_ P a)).toBitVec.toNat % 256 = P 2 a
    rw [pk_tn (by omega)]
    unfold cl_
    omega
theorem wk_isPlace {post : Int32 → Prop} {u : St1} {w h x y : Nat} (hw : gt_w u = nI w) (hh : gt_h u = nI h) (h31 : w < 2 ^ 31 ∧ h < 2 ^ 31) (hx : x < w) (hy : y < h) (hp : post 1) : wpX_isPlace post u (nI x) (nI y) := by
  refine ks_isPlace (br_f (nI_pos (by omega)) ?_)
  rw [hw, hh]
  exact br_f (nI_ge hx (by omega)) (br_f (nI_pos (by omega)) (br_f (nI_ge hy (by omega)) hp))
theorem wk_get {post : Int32 → Prop} {u : St1} {w h x y : Nat} {P : Nat → Nat → Nat} (o : po_ w h P) (g : pc_ u w h P) (hx : x < w) (hy : y < h) (hp : post (nI (cl_ P (w * y + x)))) : wpX_get post u (nI x) (nI y) := by
  have d := o.1
  refine ks_get (wk_isPlace g.1 g.2.1 ⟨by have := d.2.1; omega, by have := d.2.2.2; omega⟩ hx hy (br_f (by decide) ?_))
  rw [g.1, pk_mul, nI_add]
  exact wk_colourAt o g (zz_lt hx hy) hp
def dg_ (P : Nat → Nat → Nat) : Nat → Int32
  | 0 => 0
  | k + 1 => dg_ P k + (nI k + 1) * nI (cl_ P k)
theorem wk_digest {post : Int32 → Prop} {u : St1} {w h : Nat} {P : Nat → Nat → Nat} (o : po_ w h P) (g : pc_ u w h P) (hp : post (dg_ P (w * h))) : wpX_digest post u := by
  have h144 := dm_144 o.1
  refine ks_digest (pk_loop (σ := Unit) (fun n i _ => kw_digest_4 post n (dg_ P i) (nI i) u) (fun _ _ => True) (w * h) 0 () (by omega) trivial ?_ ?_)
  · intro n _ _
    refine ks_digest_4 ?_
    rw [g.1, g.2.1, pk_mul]
    exact pk_le (w * h) (w * h) (fun _ => hp) (fun z => absurd z (by omega))
  · intro n i _ hi _ hw
    refine ks_digest_4 ?_
    rw [g.1, g.2.1, pk_mul]
    exact pk_le (w * h) i (fun z => absurd z (by omega)) (fun _ => wk_colourAt o g hi (nm_e (nm_r (nI_1 i) (hw () trivial))))
theorem wk_equal {post : Int32 → Prop} {u v : St1} {w h : Nat} {P : Nat → Nat → Nat} (o : po_ w h P) (g : pc_ u w h P) (g' : pc_ v w h P) (hp : post 1) : wpL_equal post (mk_3 u v) := by
  have h144 := dm_144 o.1
  have d := o.1
  have hw0 := d.1
  have hw1 := d.2.1
  refine ks_equal (ks_width (ks_width (br_t (by rw [g.1, g'.1]) (ks_height (ks_height (br_t (by rw [g.2.1, g'.2.1]) (wk_digest o g (wk_digest o g' (br_t rfl ?_)))))))))
  refine pk_loop (σ := Unit) (fun n i _ => kw_equal_37 post n (nI i) u v) (fun _ _ => True) (w * h) 0 () (by omega) trivial ?_ ?_
  · intro n _ _
    refine ks_equal_37 (ks_width (ks_height ?_))
    rw [g.1, g.2.1, pk_mul]
    exact pk_le (w * h) (w * h) (fun _ => hp) (fun z => absurd z (by omega))
  · intro n i _ hi _ hw
    obtain ⟨q1, q2, q3⟩ := zz_dm hi
    refine ks_equal_37 (ks_width (ks_height ?_))
    rw [g.1, g.2.1, pk_mul]
    refine pk_le (w * h) i (fun z => absurd z (by omega)) (fun _ => ks_width ?_)
    rw [g.1, pk_rem (by omega) (by omega) (by omega)]
    refine ⟨nI_ne0 (by omega) (by omega), nm_e (ks_width ?_)⟩
    rw [g.1, pk_div (by omega) (by omega) (by omega)]
    refine ⟨nI_ne0 (by omega) (by omega), nm_e (wk_get o g q1 q2 (wk_get o g' q1 q2 (br_t rfl (nm_r (nI_1 i) (hw () trivial)))))⟩
theorem wk_blank {post : Int32 → St1 → Prop} {u : St1} {w h : Nat} (d : dm_ok w h) (hp : ∀ u', fm_ [0, 1, 2] u u' → pc_ u' w h (fun _ _ => 0) → post (nI (w * h)) u') : wpX_blank post u (nI w) (nI h) := by
  obtain ⟨d1, d2, d3, d4⟩ := id d
  have h144 := dm_144 d
  refine ks_blank (br_f (nI_nlt (b := 1) d1 (by omega)) (br_f (nI_nlt (a := 12) d2 (by omega)) (br_f (nI_nlt (b := 1) d3 (by omega)) (br_t (nI_le (b := 12) d4 (by omega)) ?_))))
  refine pk_loop (fun n i v => kw_blank_36 post (nI w) (nI h) n (nI i) v) (fun i v => fm_ [2] (st_h (st_w u (nI w)) (nI h)) v ∧ ∀ k, k < i → gt_hand v k = 0) 432 0 _ (by omega) ⟨fm_rfl _, fun k hk => absurd hk (by omega)⟩ ?_ ?_
  · intro n v hv
    refine ks_blank_36 (pk_le 432 432 (fun _ => ?_) (fun z => absurd z (by omega)))
    rw [pk_mul]
    refine hp v (fm_tr (fm_tr (fm_s_w _ _) (fm_s_h _ _)) (fm_wk hv.1)) ⟨fm_w hv.1, fm_h hv.1, fun c a hc ha => hv.2 _ (by omega)⟩
  · intro n i v hi hv hw
    refine ks_blank_36 (pk_le 432 i (fun z => absurd z (by omega)) (fun _ => ⟨vp_in_nI hi (by omega), nm_e (nm_r (nI_1 i) (hw _ ⟨fm_tr hv.1 (fm_s_hand _ _), fun k hk => ?_⟩))⟩))
    show upd (gt_hand v) _ _ _ = _
    rw [nI_clamp (by omega)]
    by_cases ek : k = i
    · rw [ek, pk_us]
    · rw [pk_un ek]
      exact hv.2 k (by omega)
theorem wk_exchange {post : St1 → Prop} {u : St1} (hp : ∀ u', fm_ [0, 1, 2] u u' → post u') : wpX_exchange post u := by
  refine ks_exchange (pk_loop (fun n i v => kw_exchange_38 post n (nI i) v) (fun _ v => fm_ [0, 1, 2] u v) 432 0 _ (by omega) ?_ ?_ ?_)
  · exact fm_tr (fm_s_w _ _) (fm_tr (fm_s_h _ _) (fm_tr (fm_kf (kf_s_aw _ _)) (fm_kf (kf_s_ah _ _))))
  · intro n v hv
    exact ks_exchange_38 (pk_le 432 432 (fun _ => hp v hv) (fun z => absurd z (by omega)))
  · intro n i v hi hv hw
    exact ks_exchange_38 (pk_le 432 i (fun z => absurd z (by omega)) (fun _ => ⟨vp_in_nI hi (by omega), nm_e ⟨vp_in_nI hi (by omega), vp_in_nI hi (by omega), nm_e ⟨vp_in_nI hi (by omega), nm_e (nm_r (nI_1 i) (hw _ (fm_tr hv (fm_tr (fm_s_hand _ _) (fm_kf (kf_s_aside _ _))))))⟩⟩⟩))
theorem wk_keepFirst {post : St1 → Prop} {u : St1} (hp : ∀ u', fm_ [3, 4, 5] u u' → gt_fw u' = gt_w u → gt_fh u' = gt_h u → (∀ k, k < 432 → gt_first u' k = gt_hand u k) → post u') : wpX_keepFirst post u := by
  refine ks_keepFirst (pk_loop (fun n i v => kw_keepFirst_18 post n (nI i) v) (fun i v => fm_ [5] (st_fh (st_fw u (gt_w u)) (gt_h u)) v ∧ ∀ k, k < i → gt_first v k = gt_hand u k) 432 0 _ (by omega) ⟨fm_rfl _, fun k hk => absurd hk (by omega)⟩ ?_ ?_)
  · intro n v hv
    exact ks_keepFirst_18 (pk_le 432 432 (fun _ => hp v (fm_tr (fm_tr (fm_s_fw _ _) (fm_s_fh _ _)) (fm_wk hv.1)) (fm_fw hv.1) (fm_fh hv.1) hv.2) (fun z => absurd z (by omega)))
  · intro n i v hi hv hw
    refine ks_keepFirst_18 (pk_le 432 i (fun z => absurd z (by omega)) (fun _ => ⟨vp_in_nI hi (by omega), vp_in_nI hi (by omega), nm_e (nm_r (nI_1 i) (hw _ ⟨fm_tr hv.1 (fm_s_first _ _), fun k hk => ?_⟩))⟩))
    show upd (gt_first v) _ _ _ = _
    rw [nI_clamp (by omega)]
    by_cases ek : k = i
    · rw [ek, pk_us, fm_hand hv.1]
      rfl
    · rw [pk_un ek]
      exact hv.2 k (by omega)
theorem wk_isFirst {post : Int32 → Prop} {u : St1} {w h : Nat} {P : Nat → Nat → Nat} (d : dm_ok w h) (g : pc_ u w h P) (hw : gt_fw u = nI w) (hh : gt_fh u = nI h) (hf : ∀ c a, c < 3 → a < w * h → gt_first u (144 * c + a) = nI (P c a)) (hp : post 1) : wpX_isFirst post u := by
  have h144 := dm_144 d
  refine ks_isFirst (br_t (by rw [g.1, hw]) (br_t (by rw [g.2.1, hh]) ?_))
  refine pk_loop (σ := Unit) (fun n i _ => kw_isFirst_26 post n (nI i) u) (fun _ _ => True) (3 * w * h) 0 () (by omega) trivial ?_ ?_
  · intro n _ _
    refine ks_isFirst_26 ?_
    rw [g.1, g.2.1, show (3 : Int32) * nI w = nI (3 * w) from pk_mul 3 w, pk_mul]
    exact pk_le (3 * w * h) (3 * w * h) (fun _ => hp) (fun z => absurd z (by omega)) rfl rfl (by rw [Nat.mul_assoc]; omega) (by rw [Nat.mul_assoc]; omega)
  · intro n i _ hi _ hw'
    rw [Nat.mul_assoc] at hi
    refine ks_isFirst_26 ?_
    rw [g.1, g.2.1, show (3 : Int32) * nI w = nI (3 * w) from pk_mul 3 w, pk_mul]
    refine pk_le (3 * w * h) i (fun z => absurd z (by rw [Nat.mul_assoc]; omega)) (fun _ => ⟨by decide, by decide, ?_⟩) rfl rfl (by rw [Nat.mul_assoc]; omega) (by omega)
    rw [show (3 : Int32) = nI 3 from rfl, pk_rem (by omega) (by omega) (by omega), pk_div (by omega) (by omega) (by omega), zi_144a]
    have e1 := g.2.2 (i % 3) (i / 3) (by omega) (by omega)
    have e2 := hf (i % 3) (i / 3) (by omega) (by omega)
    refine nm_e ⟨vp_in_nI (by omega) (by omega), vp_in_nI (by omega) (by omega), ?_⟩
    rw [nI_clamp (by omega), e1, e2]
    exact br_t rfl (nm_r (nI_1 i) (hw' () trivial))
end
section
/-! ===== halve ===== -/
theorem wk_alongX {post : Int32 → Prop} {u : St1} {w h c y i : Nat} {p : Nat → Nat} (d : dm_ok w h) (hpl : pl_ w h p) (hw : gt_w u = nI w) (hn : ∀ a, a < w * h → gt_hand u (144 * c + a) = nI (p a)) (hc : c < 3) (hy : y < h) (hi : i < (w + 1) / 2) (hp : post (nI (hx_ w p y i))) : wpX_alongX post u (nI (144 * c)) (nI (2 * i)) (nI y) := by
  have h144 := dm_144 d
  have hw12 := d.2.1
  have hlt : w * y + 2 * i < w * h := zz_lt (by omega) hy
  have hA := hpl _ hlt
  have ea : nI (144 * c) + nI w * nI y + nI (2 * i) = nI (144 * c + (w * y + 2 * i)) := by rw [pk_mul, nI_add, nI_add, Nat.add_assoc]
  unfold hx_ at hp
  refine ks_alongX ?_
  rw [hw, ea, nI_clamp (by omega), hn _ hlt, nI_1, nI_1]
  refine ⟨vp_in_nI (by omega) (by omega), nm_e (pk_le w (2 * i + 1) (fun z => ?_) (fun z => ?_))⟩
  · rw [if_neg (by omega)] at hp
    exact hp
  · rw [if_pos z] at hp
    have hlt2 : w * y + 2 * i + 1 < w * h := by rw [Nat.add_assoc]; exact zz_lt (by omega) hy
    have hB := hpl _ hlt2
    refine ⟨vp_in_nI (by omega) (by omega), zi_ne2, ?_⟩
    rw [nI_clamp (by omega), Nat.add_assoc (144 * c), hn _ hlt2, nI_add, zi_h2 (by omega)]
    exact hp
theorem wk_halfAt {post : Int32 → Prop} {u : St1} {w h c i x : Nat} {p : Nat → Nat} (d : dm_ok w h) (hpl : pl_ w h p) (hw : gt_w u = nI w) (hh : gt_h u = nI h) (hn : ∀ a, a < w * h → gt_hand u (144 * c + a) = nI (p a)) (hc : c < 3) (hi : i < (h + 1) / 2) (hx : x < (w + 1) / 2) (hp : post (nI (hy_ w h p i x))) : wpX_halfAt post u (nI (144 * c)) (nI (2 * x)) (nI (2 * i)) := by
  have hh12 := d.2.2.2
  have hA := hx_lt hpl (y := 2 * i) (by omega) hx
  unfold hy_ at hp
  refine ks_halfAt (wk_alongX d hpl hw hn hc (by omega) hx ?_)
  rw [hh, nI_1]
  refine pk_le h (2 * i + 1) (fun z => ?_) (fun z => ?_)
  · rw [if_neg (by omega)] at hp
    exact hp
  · rw [if_pos z] at hp
    have hB := hx_lt hpl (y := 2 * i + 1) (by omega) hx
    refine wk_alongX d hpl hw hn hc (by omega) hx ⟨zi_ne2, ?_⟩
    rw [nI_add, zi_h2 (by omega)]
    exact hp
theorem wk_hv28 {post : Int32 → St1 → Prop} {J : Int32 → St1 → Prop} {v : St1} {w h c : Nat} {p : Nat → Nat} (d : dm_ok w h) (hpl : pl_ w h p) (hw : gt_w v = nI w) (hh : gt_h v = nI h) (hn : ∀ a, a < w * h → gt_hand v (144 * c + a) = nI (p a)) (hc : c < 3)
    (hJ : ∀ v', fm_ [2, 14] v v' → (∀ a, a < (w + 1) / 2 * ((h + 1) / 2) → gt_hand v' (144 * c + a) = nI (hf_ w h p a)) → (∀ q, q < 144 * c ∨ 144 * c + 144 ≤ q → gt_hand v' q = gt_hand v q) → J (nI (c + 1)) v') : ∃ n, kw_halve_28 post J (nI ((w + 1) / 2)) (nI ((h + 1) / 2)) (nI c) n 0 v := by
  have d2 := dm_half d
  have h144 := dm_144 d2
  have hw1 := d2.1
  refine pk_loop (fun n i v' => kw_halve_28 post J (nI ((w + 1) / 2)) (nI ((h + 1) / 2)) (nI c) n (nI i) v') (fun i v' => fm_ [14] v v' ∧ ∀ k, k < i → gt_sm v' k = nI (hf_ w h p k)) ((w + 1) / 2 * ((h + 1) / 2)) 0 v (by omega) ⟨fm_rfl v, fun k hk => absurd hk (by omega)⟩ ?_ ?_
  · intro n v1 hv1
    obtain ⟨f1, l1⟩ := hv1
    refine ks_halve_28 ?_
    rw [pk_mul]
    refine pk_le ((w + 1) / 2 * ((h + 1) / 2)) ((w + 1) / 2 * ((h + 1) / 2)) (fun _ => ?_) (fun z => absurd z (by omega))
    refine pk_loop (fun n i v' => kw_halve_73 post J (nI ((w + 1) / 2)) (nI ((h + 1) / 2)) (nI c) n (nI i) v') (fun i v' => fm_ [2] v1 v' ∧ (∀ k, k < i → gt_hand v' (144 * c + k) = nI (hf_ w h p k)) ∧ (∀ q, q < 144 * c ∨ 144 * c + 144 ≤ q → gt_hand v' q = gt_hand v q)) ((w + 1) / 2 * ((h + 1) / 2)) 0 v1 (by omega) ⟨fm_rfl v1, fun k hk => absurd hk (by omega), fun q _ => by rw [fm_hand f1]⟩ ?_ ?_
    · intro n v2 hv2
      obtain ⟨f2, l2, k2⟩ := hv2
      refine ks_halve_73 ?_
      rw [pk_mul]
      exact pk_le ((w + 1) / 2 * ((h + 1) / 2)) ((w + 1) / 2 * ((h + 1) / 2)) (fun _ => nm_r (nI_1 c) (hJ v2 (fm_tr (fm_wk f1) (fm_wk f2)) l2 k2)) (fun z => absurd z (by omega))
    · intro n i v2 hi hv2 hw2
      obtain ⟨f2, l2, k2⟩ := hv2
      refine ks_halve_73 ?_
      rw [pk_mul, zi_144a]
      refine pk_le ((w + 1) / 2 * ((h + 1) / 2)) i (fun z => absurd z (by omega)) (fun _ => ⟨vp_in_nI (by omega) (by omega), vp_in_nI (by omega) (by omega), nm_e (nm_r (nI_1 i) (hw2 _ ⟨fm_tr f2 (fm_s_hand _ _), ?_, ?_⟩))⟩)
      · intro k hk
        show upd (gt_hand v2) _ _ _ = _
        rw [nI_clamp (by omega), nI_clamp (by omega)]
        by_cases ek : k = i
        · rw [ek, pk_us, fm_sm f2]
          exact l1 i hi
        · rw [pk_un (by omega)]
          exact l2 k (by omega)
      · intro q hq
        show upd (gt_hand v2) _ _ _ = _
        rw [nI_clamp (by omega), pk_un (by omega)]
        exact k2 q hq
  · intro n i v1 hi hv1 hw1'
    obtain ⟨f1, l1⟩ := hv1
    obtain ⟨q1, q2, q3⟩ := zz_dm hi
    refine ks_halve_28 ?_
    rw [pk_mul, pk_rem (by omega) (by omega) (by have := d2.2.1; omega), pk_div (by omega) (by omega) (by have := d2.2.1; omega), zi_144, zi_2m, zi_2m]
    refine pk_le ((w + 1) / 2 * ((h + 1) / 2)) i (fun z => absurd z (by omega)) (fun _ => ⟨nI_ne0 hw1 (by have := d2.2.1; omega), nI_ne0 hw1 (by have := d2.2.1; omega), ?_⟩)
    refine wk_halfAt d hpl (by rw [fm_w f1]; exact hw) (by rw [fm_h f1]; exact hh) (fun a ha => by rw [fm_hand f1]; exact hn a ha) hc q2 q1 ⟨vp_in_nI (by omega) (by omega), nm_e (nm_r (nI_1 i) (hw1' _ ⟨fm_tr f1 (fm_s_sm _ _), fun k hk => ?_⟩))⟩
    show upd (gt_sm v1) _ _ _ = _
    rw [nI_clamp (by omega)]
    by_cases ek : k = i
    · rw [ek, pk_us]
      rfl
    · rw [pk_un ek]
      exact l1 k (by omega)
theorem wk_halve {post : Int32 → St1 → Prop} {u : St1} {w h : Nat} {P : Nat → Nat → Nat} (o : po_ w h P) (g : pc_ u w h P) (hp : ∀ u', fm_ [0, 1, 2, 14] u u' → pc_ u' ((w + 1) / 2) ((h + 1) / 2) (fun c => hf_ w h (P c)) → post (nI ((w + 1) / 2 * ((h + 1) / 2))) u') : wpX_halve post u := by
  have d := o.1
  have h144 := dm_144 d
  have dw := d.2.1
  have dh := d.2.2.2
  refine ks_halve ?_
  rw [g.1, g.2.1, zi_half (by omega), zi_half (by omega)]
  refine ⟨zi_ne2, nm_e ⟨zi_ne2, nm_e ?_⟩⟩
  refine pk_loop (fun n c v => kw_halve_20 post (nI ((w + 1) / 2)) (nI ((h + 1) / 2)) n (nI c) v) (fun c v => fm_ [2, 14] u v ∧ (∀ c' a, c' < c → a < (w + 1) / 2 * ((h + 1) / 2) → gt_hand v (144 * c' + a) = nI (hf_ w h (P c') a)) ∧ (∀ c' a, c ≤ c' → c' < 3 → a < w * h → gt_hand v (144 * c' + a) = nI (P c' a))) 3 0 u (by omega) ⟨fm_rfl u, fun c' a hc' => absurd hc' (by omega), fun c' a _ hc' ha => g.2.2 c' a hc' ha⟩ ?_ ?_
  · intro n v hv
    obtain ⟨f1, l1, _⟩ := hv
    refine ks_halve_20 (pk_le 3 3 (fun _ => ?_) (fun z => absurd z (by omega)))
    rw [pk_mul]
    exact hp _ (fm_tr (fm_wk f1) (fm_tr (fm_s_w _ _) (fm_s_h _ _))) ⟨rfl, rfl, l1⟩
  · intro n c v hc hv hw
    obtain ⟨f1, l1, k1⟩ := hv
    have d2 := dm_144 (dm_half d)
    refine ks_halve_20 (pk_le 3 c (fun z => absurd z (by omega)) (fun _ => ?_))
    refine wk_hv28 d (o.2 c hc) (by rw [fm_w f1]; exact g.1) (by rw [fm_h f1]; exact g.2.1) (fun a ha => k1 c a (by omega) hc ha) hc (fun v2 f2 l2 k2 => hw v2 ⟨fm_tr f1 f2, fun c' a hc' ha => ?_, fun c' a hc1 hc' ha => ?_⟩)
    · by_cases ec : c' = c
      · rw [ec]
        exact l2 a ha
      · rw [k2 _ (by omega)]
        exact l1 c' a (by omega) ha
    · rw [k2 _ (by omega)]
      exact k1 c' a (by omega) hc' ha
/-! ===== turn ===== -/
def tk_ (kind w h a : Nat) : Nat := if kind = 0 then w * (a / w) + (w - 1 - a % w) else if kind = 1 then w * (h - 1 - a / w) + a % w else h * (a % w) + a / w
def tk_w (kind w h : Nat) : Nat := if kind = 2 then h else w
/-- the turned picture -/
def tp_ (kind w h : Nat) (P : Nat → Nat → Nat) : Nat → Nat → Nat := fun c a => P c (tk_ kind (tk_w kind w h) (tk_w kind h w) a)
theorem zz_s {h y : Nat} (hy : y < h) : h - 1 - y < h ∧ h - 1 - (h - 1 - y) = y := by omega
theorem tk_lt {kind w h a : Nat} (hk : kind ≤ 2) (ha : a < w * h) : tk_ kind w h a < w * h := by
  obtain ⟨q1, q2, q3⟩ := zz_dm ha
  unfold tk_
  split
  · exact zz_lt (by omega) q2
  · split
    · exact zz_lt q1 (zz_s q2).1
    · rw [Nat.mul_comm w h]
      exact zz_lt q2 q1
theorem tk_tk {kind w h a : Nat} (hk : kind ≤ 2) (ha : a < w * h) : tk_ kind (tk_w kind w h) (tk_w kind h w) (tk_ kind w h a) = a := by
  obtain ⟨q1, q2, q3⟩ := zz_dm ha
  have : kind = 0 ∨ kind = 1 ∨ kind = 2 := by omega
  rcases this with rfl | rfl | rfl
  · show w * ((w * (a / w) + (w - 1 - a % w)) / w) + (w - 1 - (w * (a / w) + (w - 1 - a % w)) % w) = a
    rw [zz_d (by omega), zz_m (by omega), show w - 1 - (w - 1 - a % w) = a % w by omega]
    exact q3
  · show w * (h - 1 - (w * (h - 1 - a / w) + a % w) / w) + (w * (h - 1 - a / w) + a % w) % w = a
    rw [zz_d q1, zz_m q1, (zz_s q2).2]
    exact q3
  · show w * ((h * (a % w) + a / w) % h) + (h * (a % w) + a / w) / h = a
    rw [zz_d q2, zz_m q2]
    exact q3
theorem tk_ww (kind w h : Nat) : tk_w kind (tk_w kind w h) (tk_w kind h w) = w := by
  unfold tk_w
  split
  · rfl
  · rfl
theorem tk_wh {kind w h : Nat} : tk_w kind w h * tk_w kind h w = w * h := by
  unfold tk_w
  split
  · exact Nat.mul_comm _ _
  · rfl
theorem po_turn {kind w h : Nat} {P : Nat → Nat → Nat} (hk : kind ≤ 2) (o : po_ w h P) : po_ (tk_w kind w h) (tk_w kind h w) (tp_ kind w h P) := by
  obtain ⟨⟨d1, d2, d3, d4⟩, hp⟩ := o
  refine ⟨?_, fun c hc a ha => ?_⟩
  · unfold tk_w
    split
    · exact ⟨d3, d4, d1, d2⟩
    · exact ⟨d1, d2, d3, d4⟩
  · refine hp c hc _ ?_
    have := tk_lt (kind := kind) (w := tk_w kind w h) (h := tk_w kind h w) hk ha
    rw [tk_wh] at this
    exact this
/-- turned twice it is the picture again -/
theorem tp_tp {kind w h : Nat} {P : Nat → Nat → Nat} (hk : kind ≤ 2) {c a : Nat} (ha : a < w * h) : tp_ kind (tk_w kind w h) (tk_w kind h w) (tp_ kind w h P) c a = P c a := by
  show P c (tk_ kind (tk_w kind w h) (tk_w kind h w) (tk_ kind (tk_w kind (tk_w kind w h) (tk_w kind h w)) (tk_w kind (tk_w kind h w) (tk_w kind w h)) a)) = P c a
  rw [tk_ww, tk_ww, tk_tk hk ha]
theorem zi_tk0 {w y x : Nat} (hx : x < w) : nI w * nI y + nI w - 1 - nI x = nI (w * y + (w - 1 - x)) := by
  rw [pk_mul, nI_add, show (1 : Int32) = nI 1 from rfl, pk_sub (by omega), pk_sub (by omega)]
  congr 1
  omega
theorem zi_tk1 {w h y x : Nat} (hy : y < h) : nI w * (nI h - 1 - nI y) + nI x = nI (w * (h - 1 - y) + x) := by
  rw [show (1 : Int32) = nI 1 from rfl, pk_sub (by omega), pk_sub (by omega), pk_mul, nI_add]
theorem wk_tp37 {post : St1 → Prop} {v : St1} {kind w h c : Nat} {p : Nat → Nat} (hk : kind ≤ 2) (d : dm_ok w h) (hw : gt_w v = nI w) (hh : gt_h v = nI h) (hl : ∀ a, a < w * h → gt_lg v a = nI (p a)) (hc : c < 3)
    (hp : ∀ v', fm_ [2] v v' → (∀ a, a < w * h → gt_hand v' (144 * c + a) = nI (p (tk_ kind (tk_w kind w h) (tk_w kind h w) a))) → (∀ q, q < 144 * c ∨ 144 * c + 144 ≤ q → gt_hand v' q = gt_hand v q) → post v') : ∃ n, kw_turnPlane_37 post (nI (144 * c)) (nI kind) n 0 v := by
  have h144 := dm_144 d
  have hw0 := d.1
  have hw1 := d.2.1
  refine pk_loop (fun n i v' => kw_turnPlane_37 post (nI (144 * c)) (nI kind) n (nI i) v') (fun i v' => fm_ [2] v v' ∧ (∀ a, a < w * h → tk_ kind (tk_w kind w h) (tk_w kind h w) a < i → gt_hand v' (144 * c + a) = nI (p (tk_ kind (tk_w kind w h) (tk_w kind h w) a))) ∧ (∀ q, q < 144 * c ∨ 144 * c + 144 ≤ q → gt_hand v' q = gt_hand v q)) (w * h) 0 v (by omega) ⟨fm_rfl v, fun a _ ha => absurd ha (by omega), fun q _ => rfl⟩ ?_ ?_
  · intro n v1 hv1
    obtain ⟨f1, l1, k1⟩ := hv1
    refine ks_turnPlane_37 ?_
    rw [fm_w f1, fm_h f1, hw, hh, pk_mul]
    refine pk_le (w * h) (w * h) (fun _ => hp v1 f1 (fun a ha => l1 a ha ?_) k1) (fun z => absurd z (by omega))
    have := tk_lt (kind := kind) (w := tk_w kind w h) (h := tk_w kind h w) hk (by rw [tk_wh]; exact ha)
    rw [tk_wh] at this
    exact this
  · intro n i v1 hi hv1 hw1'
    obtain ⟨f1, l1, k1⟩ := hv1
    obtain ⟨q1, q2, q3⟩ := zz_dm hi
    have hto := tk_lt (kind := kind) hk hi
    have fin : ∀ z, z = nI (tk_ kind w h i) → kw_turnPlane_125 post (kw_turnPlane_37 post (nI (144 * c)) (nI kind) n) (nI (144 * c)) (nI kind) (nI i) z v1 := by
      intro z hz
      refine ks_turnPlane_125 ?_
      rw [hz, nI_add]
      refine ⟨vp_in_nI (by omega) (by omega), vp_in_nI (by omega) (by omega), nm_e (nm_r (nI_1 i) (hw1' _ ⟨fm_tr f1 (fm_s_hand _ _), fun a ha hlt => ?_, fun q hq => ?_⟩))⟩
      · show upd (gt_hand v1) _ _ _ = _
        rw [nI_clamp (by omega), nI_clamp (by omega)]
        by_cases ea : a = tk_ kind w h i
        · rw [ea, pk_us, fm_lg f1, tk_tk hk hi]
          exact hl i hi
        · rw [pk_un (by omega)]
          refine l1 a ha ?_
          have hne : tk_ kind (tk_w kind w h) (tk_w kind h w) a ≠ i := by
            intro e
            have := tk_tk (kind := kind) (w := tk_w kind w h) (h := tk_w kind h w) hk (a := a) (by rw [tk_wh]; exact ha)
            rw [tk_ww, tk_ww, e] at this
            exact ea this.symm
          omega
      · show upd (gt_hand v1) _ _ _ = _
        rw [nI_clamp (by omega), pk_un (by omega)]
        exact k1 q hq
    refine ks_turnPlane_37 ?_
    rw [fm_w f1, fm_h f1, hw, hh, pk_mul, pk_rem (by omega) (by omega) (by omega), pk_div (by omega) (by omega) (by omega)]
    refine pk_le (w * h) i (fun z => absurd z (by omega)) (fun _ => ⟨nI_ne0 (by omega) (by omega), nm_e ⟨nI_ne0 (by omega) (by omega), nm_e ?_⟩⟩)
    have : kind = 0 ∨ kind = 1 ∨ kind = 2 := by omega
    rcases this with rfl | rfl | rfl
    · exact br_t rfl (fin _ (zi_tk0 q1))
    · exact br_f (by decide) (br_t rfl (fin _ (zi_tk1 q2)))
    · exact br_f (by decide) (br_f (by decide) (fin _ (by rw [pk_mul, nI_add]; rfl)))
theorem wk_turnPlane {post : St1 → Prop} {v : St1} {kind w h c : Nat} {p : Nat → Nat} (hk : kind ≤ 2) (d : dm_ok w h) (hw : gt_w v = nI w) (hh : gt_h v = nI h) (hl : ∀ a, a < w * h → gt_hand v (144 * c + a) = nI (p a)) (hc : c < 3)
    (hp : ∀ v', fm_ [2, 13] v v' → (∀ a, a < w * h → gt_hand v' (144 * c + a) = nI (p (tk_ kind (tk_w kind w h) (tk_w kind h w) a))) → (∀ q, q < 144 * c ∨ 144 * c + 144 ≤ q → gt_hand v' q = gt_hand v q) → post v') : wpX_turnPlane post v (nI (144 * c)) (nI kind) := by
  have h144 := dm_144 d
  refine ks_turnPlane (pk_loop (fun n i v' => kw_turnPlane_2 post (nI (144 * c)) (nI kind) n (nI i) v') (fun i v' => fm_ [13] v v' ∧ ∀ a, a < i → gt_lg v' a = nI (p a)) (w * h) 0 v (by omega) ⟨fm_rfl v, fun a ha => absurd ha (by omega)⟩ ?_ ?_)
  · intro n v1 hv1
    obtain ⟨f1, l1⟩ := hv1
    refine ks_turnPlane_2 ?_
    rw [fm_w f1, fm_h f1, hw, hh, pk_mul]
    refine pk_le (w * h) (w * h) (fun _ => ?_) (fun z => absurd z (by omega))
    exact wk_tp37 hk d (by rw [fm_w f1]; exact hw) (by rw [fm_h f1]; exact hh) l1 hc (fun v2 f2 l2 k2 => hp v2 (fm_tr (fm_wk f1) (fm_wk f2)) l2 (fun q hq => by rw [k2 q hq, fm_hand f1]))
  · intro n i v1 hi hv1 hw1
    obtain ⟨f1, l1⟩ := hv1
    refine ks_turnPlane_2 ?_
    rw [fm_w f1, fm_h f1, hw, hh, pk_mul, nI_add]
    refine pk_le (w * h) i (fun z => absurd z (by omega)) (fun _ => ⟨vp_in_nI (by omega) (by omega), vp_in_nI (by omega) (by omega), nm_e (nm_r (nI_1 i) (hw1 _ ⟨fm_tr f1 (fm_s_lg _ _), fun a ha => ?_⟩))⟩)
    show upd (gt_lg v1) _ _ _ = _
    rw [nI_clamp (by omega), nI_clamp (by omega)]
    by_cases ea : a = i
    · rw [ea, pk_us, fm_hand f1]
      exact hl i hi
    · rw [pk_un ea]
      exact l1 a (by omega)
theorem wk_turn {post : Int32 → St1 → Prop} {u : St1} {kind w h : Nat} {P : Nat → Nat → Nat} (hk : kind ≤ 2) (o : po_ w h P) (g : pc_ u w h P) (hp : ∀ u', fm_ [0, 1, 2, 13] u u' → pc_ u' (tk_w kind w h) (tk_w kind h w) (tp_ kind w h P) → post (nI (w * h)) u') : wpX_turn post u (nI kind) := by
  have d := o.1
  have h144 := dm_144 d
  refine ks_turn (br_f (nI_pos (by omega)) (br_t (nI_le (b := 2) hk (by omega)) ?_))
  refine pk_loop (fun n c v => kw_turn_13 post (nI kind) n (nI c) v) (fun c v => fm_ [2, 13] u v ∧ (∀ c' a, c' < c → a < w * h → gt_hand v (144 * c' + a) = nI (tp_ kind w h P c' a)) ∧ (∀ c' a, c ≤ c' → c' < 3 → a < w * h → gt_hand v (144 * c' + a) = nI (P c' a))) 3 0 u (by omega) ⟨fm_rfl u, fun c' a hc' => absurd hc' (by omega), fun c' a _ hc' ha => g.2.2 c' a hc' ha⟩ ?_ ?_
  · intro n v hv
    obtain ⟨f1, l1, _⟩ := hv
    have ew : gt_w v = nI w := by rw [fm_w f1]; exact g.1
    have eh : gt_h v = nI h := by rw [fm_h f1]; exact g.2.1
    refine ks_turn_13 (pk_le 3 3 (fun _ => pk_eq kind 2 (fun z => ?_) (fun z => ?_)) (fun z => absurd z (by omega)))
    · subst z
      rw [ew, eh, pk_mul, Nat.mul_comm h w]
      refine hp _ (fm_tr (fm_wk f1) (fm_tr (fm_s_w _ _) (fm_s_h _ _))) ⟨rfl, rfl, fun c a hc ha => ?_⟩
      exact l1 c a hc (by rw [tk_wh] at ha; exact ha)
    · rw [ew, eh, pk_mul]
      refine hp v (fm_wk f1) ⟨?_, ?_, fun c a hc ha => l1 c a hc (by rw [tk_wh] at ha; exact ha)⟩
      · unfold tk_w
        rw [if_neg z]
        exact ew
      · unfold tk_w
        rw [if_neg z]
        exact eh
  · intro n c v hc hv hw
    obtain ⟨f1, l1, k1⟩ := hv
    refine ks_turn_13 (pk_le 3 c (fun z => absurd z (by omega)) (fun _ => ?_))
    rw [zi_144]
    refine wk_turnPlane hk d (by rw [fm_w f1]; exact g.1) (by rw [fm_h f1]; exact g.2.1) (fun a ha => k1 c a (by omega) hc ha) hc (fun v2 f2 l2 k2 => nm_r (nI_1 c) (hw v2 ⟨fm_tr f1 f2, fun c' a hc' ha => ?_, fun c' a hc1 hc' ha => ?_⟩))
    · by_cases ec : c' = c
      · rw [ec]
        exact l2 a ha
      · rw [k2 _ (by omega)]
        exact l1 c' a (by omega) ha
    · rw [k2 _ (by omega)]
      exact k1 c' a (by omega) hc' ha
end
section
/-! ===== the check number ===== -/
def cr_s (c : Int32) : Int32 := ((c.toUInt32 >>> ((1 : Int32).toUInt32 &&& Int32.toUInt32 31)).toInt32) ^^^ (if c &&& 1 = 1 then -306674912 else 0)
def cr_n (c : Int32) : Nat → Int32
  | 0 => c
  | k + 1 => cr_s (cr_n c k)
def cr_f (c b : Int32) : Int32 := cr_n (c ^^^ b) 8
def cr_a (bs : Nat → Int32) (base : Nat) : Nat → Int32
  | 0 => -1
  | i + 1 => if i < 2 ∨ 6 ≤ i then cr_f (cr_a bs base i) (bs (base + i)) else cr_a bs base i
def cs_ (bs : Nat → Int32) (base : Nat) : Nat → Int32
  | 0 => 0
  | k + 1 => (cs_ bs base k <<< ((8 : Int32) &&& 31)) ||| bs (base + (2 + k))
/-- a slot's check number is right -/
def so_ (bs : Nat → Int32) (sl n : Nat) : Prop := cs_ bs (512 * sl) 4 = cr_a bs (512 * sl) n ^^^ (-1)
theorem wk_feed {post : St1 → Prop} {u : St1} {b : Int32} (hp : ∀ u', kf_ u u' → gt_crc u' = cr_f (gt_crc u) b → post u') : wpX_feed post u b := by
  refine ks_feed (nm_e (pk_loop (fun n i v => kw_feed_12 post n (nI i) v) (fun i v => kf_ u v ∧ gt_crc v = cr_n (gt_crc u ^^^ b) i) 8 0 _ (by omega) ⟨kf_s_crc _ _, rfl⟩ ?_ ?_))
  · intro n v hv
    exact ks_feed_12 (pk_le 8 8 (fun _ => hp v hv.1 hv.2) (fun z => absurd z (by omega)))
  · intro n i v hi hv hw
    refine ks_feed_12 (pk_le 8 i (fun z => absurd z (by omega)) (fun _ => ?_))
    by_cases hc : gt_crc v &&& 1 = 1
    · refine br_t hc (nm_e (nm_r (nI_1 i) (hw _ ⟨kf_tr hv.1 (kf_s_crc _ _), ?_⟩)))
      show _ = cr_s (cr_n (gt_crc u ^^^ b) i)
      rw [← hv.2]
      unfold cr_s
      rw [if_pos hc]
      rfl
    · refine br_f hc (nm_e (nm_r (nI_1 i) (hw _ ⟨kf_tr hv.1 (kf_s_crc _ _), ?_⟩)))
      show _ = cr_s (cr_n (gt_crc u ^^^ b) i)
      rw [← hv.2]
      unfold cr_s
      rw [if_neg hc]
      rfl
theorem zi_512 (c a : Nat) : (512 : Int32) * nI c + nI a = nI (512 * c + a) := by rw [show (512 : Int32) = nI 512 from rfl, pk_mul, nI_add]
theorem wk_checkOf {post : Int32 → St1 → Prop} {u : St1} {sl n : Nat} (hsl : sl < 4) (hn : n ≤ 512) (hu : gt_used u sl = nI n) (hp : ∀ u', kf_ u u' → post (cr_a (gt_by u) (512 * sl) n ^^^ (-1)) u') : wpX_checkOf post u (nI sl) := by
  have hcl : (nI sl).toNatClampNeg = sl := nI_clamp (by omega)
  refine ks_checkOf (pk_loop (fun f i v => kw_checkOf_7 post (nI sl) f (nI i) v) (fun i v => kf_ u v ∧ gt_crc v = cr_a (gt_by u) (512 * sl) i) n 0 _ (by omega) ⟨kf_s_crc _ _, rfl⟩ ?_ ?_)
  · intro f v hv
    refine ks_checkOf_7 ⟨vp_in_nI hsl (by omega), ?_⟩
    rw [hcl, kf_used hv.1, hu, hv.2]
    exact pk_le n n (fun _ => hp v hv.1) (fun z => absurd z (by omega))
  · intro f i v hi hv hw
    have fd : (i < 2 ∨ 6 ≤ i) → kw_checkOf_28 post (kw_checkOf_7 post (nI sl) f) (nI sl) (nI i) v := by
      intro hz
      refine ks_checkOf_28 ?_
      rw [zi_512, nI_clamp (by omega)]
      refine ⟨vp_in_nI (by omega) (by omega), wk_feed (fun u' f' g' => nm_r (nI_1 i) (hw u' ⟨kf_tr hv.1 f', ?_⟩))⟩
      rw [g', hv.2, kf_by hv.1]
      show _ = if i < 2 ∨ 6 ≤ i then _ else _
      rw [if_pos hz]
    refine ks_checkOf_7 ⟨vp_in_nI hsl (by omega), ?_⟩
    rw [hcl, kf_used hv.1, hu]
    refine pk_le n i (fun z => absurd z (by omega)) (fun _ => pk_lt i 2 (fun z => fd (Or.inl z)) (fun z => pk_lt i 6 (fun z2 => nm_r (nI_1 i) (hw v ⟨hv.1, ?_⟩)) (fun z2 => fd (Or.inr z2))))
    show _ = if i < 2 ∨ 6 ≤ i then _ else _
    rw [if_neg (by omega)]
    exact hv.2
theorem wk_isSound {post : Int32 → St1 → Prop} {u : St1} {sl n : Nat} (hsl : sl < 4) (hn : n ≤ 512) (hu : gt_used u sl = nI n) (h1 : so_ (gt_by u) sl n → ∀ u', kf_ u u' → post 1 u') (h0 : ¬ so_ (gt_by u) sl n → ∀ u', kf_ u u' → post 0 u') : wpX_isSound post u (nI sl) := by
  refine ks_isSound (pk_loop (σ := Unit) (fun f i _ => kw_isSound_4 post (nI sl) f (cs_ (gt_by u) (512 * sl) i) (nI (2 + i)) u) (fun _ _ => True) 4 0 () (by omega) trivial ?_ ?_)
  · intro f _ _
    refine ks_isSound_4 (pk_le 6 (2 + 4) (fun _ => wk_checkOf hsl hn hu (fun u' f' => ?_)) (fun z => absurd z (by omega)))
    by_cases hs : so_ (gt_by u) sl n
    · exact br_t hs (h1 hs u' f')
    · exact br_f hs (h0 hs u' f')
  · intro f i _ hi _ hw
    refine ks_isSound_4 (pk_le 6 (2 + i) (fun z => absurd z (by omega)) (fun _ => ?_))
    rw [zi_512, nI_clamp (by omega)]
    exact ⟨vp_in_nI (by omega) (by omega), nm_e (nm_r (nI_1 (2 + i)) (hw () trivial))⟩
/-! one-to-one -/
theorem zx_l {a b c : Int32} (h : a ^^^ c = b ^^^ c) : a = b := by
  apply Int32.toBitVec_inj.mp
  have := congrArg Int32.toBitVec h
  rw [Int32.toBitVec_xor, Int32.toBitVec_xor] at this
  exact (BitVec.xor_left_inj _).mp this
theorem zx_r {a b c : Int32} (h : c ^^^ a = c ^^^ b) : a = b := by
  apply Int32.toBitVec_inj.mp
  have := congrArg Int32.toBitVec h
  rw [Int32.toBitVec_xor, Int32.toBitVec_xor] at this
  exact (BitVec.xor_right_inj _).mp this
theorem cr_b0 (c : Int32) : c &&& 1 = 1 ↔ zb_t c 0 = true := by
  rw [pk_and c (m := 1) 1 (by decide)]
  unfold zb_t
  rw [BitVec.getLsbD, Nat.testBit_zero]
  have h2 : c.toBitVec.toNat % 2 ^ 1 = c.toBitVec.toNat % 2 := rfl
  rw [h2, show (1 : Int32) = nI 1 from rfl, nI_eq (by omega) (by omega)]
  constructor
  · intro h; exact decide_eq_true h
  · intro h; exact of_decide_eq_true h
theorem cr_p31 : zb_t (-306674912) 31 = true := by decide
theorem cr_t31 (c : Int32) : zb_t (cr_s c) 31 = zb_t c 0 := by
  unfold cr_s
  rw [zb_xor, show ((c.toUInt32 >>> ((1 : Int32).toUInt32 &&& Int32.toUInt32 31)).toInt32) = ((c.toUInt32 >>> ((nI 1).toUInt32 &&& Int32.toUInt32 31)).toInt32) from rfl, zb_ushr 1 (by omega), zb_big (by omega)]
  by_cases h : c &&& 1 = 1
  · rw [if_pos h, cr_p31, (cr_b0 c).mp h]
    rfl
  · rw [if_neg h, zb_0]
    have : zb_t c 0 = false := by
      cases hz : zb_t c 0
      · rfl
      · exact absurd ((cr_b0 c).mpr hz) h
    rw [this]
    rfl
theorem cr_s_inj {a b : Int32} (h : cr_s a = cr_s b) : a = b := by
  have h0 : zb_t a 0 = zb_t b 0 := by rw [← cr_t31, ← cr_t31, h]
  have hc : (a &&& 1 = 1) ↔ (b &&& 1 = 1) := by rw [cr_b0, cr_b0, h0]
  have hs : (a.toUInt32 >>> ((1 : Int32).toUInt32 &&& Int32.toUInt32 31)).toInt32 = (b.toUInt32 >>> ((1 : Int32).toUInt32 &&& Int32.toUInt32 31)).toInt32 := by
    unfold cr_s at h
    by_cases hb : b &&& 1 = 1
    · rw [if_pos hb, if_pos (hc.mpr hb)] at h
      exact zx_l h
    · rw [if_neg hb, if_neg (fun z => hb (hc.mp z))] at h
      exact zx_l h
  apply zb_ext
  intro i hi
  cases i with
  | zero => exact h0
  | succ i =>
    have := congrArg (fun z => zb_t z i) hs
    have e : ∀ x : Int32, zb_t ((x.toUInt32 >>> ((1 : Int32).toUInt32 &&& Int32.toUInt32 31)).toInt32) i = zb_t x (i + 1) := fun x => by
      rw [show ((x.toUInt32 >>> ((1 : Int32).toUInt32 &&& Int32.toUInt32 31)).toInt32) = ((x.toUInt32 >>> ((nI 1).toUInt32 &&& Int32.toUInt32 31)).toInt32) from rfl, zb_ushr 1 (by omega), Nat.add_comm]
    rw [e, e] at this
    exact this
theorem cr_n_inj {a b : Int32} : ∀ k, cr_n a k = cr_n b k → a = b := by
  intro k
  induction k with
  | zero => intro h; exact h
  | succ k ih => intro h; exact ih (cr_s_inj h)
theorem cr_f_b {c b b' : Int32} (h : cr_f c b = cr_f c b') : b = b' := zx_r (cr_n_inj 8 h)
theorem cr_f_c {c c' b : Int32} (h : cr_f c b = cr_f c' b) : c = c' := zx_l (cr_n_inj 8 h)
theorem cr_a_congr {bs bs' : Nat → Int32} {base : Nat} : ∀ n, (∀ i, i < n → (i < 2 ∨ 6 ≤ i) → bs' (base + i) = bs (base + i)) → cr_a bs' base n = cr_a bs base n := by
  intro n
  induction n with
  | zero => intro _; rfl
  | succ n ih =>
    intro h
    show (if n < 2 ∨ 6 ≤ n then cr_f (cr_a bs' base n) (bs' (base + n)) else cr_a bs' base n) = if n < 2 ∨ 6 ≤ n then cr_f (cr_a bs base n) (bs (base + n)) else cr_a bs base n
    rw [ih (fun i hi hz => h i (by omega) hz)]
    by_cases hz : n < 2 ∨ 6 ≤ n
    · rw [if_pos hz, if_pos hz, h n (by omega) hz]
    · rw [if_neg hz, if_neg hz]
theorem cr_a_ne {bs bs' : Nat → Int32} {base k : Nat} (hk : k < 2 ∨ 6 ≤ k) (he : ∀ i, i ≠ k → bs' (base + i) = bs (base + i)) (hne : bs' (base + k) ≠ bs (base + k)) : ∀ n, k < n → cr_a bs' base n ≠ cr_a bs base n := by
  intro n
  induction n with
  | zero => intro h; omega
  | succ n ih =>
    intro hn
    show (if n < 2 ∨ 6 ≤ n then cr_f (cr_a bs' base n) (bs' (base + n)) else cr_a bs' base n) ≠ if n < 2 ∨ 6 ≤ n then cr_f (cr_a bs base n) (bs (base + n)) else cr_a bs base n
    by_cases e : n = k
    · rw [e, if_pos hk, if_pos hk, cr_a_congr k (fun i hi _ => he i (by omega))]
      exact fun z => hne (cr_f_b z)
    · have := ih (by omega)
      by_cases hz : n < 2 ∨ 6 ≤ n
      · rw [if_pos hz, if_pos hz, he n e]
        exact fun z => this (cr_f_c z)
      · rw [if_neg hz, if_neg hz]
        exact this
theorem cs_congr {bs bs' : Nat → Int32} {base : Nat} : ∀ n, (∀ i, i < n → bs' (base + (2 + i)) = bs (base + (2 + i))) → cs_ bs' base n = cs_ bs base n := by
  intro n
  induction n with
  | zero => intro _; rfl
  | succ n ih =>
    intro h
    show (cs_ bs' base n <<< ((8 : Int32) &&& 31)) ||| bs' (base + (2 + n)) = (cs_ bs base n <<< ((8 : Int32) &&& 31)) ||| bs (base + (2 + n))
    rw [ih (fun i hi => h i (by omega)), h n (by omega)]
theorem cs_val {bs : Nat → Int32} {base : Nat} {q : Nat → Nat} (hq : ec_by q) : ∀ n, n ≤ 4 → (∀ i, i < n → bs (base + (2 + i)) = nI (q i)) → cs_ bs base n = nI (ec_val q n) := by
  intro n
  induction n with
  | zero => intro _ _; rfl
  | succ n ih =>
    intro hn h
    show (cs_ bs base n <<< ((8 : Int32) &&& 31)) ||| bs (base + (2 + n)) = nI (ec_val q n * 256 + q n)
    have hl := ec_val_lt hq n
    have hl2 : 256 ^ n ≤ 256 ^ 3 := Nat.pow_le_pow_right (by decide) (by omega)
    have hb := hq n
    rw [ih (by omega) (fun i hi => h i (by omega)), h n (by omega), pk_shlN _ 8 (by decide) (by omega), nx_or]
    congr 1
    have a1 := Nat.two_pow_add_eq_or_of_lt (i := 8) (b := q n) (by omega) (ec_val q n)
    rw [Nat.mul_comm (ec_val q n) (2 ^ 8), ← a1]
theorem ec_val_inj {q q' : Nat → Nat} (h1 : ec_by q) (h2 : ec_by q') : ∀ n, ec_val q n = ec_val q' n → ∀ k, k < n → q k = q' k := by
  intro n
  induction n with
  | zero => intro _ k hk; omega
  | succ n ih =>
    intro h k hk
    have h' : ec_val q n * 256 + q n = ec_val q' n * 256 + q' n := h
    have b1 := h1 n
    have b2 := h2 n
    by_cases e : k = n
    · rw [e]
      omega
    · exact ih (by omega) k (by omega)
/-- all bytes of a slot are bytes -/
def bb_ (bs : Nat → Int32) (sl n : Nat) : Prop := ∀ i, i < n → ∃ q, q < 256 ∧ bs (512 * sl + i) = nI q
theorem so_cs {bs bs' : Nat → Int32} {sl n : Nat} (hn : 6 ≤ n) (h1 : bb_ bs sl n) (h2 : bb_ bs' sl n) (he : cs_ bs' (512 * sl) 4 = cs_ bs (512 * sl) 4) : ∀ k, 2 ≤ k → k < 6 → bs' (512 * sl + k) = bs (512 * sl + k) := by
  have mk : ∀ (b : Nat → Int32), bb_ b sl n → ∃ q, ec_by q ∧ ∀ i, i < 4 → b (512 * sl + (2 + i)) = nI (q i) := by
    intro b hb
    refine ⟨fun i => if i < 4 then (b (512 * sl + (2 + i))).toBitVec.toNat % 256 else 0, fun i => ?_, fun i hi => ?_⟩
    · show (if i < 4 then _ else _) < 256
      split <;> omega
    · obtain ⟨q, hq, e⟩ := hb (2 + i) (by omega)
      show _ = nI (if i < 4 then _ else _)
      rw [if_pos hi, e, pk_tn (by omega), Nat.mod_eq_of_lt hq]
  obtain ⟨q, q1, q2⟩ := mk bs h1
  obtain ⟨q', q1', q2'⟩ := mk bs' h2
  rw [cs_val q1 4 (by omega) q2, cs_val q1' 4 (by omega) q2'] at he
  have l1 := ec_val_lt q1 4
  have l2 := ec_val_lt q1' 4
  have he' : ec_val q' 4 = ec_val q 4 := by
    have := congrArg (fun z : Int32 => z.toBitVec.toNat) he
    rw [pk_tn (by omega), pk_tn (by omega)] at this
    exact this
  have hk := ec_val_inj q1' q1 4 he'
  intro k hk2 hk6
  have e1 := q2 (k - 2) (by omega)
  have e2 := q2' (k - 2) (by omega)
  rw [show 2 + (k - 2) = k by omega] at e1 e2
  rw [e1, e2, hk (k - 2) (by omega)]
/-- one place of a slot changed: the check number finds it -/
theorem so_damage {bs bs' : Nat → Int32} {sl n k : Nat} (hn : 6 ≤ n) (hk : k < n) (h1 : bb_ bs sl n) (h2 : bb_ bs' sl n) (he : ∀ i, i ≠ k → bs' (512 * sl + i) = bs (512 * sl + i)) (hne : bs' (512 * sl + k) ≠ bs (512 * sl + k)) (hs : so_ bs sl n) : ¬ so_ bs' sl n := by
  intro hs'
  unfold so_ at hs hs'
  by_cases hz : k < 2 ∨ 6 ≤ k
  · have ec : cs_ bs' (512 * sl) 4 = cs_ bs (512 * sl) 4 := cs_congr 4 (fun i hi => he _ (by omega))
    rw [ec, hs] at hs'
    exact cr_a_ne hz he hne n hk (zx_l hs').symm
  · have ec : cr_a bs' (512 * sl) n = cr_a bs (512 * sl) n := cr_a_congr n (fun i hi hq => he _ (by omega))
    rw [ec, ← hs] at hs'
    exact hne (so_cs hn h1 h2 hs' k (by omega) (by omega))
end
section
/-! ===== few colours ===== -/
def pa_ (u : St1) (K : Nat) (C : Nat → Nat) : Prop := gt_col u = nI K ∧ K ≤ 16 ∧ (∀ k, k < K → gt_clr u k = nI (C k)) ∧ (∀ k, k < K → C k < 16777216) ∧ (∀ i j, i < j → j < K → C i < C j)
theorem pa_fm {l : List Nat} {u v : St1} {K : Nat} {C : Nat → Nat} (g : pa_ u K C) (f : fm_ l u v) (h1 : 15 ∉ l := by decide) (h2 : 16 ∉ l := by decide) : pa_ v K C :=
  ⟨(fm_col f h1).trans g.1, g.2.1, fun k hk => by rw [fm_clr f h2]; exact g.2.2.1 k hk, g.2.2.2⟩
theorem wk_indexOf {post : Int32 → Prop} {u : St1} {K v k : Nat} {C : Nat → Nat} (g : pa_ u K C) (hv : v < 16777216) (hk : k ≤ K) (h1 : ∀ i, i < k → C i < v) (h2 : k < K → v ≤ C k) (hp : post (nI k)) : wpX_indexOf post u (nI v) := by
  obtain ⟨g1, g2, g3, g4, g5⟩ := g
  refine ks_indexOf (pk_loop (σ := Unit) (fun n i _ => kw_indexOf_2 post (nI v) n (nI i) u) (fun _ _ => True) k 0 () (by omega) trivial ?_ ?_)
  · intro n _ _
    refine ks_indexOf_2 ?_
    rw [g1]
    refine pk_le K k (fun _ => hp) (fun z => ⟨vp_in_nI (by omega) (by omega), ?_⟩)
    rw [nI_clamp (by omega), g3 k z]
    exact br_t (nI_le (h2 z) (by have := g4 k z; omega)) hp
  · intro n i _ hi _ hw
    refine ks_indexOf_2 ?_
    rw [g1]
    refine pk_le K i (fun z => absurd z (by omega)) (fun z => ⟨vp_in_nI (by omega) (by omega), ?_⟩)
    rw [nI_clamp (by omega), g3 i z]
    exact br_f (nI_ge (h1 i hi) (by omega)) (nm_r (nI_1 i) (hw () trivial))
theorem pa_ix {C : Nat → Nat} (v : Nat) : ∀ K, ∃ k, k ≤ K ∧ (∀ i, i < k → C i < v) ∧ (k < K → v ≤ C k) := by
  intro K
  induction K with
  | zero => exact ⟨0, Nat.le_refl 0, fun i hi => absurd hi (by omega), fun h => absurd h (by omega)⟩
  | succ K ih =>
    obtain ⟨k, h1, h2, h3⟩ := ih
    by_cases z : k < K
    · exact ⟨k, by omega, h2, fun _ => h3 z⟩
    · by_cases z2 : C K < v
      · refine ⟨K + 1, Nat.le_refl _, fun i hi => ?_, fun h => absurd h (by omega)⟩
        by_cases e : i = K
        · rw [e]
          exact z2
        · exact h2 i (by omega)
      · refine ⟨K, by omega, fun i hi => h2 i (by omega), fun _ => by omega⟩
def pa_in (C : Nat → Nat) (k v : Nat) : Nat → Nat := fun i => if i < k then C i else if i = k then v else C (i - 1)
theorem wk_insert {post : St1 → Prop} {u : St1} {K v k : Nat} {C : Nat → Nat} (g : pa_ u K C) (hK : K < 16) (hv : v < 16777216) (hk : k ≤ K) (h1 : ∀ i, i < k → C i < v) (h2 : k < K → v < C k) (hp : ∀ u', fm_ [15, 16] u u' → pa_ u' (K + 1) (pa_in C k v) → post u') : wpX_insertColour post u (nI k) (nI v) := by
  obtain ⟨g1, g2, g3, g4, g5⟩ := g
  refine ks_insertColour ?_
  rw [g1]
  refine pk_loop (fun n t v' => kw_insertColour_5 post (nI k) (nI v) n (nI (K - t)) v') (fun t v' => fm_ [16] u v' ∧ (∀ i, i < K - t → gt_clr v' i = nI (C i)) ∧ (∀ i, K - t < i → i ≤ K → gt_clr v' i = nI (C (i - 1)))) (K - k) 0 u (by omega) ⟨fm_rfl u, fun i hi => g3 i (by omega), fun i h3 h4 => absurd h3 (by omega)⟩ ?_ ?_
  · intro n v' hv'
    obtain ⟨f1, l1, l2⟩ := hv'
    refine ks_insertColour_5 (pk_le (K - (K - k)) k (fun _ => ⟨vp_in_nI (by omega) (by omega), nm_e (nm_r (e' := nI (K + 1)) (by rw [fm_col f1, g1, nI_1]) (hp _ (fm_tr (fm_wk f1) (fm_tr (fm_s_col _ _) (fm_s_clr _ _))) ⟨rfl, by omega, ?_, ?_, ?_⟩))⟩) (fun z => absurd z (by omega)))
    · intro i hi
      show upd (gt_clr v') _ _ _ = _
      rw [nI_clamp (by omega)]
      unfold pa_in
      by_cases e1 : i < k
      · rw [if_pos e1, pk_un (by omega)]
        exact l1 i (by omega)
      · rw [if_neg e1]
        by_cases e2 : i = k
        · rw [if_pos e2, e2, pk_us]
        · rw [if_neg e2, pk_un e2]
          exact l2 i (by omega) (by omega)
    · intro i hi
      unfold pa_in
      split
      · exact g4 i (by omega)
      · split
        · exact hv
        · exact g4 (i - 1) (by omega)
    · intro i j hij hj
      unfold pa_in
      by_cases a1 : i < k
      · rw [if_pos a1]
        by_cases b1 : j < k
        · rw [if_pos b1]
          exact g5 i j hij (by omega)
        · rw [if_neg b1]
          by_cases b2 : j = k
          · rw [if_pos b2]
            exact h1 i a1
          · rw [if_neg b2]
            exact g5 i (j - 1) (by omega) (by omega)
      · rw [if_neg a1, if_neg (show ¬ j < k by omega), if_neg (show ¬ j = k by omega)]
        by_cases a2 : i = k
        · rw [if_pos a2]
          have q := h2 (by omega)
          by_cases e : j - 1 = k
          · rw [e]
            exact q
          · exact Nat.lt_trans q (g5 k (j - 1) (by omega) (by omega))
        · rw [if_neg a2]
          exact g5 (i - 1) (j - 1) (by omega) (by omega)
  · intro n t v' ht hv' hw
    obtain ⟨f1, l1, l2⟩ := hv'
    refine ks_insertColour_5 (pk_le (K - t) k (fun z => absurd z (by omega)) (fun _ => ?_))
    rw [show (1 : Int32) = nI 1 from rfl, pk_sub (by omega), nI_clamp (by omega), nI_clamp (by omega)]
    refine ⟨vp_in_nI (by omega) (by omega), vp_in_nI (by omega) (by omega), nm_e (nm_r (e' := nI (K - (t + 1))) ?_ (hw _ ⟨fm_tr f1 (fm_s_clr _ _), fun i hi => ?_, fun i h3 h4 => ?_⟩))⟩
    · rw [show (-(nI 1) : Int32) = -1 from rfl, sb_m1 (by omega)]
      rfl
    · show upd (gt_clr v') _ _ _ = _
      rw [pk_un (by omega)]
      exact l1 i (by omega)
    · show upd (gt_clr v') _ _ _ = _
      by_cases e : i = K - t
      · rw [e, pk_us]
        exact l1 (K - t - 1) (by omega)
      · rw [pk_un e]
        exact l2 i (by omega) h4
theorem wk_collect {post : Int32 → St1 → Prop} {u : St1} {w h : Nat} {P : Nat → Nat → Nat} (o : po_ w h P) (g : pc_ u w h P) (hp0 : ∀ u', fm_ [15, 16] u u' → post 0 u')
    (hp1 : ∀ u' K C, fm_ [15, 16] u u' → pa_ u' K C → (∀ a, a < w * h → ∃ k, k < K ∧ C k = cl_ P a) → post 1 u') : wpX_collect post u := by
  have h144 := dm_144 o.1
  refine ks_collect (pk_loop (fun n i v => kw_collect_7 post n (nI i) v) (fun i v => fm_ [15, 16] u v ∧ ∃ K C, pa_ v K C ∧ ∀ a, a < i → ∃ k, k < K ∧ C k = cl_ P a) (w * h) 0 _ (by omega) ⟨fm_s_col _ _, 0, fun _ => 0, ⟨rfl, by omega, fun k hk => absurd hk (by omega), fun k hk => absurd hk (by omega), fun i j _ hj => absurd hj (by omega)⟩, fun a ha => absurd ha (by omega)⟩ ?_ ?_)
  · intro n v hv
    obtain ⟨f1, K, C, p1, s1⟩ := hv
    have g1 := pc_fm g f1
    refine ks_collect_7 ?_
    rw [g1.1, g1.2.1, pk_mul]
    exact pk_le (w * h) (w * h) (fun _ => hp1 v K C f1 p1 s1) (fun z => absurd z (by omega))
  · intro n i v hi hv hw
    obtain ⟨f1, K, C, p1, s1⟩ := hv
    have g1 := pc_fm g f1
    have hcl := cl_lt o hi
    obtain ⟨k, k1, k2, k3⟩ := pa_ix (C := C) (cl_ P i) K
    have hK := p1.2.1
    -- a colour that is not there yet
    have ins : (k < K → cl_ P i < C k) → kw_collect_50 post (kw_collect_7 post n) (nI i) (nI (cl_ P i)) (nI k) v := by
      intro hlt
      refine ks_collect_50 ?_
      rw [p1.1]
      refine pk_eq K 16 (fun z => hp0 v f1) (fun z => ?_)
      refine wk_insert p1 (by omega) hcl k1 k2 hlt (fun u' f' p' => nm_r (nI_1 i) (hw u' ⟨fm_tr f1 f', K + 1, pa_in C k (cl_ P i), p', fun a ha => ?_⟩))
      by_cases e : a = i
      · refine ⟨k, by omega, ?_⟩
        unfold pa_in
        rw [if_neg (by omega), if_pos rfl, e]
      · obtain ⟨j, hj, ej⟩ := s1 a (by omega)
        by_cases q : j < k
        · refine ⟨j, by omega, ?_⟩
          unfold pa_in
          rw [if_pos q]
          exact ej
        · refine ⟨j + 1, by omega, ?_⟩
          unfold pa_in
          rw [if_neg (by omega), if_neg (by omega), Nat.add_sub_cancel]
          exact ej
    refine ks_collect_7 ?_
    rw [g1.1, g1.2.1, pk_mul]
    refine pk_le (w * h) i (fun z => absurd z (by omega)) (fun _ => wk_colourAt o g1 hi (wk_indexOf p1 hcl k1 k2 k3 ?_))
    rw [p1.1]
    refine pk_eq k K (fun z => ins (fun q => absurd q (by omega))) (fun z => ⟨vp_in_nI (by omega) (by omega), ?_⟩)
    have hkK : k < K := by omega
    have b1 := p1.2.2.2.1 k hkK
    rw [nI_clamp (by omega), p1.2.2.1 k hkK]
    refine pk_eq (C k) (cl_ P i) (fun z2 => nm_r (nI_1 i) (hw v ⟨f1, K, C, p1, fun a ha => ?_⟩)) (fun z2 => ins (fun _ => by have := k3 hkK; omega))
    by_cases e : a = i
    · exact ⟨k, hkK, by rw [e]; exact z2⟩
    · exact s1 a (by omega)
/-! the palette written -/
def ec_p1 (e : ec_T) (K : Nat) (C : Nat → Nat) (n : Nat) : ec_T := ec_fd (fun e k => ec_Pl (C k) 24 e) (ec_Pl (K - 1) 4 e) n
def ec_lf (idx : Nat → Nat) (a : Nat) : Nat := if a = 0 then 16 else idx (a - 1)
def ec_p2 (e : ec_T) (K : Nat) (C idx : Nat → Nat) (n : Nat) : ec_T := ec_fd (fun e a => ec_I (ec_lf idx a) (idx a) 4 e) (ec_p1 e K C K) n
theorem ec_p1_s {b : Nat → Nat} (hb : ec_by b) (C : Nat → Nat) (n : Nat) : ∀ k e, k < n → ec_st b e ((fun e k => ec_Pl (C k) 24 e) e k) 24 := fun k e _ => ec_Pl_st hb (C k) 24 e
theorem ec_p1_st {b : Nat → Nat} (hb : ec_by b) (e : ec_T) {K : Nat} (C : Nat → Nat) {n : Nat} (hn : n ≤ 16) : ec_st b e (ec_p1 e K C n) 400 :=
  ec_st_le (ec_st_tr (ec_Pl_st hb (K - 1) 4 e) (ec_fd_0 (ec_p1_s hb C n) (Nat.le_refl n))) (by omega)
theorem ec_lf_le {idx : Nat → Nat} {a n : Nat} (h : ∀ a, a < n → idx a < 16) (ha : a < n) : ec_lf idx a ≤ 16 := by
  unfold ec_lf
  split
  · omega
  · have := h (a - 1) (by omega)
    omega
theorem ec_p2_s {b : Nat → Nat} (hb : ec_by b) {idx : Nat → Nat} {n : Nat} (h : ∀ a, a < n → idx a < 16) : ∀ k e, k < n → ec_st b e ((fun e a => ec_I (ec_lf idx a) (idx a) 4 e) e k) 4 := fun k e hk => ec_I_st hb (ec_lf_le h hk) (h k hk) 4 e
theorem ec_p2_st {b : Nat → Nat} (hb : ec_by b) (e : ec_T) {K : Nat} (C : Nat → Nat) {idx : Nat → Nat} {n m : Nat} (hK : K ≤ 16) (h : ∀ a, a < n → idx a < 16) (hm : m ≤ n) (hn : n ≤ 144) : ec_st b e (ec_p2 e K C idx m) 1000 :=
  ec_st_le (ec_st_tr (ec_p1_st hb e C hK) (ec_fd_0 (ec_p2_s hb h) hm)) (by omega)
theorem wk_writePalette {post : St1 → Prop} {u : St1} {e : ec_T} {w h K : Nat} {P : Nat → Nat → Nat} {C idx : Nat → Nat} (o : po_ w h P) (g : pc_ u w h P) (p : pa_ u K C) (hK : 1 ≤ K) (hi : ∀ a, a < w * h → idx a < K ∧ C (idx a) = cl_ P a) (hm : em_E u e) (ho : ec_ok e) (hN : e.2.2.1 + 1000 < 2 ^ 29)
    (hp : ∀ u', kf_ u u' → em_E u' (ec_p2 e K C idx (w * h)) → post u') : wpX_writePalette post u := by
  have h144 := dm_144 o.1
  have hK16 := p.2.1
  have hidx : ∀ a, a < w * h → idx a < 16 := fun a ha => by have := (hi a ha).1; omega
  refine ks_writePalette ?_
  rw [p.1, show (1 : Int32) = nI 1 from rfl, pk_sub hK]
  refine wk_putPlain (k := 4) (by omega) (by omega) hm ho (by omega) (fun u1 f1 g1 => ?_)
  refine pk_loop (fun n k v => kw_writePalette_13 post n (nI k) v) (fun k v => kf_ u v ∧ em_E v (ec_p1 e K C k)) K 0 u1 (by omega) ⟨f1, g1⟩ ?_ ?_
  · intro n v hv
    refine ks_writePalette_13 ?_
    rw [kf_col hv.1, p.1]
    refine pk_le K K (fun _ => ?_) (fun z => absurd z (by omega))
    have start : ∃ n, kw_writePalette_44 post n (nI (ec_lf idx 0)) (nI 0) v := by
      refine pk_loop (fun n a v' => kw_writePalette_44 post n (nI (ec_lf idx a)) (nI a) v') (fun a v' => kf_ u v' ∧ em_E v' (ec_p2 e K C idx a)) (w * h) 0 v (by omega) ⟨hv.1, hv.2⟩ ?_ ?_
      · intro n v' hv'
        have g2 := pc_fm g (fm_kf (l := []) hv'.1)
        refine ks_writePalette_44 ?_
        rw [g2.1, g2.2.1, pk_mul]
        exact pk_le (w * h) (w * h) (fun _ => hp v' hv'.1 hv'.2) (fun z => absurd z (by omega))
      · intro n a v' ha hv' hw
        have g2 := pc_fm g (fm_kf (l := []) hv'.1)
        have p2 := pa_fm p (fm_kf (l := []) hv'.1)
        obtain ⟨i1, i2⟩ := hi a ha
        obtain ⟨o1, n1⟩ := ec_go (ec_p2_st ec_by0 e (K := K) C hK16 hidx (Nat.le_of_lt ha) h144) ho
        refine ks_writePalette_44 ?_
        rw [g2.1, g2.2.1, pk_mul]
        refine pk_le (w * h) a (fun z => absurd z (by omega)) (fun _ => wk_colourAt o g2 ha ?_)
        refine wk_indexOf (k := idx a) p2 (cl_lt o ha) (by omega) (fun i hi' => by rw [← i2]; exact p.2.2.2.2 i (idx a) hi' i1) (fun _ => by rw [i2]; exact Nat.le_refl _) ?_
        refine wk_putIndex (ec_lf_le hidx ha) (hidx a ha) hv'.2 o1 (by omega) (fun u' f' g' => nm_r (nI_1 a) ?_)
        have := hw u' ⟨kf_tr hv'.1 f', g'⟩
        rw [show ec_lf idx (a + 1) = idx a from rfl] at this
        exact this
    exact start
  · intro n k v hk hv hw
    obtain ⟨o1, n1⟩ := ec_go (ec_p1_st ec_by0 e (K := K) C (n := k) (by omega)) ho
    refine ks_writePalette_13 ?_
    rw [kf_col hv.1, p.1, nI_clamp (by omega), kf_clr hv.1, p.2.2.1 k hk]
    have := p.2.2.2.1 k hk
    exact pk_le K k (fun z => absurd z (by omega)) (fun _ => ⟨vp_in_nI (by omega) (by omega), wk_putPlain (k := 24) (by omega) (by omega) hv.2 o1 (by omega) (fun u' f' g' => nm_r (nI_1 k) (hw u' ⟨kf_tr hv.1 f', g'⟩))⟩)
theorem wk_readPalette {post : St1 → Prop} {u : St1} {b : Nat → Nat} {sl nu w h K : Nat} {P : Nat → Nat → Nat} {C idx : Nat → Nat} (hd : ds_ b sl nu) (o : po_ w h P) (hw : gt_w u = nI w) (hh : gt_h u = nI h) (hK : 1 ≤ K) (hK16 : K ≤ 16) (hC : ∀ k, k < K → C k < 16777216) (hi : ∀ a, a < w * h → idx a < K ∧ C (idx a) = cl_ P a)
    (hm : dm_ u b sl nu ec_0) (hsy : ec_sy b (ec_p2 ec_0 K C idx (w * h))) (hp : ∀ u', fm_ [2, 15, 16] u u' → pc_ u' w h P → post u') : wpX_readPalette post u := by
  have h144 := dm_144 o.1
  have hidx : ∀ a, a < w * h → idx a < 16 := fun a ha => by have := (hi a ha).1; omega
  have k2 : ec_0.2.2.1 = 0 := rfl
  have st1 : ∀ k, k ≤ K → ec_ok (ec_p1 ec_0 K C k) ∧ (ec_p1 ec_0 K C k).2.2.1 ≤ 400 := fun k hk => by
    have := ec_go (ec_p1_st ec_by0 ec_0 (K := K) C (n := k) (by omega)) ec_0_ok
    exact ⟨this.1, by omega⟩
  have st2 : ∀ a, a ≤ w * h → ec_ok (ec_p2 ec_0 K C idx a) ∧ (ec_p2 ec_0 K C idx a).2.2.1 ≤ 1000 := fun a ha => by
    have := ec_go (ec_p2_st ec_by0 ec_0 (K := K) C hK16 hidx ha h144) ec_0_ok
    exact ⟨this.1, by omega⟩
  have sy2 : ∀ a, a ≤ w * h → ec_sy b (ec_p2 ec_0 K C idx a) := fun a ha => (ec_fd_to (ec_p2_s hd.1 hidx) ha (st2 a ha).1).2.1 hsy
  have sy1 : ∀ k, k ≤ K → ec_sy b (ec_p1 ec_0 K C k) := fun k hk => (ec_fd_to (ec_p1_s hd.1 C K) hk (st1 k hk).1).2.1 (sy2 0 (by omega))
  refine ks_readPalette (wk_takePlain (v := K - 1) (cnt := 4) hd (by omega) hm ec_0_ok (sy1 0 (by omega)) (by omega) (fun u1 f1 m1 => nm_r (e' := nI K) ?_ ?_))
  · rw [show (1 : Int32) = nI 1 from rfl, nI_add, Nat.mod_eq_of_lt (show K - 1 < 2 ^ 4 by omega)]
    congr 1
    omega
  refine pk_loop (fun n k v => kw_readPalette_13 post n (nI k) v) (fun k v => fm_ [15, 16] u v ∧ gt_col v = nI K ∧ dm_ v b sl nu (ec_p1 ec_0 K C k) ∧ ∀ j, j < k → gt_clr v j = nI (C j)) K 0 _ (by omega) ⟨fm_tr (fm_kf f1) (fm_s_col _ _), rfl, m1, fun j hj => absurd hj (by omega)⟩ ?_ ?_
  · intro n v hv
    obtain ⟨f2, c2, m2, l2⟩ := hv
    refine ks_readPalette_13 ?_
    rw [c2]
    refine pk_le K K (fun _ => ?_) (fun z => absurd z (by omega))
    have start : ∃ n, kw_readPalette_44 post n (nI (ec_lf idx 0)) (nI 0) v := by
      refine pk_loop (fun n a v' => kw_readPalette_44 post n (nI (ec_lf idx a)) (nI a) v') (fun a v' => fm_ [2] v v' ∧ dm_ v' b sl nu (ec_p2 ec_0 K C idx a) ∧ ∀ c a', c < 3 → a' < a → gt_hand v' (144 * c + a') = nI (P c a')) (w * h) 0 v (by omega) ⟨fm_rfl v, m2, fun c a' _ ha' => absurd ha' (by omega)⟩ ?_ ?_
      · intro n v' hv'
        obtain ⟨f3, m3, l3⟩ := hv'
        have ew : gt_w v' = nI w := by rw [fm_w f3, fm_w f2]; exact hw
        have eh : gt_h v' = nI h := by rw [fm_h f3, fm_h f2]; exact hh
        refine ks_readPalette_44 ?_
        rw [ew, eh, pk_mul]
        exact pk_le (w * h) (w * h) (fun _ => hp v' (fm_tr (fm_wk f2) (fm_wk f3)) ⟨ew, eh, l3⟩) (fun z => absurd z (by omega))
      · intro n a v' ha hv' hwk
        obtain ⟨f3, m3, l3⟩ := hv'
        have ew : gt_w v' = nI w := by rw [fm_w f3, fm_w f2]; exact hw
        have eh : gt_h v' = nI h := by rw [fm_h f3, fm_h f2]; exact hh
        obtain ⟨i1, i2⟩ := hi a ha
        have n1 := (st2 a (by omega)).2
        refine ks_readPalette_44 ?_
        rw [ew, eh, pk_mul]
        refine pk_le (w * h) a (fun z => absurd z (by omega)) (fun _ => ?_)
        refine wk_takeIndex (k := idx a) hd (ec_lf_le hidx ha) (hidx a ha) m3 (st2 a (by omega)).1 (sy2 (a + 1) ha) (by omega) (fun u4 f4 m4 => ⟨vp_in_nI (hidx a ha) (by omega), ?_⟩)
        have := hidx a ha
        rw [nI_clamp (by omega), kf_clr f4, fm_clr f3, l2 _ i1, i2]
        refine wk_setColour (by omega) (fun hand q1 q2 => nm_r (nI_1 a) ?_)
        have fin := hwk (st_hand u4 hand) ⟨fm_tr f3 (fm_tr (fm_kf f4) (fm_s_hand _ _)), m4, fun c a' hc ha' => ?_⟩
        · rw [show ec_lf idx (a + 1) = idx a from rfl] at fin
          exact fin
        · show hand _ = _
          by_cases e : a' = a
          · rw [e, q1 c hc, ch_cl o ha c hc]
          · rw [q2 c a' hc (by omega) e, kf_hand f4]
            exact l3 c a' hc (by omega)
    exact start
  · intro n k v hk hv hwk
    obtain ⟨f2, c2, m2, l2⟩ := hv
    have n1 := (st1 k (by omega)).2
    refine ks_readPalette_13 ?_
    rw [c2]
    refine pk_le K k (fun z => absurd z (by omega)) (fun _ => wk_takePlain2 (v := C k) (cnt := 24) hd (by omega) m2 (st1 k (by omega)).1 (sy1 (k + 1) hk) (by omega) (fun u3 f3 m3 => ⟨vp_in_nI (by omega) (by omega), nm_e (nm_r (nI_1 k) (hwk _ ⟨fm_tr f2 (fm_tr (fm_kf f3) (fm_s_clr _ _)), ?_, m3, fun j hj => ?_⟩))⟩))
    · show gt_col u3 = _
      rw [kf_col f3]
      exact c2
    · show upd (gt_clr u3) _ _ _ = _
      rw [nI_clamp (by omega)]
      by_cases e : j = k
      · rw [e, pk_us, Nat.mod_eq_of_lt (by have := hC k hk; omega)]
      · rw [pk_un e, kf_clr f3]
        exact l2 j (by omega)
end
section
/-! ===== raw bytes ===== -/
def rw_I (u : St1) (P : Nat → Nat → Nat) (sl m : Nat) (v : St1) : Prop := fm_ [6] u v ∧ (∀ k, k < m → gt_by v (512 * sl + 6 + k) = nI (P (k % 3) (k / 3))) ∧ (∀ q, q < 512 * sl + 6 ∨ 512 * sl + 6 + m ≤ q → gt_by v q = gt_by u q)
theorem wk_pr21 {post : St1 → Prop} {J : Int32 → Int32 → St1 → Prop} {u v : St1} {sl w h a : Nat} {P : Nat → Nat → Nat} (hsl : sl < 4) (d : dm_ok w h) (g : pc_ u w h P) (ha : a < w * h) (hv : rw_I u P sl (3 * a) v) (hJ : ∀ v', rw_I u P sl (3 * (a + 1)) v' → J (nI (6 + 3 * (a + 1))) (nI (a + 1)) v') : ∃ n, kw_packRaw_21 post J (nI sl) (nI a) n (nI (6 + 3 * a)) 0 v := by
  have h144 := dm_144 d
  refine pk_loop (fun n c v => kw_packRaw_21 post J (nI sl) (nI a) n (nI (6 + (3 * a + c))) (nI c) v) (fun c v => rw_I u P sl (3 * a + c) v) 3 0 v (by omega) hv ?_ ?_
  · intro n v hv
    refine ks_packRaw_21 (pk_le 3 3 (fun _ => nm_r (nI_1 a) (hJ v hv)) (fun z => absurd z (by omega)))
  · intro n c v hc hv hw
    obtain ⟨f1, l1, k1⟩ := hv
    refine ks_packRaw_21 (pk_le 3 c (fun z => absurd z (by omega)) (fun _ => ?_))
    rw [zi_144a, zi_512, nI_clamp (by omega), nI_clamp (by omega), fm_hand f1, g.2.2 c a hc ha]
    refine ⟨vp_in_nI (by omega) (by omega), vp_in_nI (by omega) (by omega), nm_e (nm_r (nI_1 _) (nm_r (nI_1 c) (hw _ ⟨fm_tr f1 (fm_s_by _ _), fun k hk => ?_, fun q hq => ?_⟩)))⟩
    · show upd (gt_by v) _ _ _ = _
      by_cases e : k = 3 * a + c
      · rw [e, show 512 * sl + 6 + (3 * a + c) = 512 * sl + (6 + (3 * a + c)) by omega, pk_us, show (3 * a + c) % 3 = c by omega, show (3 * a + c) / 3 = a by omega]
      · rw [pk_un (by omega)]
        exact l1 k (by omega)
    · show upd (gt_by v) _ _ _ = _
      rw [pk_un (by omega)]
      exact k1 q (by omega)
theorem wk_packRaw {post : St1 → Prop} {u : St1} {sl w h : Nat} {P : Nat → Nat → Nat} (hsl : sl < 4) (d : dm_ok w h) (g : pc_ u w h P)
    (hp : ∀ u', fm_ [6, 7] u u' → gt_used u' = upd (gt_used u) sl (nI (6 + 3 * (w * h))) → (∀ k, k < 3 * (w * h) → gt_by u' (512 * sl + 6 + k) = nI (P (k % 3) (k / 3))) → gt_by u' (512 * sl + 1) = nI 0 → (∀ q, q < 512 * sl ∨ 512 * sl + 512 ≤ q → gt_by u' q = gt_by u q) → post u') : wpX_packRaw post u (nI sl) := by
  have h144 := dm_144 d
  refine ks_packRaw (pk_loop (fun n a v => kw_packRaw_5 post (nI sl) n (nI (6 + 3 * a)) (nI a) v) (fun a v => rw_I u P sl (3 * a) v) (w * h) 0 u (by omega) ⟨fm_rfl u, fun k hk => absurd hk (by omega), fun q _ => rfl⟩ ?_ ?_)
  · intro n v hv
    obtain ⟨f1, l1, k1⟩ := hv
    refine ks_packRaw_5 ?_
    rw [fm_w f1, fm_h f1, g.1, g.2.1, pk_mul, show (1 : Int32) = nI 1 from rfl, zi_512, nI_clamp (show sl < 2 ^ 31 by omega), nI_clamp (show 512 * sl + 1 < 2 ^ 31 by omega)]
    refine pk_le (w * h) (w * h) (fun _ => ⟨vp_in_nI hsl (by omega), nm_e ⟨vp_in_nI (by omega) (by omega), nm_e (hp _ (fm_tr (fm_wk f1) (fm_tr (fm_s_by _ _) (fm_s_used _ _))) ?_ ?_ ?_ ?_)⟩⟩) (fun z => absurd z (by omega))
    · show upd (gt_used v) _ _ = _
      rw [fm_used f1]
    · intro k hk
      show upd (gt_by v) _ _ _ = _
      rw [pk_un (by omega)]
      exact l1 k hk
    · show upd (gt_by v) _ _ _ = _
      rw [pk_us]
      rfl
    · intro q hq
      show upd (gt_by v) _ _ _ = _
      rw [pk_un (by omega)]
      exact k1 q (by omega)
  · intro n a v ha hv hw
    refine ks_packRaw_5 ?_
    rw [fm_w hv.1, fm_h hv.1, g.1, g.2.1, pk_mul]
    exact pk_le (w * h) a (fun z => absurd z (by omega)) (fun _ => wk_pr21 hsl d g ha hv (fun v' hv' => hw v' hv'))
def rr_I (u : St1) (P : Nat → Nat → Nat) (m : Nat) (v : St1) : Prop := fm_ [2] u v ∧ (∀ k, k < m → gt_hand v (144 * (k % 3) + k / 3) = nI (P (k % 3) (k / 3)))
theorem wk_rr27 {post : St1 → Prop} {J : Int32 → Int32 → St1 → Prop} {u v : St1} {sl w h a : Nat} {P : Nat → Nat → Nat} (hsl : sl < 4) (d : dm_ok w h) (hb : ∀ k, k < 3 * (w * h) → gt_by u (512 * sl + 6 + k) = nI (P (k % 3) (k / 3))) (ha : a < w * h) (hv : rr_I u P (3 * a) v) (hJ : ∀ v', rr_I u P (3 * (a + 1)) v' → J (nI (512 * sl + 6 + 3 * (a + 1))) (nI (a + 1)) v') : ∃ n, kw_readRaw_27 post J (nI a) n (nI (512 * sl + 6 + 3 * a)) 0 v := by
  have h144 := dm_144 d
  refine pk_loop (fun n c v => kw_readRaw_27 post J (nI a) n (nI (512 * sl + 6 + (3 * a + c))) (nI c) v) (fun c v => rr_I u P (3 * a + c) v) 3 0 v (by omega) hv ?_ ?_
  · intro n v hv
    refine ks_readRaw_27 (pk_le 3 3 (fun _ => nm_r (nI_1 a) (hJ v hv)) (fun z => absurd z (by omega)))
  · intro n c v hc hv hw
    obtain ⟨f1, l1⟩ := hv
    refine ks_readRaw_27 (pk_le 3 c (fun z => absurd z (by omega)) (fun _ => ?_))
    rw [zi_144a, nI_clamp (by omega), nI_clamp (by omega), fm_by f1, hb _ (by omega)]
    refine ⟨vp_in_nI (by omega) (by omega), vp_in_nI (by omega) (by omega), nm_e (nm_r (nI_1 _) (nm_r (nI_1 c) (hw _ ⟨fm_tr f1 (fm_s_hand _ _), fun k hk => ?_⟩)))⟩
    show upd (gt_hand v) _ _ _ = _
    by_cases e : k = 3 * a + c
    · rw [e, show 144 * ((3 * a + c) % 3) + (3 * a + c) / 3 = 144 * c + a by omega, pk_us]
    · rw [pk_un (by omega)]
      exact l1 k (by omega)
theorem wk_readRaw {post : St1 → Prop} {u : St1} {sl w h : Nat} {P : Nat → Nat → Nat} (hsl : sl < 4) (d : dm_ok w h) (hw : gt_w u = nI w) (hh : gt_h u = nI h) (hb : ∀ k, k < 3 * (w * h) → gt_by u (512 * sl + 6 + k) = nI (P (k % 3) (k / 3))) (hp : ∀ u', fm_ [2] u u' → pc_ u' w h P → post u') : wpX_readRaw post u (nI sl) := by
  have h144 := dm_144 d
  refine ks_readRaw (nm_r (e' := nI (512 * sl + 6)) (by rw [show (6 : Int32) = nI 6 from rfl, zi_512]) (pk_loop (fun n a v => kw_readRaw_11 post n (nI (512 * sl + 6 + 3 * a)) (nI a) v) (fun a v => rr_I u P (3 * a) v) (w * h) 0 u (by omega) ⟨fm_rfl u, fun k hk => absurd hk (by omega)⟩ ?_ ?_))
  · intro n v hv
    obtain ⟨f1, l1⟩ := hv
    have ew : gt_w v = nI w := by rw [fm_w f1]; exact hw
    have eh : gt_h v = nI h := by rw [fm_h f1]; exact hh
    refine ks_readRaw_11 ?_
    rw [ew, eh, pk_mul]
    refine pk_le (w * h) (w * h) (fun _ => hp v f1 ⟨ew, eh, fun c a hc ha => ?_⟩) (fun z => absurd z (by omega))
    have := l1 (3 * a + c) (by omega)
    rw [show (3 * a + c) % 3 = c by omega, show (3 * a + c) / 3 = a by omega] at this
    exact this
  · intro n a v ha hv hw'
    refine ks_readRaw_11 ?_
    rw [fm_w hv.1, fm_h hv.1, hw, hh, pk_mul]
    exact pk_le (w * h) a (fun z => absurd z (by omega)) (fun _ => wk_rr27 hsl d hb ha hv (fun v' hv' => hw' v' hv'))
/-! what the coder brought out is taken if it is smaller -/
theorem wk_takeIf {post : St1 → Prop} {u : St1} {sl n N T way : Nat} (hsl : sl < 4) (hu : gt_used u sl = nI n) (hn : n ≤ 438) (F : em_F u N T) (hno : post u)
    (hyes : ∀ u' b, 6 + N < n → fm_ [6, 7] u u' → gt_used u' = upd (gt_used u) sl (nI (6 + N)) → (∀ q, q < 512 * sl ∨ 512 * sl + 512 ≤ q → gt_by u' q = gt_by u q) → (∀ k, k < N → gt_by u' (512 * sl + 6 + k) = nI (b k)) → gt_by u' (512 * sl + 1) = nI way → ec_by b → (∀ k, N ≤ k → b k = 0) → ec_val b N = T → post u') : wpX_takeIfSmaller post u (nI sl) (nI way) := by
  obtain ⟨O, o1, o2, o3, o4⟩ := F
  refine ks_takeIfSmaller ⟨vp_in_nI hsl (by omega), ?_⟩
  rw [nI_clamp (show sl < 2 ^ 31 by omega), hu, o1, show (6 : Int32) = nI 6 from rfl, nI_add]
  refine pk_lt (6 + min N 640) n (fun z => ?_) (fun _ => hno)
  have hN : min N 640 = N := by omega
  rw [hN] at o1 o3
  refine pk_loop (fun f i v => kw_takeIfSmaller_19 post (nI sl) (nI way) f (nI i) v) (fun i v => fm_ [6] u v ∧ gt_oc v = nI N ∧ (∀ k, k < N → gt_out v k = nI (O k)) ∧ (∀ k, k < i → gt_by v (512 * sl + 6 + k) = nI (O k)) ∧ (∀ q, q < 512 * sl ∨ 512 * sl + 512 ≤ q → gt_by v q = gt_by u q)) N 0 u (by omega) ⟨fm_rfl u, o1, o3, fun k hk => absurd hk (by omega), fun q _ => rfl⟩ ?_ ?_
  · intro f v hv
    obtain ⟨f1, c1, t1, l1, k1⟩ := hv
    refine ks_takeIfSmaller_19 ?_
    rw [c1, show (1 : Int32) = nI 1 from rfl, zi_512, nI_clamp (show sl < 2 ^ 31 by omega), nI_clamp (show 512 * sl + 1 < 2 ^ 31 by omega), show (6 : Int32) = nI 6 from rfl, nI_add]
    refine pk_le N N (fun _ => ⟨vp_in_nI hsl (by omega), nm_e ⟨vp_in_nI (by omega) (by omega), nm_e (hyes _ (fun k => if k < N then O k else 0) (by omega) (fm_tr (fm_wk f1) (fm_tr (fm_s_by _ _) (fm_s_used _ _))) ?_ ?_ ?_ ?_ ?_ ?_ ?_)⟩⟩) (fun z => absurd z (by omega))
    · show upd (gt_used v) _ _ = _
      rw [fm_used f1]
    · intro q hq
      show upd (gt_by v) _ _ _ = _
      rw [pk_un (by omega)]
      exact k1 q hq
    · intro k hk
      show upd (gt_by v) _ _ _ = nI (if k < N then O k else 0)
      rw [pk_un (by omega), if_pos hk]
      exact l1 k hk
    · show upd (gt_by v) _ _ _ = _
      rw [pk_us]
    · intro k
      show (if k < N then O k else 0) < 256
      split
      · exact o2 k (by assumption)
      · omega
    · intro k hk
      show (if k < N then O k else 0) = 0
      rw [if_neg (by omega)]
    · rw [ec_val_congr (b' := O) N (fun k hk => by show (if k < N then O k else 0) = O k; rw [if_pos hk])]
      exact o4
  · intro f i v hi hv hw
    obtain ⟨f1, c1, t1, l1, k1⟩ := hv
    refine ks_takeIfSmaller_19 ?_
    rw [c1, show (6 : Int32) = nI 6 from rfl, zi_512, nI_add (512 * sl + 6) i, nI_clamp (show i < 2 ^ 31 by omega), nI_clamp (show 512 * sl + 6 + i < 2 ^ 31 by omega), t1 i hi]
    refine pk_le N i (fun z => absurd z (by omega)) (fun _ => ⟨vp_in_nI (by omega) (by omega), vp_in_nI (by omega) (by omega), nm_e (nm_r (nI_1 i) (hw _ ⟨?_, c1, t1, fun k hk => ?_, fun q hq => ?_⟩))⟩)
    · exact fm_tr f1 (fm_s_by _ _)
    · show upd (gt_by v) _ _ _ = _
      by_cases e : k = i
      · rw [e, pk_us]
      · rw [pk_un (by omega)]
        exact l1 k (by omega)
    · show upd (gt_by v) _ _ _ = _
      rw [pk_un (by omega)]
      exact k1 q hq
end
section
/-! ===== slots; packing ===== -/
/-- the bytes behind the head, as a row of numbers that ends in zeros -/
def cb_ (bs : Nat → Int32) (sl n : Nat) (b : Nat → Nat) : Prop := ec_by b ∧ (∀ k, 6 + k < n → bs (512 * sl + 6 + k) = nI (b k)) ∧ (∀ k, n ≤ 6 + k → b k = 0)
/-- what is packed: the numbers; planes; few colours -/
def ct_ (bs : Nat → Int32) (sl n way w h : Nat) (P : Nat → Nat → Nat) : Prop :=
  (way = 0 ∧ n = 6 + 3 * (w * h) ∧ ∀ k, k < 3 * (w * h) → bs (512 * sl + 6 + k) = nI (P (k % 3) (k / 3))) ∨
  (way = 1 ∧ ∃ b M, cb_ bs sl n b ∧ (∀ c a, c < 3 → a < w * h → M (144 * c + a) = mm_ w h P c a) ∧ ec_sy b (ec_al ec_0 M w h 15)) ∨
  (way = 2 ∧ ∃ b K C idx, cb_ bs sl n b ∧ 1 ≤ K ∧ K ≤ 16 ∧ (∀ k, k < K → C k < 16777216) ∧ (∀ a, a < w * h → idx a < K ∧ C (idx a) = cl_ P a) ∧ ec_sy b (ec_p2 ec_0 K C idx (w * h)))
/-- a slot on the way: its content is right, its head not yet -/
def ps_ (bs us : Nat → Int32) (sl w h : Nat) (P : Nat → Nat → Nat) : Prop := ∃ n way, us sl = nI n ∧ 6 ≤ n ∧ n ≤ 438 ∧ (∀ i, 6 ≤ i → i < n → ∃ q, q < 256 ∧ bs (512 * sl + i) = nI q) ∧ bs (512 * sl + 1) = nI way ∧ way ≤ 2 ∧ ct_ bs sl n way w h P
/-- a sound slot that holds a picture -/
def sl_ (bs us : Nat → Int32) (sl w h : Nat) (P : Nat → Nat → Nat) : Prop := ∃ n way, us sl = nI n ∧ 6 ≤ n ∧ n ≤ 438 ∧ bb_ bs sl n ∧ bs (512 * sl) = nI (16 * w + h) ∧ bs (512 * sl + 1) = nI way ∧ way ≤ 2 ∧ so_ bs sl n ∧ ct_ bs sl n way w h P
def os_ (sl : Nat) (bs us bs' us' : Nat → Int32) : Prop := (∀ q, q < 512 * sl ∨ 512 * sl + 512 ≤ q → bs' q = bs q) ∧ ∀ j, j ≠ sl → us' j = us j
theorem os_tr {sl : Nat} {a b c a' b' c' : Nat → Int32} (h : os_ sl a a' b b') (k : os_ sl b b' c c') : os_ sl a a' c c' := ⟨fun q hq => (k.1 q hq).trans (h.1 q hq), fun j hj => (k.2 j hj).trans (h.2 j hj)⟩
theorem ct_congr {bs bs' : Nat → Int32} {sl n way w h : Nat} {P : Nat → Nat → Nat} (hs : ∀ i, 6 ≤ i → i < n → bs' (512 * sl + i) = bs (512 * sl + i)) (c : ct_ bs sl n way w h P) : ct_ bs' sl n way w h P := by
  have cbc : ∀ b, cb_ bs sl n b → cb_ bs' sl n b := fun b hb => ⟨hb.1, fun k hk => by rw [Nat.add_assoc, hs (6 + k) (by omega) hk, ← Nat.add_assoc]; exact hb.2.1 k hk, hb.2.2⟩
  rcases c with ⟨c1, c2, c3⟩ | ⟨c1, b, M, c2, c3⟩ | ⟨c1, b, K, C, idx, c2, c3⟩
  · exact Or.inl ⟨c1, c2, fun k hk => by rw [Nat.add_assoc, hs (6 + k) (by omega) (by omega), ← Nat.add_assoc]; exact c3 k hk⟩
  · exact Or.inr (Or.inl ⟨c1, b, M, cbc b c2, c3⟩)
  · exact Or.inr (Or.inr ⟨c1, b, K, C, idx, cbc b c2, c3⟩)
theorem sl_other {bs us bs' us' : Nat → Int32} {sl sl' w h : Nat} {P : Nat → Nat → Nat} (hne : sl' ≠ sl) (o : os_ sl bs us bs' us') (s : sl_ bs us sl' w h P) : sl_ bs' us' sl' w h P := by
  obtain ⟨n, way, s1, s2, s3, s4, s5, s6, s7, s8, s9⟩ := s
  have e : ∀ i, i < 512 → bs' (512 * sl' + i) = bs (512 * sl' + i) := fun i hi => o.1 _ (by omega)
  refine ⟨n, way, by rw [o.2 sl' hne]; exact s1, s2, s3, fun i hi => by rw [e i (by omega)]; exact s4 i hi, by rw [← Nat.add_zero (512 * sl'), e 0 (by omega)]; exact s5, by rw [e 1 (by omega)]; exact s6, s7, ?_, ct_congr (fun i _ hi => e i (by omega)) s9⟩
  unfold so_ at s8 ⊢
  rw [cs_congr (bs := bs) 4 (fun i hi => e _ (by omega)), cr_a_congr (bs := bs) n (fun i hi _ => e _ (by omega))]
  exact s8
/-- the check number in its four bytes -/
theorem cs_back {bs : Nat → Int32} {base : Nat} {x : Int32} (h : ∀ i, i < 4 → bs (base + (2 + i)) = (x >>> (nI (8 * (3 - i)) &&& 31)) &&& 255) : cs_ bs base 4 = x := by
  apply zb_ext
  intro j hj
  have b : ∀ i, i < 4 → ∀ j, j < 32 → zb_t (bs (base + (2 + i))) j = (decide (j < 8) && zb_t x (8 * (3 - i) + j)) := by
    intro i hi j hj
    rw [h i hi, zb_and, zb_255, zb_sshr (8 * (3 - i)) (by omega) x hj, Bool.and_comm]
    by_cases z : j < 8
    · rw [if_pos (by omega)]
    · rw [decide_eq_false z]
      rfl
  show zb_t ((((((((0 : Int32) <<< ((8 : Int32) &&& 31)) ||| bs (base + (2 + 0))) <<< ((8 : Int32) &&& 31)) ||| bs (base + (2 + 1))) <<< ((8 : Int32) &&& 31)) ||| bs (base + (2 + 2))) <<< ((8 : Int32) &&& 31) ||| bs (base + (2 + 3))) j = zb_t x j
  rw [zb_or, zb_shl8 _ hj, b 3 (by omega) j hj]
  by_cases z1 : j < 8
  · rw [decide_eq_true z1, decide_eq_false (show ¬ 8 ≤ j by omega), Bool.false_and, Bool.false_or, Bool.true_and, show 8 * (3 - 3) + j = j by omega]
  rw [decide_eq_false z1, decide_eq_true (show 8 ≤ j by omega), Bool.true_and, Bool.false_and, Bool.or_false, zb_or, zb_shl8 _ (by omega), b 2 (by omega) (j - 8) (by omega)]
  by_cases z2 : j < 16
  · rw [decide_eq_true (show j - 8 < 8 by omega), decide_eq_false (show ¬ 8 ≤ j - 8 by omega), Bool.false_and, Bool.false_or, Bool.true_and, show 8 * (3 - 2) + (j - 8) = j by omega]
  rw [decide_eq_false (show ¬ j - 8 < 8 by omega), decide_eq_true (show 8 ≤ j - 8 by omega), Bool.true_and, Bool.false_and, Bool.or_false, zb_or, zb_shl8 _ (by omega), b 1 (by omega) (j - 8 - 8) (by omega)]
  by_cases z3 : j < 24
  · rw [decide_eq_true (show j - 8 - 8 < 8 by omega), decide_eq_false (show ¬ 8 ≤ j - 8 - 8 by omega), Bool.false_and, Bool.false_or, Bool.true_and, show 8 * (3 - 1) + (j - 8 - 8) = j by omega]
  rw [decide_eq_false (show ¬ j - 8 - 8 < 8 by omega), decide_eq_true (show 8 ≤ j - 8 - 8 by omega), Bool.true_and, Bool.false_and, Bool.or_false, zb_or, zb_shl8 _ (by omega), b 0 (by omega) (j - 8 - 8 - 8) (by omega), zb_0, Bool.and_false, Bool.false_or, decide_eq_true (show j - 8 - 8 - 8 < 8 by omega), Bool.true_and, show 8 * (3 - 0) + (j - 8 - 8 - 8) = j by omega]
theorem wk_pi66 {post : St1 → Prop} {u : St1} {sl w h : Nat} {P : Nat → Nat → Nat} (hsl : sl < 4) (o : po_ w h P) (g : pc_ u w h P) (hs : ps_ (gt_by u) (gt_used u) sl w h P)
    (hp : ∀ u', fm_ [6, 8] u u' → sl_ (gt_by u') (gt_used u') sl w h P → os_ sl (gt_by u) (gt_used u) (gt_by u') (gt_used u') → post u') : kw_packInto_66 post (nI sl) u := by
  obtain ⟨n, way, s1, s2, s3, s4, s5, s6, s7⟩ := hs
  have dw := o.1.2.1
  have dh := o.1.2.2.2
  have e0 : (512 : Int32) * nI sl = nI (512 * sl) := pk_mul 512 sl
  have ewh : (nI w <<< ((4 : Int32) &&& 31)) ||| nI h = nI (16 * w + h) := by
    rw [pk_shlN _ 4 (by decide) (by omega), nx_or]
    congr 1
    have := Nat.two_pow_add_eq_or_of_lt (i := 4) (b := h) (by omega) w
    rw [Nat.mul_comm w, ← this]
  refine ks_packInto_66 ?_
  rw [g.1, g.2.1, ewh, e0, nI_clamp (by omega)]
  refine ⟨vp_in_nI (by omega) (by omega), nm_e ?_⟩
  refine wk_checkOf hsl (by omega) s1 (fun u1 f1 => ?_)
  have by1 : gt_by u1 = upd (gt_by u) (512 * sl) (nI (16 * w + h)) := (kf_by f1).trans rfl
  have us1 : gt_used u1 = gt_used u := (kf_used f1).trans rfl
  have F1 : fm_ [6] u u1 := fm_tr (fm_s_by _ _) (fm_kf f1)
  generalize hx : cr_a (gt_by (st_by u (upd (gt_by u) (512 * sl) (nI (16 * w + h))))) (512 * sl) n ^^^ (-1) = x
  have hx' : cr_a (gt_by u1) (512 * sl) n ^^^ (-1) = x := by rw [by1]; exact hx
  refine pk_loop (fun f i v => kw_packInto_96 post (nI sl) x f (nI (2 + i)) v) (fun i v => fm_ [6] u1 v ∧ (∀ j, j < i → gt_by v (512 * sl + (2 + j)) = (x >>> (nI (8 * (3 - j)) &&& 31)) &&& 255) ∧ (∀ q, q < 512 * sl + 2 ∨ 512 * sl + (2 + i) ≤ q → gt_by v q = gt_by u1 q)) 4 0 u1 (by omega) ⟨fm_rfl u1, fun j hj => absurd hj (by omega), fun q _ => rfl⟩ ?_ ?_
  · intro f v hv
    obtain ⟨f2, l2, k2⟩ := hv
    refine ks_packInto_96 (pk_le 6 (2 + 4) (fun _ => ⟨vp_in_nI hsl (by omega), nm_e (hp _ (fm_tr (fm_wk F1) (fm_tr (fm_wk f2) (fm_s_tb _ _))) ?_ ?_)⟩) (fun z => absurd z (by omega)))
    · show sl_ (gt_by v) (gt_used v) sl w h P
      have B : ∀ i, 6 ≤ i → i < 512 → gt_by v (512 * sl + i) = gt_by u (512 * sl + i) := fun i hi1 hi2 => by
        rw [k2 _ (by omega), by1, pk_un (by omega)]
      have b0 : gt_by v (512 * sl) = nI (16 * w + h) := by rw [k2 _ (by omega), by1, pk_us]
      have b1 : gt_by v (512 * sl + 1) = nI way := by rw [k2 _ (by omega), by1, pk_un (by omega)]; exact s5
      refine ⟨n, way, by rw [fm_used f2, us1]; exact s1, s2, s3, ?_, b0, b1, s6, ?_, ct_congr (fun i hi1 hi2 => B i hi1 (by omega)) s7⟩
      · intro i hi
        by_cases z6 : 6 ≤ i
        · rw [B i z6 (by omega)]
          exact s4 i z6 hi
        · by_cases z2 : 2 ≤ i
          · have := l2 (i - 2) (by omega)
            rw [show 2 + (i - 2) = i by omega] at this
            rw [this]
            obtain ⟨j, hj, ej⟩ := pk_andE (x >>> (nI (8 * (3 - (i - 2))) &&& 31)) (m := 255) 8 (by decide)
            exact ⟨j, hj, ej⟩
          · have : i = 0 ∨ i = 1 := by omega
            rcases this with rfl | rfl
            · exact ⟨16 * w + h, by omega, b0⟩
            · exact ⟨way, by omega, b1⟩
      · unfold so_
        rw [cs_back l2, ← hx', cr_a_congr (bs := gt_by u1) n (fun i hi hz => k2 _ (by omega))]
    · show os_ sl (gt_by u) (gt_used u) (gt_by v) (gt_used v)
      refine ⟨fun q hq => ?_, fun j hj => by rw [fm_used f2, us1]⟩
      rw [k2 _ (by omega), by1, pk_un (by omega)]
  · intro f i v hi hv hw
    obtain ⟨f2, l2, k2⟩ := hv
    refine ks_packInto_96 (pk_le 6 (2 + i) (fun z => absurd z (by omega)) (fun _ => ?_))
    rw [zi_512, nI_clamp (by omega), show (5 : Int32) = nI 5 from rfl, pk_sub (by omega), show (8 : Int32) = nI 8 from rfl, pk_mul]
    refine ⟨vp_in_nI (by omega) (by omega), nm_e (nm_r (nI_1 (2 + i)) (hw _ ⟨fm_tr f2 (fm_s_by _ _), fun j hj => ?_, fun q hq => ?_⟩))⟩
    · show upd (gt_by v) _ _ _ = _
      by_cases e : j = i
      · rw [e, pk_us, show 5 - (2 + i) = 3 - i by omega]
      · rw [pk_un (by omega)]
        exact l2 j (by omega)
    · show upd (gt_by v) _ _ _ = _
      rw [pk_un (by omega)]
      exact k2 q (by omega)
theorem ps_new {bs' us us' : Nat → Int32} {sl w h N way : Nat} {P : Nat → Nat → Nat} {b : Nat → Nat} (hN : 6 + N < 438) (hu : us' = upd us sl (nI (6 + N))) (hb : ∀ k, k < N → bs' (512 * sl + 6 + k) = nI (b k)) (h1 : bs' (512 * sl + 1) = nI way) (hw : way ≤ 2) (hby : ec_by b) (hc : cb_ bs' sl (6 + N) b → ct_ bs' sl (6 + N) way w h P) (hz : ∀ k, N ≤ k → b k = 0) : ps_ bs' us' sl w h P := by
  refine ⟨6 + N, way, by rw [hu, pk_us], by omega, by omega, fun i hi1 hi2 => ⟨b (i - 6), hby _, ?_⟩, h1, hw, hc ⟨hby, fun k hk => hb k (by omega), fun k hk => hz k (by omega)⟩⟩
  have := hb (i - 6) (by omega)
  rw [show 512 * sl + 6 + (i - 6) = 512 * sl + i by omega] at this
  exact this
theorem ec_fin {b : Nat → Nat} {e : ec_T} (ho : ec_ok e) (hv : ec_val b (e.2.2.1 + 5) = e.1) : ec_sy b e := by
  have := ho.1
  exact ⟨by omega, by omega⟩
theorem wk_pi34 {post : St1 → Prop} {u : St1} {sl w h : Nat} {P : Nat → Nat → Nat} {eff : Int32} (hsl : sl < 4) (o : po_ w h P) (g : pc_ u w h P) (hs : ps_ (gt_by u) (gt_used u) sl w h P)
    (hp : ∀ u', fm_ [6, 7, 8, 15, 16] u u' → sl_ (gt_by u') (gt_used u') sl w h P → os_ sl (gt_by u) (gt_used u) (gt_by u') (gt_used u') → post u') : kw_packInto_34 post (nI sl) eff u := by
  have h144 := dm_144 o.1
  have h1 : 1 ≤ w * h := Nat.mul_le_mul o.1.1 o.1.2.2.1
  refine ks_packInto_34 ?_
  by_cases z : eff &&& 2 = 2
  · refine br_t z (wk_collect o g (fun u1 f1 => br_t rfl ?_) (fun u1 K C f1 p1 c1 => br_f (by decide) ?_))
    · refine wk_pi66 hsl o (pc_fm g f1) (by rw [fm_by f1, fm_used f1]; exact hs) (fun u' f' s' o' => hp u' (fm_tr (fm_wk f1) (fm_wk f')) s' ?_)
      rw [fm_by f1, fm_used f1] at o'
      exact o'
    · have hK : 1 ≤ K := by
        obtain ⟨k, hk, _⟩ := c1 0 (by omega)
        omega
      have hidx : ∃ idx : Nat → Nat, ∀ a, a < w * h → idx a < K ∧ C (idx a) = cl_ P a := by
        refine ⟨fun a => if ha : a < w * h then Classical.choose (c1 a ha) else 0, fun a ha => ?_⟩
        show (if ha : a < w * h then Classical.choose (c1 a ha) else 0) < K ∧ C (if ha : a < w * h then Classical.choose (c1 a ha) else 0) = cl_ P a
        rw [dif_pos ha]
        exact Classical.choose_spec (c1 a ha)
      obtain ⟨idx, hi⟩ := hidx
      have hidx16 : ∀ a, a < w * h → idx a < 16 := fun a ha => by have := (hi a ha).1; have := p1.2.1; omega
      obtain ⟨oF, nF⟩ := ec_go (ec_p2_st ec_by0 ec_0 (K := K) C p1.2.1 hidx16 (Nat.le_refl _) h144) ec_0_ok
      have k2 : ec_0.2.2.1 = 0 := rfl
      refine wk_begin (fun u2 f2 m2 => ?_)
      refine wk_writePalette (idx := idx) o (pc_fm (pc_fm g f1) (fm_kf (l := []) f2)) (pa_fm p1 (fm_kf (l := []) f2)) hK hi m2 ec_0_ok (by omega) (fun u3 f3 m3 => ?_)
      refine wk_finish m3 oF (by omega) (fun u4 f4 F4 => ?_)
      have f14 : fm_ [15, 16] u u4 := fm_tr f1 (fm_tr (fm_kf f2) (fm_tr (fm_kf f3) (fm_kf f4)))
      have e1 := fm_by f14
      have e2 := fm_used f14
      have hs4 : ps_ (gt_by u4) (gt_used u4) sl w h P := by rw [e1, e2]; exact hs
      have g4 := pc_fm g f14
      obtain ⟨n, way, s1, s2, s3, s4⟩ := hs4
      refine wk_takeIf (way := 2) hsl s1 s3 F4 ?_ (fun u5 b hlt f5 q1 q2 q3 q4 q5 q6 q7 => ?_)
      · refine wk_pi66 hsl o g4 ⟨n, way, s1, s2, s3, s4⟩ (fun u' f' s' o' => hp u' (fm_tr (fm_wk f14) (fm_wk f')) s' ?_)
        rw [e1, e2] at o'
        exact o'
      · refine wk_pi66 hsl o (pc_fm g4 f5) (ps_new (b := b) (by omega) q1 q3 q4 (by omega) q5 (fun hcb => ?_) q6) (fun u' f' s' o' => hp u' (fm_tr (fm_wk f14) (fm_tr (fm_wk f5) (fm_wk f'))) s' ?_)
        · exact Or.inr (Or.inr ⟨rfl, b, K, C, idx, hcb, hK, p1.2.1, p1.2.2.2.1, hi, ec_fin oF q7⟩)
        · refine os_tr ⟨fun q hq => ?_, fun j hj => ?_⟩ o'
          · rw [q2 q hq, e1]
          · rw [q1, pk_un hj, e2]
  · exact br_f z (wk_pi66 hsl o g hs (fun u' f' s' o' => hp u' (fm_wk f') s' o'))
theorem wk_packInto {post : St1 → Prop} {u : St1} {sl w h : Nat} {P : Nat → Nat → Nat} {eff : Int32} (hsl : sl < 4) (o : po_ w h P) (g : pc_ u w h P)
    (hp : ∀ u', fm_ [6, 7, 8, 9, 10, 11, 12, 13, 14, 15, 16] u u' → sl_ (gt_by u') (gt_used u') sl w h P → os_ sl (gt_by u) (gt_used u) (gt_by u') (gt_used u') → post u') : wpX_packInto post u (nI sl) eff := by
  have h144 := dm_144 o.1
  refine ks_packInto (wk_packRaw hsl o.1 g (fun u1 f1 q1 q2 q3 q4 => ?_))
  have g1 := pc_fm g f1
  have hs1 : ps_ (gt_by u1) (gt_used u1) sl w h P := by
    refine ⟨6 + 3 * (w * h), 0, by rw [q1, pk_us], by omega, by omega, fun i hi1 hi2 => ?_, q3, by omega, Or.inl ⟨rfl, rfl, q2⟩⟩
    have := q2 (i - 6) (by omega)
    rw [show 512 * sl + 6 + (i - 6) = 512 * sl + i by omega] at this
    exact ⟨P ((i - 6) % 3) ((i - 6) / 3), o.2 _ (by omega) _ (by omega), this⟩
  have os1 : os_ sl (gt_by u) (gt_used u) (gt_by u1) (gt_used u1) := ⟨q4, fun j hj => by rw [q1, pk_un hj]⟩
  by_cases z : eff &&& 1 = 1
  · refine br_t z (wk_splitAll o g1 (fun u2 f2 gp2 n2 => ?_))
    have hn : pb_ (gt_num u2) w h := pb_in (fun c a hc ha => by rw [n2 c a hc ha]; exact mm_in o.2 ha)
    have k2 : ec_0.2.2.1 = 0 := rfl
    obtain ⟨oF, nF⟩ := ec_go (ec_al_st ec_by0 o.1 hn ec_0 (Nat.le_refl 15)) ec_0_ok
    refine wk_begin (fun u3 f3 m3 => ?_)
    have en3 : gt_num u3 = gt_num u2 := kf_num f3
    refine wk_writePlanes o.1 (gp_fm gp2 (fm_kf (l := []) f3)) (by rw [en3]; exact hn) m3 ec_0_ok (by omega) (fun u4 f4 m4 => ?_)
    rw [en3] at m4
    refine wk_finish m4 oF (by omega) (fun u5 f5 F5 => ?_)
    have f25 : fm_ [9, 10, 11, 12, 13, 14] u1 u5 := fm_tr f2 (fm_tr (fm_kf f3) (fm_tr (fm_kf f4) (fm_kf f5)))
    have e1 := fm_by f25
    have e2 := fm_used f25
    have g5 := pc_fm g1 f25
    have hs5 : ps_ (gt_by u5) (gt_used u5) sl w h P := by rw [e1, e2]; exact hs1
    have os5 : os_ sl (gt_by u) (gt_used u) (gt_by u5) (gt_used u5) := by rw [e1, e2]; exact os1
    obtain ⟨n, way, s1, s2, s3, s4⟩ := hs5
    refine wk_takeIf (way := 1) hsl s1 s3 F5 ?_ (fun u6 b hlt f6 r1 r2 r3 r4 r5 r6 r7 => ?_)
    · exact wk_pi34 hsl o g5 ⟨n, way, s1, s2, s3, s4⟩ (fun u' f' s' o' => hp u' (fm_tr (fm_wk f1) (fm_tr (fm_wk f25) (fm_wk f'))) s' (os_tr os5 o'))
    · refine wk_pi34 hsl o (pc_fm g5 f6) (ps_new (b := b) (by omega) r1 r3 r4 (by omega) r5 (fun hcb => ?_) r6) (fun u' f' s' o' => hp u' (fm_tr (fm_wk f1) (fm_tr (fm_wk f25) (fm_tr (fm_wk f6) (fm_wk f')))) s' (os_tr os5 (os_tr ⟨r2, fun j hj => ?_⟩ o')))
      · exact Or.inr (Or.inl ⟨rfl, b, gt_num u2, hcb, n2, ec_fin oF r7⟩)
      · rw [r1, pk_un hj]
  · exact br_f z (wk_pi34 hsl o g1 hs1 (fun u' f' s' o' => hp u' (fm_tr (fm_wk f1) (fm_wk f')) s' (os_tr os1 o')))
theorem wk_isSlot {post : Int32 → Prop} {sl : Nat} (hsl : sl < 4) (hp : post 1) : wpX_isSlot post () (nI sl) := br_f (nI_pos (by omega)) (br_f (nI_ge (b := 4) hsl (by omega)) hp)
theorem wk_pack {post : Int32 → St1 → Prop} {u : St1} {sl w h : Nat} {P : Nat → Nat → Nat} {eff : Int32} (hsl : sl < 4) (o : po_ w h P) (g : pc_ u w h P)
    (hp : ∀ u', pc_ u' w h P → sl_ (gt_by u') (gt_used u') sl w h P → os_ sl (gt_by u) (gt_used u) (gt_by u') (gt_used u') → post 0 u') : wpX_pack post u (nI sl) eff :=
  ks_pack (wk_isSlot hsl (br_f (by decide) (wk_packInto hsl o g (fun u' f' s' o' => hp u' (pc_fm g f') s' o'))))
end
section
/-! ===== unpacking ===== -/
theorem wk_uf99 {post : St1 → Prop} {t : Nat} (ht : t ≤ 2) : ∀ r w h P v, r ≤ t → po_ w h P → pc_ v w h P → (∀ u', fm_ [0, 1, 2, 14] v u' → pc_ u' (it_w r w) (it_w r h) (it_P r w h P) → post u') → kw_unpackFrom_99 post (nI t) (r + 1) (nI (t - r)) v := by
  intro r
  induction r with
  | zero =>
    intro w h P v _ o g hp
    exact ks_unpackFrom_99 (pk_le t (t - 0) (fun _ => hp v (fm_rfl v) g) (fun z => absurd z (by omega)))
  | succ r ih =>
    intro w h P v hr o g hp
    refine ks_unpackFrom_99 (pk_le t (t - (r + 1)) (fun z => absurd z (by omega)) (fun _ => ?_))
    refine wk_halve o g (fun u1 f1 g1 => nm_r (e' := nI (t - r)) (by rw [nI_1]; congr 1; omega) ?_)
    exact ih _ _ _ u1 (by omega) (po_half o) g1 (fun u' f' g' => hp u' (fm_tr f1 f') g')
theorem wk_unpackFrom {post : St1 → Prop} {u : St1} {sl w h t : Nat} {P : Nat → Nat → Nat} (hsl : sl < 4) (ht : t ≤ 2) (o : po_ w h P) (s : sl_ (gt_by u) (gt_used u) sl w h P)
    (hp : ∀ u', fm_ [0, 1, 2, 9, 10, 11, 12, 13, 14, 15, 16, 17] u u' → pc_ u' (it_w t w) (it_w t h) (it_P t w h P) → post u') : wpX_unpackFrom post u (nI sl) (nI t) := by
  obtain ⟨n, way, s1, s2, s3, s4, s5, s6, s7, s8, s9⟩ := s
  have dw := o.1.2.1
  have dh := o.1.2.2.2
  have e0 : (512 : Int32) * nI sl = nI (512 * sl) := pk_mul 512 sl
  refine ks_unpackFrom ?_
  rw [e0, nI_1, nI_clamp (show 512 * sl < 2 ^ 31 by omega), nI_clamp (show 512 * sl + 1 < 2 ^ 31 by omega), s5, s6, pk_shrN (by omega) _ 4 (by decide), pk_andN (by omega) (m := 15) 4 (by decide), show (16 * w + h) / 2 ^ 4 = w by show (16 * w + h) / 16 = w; omega, show (16 * w + h) % 2 ^ 4 = h by show (16 * w + h) % 16 = h; omega]
  refine ⟨vp_in_nI (by omega) (by omega), nm_e ⟨vp_in_nI (by omega) (by omega), nm_e ⟨vp_in_nI (by omega) (by omega), nm_e ?_⟩⟩⟩
  have f0 : fm_ [0, 1] u (st_h (st_w u (nI w)) (nI h)) := fm_tr (fm_s_w _ _) (fm_s_h _ _)
  have ew : gt_w (st_h (st_w u (nI w)) (nI h)) = nI w := rfl
  have eh : gt_h (st_h (st_w u (nI w)) (nI h)) = nI h := rfl
  generalize st_h (st_w u (nI w)) (nI h) = u0 at f0 ew eh
  have eb := fm_by f0
  have eu := fm_used f0
  have tail : ∀ v, fm_ [0, 1, 2, 9, 10, 11, 12, 13, 14, 15, 16, 17] u v → pc_ v w h P → ∃ f, kw_unpackFrom_99 post (nI t) f 0 v := by
    intro v fv gv
    have := wk_uf99 (post := post) ht t w h P v (Nat.le_refl t) o gv (fun u' f' g' => hp u' (fm_tr fv (fm_wk f')) g')
    rw [Nat.sub_self] at this
    exact ⟨_, this⟩
  rcases s9 with ⟨c1, c2, c3⟩ | ⟨c1, b, M, c2, c3, c4⟩ | ⟨c1, b, K, C, idx, c2, c3, c4, c5, c6, c7⟩
  · subst c1
    refine br_f (by decide) (br_f (by decide) ?_)
    exact wk_readRaw hsl o.1 ew eh (by rw [eb]; exact c3) (fun u1 f1 g1 => tail u1 (fm_tr (fm_wk f0) (fm_wk f1)) g1)
  · subst c1
    have hd : ds_ b sl n := ⟨c2.1, hsl, by omega⟩
    refine br_t rfl (wk_open hd (by rw [eu]; exact s1) (by rw [eb]; exact c2.2.1) c2.2.2 (fun u1 f1 m1 => ?_))
    have f01 : fm_ [0, 1, 17] u u1 := fm_tr (fm_wk f0) (fm_tr (fm_s_end _ _) (fm_kf f1))
    exact wk_readPlanes hd o ht c3 m1 c4 (fun u2 f2 g2 => hp u2 (fm_tr (fm_wk f01) (fm_wk f2)) g2)
  · subst c1
    have hd : ds_ b sl n := ⟨c2.1, hsl, by omega⟩
    refine br_f (by decide) (br_t rfl (wk_open hd (by rw [eu]; exact s1) (by rw [eb]; exact c2.2.1) c2.2.2 (fun u1 f1 m1 => ?_)))
    have f02 : fm_ [17] u0 u1 := fm_tr (fm_s_end _ _) (fm_kf f1)
    have f01 : fm_ [0, 1, 17] u u1 := fm_tr (fm_wk f0) (fm_wk f02)
    exact wk_readPalette hd o (by rw [fm_w f02]; exact ew) (by rw [fm_h f02]; exact eh) c3 c4 c5 c6 m1 c7 (fun u2 f2 g2 => tail u2 (fm_tr (fm_wk f01) (fm_wk f2)) g2)
/-! ===== slots ===== -/
theorem zi_n6 {n : Nat} (h : 6 ≤ n) (h2 : n ≤ 438) : ¬ nI n = 0 := nI_ne0 (by omega) (by omega)
theorem wk_trouble1 {post : Int32 → St1 → Prop} {u : St1} {sl w h : Nat} {P : Nat → Nat → Nat} (hsl : sl < 4) (s : sl_ (gt_by u) (gt_used u) sl w h P) (hp : ∀ u', kf_ u u' → post 0 u') : wpX_troubleOf post u (nI sl) := by
  obtain ⟨n, way, s1, s2, s3, s4, s5, s6, s7, s8, s9⟩ := s
  refine ks_troubleOf (wk_isSlot hsl (br_f (by decide) ⟨vp_in_nI hsl (by omega), ?_⟩))
  rw [nI_clamp (by omega), s1]
  exact br_f (zi_n6 s2 s3) (wk_isSound hsl (by omega) s1 (fun _ u' f' => br_f (by decide) (hp u' f')) (fun z => absurd s8 z))
/-- a slot whose check number is wrong -/
def dm_d (bs us : Nat → Int32) (sl : Nat) : Prop := ∃ n, us sl = nI n ∧ 6 ≤ n ∧ n ≤ 438 ∧ ¬ so_ bs sl n
theorem dm_kf {u v : St1} {sl : Nat} (f : kf_ u v) (s : dm_d (gt_by u) (gt_used u) sl) : dm_d (gt_by v) (gt_used v) sl := by rw [kf_by f, kf_used f]; exact s
theorem sl_kf {u v : St1} {sl w h : Nat} {P : Nat → Nat → Nat} (f : kf_ u v) (s : sl_ (gt_by u) (gt_used u) sl w h P) : sl_ (gt_by v) (gt_used v) sl w h P := by rw [kf_by f, kf_used f]; exact s
theorem sl_fm {l : List Nat} {u v : St1} {sl w h : Nat} {P : Nat → Nat → Nat} (f : fm_ l u v) (s : sl_ (gt_by u) (gt_used u) sl w h P) (h1 : 6 ∉ l := by decide) (h2 : 7 ∉ l := by decide) : sl_ (gt_by v) (gt_used v) sl w h P := by rw [fm_by f h1, fm_used f h2]; exact s
theorem wk_trouble0 {post : Int32 → St1 → Prop} {u : St1} {sl : Nat} (hsl : sl < 4) (s : dm_d (gt_by u) (gt_used u) sl) (hp : ∀ u', kf_ u u' → post (-3) u') : wpX_troubleOf post u (nI sl) := by
  obtain ⟨n, s1, s2, s3, s4⟩ := s
  refine ks_troubleOf (wk_isSlot hsl (br_f (by decide) ⟨vp_in_nI hsl (by omega), ?_⟩))
  rw [nI_clamp (by omega), s1]
  exact br_f (zi_n6 s2 s3) (wk_isSound hsl (by omega) s1 (fun z => absurd z s4) (fun _ u' f' => br_t rfl (hp u' f')))
theorem wk_unpack {post : Int32 → St1 → Prop} {u : St1} {sl w h : Nat} {P : Nat → Nat → Nat} (hsl : sl < 4) (o : po_ w h P) (s : sl_ (gt_by u) (gt_used u) sl w h P)
    (hp : ∀ u', fm_ [0, 1, 2, 9, 10, 11, 12, 13, 14, 15, 16, 17] u u' → pc_ u' w h P → post (nI (w * h)) u') : wpX_unpack post u (nI sl) := by
  refine ks_unpack (wk_trouble1 hsl s (fun u1 f1 => br_t (by decide) (wk_unpackFrom (t := 0) hsl (by omega) o (sl_kf f1 s) (fun u2 f2 g2 => ?_))))
  rw [g2.1, g2.2.1, pk_mul]
  exact hp u2 (fm_tr (fm_kf f1) f2) g2
theorem wk_unpack0 {post : Int32 → St1 → Prop} {u : St1} {sl : Nat} (hsl : sl < 4) (s : dm_d (gt_by u) (gt_used u) sl) (hp : ∀ u', kf_ u u' → post (-3) u') : wpX_unpack post u (nI sl) :=
  ks_unpack (wk_trouble0 hsl s (fun u1 f1 => br_f (by decide) (hp u1 f1)))
theorem wk_preview {post : Int32 → St1 → Prop} {u : St1} {sl w h t : Nat} {P : Nat → Nat → Nat} (hsl : sl < 4) (ht1 : 1 ≤ t) (ht : t ≤ 2) (o : po_ w h P) (s : sl_ (gt_by u) (gt_used u) sl w h P)
    (hp : ∀ u', fm_ [0, 1, 2, 9, 10, 11, 12, 13, 14, 15, 16, 17] u u' → pc_ u' (it_w t w) (it_w t h) (it_P t w h P) → post (nI (it_w t w * it_w t h)) u') : wpX_preview post u (nI sl) (nI t) := by
  refine ks_preview (br_f (nI_nlt (b := 1) ht1 (by omega)) (br_t (nI_le (b := 2) ht (by omega)) (wk_trouble1 hsl s (fun u1 f1 => br_t (by decide) (wk_unpackFrom hsl ht o (sl_kf f1 s) (fun u2 f2 g2 => ?_))))))
  rw [g2.1, g2.2.1, pk_mul]
  exact hp u2 (fm_tr (fm_kf f1) f2) g2
theorem wk_preview0 {post : Int32 → St1 → Prop} {u : St1} {sl t : Nat} (hsl : sl < 4) (ht1 : 1 ≤ t) (ht : t ≤ 2) (s : dm_d (gt_by u) (gt_used u) sl) (hp : ∀ u', kf_ u u' → post (-3) u') : wpX_preview post u (nI sl) (nI t) :=
  ks_preview (br_f (nI_nlt (b := 1) ht1 (by omega)) (br_t (nI_le (b := 2) ht (by omega)) (wk_trouble0 hsl s (fun u1 f1 => br_f (by decide) (hp u1 f1)))))
theorem wk_peek0 {post : Int32 → St1 → Prop} {u : St1} {sl : Nat} {x y : Int32} (hsl : sl < 4) (s : dm_d (gt_by u) (gt_used u) sl) (hp : ∀ u', kf_ u u' → post (-3) u') : wpX_peek post u (nI sl) x y :=
  ks_peek (wk_trouble0 hsl s (fun u1 f1 => br_f (by decide) (hp u1 f1)))
theorem wk_rework0 {post : Int32 → St1 → Prop} {u : St1} {sl k : Nat} (hsl : sl < 4) (hk : k ≤ 3) (s : dm_d (gt_by u) (gt_used u) sl) (hp : ∀ u', kf_ u u' → post (-3) u') : wpX_rework post u (nI sl) (nI k) :=
  ks_rework (br_f (nI_pos (by omega)) (br_t (nI_le (b := 3) hk (by omega)) (wk_trouble0 hsl s (fun u1 f1 => br_f (by decide) (hp u1 f1)))))
theorem wk_same {post : Int32 → St1 → Prop} {u : St1} {sl sl' w h : Nat} {P P' : Nat → Nat → Nat} (hsl : sl < 4) (hsl' : sl' < 4) (o : po_ w h P) (o' : po_ w h P') (s : sl_ (gt_by u) (gt_used u) sl w h P) (s' : sl_ (gt_by u) (gt_used u) sl' w h P') (e : ∀ c a, c < 3 → a < w * h → P c a = P' c a)
    (hp : ∀ u', gt_by u' = gt_by u → gt_used u' = gt_used u → post 1 u') : wpX_same post u (nI sl) (nI sl') := by
  have h144 := dm_144 o.1
  obtain ⟨n, way, s1, s2, s3, _, _, _, _, s8, _⟩ := id s
  obtain ⟨n', way', s1', s2', s3', _, _, _, _, s8', _⟩ := id s'
  refine ks_same (wk_isSlot hsl (br_f (by decide) (wk_isSlot hsl' (br_f (by decide) ⟨vp_in_nI hsl (by omega), ?_⟩))))
  rw [nI_clamp (by omega), s1, nI_clamp (by omega), s1']
  refine br_f (zi_n6 s2 s3) ⟨vp_in_nI hsl' (by omega), br_f (zi_n6 s2' s3') ?_⟩
  refine wk_isSound hsl (by omega) s1 (fun _ u1 f1 => br_f (by decide) ?_) (fun z => absurd s8 z)
  refine wk_isSound (n := n') hsl' (by omega) (by rw [kf_used f1]; exact s1') (fun _ u2 f2 => br_f (by decide) ?_) (fun z => absurd (by rw [kf_by f1]; exact s8') z)
  refine wk_exchange (fun u3 f3 => ?_)
  have F3 : fm_ [0, 1, 2] u u3 := fm_tr (fm_kf f1) (fm_tr (fm_kf f2) f3)
  refine wk_unpackFrom (t := 0) hsl (by omega) o (sl_fm F3 s) (fun u4 f4 g4 => ?_)
  have F4 : fm_ [0, 1, 2, 9, 10, 11, 12, 13, 14, 15, 16, 17] u u4 := fm_tr (fm_wk F3) f4
  refine wk_keepFirst (fun u5 f5 q1 q2 q3 => ?_)
  have F5 : fm_ [0, 1, 2, 3, 4, 5, 9, 10, 11, 12, 13, 14, 15, 16, 17] u u5 := fm_tr (fm_wk F4) (fm_wk f5)
  refine wk_unpackFrom (t := 0) hsl' (by omega) o' (sl_fm F5 s') (fun u6 f6 g6 => ?_)
  have F6 : fm_ [0, 1, 2, 3, 4, 5, 9, 10, 11, 12, 13, 14, 15, 16, 17] u u6 := fm_tr F5 (fm_wk f6)
  refine wk_isFirst o'.1 g6 ?_ ?_ ?_ (br_f (by decide) (ks_same_88 (wk_exchange (fun u7 f7 => hp u7 ?_ ?_))))
  · rw [fm_fw f6, q1]
    exact g4.1
  · rw [fm_fh f6, q2]
    exact g4.2.1
  · intro c a hc ha
    have ha' : a < w * h := ha
    rw [fm_first f6, q3 _ (by omega), g4.2.2 c a hc ha]
    exact congrArg nI (e c a hc ha)
  · rw [fm_by f7, fm_by F6]
  · rw [fm_used f7, fm_used F6]
theorem wk_same0 {post : Int32 → St1 → Prop} {u : St1} {sl sl' w h : Nat} {P : Nat → Nat → Nat} (hsl : sl < 4) (hsl' : sl' < 4) (s : dm_d (gt_by u) (gt_used u) sl) (s' : sl_ (gt_by u) (gt_used u) sl' w h P) (hp : ∀ u', kf_ u u' → post (-3) u') : wpX_same post u (nI sl) (nI sl') := by
  obtain ⟨n, s1, s2, s3, s8⟩ := id s
  obtain ⟨n', way', s1', s2', s3', _, _, _, _, s8', _⟩ := id s'
  refine ks_same (wk_isSlot hsl (br_f (by decide) (wk_isSlot hsl' (br_f (by decide) ⟨vp_in_nI hsl (by omega), ?_⟩))))
  rw [nI_clamp (by omega), s1, nI_clamp (by omega), s1']
  refine br_f (zi_n6 s2 s3) ⟨vp_in_nI hsl' (by omega), br_f (zi_n6 s2' s3') ?_⟩
  exact wk_isSound hsl (by omega) s1 (fun z => absurd z s8) (fun _ u1 f1 => br_t rfl (hp u1 f1))
theorem wk_same0' {post : Int32 → St1 → Prop} {u : St1} {sl sl' w h : Nat} {P : Nat → Nat → Nat} (hsl : sl < 4) (hsl' : sl' < 4) (s' : dm_d (gt_by u) (gt_used u) sl') (s : sl_ (gt_by u) (gt_used u) sl w h P) (hp : ∀ u', kf_ u u' → post (-3) u') : wpX_same post u (nI sl) (nI sl') := by
  obtain ⟨n', s1', s2', s3', s8'⟩ := id s'
  obtain ⟨n, way, s1, s2, s3, _, _, _, _, s8, _⟩ := id s
  refine ks_same (wk_isSlot hsl (br_f (by decide) (wk_isSlot hsl' (br_f (by decide) ⟨vp_in_nI hsl (by omega), ?_⟩))))
  rw [nI_clamp (by omega), s1, nI_clamp (by omega), s1']
  refine br_f (zi_n6 s2 s3) ⟨vp_in_nI hsl' (by omega), br_f (zi_n6 s2' s3') ?_⟩
  refine wk_isSound hsl (by omega) s1 (fun _ u1 f1 => br_f (by decide) ?_) (fun z => absurd s8 z)
  exact wk_isSound (n := n') hsl' (by omega) (by rw [kf_used f1]; exact s1') (fun z => absurd z (by rw [kf_by f1]; exact s8')) (fun _ u2 f2 => br_t rfl (hp u2 (kf_tr f1 f2)))
/-- rework: the slot holds the turned or halved picture; other slots are as they were -/
def rk_w (kind w h : Nat) : Nat := if kind = 3 then (w + 1) / 2 else tk_w kind w h
def rk_P (kind w h : Nat) (P : Nat → Nat → Nat) : Nat → Nat → Nat := if kind = 3 then (fun c => hf_ w h (P c)) else tp_ kind w h P
theorem rk_po {kind w h : Nat} {P : Nat → Nat → Nat} (hk : kind ≤ 3) (o : po_ w h P) : po_ (rk_w kind w h) (rk_w kind h w) (rk_P kind w h P) := by
  unfold rk_w rk_P
  by_cases z : kind = 3
  · rw [if_pos z, if_pos z, if_pos z]
    exact po_half o
  · rw [if_neg z, if_neg z, if_neg z]
    exact po_turn (by omega) o
theorem wk_rework {post : Int32 → St1 → Prop} {u : St1} {sl w h kind : Nat} {P : Nat → Nat → Nat} (hsl : sl < 4) (hk : kind ≤ 3) (o : po_ w h P) (s : sl_ (gt_by u) (gt_used u) sl w h P)
    (hp : ∀ u' r, 1 ≤ r → r ≤ 144 → sl_ (gt_by u') (gt_used u') sl (rk_w kind w h) (rk_w kind h w) (rk_P kind w h P) → os_ sl (gt_by u) (gt_used u) (gt_by u') (gt_used u') → post (nI r) u') : wpX_rework post u (nI sl) (nI kind) := by
  refine ks_rework (br_f (nI_pos (by omega)) (br_t (nI_le (b := 3) hk (by omega)) (wk_trouble1 hsl s (fun u1 f1 => br_t (by decide) ?_))))
  refine wk_exchange (fun u2 f2 => ?_)
  have F2 : fm_ [0, 1, 2] u u2 := fm_tr (fm_kf f1) f2
  refine wk_unpackFrom (t := 0) hsl (by omega) o (sl_fm F2 s) (fun u3 f3 g3 => ?_)
  have F3 : fm_ [0, 1, 2, 9, 10, 11, 12, 13, 14, 15, 16, 17] u u3 := fm_tr (fm_wk F2) f3
  have h1 : ∀ {a b : Nat}, dm_ok a b → 1 ≤ a * b := fun d => Nat.mul_le_mul d.1 d.2.2.1
  have tail : ∀ v r, 1 ≤ r → r ≤ 144 → fm_ [0, 1, 2, 9, 10, 11, 12, 13, 14, 15, 16, 17] u v → pc_ v (rk_w kind w h) (rk_w kind h w) (rk_P kind w h P) → kw_rework_50 post (nI sl) (nI r) v := by
    intro v r hr1 hr2 fv gv
    refine ks_rework_50 (wk_packInto hsl (rk_po hk o) gv (fun u4 f4 s4 o4 => wk_exchange (fun u5 f5 => hp u5 r hr1 hr2 (sl_fm f5 s4) ?_)))
    rw [fm_by f5, fm_used f5]
    rw [fm_by fv, fm_used fv] at o4
    exact o4
  refine pk_eq kind 3 (fun z => ?_) (fun z => ?_)
  · refine wk_halve o g3 (fun u4 f4 g4 => tail u4 _ (h1 (dm_half o.1)) (dm_144 (dm_half o.1)) (fm_tr F3 (fm_wk f4)) ?_)
    unfold rk_w rk_P
    rw [if_pos z, if_pos z, if_pos z]
    exact g4
  · refine wk_turn (by omega) o g3 (fun u4 f4 g4 => tail u4 _ (h1 o.1) (dm_144 o.1) (fm_tr F3 (fm_wk f4)) ?_)
    unfold rk_w rk_P
    rw [if_neg z, if_neg z, if_neg z]
    exact g4
end
section
/-! ===== damage ===== -/
def fl_ (bs : Nat → Int32) (sl B : Nat) : Nat → Int32 := upd bs (512 * sl + B / 8) (bs (512 * sl + B / 8) ^^^ nI (2 ^ (B % 8)))
theorem fl_fl (bs : Nat → Int32) (sl B : Nat) : fl_ (fl_ bs sl B) sl B = bs := by
  funext q
  unfold fl_
  by_cases e : q = 512 * sl + B / 8
  · rw [e, pk_us, pk_us, Int32.xor_assoc, Int32.xor_self, Int32.xor_zero]
  · rw [pk_un e, pk_un e]
theorem wk_turnBit {post : St1 → Prop} {u : St1} {sl B : Nat} (hsl : sl < 4) (hB : B < 4096) (hp : post (st_by u (fl_ (gt_by u) sl B))) : wpX_turnBit post u (nI sl) (nI B) := by
  have e1 : nI B >>> ((3 : Int32) &&& 31) = nI (B / 8) := pk_shrN (by omega) _ 3 (by decide)
  have e2 : nI B &&& 7 = nI (B % 8) := pk_andN (by omega) 3 (by decide)
  have hj : B % 8 < 8 := by omega
  have hpow : 2 ^ (B % 8) ≤ 2 ^ 7 := Nat.pow_le_pow_right (by decide) (by omega)
  have e3 : (1 : Int32) <<< (nI (B % 8) &&& 31) = nI (2 ^ (B % 8)) := by
    rw [show (1 : Int32) = nI 1 from rfl, pk_shlN _ (B % 8) (zb_sl _ (by omega)) (by omega), Nat.one_mul]
  refine ks_turnBit ?_
  rw [e1, e2, e3, zi_512, nI_clamp (by omega)]
  exact ⟨vp_in_nI (by omega) (by omega), vp_in_nI (by omega) (by omega), nm_e hp⟩
theorem fl_bb {bs : Nat → Int32} {sl n B : Nat} (hB : B < 8 * n) (h : bb_ bs sl n) : bb_ (fl_ bs sl B) sl n := by
  intro i hi
  unfold fl_
  by_cases e : i = B / 8
  · obtain ⟨q, hq, eq⟩ := h i hi
    rw [e] at eq
    rw [e, pk_us, eq, nx_xor]
    refine ⟨_, ?_, rfl⟩
    have hpow : 2 ^ (B % 8) ≤ 2 ^ 7 := Nat.pow_le_pow_right (by decide) (by omega)
    exact Nat.xor_lt_two_pow (n := 8) hq (by omega)
  · rw [pk_un (by omega)]
    exact h i hi
theorem fl_so {bs : Nat → Int32} {sl n B : Nat} (hn : 6 ≤ n) (hB : B < 8 * n) (h : bb_ bs sl n) (hs : so_ bs sl n) : ¬ so_ (fl_ bs sl B) sl n := by
  refine so_damage (k := B / 8) hn (by omega) h (fl_bb hB h) (fun i hi => ?_) ?_ hs
  · unfold fl_
    rw [pk_un (by omega)]
  · unfold fl_
    rw [pk_us]
    intro e
    have e' : nI (2 ^ (B % 8)) = 0 := zx_r (c := bs (512 * sl + B / 8)) (by rw [Int32.xor_zero]; exact e)
    have hpow : 2 ^ (B % 8) ≤ 2 ^ 7 := Nat.pow_le_pow_right (by decide) (by omega)
    exact nI_ne0 (Nat.two_pow_pos _) (by omega) e'
theorem zi_rem (x : Int32) {m : Nat} (h0 : 0 < m) (h : m < 1000000) : (0 ≤ x - x / nI m * nI m → ∃ B, B < m ∧ x - x / nI m * nI m = nI B) ∧ (¬ 0 ≤ x - x / nI m * nI m → ∃ B, B < m ∧ (x - x / nI m * nI m) + nI m = nI B) := by
  have e := rem_toInt x (nI m)
  have em : (nI m).toInt = (m : Int) := nI_toInt (by omega)
  rw [em] at e
  have b := tmod_bounds (a := x.toInt) (M := (m : Int)) (by omega)
  rw [← e] at b
  generalize x - x / nI m * nI m = r at *
  constructor
  · intro h0'
    have h1 := (zi_le0 r).mp h0'
    exact ⟨r.toInt.natAbs, by omega, zi_nonneg h1⟩
  · intro h0'
    have h1 : r.toInt < 0 := by
      rcases Int.lt_or_le r.toInt 0 with z | z
      · exact z
      · exact absurd ((zi_le0 r).mpr z) h0'
    refine ⟨(r.toInt + m).natAbs, by omega, ?_⟩
    apply Int32.toInt_inj.mp
    rw [zt_add (by omega) (by omega), em, nI_toInt (by omega)]
    omega
theorem wk_damage {post : Int32 → St1 → Prop} {u : St1} {sl w h : Nat} {P : Nat → Nat → Nat} {x : Int32} (hsl : sl < 4) (s : sl_ (gt_by u) (gt_used u) sl w h P)
    (hp : ∀ u' B, B < 4096 → gt_by u' = fl_ (gt_by u) sl B → gt_used u' = gt_used u → gt_tb u' sl = nI B → dm_d (gt_by u') (gt_used u') sl → os_ sl (gt_by u) (gt_used u) (gt_by u') (gt_used u') → post 0 u') : wpX_damage post u (nI sl) x := by
  obtain ⟨n, way, s1, s2, s3, s4, s5, s6, s7, s8, s9⟩ := s
  refine ks_damage (wk_isSlot hsl (br_f (by decide) ⟨vp_in_nI hsl (by omega), ?_⟩))
  rw [nI_clamp (by omega), s1]
  refine br_f (zi_n6 s2 s3) (wk_isSound hsl (by omega) s1 (fun _ u1 f1 => br_f (by decide) ⟨vp_in_nI hsl (by omega), ?_⟩) (fun z => absurd s8 z))
  rw [kf_used f1, s1, show (8 : Int32) * nI n = nI (8 * n) from pk_mul 8 n]
  refine nm_e ⟨nI_ne0 (by omega) (by omega), nm_e ?_⟩
  have fin : ∀ B, B < 8 * n → ∀ z0 z1, z1 + z0 = nI B → kw_damage_59 post (nI sl) z0 z1 u1 := by
    intro B hB z0 z1 ez
    refine ks_damage_59 (nm_r ez (wk_turnBit hsl (by omega) ⟨vp_in_nI hsl (by omega), nm_e ?_⟩))
    rw [nI_clamp (by omega)]
    have eby : fl_ (gt_by u1) sl B = fl_ (gt_by u) sl B := by rw [kf_by f1]
    refine hp _ B (by omega) ?_ ?_ ?_ ?_ ?_
    · show fl_ (gt_by u1) sl B = _
      exact eby
    · show gt_used u1 = _
      exact kf_used f1
    · show upd (gt_tb u1) _ _ _ = _
      rw [pk_us]
    · show dm_d (fl_ (gt_by u1) sl B) (gt_used u1) sl
      rw [eby, kf_used f1]
      exact ⟨n, s1, s2, s3, fl_so s2 hB s4 s8⟩
    · show os_ sl (gt_by u) (gt_used u) (fl_ (gt_by u1) sl B) (gt_used u1)
      rw [eby, kf_used f1]
      refine ⟨fun q hq => ?_, fun j _ => rfl⟩
      unfold fl_
      rw [pk_un (by omega)]
  obtain ⟨r1, r2⟩ := zi_rem x (m := 8 * n) (by omega) (by omega)
  by_cases z : 0 ≤ x - x / nI (8 * n) * nI (8 * n)
  · obtain ⟨B, hB, eB⟩ := r1 z
    exact br_t z (fin B hB _ _ (by rw [Int32.add_zero]; exact eB))
  · obtain ⟨B, hB, eB⟩ := r2 z
    exact br_f z (fin B hB _ _ eB)
theorem wk_repair {post : Int32 → St1 → Prop} {u : St1} {sl n B : Nat} (hsl : sl < 4) (hu : gt_used u sl = nI n) (h6 : 6 ≤ n) (h438 : n ≤ 438) (hB : B < 4096) (ht : gt_tb u sl = nI B) (hp : ∀ u', gt_by u' = fl_ (gt_by u) sl B → gt_used u' = gt_used u → post 0 u') : wpX_repair post u (nI sl) := by
  refine ks_repair (wk_isSlot hsl (br_f (by decide) ⟨vp_in_nI hsl (by omega), ?_⟩))
  rw [nI_clamp (by omega), hu, ht]
  refine br_f (zi_n6 h6 h438) ⟨vp_in_nI hsl (by omega), br_t (nI_pos' (by omega)) ⟨vp_in_nI hsl (by omega), wk_turnBit hsl hB ⟨vp_in_nI hsl (by omega), nm_e (hp _ rfl rfl)⟩⟩⟩
theorem wk_damaged {post : Int32 → St1 → Prop} {u : St1} {sl sl' w h : Nat} {P : Nat → Nat → Nat} {x : Int32} (hsl : sl < 4) (hsl' : sl' < 4) (hne : sl' ≠ sl) (s : sl_ (gt_by u) (gt_used u) sl w h P) (s' : sl_ (gt_by u) (gt_used u) sl' w h P)
    (hp : ∀ u', gt_by u' = gt_by u → gt_used u' = gt_used u → post 1 u') : wpL_damaged post u (nI sl) x (nI sl') := by
  obtain ⟨n, way, s1, s2, s3, _⟩ := id s
  refine ks_damaged (wk_damage hsl s (fun u1 B hB b1 e1 t1 d1 o1 => br_t rfl ?_))
  have s1' := sl_other hne o1 s'
  refine wk_unpack0 hsl d1 (fun u2 f2 => br_t rfl ?_)
  have d2 := dm_kf f2 d1
  obtain ⟨j, hj, ej⟩ := pk_andE x (m := 1) 1 (by decide)
  have e1p : (1 : Int32) + (x &&& 1) = nI (1 + j) := by rw [ej]; exact nI_add 1 j
  rw [e1p]
  refine wk_preview0 hsl (by omega) (by have : j < 2 := hj; omega) d2 (fun u3 f3 => br_t rfl ?_)
  have d3 := dm_kf f3 d2
  refine wk_peek0 hsl d3 (fun u4 f4 => br_t rfl ?_)
  have d4 := dm_kf f4 d3
  have F4 := kf_tr f2 (kf_tr f3 f4)
  refine wk_same0 hsl hsl' d4 (sl_kf F4 s1') (fun u5 f5 => br_t rfl ?_)
  have F5 := kf_tr F4 f5
  refine wk_same0' hsl' hsl (dm_kf f5 d4) (sl_kf F5 s1') (fun u6 f6 => br_t rfl ?_)
  have F6 := kf_tr F5 f6
  obtain ⟨k, hk, ek⟩ := pk_andE x (m := 3) 2 (by decide)
  rw [ek]
  refine wk_rework0 hsl (by have : k < 4 := hk; omega) (dm_kf F6 d1) (fun u7 f7 => br_t rfl ?_)
  have F7 := kf_tr F6 f7
  refine wk_repair (n := n) (B := B) hsl (by rw [kf_used F7, e1]; exact s1) s2 s3 hB (by rw [kf_tb F7]; exact t1) (fun u8 b8 e8 => br_t rfl (hp u8 ?_ ?_))
  · rw [b8, kf_by F7, b1, fl_fl]
  · rw [e8, kf_used F7, e1]
end
section
/-! ===== make: the same script gives the same picture ===== -/
def sc_P (P : Nat → Nat → Nat) (a : Nat) (v : Int32) : Nat → Nat → Nat := fun c a' => if a' = a then ch_ v c else P c a'
theorem sc_po {w h : Nat} {P : Nat → Nat → Nat} (o : po_ w h P) (a : Nat) (v : Int32) : po_ w h (sc_P P a v) := by
  refine ⟨o.1, fun c hc a' ha' => ?_⟩
  unfold sc_P
  split
  · exact ch_lt v c
  · exact o.2 c hc a' ha'
theorem wk_setP {post : St1 → Prop} {u : St1} {w h a : Nat} {P : Nat → Nat → Nat} {v : Int32} (o : po_ w h P) (g : pc_ u w h P) (ha : a < w * h) (hp : ∀ u', fm_ [2] u u' → pc_ u' w h (sc_P P a v) → post u') : wpX_setColour post u (nI a) v := by
  have h144 := dm_144 o.1
  refine wk_setColour (by omega) (fun hand q1 q2 => hp _ (fm_s_hand _ _) ⟨g.1, g.2.1, fun c a' hc ha' => ?_⟩)
  show hand _ = nI (sc_P P a v c a')
  unfold sc_P
  by_cases e : a' = a
  · rw [if_pos e, e]
    exact q1 c hc
  · rw [if_neg e, q2 c a' hc (by omega) e]
    exact g.2.2 c a' hc ha'
theorem wk_pt74 {w h y : Nat} {x2 v x4 x5 : Int32} (hy : y < h) : ∀ m x P, po_ w h P → x < 100 → w - x ≤ m → ∃ P', po_ w h P' ∧ ∀ (post : Int32 → St1 → Prop) (J : Int32 → Int32 → St1 → Prop) (n6 : Int32) (u : St1), pc_ u w h P → (∀ u' n', fm_ [2] u u' → pc_ u' w h P' → J n' (nI (y + 1)) u') → kw_paint_74 post J x2 v x4 x5 (nI y) (m + 1) n6 (nI x) u := by
  intro m
  induction m with
  | zero =>
    intro x P o hx hm
    have hw12 := o.1.2.1
    refine ⟨P, o, fun post J n6 u g hp => ks_paint_74 ?_⟩
    by_cases z : (x4 + (x2 >>> ((4 : Int32) &&& 31))) ≤ nI x
    · exact br_t z (nm_r (nI_1 y) (hp u n6 (fm_rfl u) g))
    · refine br_f z ?_
      rw [g.1]
      exact br_t (nI_le (by omega) (by omega)) (nm_r (nI_1 y) (hp u n6 (fm_rfl u) g))
  | succ m ih =>
    intro x P o hx hm
    have hw12 := o.1.2.1
    by_cases z : (x4 + (x2 >>> ((4 : Int32) &&& 31))) ≤ nI x
    · exact ⟨P, o, fun post J n6 u g hp => ks_paint_74 (br_t z (nm_r (nI_1 y) (hp u n6 (fm_rfl u) g)))⟩
    · by_cases zw : w ≤ x
      · refine ⟨P, o, fun post J n6 u g hp => ks_paint_74 (br_f z ?_)⟩
        rw [g.1]
        exact br_t (nI_le zw (by omega)) (nm_r (nI_1 y) (hp u n6 (fm_rfl u) g))
      · obtain ⟨P', o', h'⟩ := ih (x + 1) (sc_P P (w * y + x) v) (sc_po o _ _) (by omega) (by omega)
        refine ⟨P', o', fun post J n6 u g hp => ks_paint_74 (br_f z ?_)⟩
        rw [g.1, pk_mul, nI_add]
        refine br_f (nI_ge (by omega) (by omega)) (wk_setP o g (zz_lt (by omega) hy) (fun u1 f1 g1 => nm_e (nm_r (nI_1 x) ?_)))
        exact h' post J _ u1 g1 (fun u' n' f' g' => hp u' n' (fm_tr f1 f') g')
theorem wk_pt49 {w h l : Nat} {x2 v x5 : Int32} (hl : l < 100) : ∀ m y P, po_ w h P → y < 100 → h - y ≤ m → ∃ P', po_ w h P' ∧ ∀ (post : Int32 → St1 → Prop) (n6 : Int32) (u : St1), pc_ u w h P → (∀ u' r, fm_ [2] u u' → pc_ u' w h P' → post r u') → kw_paint_49 post x2 v (nI l) x5 (m + 1) n6 (nI y) u := by
  intro m
  induction m with
  | zero =>
    intro y P o hy hm
    have hh12 := o.1.2.2.2
    refine ⟨P, o, fun post n6 u g hp => ks_paint_49 ?_⟩
    by_cases z : (x5 + (x2 &&& 15)) ≤ nI y
    · exact br_t z (hp u n6 (fm_rfl u) g)
    · refine br_f z ?_
      rw [g.2.1]
      exact br_t (nI_le (by omega) (by omega)) (hp u n6 (fm_rfl u) g)
  | succ m ih =>
    intro y P o hy hm
    have hh12 := o.1.2.2.2
    by_cases z : (x5 + (x2 &&& 15)) ≤ nI y
    · exact ⟨P, o, fun post n6 u g hp => ks_paint_49 (br_t z (hp u n6 (fm_rfl u) g))⟩
    · by_cases zh : h ≤ y
      · refine ⟨P, o, fun post n6 u g hp => ks_paint_49 (br_f z ?_)⟩
        rw [g.2.1]
        exact br_t (nI_le zh (by omega)) (hp u n6 (fm_rfl u) g)
      · obtain ⟨P1, o1, h1⟩ := wk_pt74 (w := w) (h := h) (y := y) (x2 := x2) (v := v) (x4 := nI l) (x5 := x5) (by omega) w l P o hl (by omega)
        obtain ⟨P', o', h'⟩ := ih (y + 1) P1 o1 (by omega) (by omega)
        refine ⟨P', o', fun post n6 u g hp => ks_paint_49 (br_f z ?_)⟩
        rw [g.2.1]
        refine br_f (nI_ge (by omega) (by omega)) ⟨w + 1, h1 post _ n6 u g (fun u1 n' f1 g1 => ?_)⟩
        exact h' post n' u1 g1 (fun u' r f' g' => hp u' r (fm_tr f1 f') g')
theorem wk_isColour {post : Int32 → Prop} {v : Nat} (hv : v < 16777216) (hp : post 1) : wpX_isColour post () (nI v) := br_f (nI_pos (by omega)) (br_f (nI_ge (b := 16777216) hv (by omega)) hp)
theorem wk_paint {w h p b v : Nat} {P : Nat → Nat → Nat} (o : po_ w h P) (hp : p ≤ 255) (hb : b ≤ 255) (hv : v < 16777216) : ∃ P', po_ w h P' ∧ ∀ (post : Int32 → St1 → Prop) (u : St1), pc_ u w h P → (∀ u' r, fm_ [2] u u' → pc_ u' w h P' → post r u') → wpX_paint post u (nI p) (nI b) (nI v) := by
  obtain ⟨P', o', h'⟩ := wk_pt49 (w := w) (h := h) (l := p / 16) (x2 := nI b) (v := nI v) (x5 := nI (p % 16)) (by omega) h (p % 16) P o (by omega) (by omega)
  refine ⟨P', o', fun post u g hq => ks_paint (br_f (nI_pos (by omega)) (br_f (nI_nlt (a := 255) hp (by omega)) (br_f (nI_pos (by omega)) (br_f (nI_nlt (a := 255) hb (by omega)) (wk_isColour hv (br_f (by decide) ?_))))))⟩
  refine nm_r (e' := nI (p / 16)) (pk_shrN (by omega) _ 4 (by decide)) (nm_r (e' := nI (p % 16)) (pk_andN (by omega) 4 (by decide)) ⟨h + 1, h' post 0 u g hq⟩)
theorem wk_set {w h x y v : Nat} {P : Nat → Nat → Nat} (o : po_ w h P) (hx : x < 100) (hy : y < 100) (hv : v < 16777216) : ∃ P', po_ w h P' ∧ ∀ (post : Int32 → St1 → Prop) (u : St1), pc_ u w h P → (∀ u' r, fm_ [2] u u' → pc_ u' w h P' → post r u') → wpX_set post u (nI x) (nI y) (nI v) := by
  have hw12 := o.1.2.1
  have hh12 := o.1.2.2.2
  by_cases z : x < w ∧ y < h
  · refine ⟨sc_P P (w * y + x) (nI v), sc_po o _ _, fun post u g hq => ks_set (wk_isPlace g.1 g.2.1 ⟨by omega, by omega⟩ z.1 z.2 (br_f (by decide) (wk_isColour hv (br_f (by decide) ?_))))⟩
    rw [g.1, pk_mul, nI_add]
    have hlt := zz_lt z.1 z.2
    exact nm_e (wk_colourAt o g hlt (wk_setP o g hlt (fun u' f' g' => hq u' _ f' g')))
  · refine ⟨P, o, fun post u g hq => ks_set (ks_isPlace (br_f (nI_pos (by omega)) ?_))⟩
    rw [g.1, g.2.1]
    by_cases zx : w ≤ x
    · exact br_t (nI_le zx (by omega)) (br_t rfl (hq u _ (fm_rfl u) g))
    · refine br_f (nI_ge (by omega) (by omega)) (br_f (nI_pos (by omega)) (br_t (nI_le (by omega) (by omega)) (br_t rfl (hq u _ (fm_rfl u) g))))
theorem wk_pn17 {w h : Nat} {x1 x2 x3 : Int32} : ∀ m a s P, po_ w h P → w * h - a ≤ m → a ≤ w * h → ∃ P', po_ w h P' ∧ ∀ (post : Int32 → St1 → Prop) (u : St1), pc_ u w h P → (∀ u' r, fm_ [2] u u' → pc_ u' w h P' → post r u') → kw_pattern_17 post x1 x2 x3 (m + 1) s (nI a) u := by
  intro m
  induction m with
  | zero =>
    intro a s P o hm ha
    have h144 := dm_144 o.1
    refine ⟨P, o, fun post u g hp => ks_pattern_17 ?_⟩
    rw [g.1, g.2.1, pk_mul]
    exact br_t (nI_le (by omega) (by omega)) (hp u _ (fm_rfl u) g)
  | succ m ih =>
    intro a s P o hm ha
    have h144 := dm_144 o.1
    have hw0 := o.1.1
    have hw12 := o.1.2.1
    by_cases z : w * h ≤ a
    · refine ⟨P, o, fun post u g hp => ks_pattern_17 ?_⟩
      rw [g.1, g.2.1, pk_mul]
      exact br_t (nI_le z (by omega)) (hp u _ (fm_rfl u) g)
    · have ha' : a < w * h := by omega
      have key : ∀ (val : Int32), ∃ P', po_ w h P' ∧ ∀ (post : Int32 → St1 → Prop) (u : St1), pc_ u w h P → (∀ u' r, fm_ [2] u u' → pc_ u' w h P' → post r u') → kw_pattern_126 post (kw_pattern_17 post x1 x2 x3 (m + 1)) x1 x2 x3 (s * 1103515245 + 12345) (nI a) val u := by
        intro val
        by_cases h3 : x1 = 3
        · obtain ⟨P', o', h'⟩ := ih (a + 1) (s * 1103515245 + 12345) (sc_P P a (val ^^^ nI (cl_ P a))) (sc_po o _ _) (by omega) (by omega)
          refine ⟨P', o', fun post u g hp => ks_pattern_126 (br_t h3 (wk_colourAt o g ha' (ks_pattern_145 (nm_e (wk_setP o g ha' (fun u1 f1 g1 => nm_r (nI_1 a) ?_))))))⟩
          exact h' post u1 g1 (fun u' r f' g' => hp u' r (fm_tr f1 f') g')
        · obtain ⟨P', o', h'⟩ := ih (a + 1) (s * 1103515245 + 12345) (sc_P P a (val ^^^ 0)) (sc_po o _ _) (by omega) (by omega)
          refine ⟨P', o', fun post u g hp => ks_pattern_126 (br_f h3 (ks_pattern_145 (nm_e (wk_setP o g ha' (fun u1 f1 g1 => nm_r (nI_1 a) ?_)))))⟩
          exact h' post u1 g1 (fun u' r f' g' => hp u' r (fm_tr f1 f') g')
      by_cases h1 : x1 = 1
      · obtain ⟨P', o', h'⟩ := key (((x2 + (x3 * (nI (a % w) ^^^ nI (a / w)))) &&& 255) * 65793)
        refine ⟨P', o', fun post u g hp => ks_pattern_17 ?_⟩
        rw [g.1, g.2.1, pk_mul, pk_rem (by omega) (by omega) (by omega), pk_div (by omega) (by omega) (by omega)]
        exact br_f (nI_ge ha' (by omega)) ⟨nI_ne0 hw0 (by omega), nm_e ⟨nI_ne0 hw0 (by omega), nm_e (nm_e (br_t h1 (h' post u g hp)))⟩⟩
      · by_cases h2 : x1 = 2
        · obtain ⟨P', o', h'⟩ := key ((((((s * 1103515245 + 12345).toUInt32 >>> ((8 : Int32).toUInt32 &&& Int32.toUInt32 31)).toInt32 &&& 255) <<< ((16 : Int32) &&& 31)) ||| ((((s * 1103515245 + 12345).toUInt32 >>> ((16 : Int32).toUInt32 &&& Int32.toUInt32 31)).toInt32 &&& 255) <<< ((8 : Int32) &&& 31))) ||| (x3 &&& 255))
          refine ⟨P', o', fun post u g hp => ks_pattern_17 ?_⟩
          rw [g.1, g.2.1, pk_mul, pk_rem (by omega) (by omega) (by omega), pk_div (by omega) (by omega) (by omega)]
          exact br_f (nI_ge ha' (by omega)) ⟨nI_ne0 hw0 (by omega), nm_e ⟨nI_ne0 hw0 (by omega), nm_e (nm_e (br_f h1 (br_t h2 (h' post u g hp))))⟩⟩
        · obtain ⟨P', o', h'⟩ := key (((((x2 + (x3 * nI (a % w))) &&& 255) <<< ((16 : Int32) &&& 31)) ||| (((x2 + (x3 * nI (a / w))) &&& 255) <<< ((8 : Int32) &&& 31))) ||| ((x2 + ((x3 * nI (a % w)) * nI (a / w))) &&& 255))
          refine ⟨P', o', fun post u g hp => ks_pattern_17 ?_⟩
          rw [g.1, g.2.1, pk_mul, pk_rem (by omega) (by omega) (by omega), pk_div (by omega) (by omega) (by omega)]
          exact br_f (nI_ge ha' (by omega)) ⟨nI_ne0 hw0 (by omega), nm_e ⟨nI_ne0 hw0 (by omega), nm_e (nm_e (br_f h1 (br_f h2 (h' post u g hp))))⟩⟩
theorem wk_pattern {w h k : Nat} {x2 x3 : Int32} {P : Nat → Nat → Nat} (o : po_ w h P) (hk : k ≤ 3) : ∃ P', po_ w h P' ∧ ∀ (post : Int32 → St1 → Prop) (u : St1), pc_ u w h P → (∀ u' r, fm_ [2] u u' → pc_ u' w h P' → post r u') → wpX_pattern post u (nI k) x2 x3 := by
  obtain ⟨P', o', h'⟩ := wk_pn17 (w := w) (h := h) (x1 := nI k) (x2 := x2) (x3 := x3) (w * h) 0 x2 P o (by omega) (by omega)
  exact ⟨P', o', fun post u g hp => ks_pattern (br_f (nI_pos (by omega)) (br_t (nI_le (b := 3) hk (by omega)) ⟨_, h' post u g hp⟩))⟩
/-! the law's make -/
def ce_ (L : Nat) (xs : Nat → Int32) (k : Nat) : Int32 := if L ≤ k then 0 else xs k
theorem wk_cell {post : Int32 → Prop} {L k : Nat} {xs : Nat → Int32} (hL : L ≤ 260) (hk : k < 1000) (hp : post (ce_ L xs k)) : wpL_cell post L xs () (nI k) := by
  unfold ce_ at hp
  refine pk_le L k (fun z => ?_) (fun z => ⟨vp_in_nI z (by omega), ?_⟩)
  · rw [if_pos z] at hp
    exact hp
  · rw [if_neg (by omega)] at hp
    rw [nI_clamp (by omega)]
    exact hp
theorem zi_m24 (x : Int32) : ∃ v, v < 16777216 ∧ x &&& 16777215 = nI v := by
  obtain ⟨j, hj, e⟩ := pk_andE x (m := 16777215) 24 (by decide)
  exact ⟨j, hj, e⟩
theorem zi_187 (x : Int32) : ∃ v, v ≤ 255 ∧ x &&& 187 = nI v := by
  obtain ⟨j, hj, e⟩ := pk_andE x (m := 255) 8 (by decide)
  have e2 : x &&& 187 = (x &&& 255) &&& nI 187 := by
    rw [Int32.and_assoc]
    rfl
  rw [e, nx_and] at e2
  exact ⟨j &&& 187, Nat.le_trans Nat.and_le_left (by have : j < 256 := hj; omega), e2⟩
theorem wk_mk36 {L w h : Nat} {xs : Nat → Int32} (hL : L ≤ 260) : ∀ m k P, po_ w h P → 20 - k ≤ m → k < 100 → ∃ P', po_ w h P' ∧ ∀ (post : St1 → Prop) (u : St1), pc_ u w h P → (∀ u', fm_ [2] u u' → pc_ u' w h P' → post u') → kw_make_36 post L xs (m + 1) (nI k) u := by
  intro m
  induction m with
  | zero =>
    intro k P o hm hk
    refine ⟨P, o, fun post u g hp => ks_make_36 ?_⟩
    rw [nI_1]
    by_cases z : L ≤ k + 1
    · exact br_t (nI_le z (by omega)) (hp u (fm_rfl u) g)
    · exact br_f (nI_ge (by omega) (by omega)) (br_t (nI_le (a := 20) (by omega) (by omega)) (hp u (fm_rfl u) g))
  | succ m ih =>
    intro k P o hm hk
    by_cases z : L ≤ k + 1
    · refine ⟨P, o, fun post u g hp => ks_make_36 ?_⟩
      rw [nI_1]
      exact br_t (nI_le z (by omega)) (hp u (fm_rfl u) g)
    by_cases z20 : 20 ≤ k
    · refine ⟨P, o, fun post u g hp => ks_make_36 ?_⟩
      rw [nI_1]
      exact br_f (nI_ge (by omega) (by omega)) (br_t (nI_le (a := 20) z20 (by omega)) (hp u (fm_rfl u) g))
    obtain ⟨j, hj, ej⟩ := pk_andE (xs k) (m := 7) 3 (by decide)
    have hj8 : j < 8 := hj
    have e2 : nI k + 2 = nI (k + 2) := nI_add k 2
    have ek : (nI k).toNatClampNeg = k := nI_clamp (by omega)
    have ek1 : (nI (k + 1)).toNatClampNeg = k + 1 := nI_clamp (by omega)
    have i0 : vp_in (nI k) L := vp_in_nI (by omega) (by omega)
    have i1 : vp_in (nI (k + 1)) L := vp_in_nI (by omega) (by omega)
    have pre : ∀ (post : St1 → Prop) (u : St1), _ → kw_make_36 post L xs (m + 1 + 1) (nI k) u := fun post u hh => by
      refine ks_make_36 ?_
      rw [nI_1, ek, ek1, ej]
      exact br_f (nI_ge (by omega) (by omega)) (br_f (nI_ge (b := 20) (by omega) (by omega)) ⟨i0, nm_e hh⟩)
    by_cases z4 : 4 ≤ j
    · by_cases z6 : 6 ≤ j
      · obtain ⟨x, hx, ex⟩ := pk_andE (xs k >>> ((3 : Int32) &&& 31)) (m := 7) 3 (by decide)
        obtain ⟨y, hy, ey⟩ := pk_andE (xs k >>> ((6 : Int32) &&& 31)) (m := 7) 3 (by decide)
        have hx8 : x < 8 := hx
        have hy8 : y < 8 := hy
        obtain ⟨v, hv, ev⟩ := zi_m24 (xs (k + 1))
        obtain ⟨P1, o1, h1⟩ := wk_set (w := w) (h := h) (x := x) (y := y) (v := v) o (by omega) (by omega) hv
        obtain ⟨P', o', h'⟩ := ih (k + 2) P1 o1 (by omega) (by omega)
        refine ⟨P', o', fun post u g hp => pre post u (br_t (nI_le (a := 4) z4 (by omega)) (br_t (nI_le (a := 6) z6 (by omega)) ⟨i0, i0, i1, ?_⟩))⟩
        rw [ex, ey, ev]
        exact h1 _ u g (fun u1 r f1 g1 => nm_r e2 (h' post u1 g1 (fun u' f' g' => hp u' (fm_tr f1 f') g')))
      · obtain ⟨p, hpl, ep⟩ := zi_187 (xs k >>> ((3 : Int32) &&& 31))
        obtain ⟨b, hb, eb⟩ := pk_andE (xs k >>> ((11 : Int32) &&& 31)) (m := 255) 8 (by decide)
        have hb256 : b < 256 := hb
        obtain ⟨v, hv, ev⟩ := zi_m24 (xs (k + 1))
        obtain ⟨P1, o1, h1⟩ := wk_paint (w := w) (h := h) (p := p) (b := b) (v := v) o hpl (by omega) hv
        obtain ⟨P', o', h'⟩ := ih (k + 2) P1 o1 (by omega) (by omega)
        refine ⟨P', o', fun post u g hp => pre post u (br_t (nI_le (a := 4) z4 (by omega)) (br_f (nI_ge (b := 6) (by omega) (by omega)) ⟨i0, i0, i1, ?_⟩))⟩
        rw [ep, eb, ev]
        exact h1 _ u g (fun u1 r f1 g1 => nm_r e2 (h' post u1 g1 (fun u' f' g' => hp u' (fm_tr f1 f') g')))
    · obtain ⟨P1, o1, h1⟩ := wk_pattern (w := w) (h := h) (k := j) (x2 := xs (k + 1)) (x3 := xs k >>> ((3 : Int32) &&& 31)) o (by omega)
      obtain ⟨P', o', h'⟩ := ih (k + 2) P1 o1 (by omega) (by omega)
      refine ⟨P', o', fun post u g hp => pre post u (br_f (nI_ge (b := 4) (by omega) (by omega)) ⟨i1, i0, ?_⟩)⟩
      exact h1 _ u g (fun u1 r f1 g1 => nm_r e2 (h' post u1 g1 (fun u' f' g' => hp u' (fm_tr f1 f') g')))
theorem wk_make {L : Nat} (xs : Nat → Int32) (hL : L ≤ 260) : ∃ w h P, po_ w h P ∧ ∀ (post : St1 → Prop) (u : St1), (∀ u', fm_ [0, 1, 2] u u' → pc_ u' w h P → post u') → wpL_make post L xs u := by
  obtain ⟨a, ha, ea⟩ := pk_andE (ce_ L xs 0) (m := 255) 8 (by decide)
  obtain ⟨b, hb, eb⟩ := pk_andE (ce_ L xs 0 >>> ((8 : Int32) &&& 31)) (m := 255) 8 (by decide)
  have ha2 : a < 256 := ha
  have hb2 : b < 256 := hb
  have d : dm_ok (1 + a % 12) (1 + b % 12) := ⟨by omega, by omega, by omega, by omega⟩
  have o0 : po_ (1 + a % 12) (1 + b % 12) (fun _ _ => 0) := ⟨d, fun c _ k _ => by show 0 < 256; omega⟩
  obtain ⟨P', o', h'⟩ := wk_mk36 (L := L) (xs := xs) hL 20 1 _ o0 (by omega) (by omega)
  refine ⟨1 + a % 12, 1 + b % 12, P', o', fun post u hp => ks_make (wk_cell (k := 0) hL (by omega) ⟨by decide, by decide, ?_⟩)⟩
  rw [ea, eb, show (12 : Int32) = nI 12 from rfl, pk_rem (by omega) (by omega) (by omega), pk_rem (by omega) (by omega) (by omega), show (1 : Int32) = nI 1 from rfl, nI_add, nI_add]
  exact wk_blank d (fun u1 f1 g1 => ⟨_, h' post u1 g1 (fun u' f' g' => hp u' (fm_tr f1 (fm_wk f')) g')⟩)
end
section
/-! ===== the law ===== -/
/-- what make does, whatever the state was -/
def mk_ (L : Nat) (xs : Nat → Int32) (w h : Nat) (P : Nat → Nat → Nat) : Prop := ∀ (post : St1 → Prop) (u : St1), (∀ u', fm_ [0, 1, 2] u u' → pc_ u' w h P → post u') → wpL_make post L xs u
theorem lw_ge1 {w h : Nat} (d : dm_ok w h) : ¬ nI (w * h) < 1 := nI_nlt (b := 1) (Nat.mul_le_mul d.1 d.2.2.1) (by have := dm_144 d; omega)
theorem lw_323 {L S w h : Nat} {xs : Nat → Int32} {P : Nat → Nat → Nat} {kc ks : Nat} {u v : St1} (o : po_ w h P) (mk : mk_ L xs w h P) (hS : S < 4) (s : sl_ (gt_by u) (gt_used u) S w h P) : kw_law_323 (fun r => r = 1) L xs (nI S) kc ks u v := by
  have o1 := po_half o
  have o2 := po_half o1
  refine ks_law_323 (mk _ v (fun d1 _ g1 => ?_))
  refine wk_halve o g1 (fun d2 _ g2 => br_f (lw_ge1 o1.1) ?_)
  refine wk_preview (t := 1) hS (by omega) (by omega) o s (fun c1 f1 p1 => br_f (lw_ge1 o1.1) ?_)
  have s1 := sl_fm f1 s
  refine wk_equal o1 p1 g2 (br_f (by decide) ?_)
  refine wk_halve o1 g2 (fun d3 _ g3 => br_f (lw_ge1 o2.1) ?_)
  refine wk_preview (t := 2) hS (by omega) (by omega) o s1 (fun c2 f2 p2 => br_f (lw_ge1 o2.1) ?_)
  have s2 := sl_fm f2 s1
  refine wk_equal o2 p2 g3 (br_f (by decide) ?_)
  refine wk_unpack hS o s2 (fun c3 f3 p3 => br_f (lw_ge1 o.1) ?_)
  have s3 := sl_fm f3 s2
  refine wk_halve o p3 (fun c4 f4 p4 => br_f (lw_ge1 o1.1) ?_)
  have s4 := sl_fm f4 s3
  refine wk_preview (t := 1) hS (by omega) (by omega) o s4 (fun c5 f5 p5 => ks_width (ks_height (br_t ?_ ?_)))
  · rw [p5.1, p5.2.1, pk_mul]
  have s5 := sl_fm f5 s4
  refine mk _ d3 (fun d4 _ g4 => ?_)
  refine wk_unpack hS o s5 (fun c6 f6 p6 => ks_width (ks_height (br_t ?_ ?_)))
  · rw [g4.1, g4.2.1, pk_mul]
  exact wk_equal o p6 g4 (br_f (by decide) rfl)
theorem lw_277 {L S O w h kind z : Nat} {xs : Nat → Int32} {P : Nat → Nat → Nat} {kc ks : Nat} {u v : St1} (o : po_ w h P) (mk : mk_ L xs w h P) (hS : S < 4) (hO : O < 4) (hne : S ≠ O) (hk : kind ≤ 3) (hz1 : 1 ≤ z) (hz2 : z ≤ 144) (s : sl_ (gt_by u) (gt_used u) S w h P) (s' : sl_ (gt_by u) (gt_used u) O (rk_w kind w h) (rk_w kind h w) (rk_P kind w h P))
    (pu : pc_ u (rk_w kind w h) (rk_w kind h w) (rk_P kind w h P)) (pv : pc_ v (rk_w kind w h) (rk_w kind h w) (rk_P kind w h P)) : kw_law_277 (fun r => r = 1) L xs (nI S) (nI O) (nI kind) (nI z) kc ks u v := by
  have ok := rk_po hk o
  refine ks_law_277 (br_f (nI_nlt (b := 1) hz1 (by omega)) (wk_equal ok pu pv (br_f (by decide) ?_)))
  refine pk_le 3 kind (fun _ => lw_323 o mk hS s) (fun zk => ?_)
  refine wk_rework hO hk ok s' (fun u1 r hr1 hr2 s1' o1 => br_f (nI_nlt (b := 1) hr1 (by omega)) ?_)
  have s1 := sl_other hne o1 s
  have ew : rk_w kind (rk_w kind w h) (rk_w kind h w) = w := by
    unfold rk_w
    rw [if_neg (by omega), if_neg (by omega), if_neg (by omega), tk_ww]
  have eh : rk_w kind (rk_w kind h w) (rk_w kind w h) = h := by
    unfold rk_w
    rw [if_neg (by omega), if_neg (by omega), if_neg (by omega), tk_ww]
  have o2 := rk_po hk ok
  rw [ew, eh] at s1' o2
  refine wk_same hS hO o o2 s1 s1' (fun c a hc ha => ?_) (fun u2 b2 e2 => br_t rfl (lw_323 o mk hS (by rw [b2, e2]; exact s1)))
  have eP : rk_P kind (rk_w kind w h) (rk_w kind h w) (rk_P kind w h P) = tp_ kind (tk_w kind w h) (tk_w kind h w) (tp_ kind w h P) := by
    unfold rk_P rk_w
    rw [if_neg (by omega), if_neg (by omega), if_neg (by omega), if_neg (by omega)]
  rw [eP, tp_tp (by omega) ha]
theorem lw_186 {L S O w h : Nat} {xs : Nat → Int32} {x3 : Int32} {P : Nat → Nat → Nat} {kc ks : Nat} {u v : St1} (o : po_ w h P) (mk : mk_ L xs w h P) (hS : S < 4) (hO : O < 4) (hne : S ≠ O) (s : sl_ (gt_by u) (gt_used u) S w h P) (s' : sl_ (gt_by u) (gt_used u) O w h P) (pv : pc_ v w h P) : kw_law_186 (fun r => r = 1) L xs x3 (nI S) (nI O) kc ks u v := by
  refine ks_law_186 (wk_blank (w := 1) (h := 1) ⟨by omega, by omega, by omega, by omega⟩ (fun u1 f1 _ => br_t rfl ?_))
  have s1 := sl_fm f1 s
  have s1' := sl_fm f1 s'
  refine wk_unpack hS o s1 (fun u2 f2 p2 => br_f (lw_ge1 o.1) ?_)
  have s2 := sl_fm f2 s1
  have s2' := sl_fm f2 s1'
  refine wk_equal o p2 pv (br_f (by decide) ?_)
  refine wk_same hS hO o o s2 s2' (fun c a _ _ => rfl) (fun u3 b3 e3 => br_t rfl ?_)
  have s3 : sl_ (gt_by u3) (gt_used u3) S w h P := by rw [b3, e3]; exact s2
  have s3' : sl_ (gt_by u3) (gt_used u3) O w h P := by rw [b3, e3]; exact s2'
  obtain ⟨kind, hk, ek⟩ := pk_andE (x3 >>> ((14 : Int32) &&& 31)) (m := 3) 2 (by decide)
  have hk4 : kind < 4 := hk
  have hk3 : kind ≤ 3 := by omega
  refine nm_r ek ?_
  refine wk_rework hO hk3 o s3' (fun u4 r hr1 hr2 s4' o4 => br_f (nI_nlt (b := 1) hr1 (by omega)) ?_)
  have s4 := sl_other hne o4 s3
  have ok := rk_po hk3 o
  refine wk_unpack hO ok s4' (fun u5 f5 p5 => br_f (lw_ge1 ok.1) ?_)
  have s5 := sl_fm f5 s4
  have s5' := sl_fm f5 s4'
  refine pk_le 3 kind (fun z => ?_) (fun z => ?_)
  · have ek3 : kind = 3 := by omega
    refine wk_halve o pv (fun v1 _ g1 => ?_)
    have d1 := (po_half o).1
    refine lw_277 o mk hS hO hne hk3 (Nat.mul_le_mul d1.1 d1.2.2.1) (dm_144 d1) s5 s5' p5 ?_
    unfold rk_w rk_P
    rw [if_pos ek3, if_pos ek3, if_pos ek3]
    exact g1
  · refine wk_turn (by omega) o pv (fun v1 _ g1 => ?_)
    refine lw_277 o mk hS hO hne hk3 (Nat.mul_le_mul o.1.1 o.1.2.2.1) (dm_144 o.1) s5 s5' p5 ?_
    unfold rk_w rk_P
    rw [if_neg (by omega), if_neg (by omega), if_neg (by omega)]
    exact g1
theorem lw_136 {L S O w h : Nat} {xs : Nat → Int32} {x3 : Int32} {P : Nat → Nat → Nat} {kc ks : Nat} {u v : St1} (hL : L ≤ 260) (o : po_ w h P) (mk : mk_ L xs w h P) (hS : S < 4) (hO : O < 4) (hne : S ≠ O) (s : sl_ (gt_by u) (gt_used u) S w h P) (s' : sl_ (gt_by u) (gt_used u) O w h P) (pv : pc_ v w h P) : ∃ n, kw_law_136 (fun r => r = 1) L xs x3 (nI S) (nI O) kc ks n 0 u v := by
  refine pk_loop (fun n k u => kw_law_136 (fun r => r = 1) L xs x3 (nI S) (nI O) kc ks n (nI k) u v) (fun _ u => sl_ (gt_by u) (gt_used u) S w h P ∧ sl_ (gt_by u) (gt_used u) O w h P) (min L 40) 0 u (by omega) ⟨s, s'⟩ ?_ ?_
  · intro n u hu
    have fin : kw_law_186 (fun r => r = 1) L xs x3 (nI S) (nI O) kc ks u v := lw_186 o mk hS hO hne hu.1 hu.2 pv
    exact ks_law_136 (pk_le L (min L 40) (fun _ => fin) (fun z => pk_le 40 (min L 40) (fun _ => fin) (fun z2 => absurd z2 (by omega))))
  · intro n k u hk hu hw
    refine ks_law_136 (pk_le L k (fun z => absurd z (by omega)) (fun _ => pk_le 40 k (fun z => absurd z (by omega)) (fun _ => ⟨vp_in_nI (by omega) (by omega), ?_⟩)))
    refine wk_damaged hS hO (fun e => hne e.symm) hu.1 hu.2 (fun u1 b1 e1 => br_f (by decide) ?_)
    have t1 : sl_ (gt_by u1) (gt_used u1) S w h P := by rw [b1, e1]; exact hu.1
    have t2 : sl_ (gt_by u1) (gt_used u1) O w h P := by rw [b1, e1]; exact hu.2
    refine wk_damaged hO hS hne t2 t1 (fun u2 b2 e2 => br_f (by decide) (nm_r (nI_1 k) (hw u2 ⟨by rw [b2, e2]; exact t1, by rw [b2, e2]; exact t2⟩)))
theorem lw_init {post : St1 → Prop} {u : St0} (hp : ∀ u', post u') : wpX_init post 15 5171 u := by
  refine ⟨by omega, by omega, by omega, by omega, by omega, by omega, by omega, by omega, by omega, by omega, by omega, by omega, by omega, by omega, by omega, by omega, by omega, by omega, by omega, by omega, by omega, by omega, by omega, by omega, by omega, by omega, by omega, by omega, by omega, by omega, hp _⟩
theorem i_vc (xs : Nat → Int32) (L : Nat) (hL : L ≤ 260) : wpL_law (fun r => r = 1) L xs := by
  obtain ⟨w, h, P, o, mk⟩ := wk_make xs hL
  refine ks_law ⟨15, 5171, by omega, by omega, lw_init (fun u1 => ⟨by omega, by omega, 15, 5171, by omega, by omega, lw_init (fun u2 => ?_)⟩)⟩
  refine mk _ u1 (fun c1 _ p1 => mk _ u2 (fun d1 _ g1 => ?_))
  refine wk_cell (k := 1) hL (by omega) ?_
  generalize ce_ L xs 1 = x
  obtain ⟨S, hS, eS⟩ := pk_andE (x >>> ((4 : Int32) &&& 31)) (m := 3) 2 (by decide)
  have hS4 : S < 4 := hS
  obtain ⟨q, hq, eq⟩ := pk_andE (x >>> ((6 : Int32) &&& 31)) (m := 255) 8 (by decide)
  have hq256 : q < 256 := hq
  refine nm_r eS ⟨by decide, by decide, ?_⟩
  have hO4 : (S + 1 + q % 3) % 4 < 4 := by omega
  have hne : S ≠ (S + 1 + q % 3) % 4 := by omega
  rw [eq, show (3 : Int32) = nI 3 from rfl, pk_rem (by omega) (by omega) (by omega), nI_1, nI_add, show (4 : Int32) = nI 4 from rfl, pk_rem (by omega) (by omega) (by omega)]
  generalize (S + 1 + q % 3) % 4 = O at *
  refine nm_e (wk_cell (k := 2) hL (by omega) ?_)
  refine wk_pack hS4 o p1 (fun c2 p2 s2 _ => br_t rfl (wk_cell (k := 3) hL (by omega) ?_))
  refine wk_pack hO4 o p2 (fun c3 p3 s3' o3 => br_t rfl ?_)
  have s3 := sl_other hne o3 s2
  refine wk_same hS4 hO4 o o s3 s3' (fun c a _ _ => rfl) (fun c4 b4 e4 => br_t rfl ?_)
  have s4 : sl_ (gt_by c4) (gt_used c4) S w h P := by rw [b4, e4]; exact s3
  have s4' : sl_ (gt_by c4) (gt_used c4) O w h P := by rw [b4, e4]; exact s3'
  obtain ⟨j, hj, ej⟩ := pk_andE x (m := 7) 3 (by decide)
  have hj8 : j < 8 := hj
  have d8 : dm_ok (1 + j) 2 := ⟨by omega, by omega, by omega, by omega⟩
  rw [ej, show (1 : Int32) + nI j = nI (1 + j) from nI_add 1 j]
  refine wk_blank (h := 2) d8 (fun c5 f5 _ => br_f (lw_ge1 d8) ?_)
  have s5 := sl_fm f5 s4
  have s5' := sl_fm f5 s4'
  refine wk_unpack hS4 o s5 (fun c6 f6 p6 => br_f (lw_ge1 o.1) ?_)
  exact wk_equal o p6 g1 (br_f (by decide) (lw_136 hL o mk hS4 hO4 hne (sl_fm f6 s5) (sl_fm f6 s5') g1))
end
