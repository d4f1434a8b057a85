section
def gq_cn (u : St1) : Int32 := u.1
def gq_pt (u : St1) : Int32 := u.2.1
def gq_pn (u : St1) : Int32 := u.2.2.1
def gq_lc (u : St1) : Int32 := u.2.2.2.1
def gq_cl (u : St1) : Int32 := u.2.2.2.2.1
def gq_mv (u : St1) : Int32 := u.2.2.2.2.2.1
def gq_ts (u : St1) : Int32 := u.2.2.2.2.2.2.1
def gq_lv (u : St1) : Int32 := u.2.2.2.2.2.2.2.1
def gq_fa (u : St1) : Int32 := u.2.2.2.2.2.2.2.2.1
def gq_en (u : St1) : Nat → Int32 := u.2.2.2.2.2.2.2.2.2.1
def gq_bf (u : St1) : Nat → Int32 := u.2.2.2.2.2.2.2.2.2.2.1
def gq_lf (u : St1) : Nat → Int32 := u.2.2.2.2.2.2.2.2.2.2.2.1
def gq_rt (u : St1) : Nat → Int32 := u.2.2.2.2.2.2.2.2.2.2.2.2.1
def gq_ph (u : St1) : Nat → Int32 := u.2.2.2.2.2.2.2.2.2.2.2.2.2.1
def gq_px (u : St1) : Nat → Int32 := u.2.2.2.2.2.2.2.2.2.2.2.2.2.2.1
def gq_pa (u : St1) : Nat → Int32 := u.2.2.2.2.2.2.2.2.2.2.2.2.2.2.2.1
def gq_lk (u : St1) : Nat → Int64 := u.2.2.2.2.2.2.2.2.2.2.2.2.2.2.2.2.1
def gq_lh (u : St1) : Nat → Int32 := u.2.2.2.2.2.2.2.2.2.2.2.2.2.2.2.2.2.1
def gq_lx (u : St1) : Nat → Int32 := u.2.2.2.2.2.2.2.2.2.2.2.2.2.2.2.2.2.2.1
def gq_co (u : St1) : Nat → Int32 := u.2.2.2.2.2.2.2.2.2.2.2.2.2.2.2.2.2.2.2.1
def gq_mu (u : St1) : Nat → Int32 := u.2.2.2.2.2.2.2.2.2.2.2.2.2.2.2.2.2.2.2.2.1
def gq_tr (u : St1) : Nat → Int32 := u.2.2.2.2.2.2.2.2.2.2.2.2.2.2.2.2.2.2.2.2.2.1
def gq_lt (u : St1) : Nat → Int32 := u.2.2.2.2.2.2.2.2.2.2.2.2.2.2.2.2.2.2.2.2.2.2.1
def gq_li (u : St1) : Nat → Int32 := u.2.2.2.2.2.2.2.2.2.2.2.2.2.2.2.2.2.2.2.2.2.2.2.1
def gq_lu (u : St1) : Nat → Int32 := u.2.2.2.2.2.2.2.2.2.2.2.2.2.2.2.2.2.2.2.2.2.2.2.2.1
def gq_fx (u : St1) : Nat → Int32 := u.2.2.2.2.2.2.2.2.2.2.2.2.2.2.2.2.2.2.2.2.2.2.2.2.2.1
def gq_nd (u : St1) : Nat → Int32 := u.2.2.2.2.2.2.2.2.2.2.2.2.2.2.2.2.2.2.2.2.2.2.2.2.2.2
def sq_cn (u : St1) (v0 : Int32) : St1 := (v0, gq_pt u, gq_pn u, gq_lc u, gq_cl u, gq_mv u, gq_ts u, gq_lv u, gq_fa u, gq_en u, gq_bf u, gq_lf u, gq_rt u, gq_ph u, gq_px u, gq_pa u, gq_lk u, gq_lh u, gq_lx u, gq_co u, gq_mu u, gq_tr u, gq_lt u, gq_li u, gq_lu u, gq_fx u, gq_nd u)
def sq_pt (u : St1) (v1 : Int32) : St1 := (gq_cn u, v1, gq_pn u, gq_lc u, gq_cl u, gq_mv u, gq_ts u, gq_lv u, gq_fa u, gq_en u, gq_bf u, gq_lf u, gq_rt u, gq_ph u, gq_px u, gq_pa u, gq_lk u, gq_lh u, gq_lx u, gq_co u, gq_mu u, gq_tr u, gq_lt u, gq_li u, gq_lu u, gq_fx u, gq_nd u)
def sq_pn (u : St1) (v2 : Int32) : St1 := (gq_cn u, gq_pt u, v2, gq_lc u, gq_cl u, gq_mv u, gq_ts u, gq_lv u, gq_fa u, gq_en u, gq_bf u, gq_lf u, gq_rt u, gq_ph u, gq_px u, gq_pa u, gq_lk u, gq_lh u, gq_lx u, gq_co u, gq_mu u, gq_tr u, gq_lt u, gq_li u, gq_lu u, gq_fx u, gq_nd u)
def sq_lc (u : St1) (v3 : Int32) : St1 := (gq_cn u, gq_pt u, gq_pn u, v3, gq_cl u, gq_mv u, gq_ts u, gq_lv u, gq_fa u, gq_en u, gq_bf u, gq_lf u, gq_rt u, gq_ph u, gq_px u, gq_pa u, gq_lk u, gq_lh u, gq_lx u, gq_co u, gq_mu u, gq_tr u, gq_lt u, gq_li u, gq_lu u, gq_fx u, gq_nd u)
def sq_cl (u : St1) (v4 : Int32) : St1 := (gq_cn u, gq_pt u, gq_pn u, gq_lc u, v4, gq_mv u, gq_ts u, gq_lv u, gq_fa u, gq_en u, gq_bf u, gq_lf u, gq_rt u, gq_ph u, gq_px u, gq_pa u, gq_lk u, gq_lh u, gq_lx u, gq_co u, gq_mu u, gq_tr u, gq_lt u, gq_li u, gq_lu u, gq_fx u, gq_nd u)
def sq_mv (u : St1) (v5 : Int32) : St1 := (gq_cn u, gq_pt u, gq_pn u, gq_lc u, gq_cl u, v5, gq_ts u, gq_lv u, gq_fa u, gq_en u, gq_bf u, gq_lf u, gq_rt u, gq_ph u, gq_px u, gq_pa u, gq_lk u, gq_lh u, gq_lx u, gq_co u, gq_mu u, gq_tr u, gq_lt u, gq_li u, gq_lu u, gq_fx u, gq_nd u)
def sq_ts (u : St1) (v6 : Int32) : St1 := (gq_cn u, gq_pt u, gq_pn u, gq_lc u, gq_cl u, gq_mv u, v6, gq_lv u, gq_fa u, gq_en u, gq_bf u, gq_lf u, gq_rt u, gq_ph u, gq_px u, gq_pa u, gq_lk u, gq_lh u, gq_lx u, gq_co u, gq_mu u, gq_tr u, gq_lt u, gq_li u, gq_lu u, gq_fx u, gq_nd u)
def sq_lv (u : St1) (v7 : Int32) : St1 := (gq_cn u, gq_pt u, gq_pn u, gq_lc u, gq_cl u, gq_mv u, gq_ts u, v7, gq_fa u, gq_en u, gq_bf u, gq_lf u, gq_rt u, gq_ph u, gq_px u, gq_pa u, gq_lk u, gq_lh u, gq_lx u, gq_co u, gq_mu u, gq_tr u, gq_lt u, gq_li u, gq_lu u, gq_fx u, gq_nd u)
def sq_fa (u : St1) (v8 : Int32) : St1 := (gq_cn u, gq_pt u, gq_pn u, gq_lc u, gq_cl u, gq_mv u, gq_ts u, gq_lv u, v8, gq_en u, gq_bf u, gq_lf u, gq_rt u, gq_ph u, gq_px u, gq_pa u, gq_lk u, gq_lh u, gq_lx u, gq_co u, gq_mu u, gq_tr u, gq_lt u, gq_li u, gq_lu u, gq_fx u, gq_nd u)
def sq_en (u : St1) (v9 : Nat → Int32) : St1 := (gq_cn u, gq_pt u, gq_pn u, gq_lc u, gq_cl u, gq_mv u, gq_ts u, gq_lv u, gq_fa u, v9, gq_bf u, gq_lf u, gq_rt u, gq_ph u, gq_px u, gq_pa u, gq_lk u, gq_lh u, gq_lx u, gq_co u, gq_mu u, gq_tr u, gq_lt u, gq_li u, gq_lu u, gq_fx u, gq_nd u)
def sq_bf (u : St1) (v10 : Nat → Int32) : St1 := (gq_cn u, gq_pt u, gq_pn u, gq_lc u, gq_cl u, gq_mv u, gq_ts u, gq_lv u, gq_fa u, gq_en u, v10, gq_lf u, gq_rt u, gq_ph u, gq_px u, gq_pa u, gq_lk u, gq_lh u, gq_lx u, gq_co u, gq_mu u, gq_tr u, gq_lt u, gq_li u, gq_lu u, gq_fx u, gq_nd u)
def sq_lf (u : St1) (v11 : Nat → Int32) : St1 := (gq_cn u, gq_pt u, gq_pn u, gq_lc u, gq_cl u, gq_mv u, gq_ts u, gq_lv u, gq_fa u, gq_en u, gq_bf u, v11, gq_rt u, gq_ph u, gq_px u, gq_pa u, gq_lk u, gq_lh u, gq_lx u, gq_co u, gq_mu u, gq_tr u, gq_lt u, gq_li u, gq_lu u, gq_fx u, gq_nd u)
def sq_rt (u : St1) (v12 : Nat → Int32) : St1 := (gq_cn u, gq_pt u, gq_pn u, gq_lc u, gq_cl u, gq_mv u, gq_ts u, gq_lv u, gq_fa u, gq_en u, gq_bf u, gq_lf u, v12, gq_ph u, gq_px u, gq_pa u, gq_lk u, gq_lh u, gq_lx u, gq_co u, gq_mu u, gq_tr u, gq_lt u, gq_li u, gq_lu u, gq_fx u, gq_nd u)
def sq_ph (u : St1) (v13 : Nat → Int32) : St1 := (gq_cn u, gq_pt u, gq_pn u, gq_lc u, gq_cl u, gq_mv u, gq_ts u, gq_lv u, gq_fa u, gq_en u, gq_bf u, gq_lf u, gq_rt u, v13, gq_px u, gq_pa u, gq_lk u, gq_lh u, gq_lx u, gq_co u, gq_mu u, gq_tr u, gq_lt u, gq_li u, gq_lu u, gq_fx u, gq_nd u)
def sq_px (u : St1) (v14 : Nat → Int32) : St1 := (gq_cn u, gq_pt u, gq_pn u, gq_lc u, gq_cl u, gq_mv u, gq_ts u, gq_lv u, gq_fa u, gq_en u, gq_bf u, gq_lf u, gq_rt u, gq_ph u, v14, gq_pa u, gq_lk u, gq_lh u, gq_lx u, gq_co u, gq_mu u, gq_tr u, gq_lt u, gq_li u, gq_lu u, gq_fx u, gq_nd u)
def sq_pa (u : St1) (v15 : Nat → Int32) : St1 := (gq_cn u, gq_pt u, gq_pn u, gq_lc u, gq_cl u, gq_mv u, gq_ts u, gq_lv u, gq_fa u, gq_en u, gq_bf u, gq_lf u, gq_rt u, gq_ph u, gq_px u, v15, gq_lk u, gq_lh u, gq_lx u, gq_co u, gq_mu u, gq_tr u, gq_lt u, gq_li u, gq_lu u, gq_fx u, gq_nd u)
def sq_lk (u : St1) (v16 : Nat → Int64) : St1 := (gq_cn u, gq_pt u, gq_pn u, gq_lc u, gq_cl u, gq_mv u, gq_ts u, gq_lv u, gq_fa u, gq_en u, gq_bf u, gq_lf u, gq_rt u, gq_ph u, gq_px u, gq_pa u, v16, gq_lh u, gq_lx u, gq_co u, gq_mu u, gq_tr u, gq_lt u, gq_li u, gq_lu u, gq_fx u, gq_nd u)
def sq_lh (u : St1) (v17 : Nat → Int32) : St1 := (gq_cn u, gq_pt u, gq_pn u, gq_lc u, gq_cl u, gq_mv u, gq_ts u, gq_lv u, gq_fa u, gq_en u, gq_bf u, gq_lf u, gq_rt u, gq_ph u, gq_px u, gq_pa u, gq_lk u, v17, gq_lx u, gq_co u, gq_mu u, gq_tr u, gq_lt u, gq_li u, gq_lu u, gq_fx u, gq_nd u)
def sq_lx (u : St1) (v18 : Nat → Int32) : St1 := (gq_cn u, gq_pt u, gq_pn u, gq_lc u, gq_cl u, gq_mv u, gq_ts u, gq_lv u, gq_fa u, gq_en u, gq_bf u, gq_lf u, gq_rt u, gq_ph u, gq_px u, gq_pa u, gq_lk u, gq_lh u, v18, gq_co u, gq_mu u, gq_tr u, gq_lt u, gq_li u, gq_lu u, gq_fx u, gq_nd u)
def sq_co (u : St1) (v19 : Nat → Int32) : St1 := (gq_cn u, gq_pt u, gq_pn u, gq_lc u, gq_cl u, gq_mv u, gq_ts u, gq_lv u, gq_fa u, gq_en u, gq_bf u, gq_lf u, gq_rt u, gq_ph u, gq_px u, gq_pa u, gq_lk u, gq_lh u, gq_lx u, v19, gq_mu u, gq_tr u, gq_lt u, gq_li u, gq_lu u, gq_fx u, gq_nd u)
def sq_mu (u : St1) (v20 : Nat → Int32) : St1 := (gq_cn u, gq_pt u, gq_pn u, gq_lc u, gq_cl u, gq_mv u, gq_ts u, gq_lv u, gq_fa u, gq_en u, gq_bf u, gq_lf u, gq_rt u, gq_ph u, gq_px u, gq_pa u, gq_lk u, gq_lh u, gq_lx u, gq_co u, v20, gq_tr u, gq_lt u, gq_li u, gq_lu u, gq_fx u, gq_nd u)
def sq_tr (u : St1) (v21 : Nat → Int32) : St1 := (gq_cn u, gq_pt u, gq_pn u, gq_lc u, gq_cl u, gq_mv u, gq_ts u, gq_lv u, gq_fa u, gq_en u, gq_bf u, gq_lf u, gq_rt u, gq_ph u, gq_px u, gq_pa u, gq_lk u, gq_lh u, gq_lx u, gq_co u, gq_mu u, v21, gq_lt u, gq_li u, gq_lu u, gq_fx u, gq_nd u)
def sq_lt (u : St1) (v22 : Nat → Int32) : St1 := (gq_cn u, gq_pt u, gq_pn u, gq_lc u, gq_cl u, gq_mv u, gq_ts u, gq_lv u, gq_fa u, gq_en u, gq_bf u, gq_lf u, gq_rt u, gq_ph u, gq_px u, gq_pa u, gq_lk u, gq_lh u, gq_lx u, gq_co u, gq_mu u, gq_tr u, v22, gq_li u, gq_lu u, gq_fx u, gq_nd u)
def sq_li (u : St1) (v23 : Nat → Int32) : St1 := (gq_cn u, gq_pt u, gq_pn u, gq_lc u, gq_cl u, gq_mv u, gq_ts u, gq_lv u, gq_fa u, gq_en u, gq_bf u, gq_lf u, gq_rt u, gq_ph u, gq_px u, gq_pa u, gq_lk u, gq_lh u, gq_lx u, gq_co u, gq_mu u, gq_tr u, gq_lt u, v23, gq_lu u, gq_fx u, gq_nd u)
def sq_lu (u : St1) (v24 : Nat → Int32) : St1 := (gq_cn u, gq_pt u, gq_pn u, gq_lc u, gq_cl u, gq_mv u, gq_ts u, gq_lv u, gq_fa u, gq_en u, gq_bf u, gq_lf u, gq_rt u, gq_ph u, gq_px u, gq_pa u, gq_lk u, gq_lh u, gq_lx u, gq_co u, gq_mu u, gq_tr u, gq_lt u, gq_li u, v24, gq_fx u, gq_nd u)
def sq_fx (u : St1) (v25 : Nat → Int32) : St1 := (gq_cn u, gq_pt u, gq_pn u, gq_lc u, gq_cl u, gq_mv u, gq_ts u, gq_lv u, gq_fa u, gq_en u, gq_bf u, gq_lf u, gq_rt u, gq_ph u, gq_px u, gq_pa u, gq_lk u, gq_lh u, gq_lx u, gq_co u, gq_mu u, gq_tr u, gq_lt u, gq_li u, gq_lu u, v25, gq_nd u)
def sq_nd (u : St1) (v26 : Nat → Int32) : St1 := (gq_cn u, gq_pt u, gq_pn u, gq_lc u, gq_cl u, gq_mv u, gq_ts u, gq_lv u, gq_fa u, gq_en u, gq_bf u, gq_lf u, gq_rt u, gq_ph u, gq_px u, gq_pa u, gq_lk u, gq_lh u, gq_lx u, gq_co u, gq_mu u, gq_tr u, gq_lt u, gq_li u, gq_lu u, gq_fx u, v26)
def sq_cn_en (u : St1) (v0 : Int32) (v9 : Nat → Int32) : St1 := (v0, gq_pt u, gq_pn u, gq_lc u, gq_cl u, gq_mv u, gq_ts u, gq_lv u, gq_fa u, v9, gq_bf u, gq_lf u, gq_rt u, gq_ph u, gq_px u, gq_pa u, gq_lk u, gq_lh u, gq_lx u, gq_co u, gq_mu u, gq_tr u, gq_lt u, gq_li u, gq_lu u, gq_fx u, gq_nd u)
def sq_pn_pa (u : St1) (v2 : Int32) (v15 : Nat → Int32) : St1 := (gq_cn u, gq_pt u, v2, gq_lc u, gq_cl u, gq_mv u, gq_ts u, gq_lv u, gq_fa u, gq_en u, gq_bf u, gq_lf u, gq_rt u, gq_ph u, gq_px u, v15, gq_lk u, gq_lh u, gq_lx u, gq_co u, gq_mu u, gq_tr u, gq_lt u, gq_li u, gq_lu u, gq_fx u, gq_nd u)
def sq_cl_lu (u : St1) (v4 : Int32) (v24 : Nat → Int32) : St1 := (gq_cn u, gq_pt u, gq_pn u, gq_lc u, v4, gq_mv u, gq_ts u, gq_lv u, gq_fa u, gq_en u, gq_bf u, gq_lf u, gq_rt u, gq_ph u, gq_px u, gq_pa u, gq_lk u, gq_lh u, gq_lx u, gq_co u, gq_mu u, gq_tr u, gq_lt u, gq_li u, v24, gq_fx u, gq_nd u)
def sq_ts_mu (u : St1) (v6 : Int32) (v20 : Nat → Int32) : St1 := (gq_cn u, gq_pt u, gq_pn u, gq_lc u, gq_cl u, gq_mv u, v6, gq_lv u, gq_fa u, gq_en u, gq_bf u, gq_lf u, gq_rt u, gq_ph u, gq_px u, gq_pa u, gq_lk u, gq_lh u, gq_lx u, gq_co u, v20, gq_tr u, gq_lt u, gq_li u, gq_lu u, gq_fx u, gq_nd u)
def sq_en_bf (u : St1) (v9 : Nat → Int32) (v10 : Nat → Int32) : St1 := (gq_cn u, gq_pt u, gq_pn u, gq_lc u, gq_cl u, gq_mv u, gq_ts u, gq_lv u, gq_fa u, v9, v10, gq_lf u, gq_rt u, gq_ph u, gq_px u, gq_pa u, gq_lk u, gq_lh u, gq_lx u, gq_co u, gq_mu u, gq_tr u, gq_lt u, gq_li u, gq_lu u, gq_fx u, gq_nd u)
def sq_ph_lh (u : St1) (v13 : Nat → Int32) (v17 : Nat → Int32) : St1 := (gq_cn u, gq_pt u, gq_pn u, gq_lc u, gq_cl u, gq_mv u, gq_ts u, gq_lv u, gq_fa u, gq_en u, gq_bf u, gq_lf u, gq_rt u, v13, gq_px u, gq_pa u, gq_lk u, v17, gq_lx u, gq_co u, gq_mu u, gq_tr u, gq_lt u, gq_li u, gq_lu u, gq_fx u, gq_nd u)
def sq_lh_lx (u : St1) (v17 : Nat → Int32) (v18 : Nat → Int32) : St1 := (gq_cn u, gq_pt u, gq_pn u, gq_lc u, gq_cl u, gq_mv u, gq_ts u, gq_lv u, gq_fa u, gq_en u, gq_bf u, gq_lf u, gq_rt u, gq_ph u, gq_px u, gq_pa u, gq_lk u, v17, v18, gq_co u, gq_mu u, gq_tr u, gq_lt u, gq_li u, gq_lu u, gq_fx u, gq_nd u)
def sq_co_mu (u : St1) (v19 : Nat → Int32) (v20 : Nat → Int32) : St1 := (gq_cn u, gq_pt u, gq_pn u, gq_lc u, gq_cl u, gq_mv u, gq_ts u, gq_lv u, gq_fa u, gq_en u, gq_bf u, gq_lf u, gq_rt u, gq_ph u, gq_px u, gq_pa u, gq_lk u, gq_lh u, gq_lx u, v19, v20, gq_tr u, gq_lt u, gq_li u, gq_lu u, gq_fx u, gq_nd u)
def sq_pt_ph_lh (u : St1) (v1 : Int32) (v13 : Nat → Int32) (v17 : Nat → Int32) : St1 := (gq_cn u, v1, gq_pn u, gq_lc u, gq_cl u, gq_mv u, gq_ts u, gq_lv u, gq_fa u, gq_en u, gq_bf u, gq_lf u, gq_rt u, v13, gq_px u, gq_pa u, gq_lk u, v17, gq_lx u, gq_co u, gq_mu u, gq_tr u, gq_lt u, gq_li u, gq_lu u, gq_fx u, gq_nd u)
def sq_cl_ts_lv (u : St1) (v4 : Int32) (v6 : Int32) (v7 : Int32) : St1 := (gq_cn u, gq_pt u, gq_pn u, gq_lc u, v4, gq_mv u, v6, v7, gq_fa u, gq_en u, gq_bf u, gq_lf u, gq_rt u, gq_ph u, gq_px u, gq_pa u, gq_lk u, gq_lh u, gq_lx u, gq_co u, gq_mu u, gq_tr u, gq_lt u, gq_li u, gq_lu u, gq_fx u, gq_nd u)
def sq_mv_ts_mu_tr (u : St1) (v5 : Int32) (v6 : Int32) (v20 : Nat → Int32) (v21 : Nat → Int32) : St1 := (gq_cn u, gq_pt u, gq_pn u, gq_lc u, gq_cl u, v5, v6, gq_lv u, gq_fa u, gq_en u, gq_bf u, gq_lf u, gq_rt u, gq_ph u, gq_px u, gq_pa u, gq_lk u, gq_lh u, gq_lx u, gq_co u, v20, v21, gq_lt u, gq_li u, gq_lu u, gq_fx u, gq_nd u)
def sq_lv_lt_li_lu (u : St1) (v7 : Int32) (v22 : Nat → Int32) (v23 : Nat → Int32) (v24 : Nat → Int32) : St1 := (gq_cn u, gq_pt u, gq_pn u, gq_lc u, gq_cl u, gq_mv u, gq_ts u, v7, gq_fa u, gq_en u, gq_bf u, gq_lf u, gq_rt u, gq_ph u, gq_px u, gq_pa u, gq_lk u, gq_lh u, gq_lx u, gq_co u, gq_mu u, gq_tr u, v22, v23, v24, gq_fx u, gq_nd u)
def sq_pt_lf_rt_ph_px (u : St1) (v1 : Int32) (v11 : Nat → Int32) (v12 : Nat → Int32) (v13 : Nat → Int32) (v14 : Nat → Int32) : St1 := (gq_cn u, v1, gq_pn u, gq_lc u, gq_cl u, gq_mv u, gq_ts u, gq_lv u, gq_fa u, gq_en u, gq_bf u, v11, v12, v13, v14, gq_pa u, gq_lk u, gq_lh u, gq_lx u, gq_co u, gq_mu u, gq_tr u, gq_lt u, gq_li u, gq_lu u, gq_fx u, gq_nd u)
def sq_pt_lf_rt_ph_px_lk (u : St1) (v1 : Int32) (v11 : Nat → Int32) (v12 : Nat → Int32) (v13 : Nat → Int32) (v14 : Nat → Int32) (v16 : Nat → Int64) : St1 := (gq_cn u, v1, gq_pn u, gq_lc u, gq_cl u, gq_mv u, gq_ts u, gq_lv u, gq_fa u, gq_en u, gq_bf u, v11, v12, v13, v14, gq_pa u, v16, gq_lh u, gq_lx u, gq_co u, gq_mu u, gq_tr u, gq_lt u, gq_li u, gq_lu u, gq_fx u, gq_nd u)
theorem cw_lookOfEnd (post : Int64 → Prop) (u : St1) (p0 : Int32) (h : ((vp_in (p0 >>> ((1 : Int32) &&& 31)) 2560) ∧ (∀ x2_2 : Int64, ((x2_2 = ((gq_lk u) (p0 >>> ((1 : Int32) &&& 31)).toNatClampNeg)) → ((((p0 &&& 1) = 0) → (post x2_2)) ∧ ((¬ ((p0 &&& 1) = 0)) → (post (x2_2 ^^^ (-1))))))))) : wpX_lookOfEnd post u p0 := h
theorem cw_enterLook (post : St1 → Prop) (u : St1) (p0 : Int32) (h : ((vp_in p0 2560) ∧ (wpX_markOfLook (fun r_2 => ((vp_in r_2 1024) ∧ ((vp_in p0 2560) ∧ (∀ a10_5 : Nat → Int32, ((a10_5 = (upd (gq_lx u) p0.toNatClampNeg (vp_nar .short ((gq_lh u) r_2.toNatClampNeg)))) → ((vp_in r_2 1024) ∧ (∀ a9_7 : Nat → Int32, ((a9_7 = (upd (gq_lh u) r_2.toNatClampNeg p0.toInt16.toInt32)) → (post (sq_lh_lx u a9_7 a10_5)))))))))) () ((gq_lk u) p0.toNatClampNeg)))) : wpX_enterLook post u p0 := h
def qq_lookOfInput_5 (post : Int64 → Prop) (x1 : Int32) (n : Nat) (x2 : Int64) (x4 : Int32) (u : St1) : Prop := wX_lookOfInput_5 post x1 (gq_cn u) (gq_pt u) (gq_pn u) (gq_lc u) (gq_cl u) (gq_mv u) (gq_ts u) (gq_lv u) (gq_fa u) (gq_en u) (gq_bf u) (gq_lf u) (gq_rt u) (gq_ph u) (gq_px u) (gq_pa u) (gq_lk u) (gq_lh u) (gq_lx u) (gq_co u) (gq_mu u) (gq_tr u) (gq_lt u) (gq_li u) (gq_lu u) (gq_fx u) (gq_nd u) n x2 x4
theorem cq_lookOfInput_5 (post : Int64 → Prop) (x1 : Int32) (n : Nat) (x2 : Int64) (x4 : Int32) (u : St1) (h : (((64 ≤ x4) → (post x2)) ∧ ((¬ (64 ≤ x4)) → ((vp_in x4 64) ∧ (((((((gq_pa u) x4.toNatClampNeg) >>> (x1 &&& 31)) &&& 1) = 0) → (∀ x2_4 : Int64, ((x2_4 = (x2 ||| 0)) → (∀ x4_5 : Int32, ((x4_5 = (x4 + 1)) → (qq_lookOfInput_5 post x1 n x2_4 x4_5 u)))))) ∧ ((¬ (((((gq_pa u) x4.toNatClampNeg) >>> (x1 &&& 31)) &&& 1) = 0)) → (∀ x2_6 : Int64, ((x2_6 = (x2 ||| ((1 : Int64) <<< (x4.toInt64 &&& 63)))) → (∀ x4_7 : Int32, ((x4_7 = (x4 + 1)) → (qq_lookOfInput_5 post x1 n x2_6 x4_7 u))))))))))) : qq_lookOfInput_5 post x1 (n + 1) x2 x4 u := h
theorem cw_lookOfInput (post : Int64 → Prop) (u : St1) (p0 : Int32) (h : (∃ fu5 : Nat, (qq_lookOfInput_5 post p0 fu5 0 0 u))) : wpX_lookOfInput post u p0 := h
def kk_lookAgain_97 (post : St1 → Prop) (J24 : Int32 → St1 → Prop) (x1 : Int32) (u : St1) : Prop := (wpX_enterLook (fun u1 => (∀ x1_75 : Int32, ((x1_75 = (x1 + 1)) → (J24 x1_75 u1)))) u x1)
def qq_lookAgain_24 (post : St1 → Prop) (n : Nat) (x1 : Int32) (u : St1) : Prop := wX_lookAgain_24 post n x1 (gq_cn u) (gq_pt u) (gq_pn u) (gq_lc u) (gq_cl u) (gq_mv u) (gq_ts u) (gq_lv u) (gq_fa u) (gq_en u) (gq_bf u) (gq_lf u) (gq_rt u) (gq_ph u) (gq_px u) (gq_pa u) (gq_lk u) (gq_lh u) (gq_lx u) (gq_co u) (gq_mu u) (gq_tr u) (gq_lt u) (gq_li u) (gq_lu u) (gq_fx u) (gq_nd u)
theorem cq_lookAgain_24 (post : St1 → Prop) (n : Nat) (x1 : Int32) (u : St1) (h : ((((gq_pt u) ≤ x1) → (post u)) ∧ ((¬ ((gq_pt u) ≤ x1)) → (((x1 = 0) → ((vp_in x1 2560) ∧ (∀ a8_80 : Nat → Int64, ((a8_80 = (vp_updL (gq_lk u) x1.toNatClampNeg 0)) → (kk_lookAgain_97 post (qq_lookAgain_24 post n) x1 (sq_lk u a8_80)))))) ∧ ((¬ (x1 = 0)) → (((9 ≤ x1) → ((vp_in x1 2560) ∧ (wpX_lookOfEnd (fun r_6 => ((vp_in x1 2560) ∧ (wpX_lookOfEnd (fun r_8 => ((vp_in x1 2560) ∧ (∀ a8_10 : Nat → Int64, ((a8_10 = (vp_updL (gq_lk u) x1.toNatClampNeg (r_6 &&& r_8))) → (kk_lookAgain_97 post (qq_lookAgain_24 post n) x1 (sq_lk u a8_10)))))) u ((gq_rt u) x1.toNatClampNeg)))) u ((gq_lf u) x1.toNatClampNeg)))) ∧ ((¬ (9 ≤ x1)) → (wpX_lookOfInput (fun r_76 => ((vp_in x1 2560) ∧ (∀ a8_78 : Nat → Int64, ((a8_78 = (vp_updL (gq_lk u) x1.toNatClampNeg r_76)) → (kk_lookAgain_97 post (qq_lookAgain_24 post n) x1 (sq_lk u a8_78)))))) u (x1 - 1))))))))) : qq_lookAgain_24 post (n + 1) x1 u := h
def qq_lookAgain_2 (post : St1 → Prop) (n : Nat) (x1 : Int32) (u : St1) : Prop := wX_lookAgain_2 post (gq_cn u) (gq_pt u) (gq_pn u) (gq_lc u) (gq_cl u) (gq_mv u) (gq_ts u) (gq_lv u) (gq_fa u) n x1 (gq_en u) (gq_bf u) (gq_lf u) (gq_rt u) (gq_ph u) (gq_px u) (gq_pa u) (gq_lk u) (gq_lh u) (gq_lx u) (gq_co u) (gq_mu u) (gq_tr u) (gq_lt u) (gq_li u) (gq_lu u) (gq_fx u) (gq_nd u)
theorem cq_lookAgain_2 (post : St1 → Prop) (n : Nat) (x1 : Int32) (u : St1) (h : (((1024 ≤ x1) → (∃ fu24 : Nat, (qq_lookAgain_24 post fu24 0 u))) ∧ ((¬ (1024 ≤ x1)) → ((vp_in x1 1024) ∧ (∀ a9_82 : Nat → Int32, ((a9_82 = (upd (gq_lh u) x1.toNatClampNeg (-1))) → (∀ x1_83 : Int32, ((x1_83 = (x1 + 1)) → (qq_lookAgain_2 post n x1_83 (sq_lh u a9_82)))))))))) : qq_lookAgain_2 post (n + 1) x1 u := h
theorem cw_lookAgain (post : St1 → Prop) (u : St1) (h : (∃ fu2 : Nat, (qq_lookAgain_2 post fu2 0 u))) : wpX_lookAgain post u := h
def qq_init_242 (post : St1 → Prop) (mc : Nat) (ms : Nat) (kc : Nat) (ks : Nat) (n : Nat) (x2 : Int32) (u : St1) : Prop := wX_init_242 post mc ms kc ks (gq_cn u) (gq_pt u) (gq_pn u) (gq_lc u) (gq_cl u) (gq_mv u) (gq_ts u) (gq_lv u) (gq_fa u) n x2 (gq_en u) (gq_bf u) (gq_lf u) (gq_rt u) (gq_ph u) (gq_px u) (gq_pa u) (gq_lk u) (gq_lh u) (gq_lx u) (gq_co u) (gq_mu u) (gq_tr u) (gq_lt u) (gq_li u) (gq_lu u) (gq_fx u) (gq_nd u)
theorem cq_init_242 (post : St1 → Prop) (mc : Nat) (ms : Nat) (kc : Nat) (ks : Nat) (n : Nat) (x2 : Int32) (u : St1) (h : (((8 ≤ x2) → (post u)) ∧ ((¬ (8 ≤ x2)) → ((vp_in x2 40) ∧ (∀ am2371_141 : Nat → Int32, ((am2371_141 = (upd (gq_en u) x2.toNatClampNeg (2 * (x2 + 1)).toInt16.toInt32)) → ((vp_in x2 40) ∧ (∀ am2372_143 : Nat → Int32, ((am2372_143 = (upd (gq_bf u) x2.toNatClampNeg 9)) → (∀ x2_144 : Int32, ((x2_144 = (x2 + 1)) → (qq_init_242 post mc ms kc ks n x2_144 (sq_en_bf u am2371_141 am2372_143))))))))))))) : qq_init_242 post mc ms kc ks (n + 1) x2 u := h
def qq_init_199 (post : St1 → Prop) (mc : Nat) (ms : Nat) (kc : Nat) (ks : Nat) (n : Nat) (x1 : Int32) (x2 : Int32) (u : St1) : Prop := wX_init_199 post mc ms kc ks (gq_cn u) (gq_pt u) (gq_pn u) (gq_lc u) (gq_cl u) (gq_mv u) (gq_ts u) (gq_lv u) (gq_fa u) n x1 x2 (gq_en u) (gq_bf u) (gq_lf u) (gq_rt u) (gq_ph u) (gq_px u) (gq_pa u) (gq_lk u) (gq_lh u) (gq_lx u) (gq_co u) (gq_mu u) (gq_tr u) (gq_lt u) (gq_li u) (gq_lu u) (gq_fx u) (gq_nd u)
theorem cq_init_199 (post : St1 → Prop) (mc : Nat) (ms : Nat) (kc : Nat) (ks : Nat) (n : Nat) (x1 : Int32) (x2 : Int32) (u : St1) (h : (((64 ≤ x2) → (wpX_lookAgain (fun u1 => (∃ fu242 : Nat, (qq_init_242 post mc ms kc ks fu242 0 u1))) (sq_pt u 9))) ∧ ((¬ (64 ≤ x2)) → (∀ x1_145 : Int32, ((x1_145 = (((x1 * 5) + 77) &&& 255)) → ((vp_in x2 64) ∧ (∀ am65_147 : Nat → Int32, ((am65_147 = (upd (gq_pa u) x2.toNatClampNeg x1_145.toInt16.toInt32)) → (∀ x2_148 : Int32, ((x2_148 = (x2 + 1)) → (qq_init_199 post mc ms kc ks n x1_145 x2_148 (sq_pa u am65_147)))))))))))) : qq_init_199 post mc ms kc ks (n + 1) x1 x2 u := h
def qq_init_168 (post : St1 → Prop) (mc : Nat) (ms : Nat) (kc : Nat) (ks : Nat) (n : Nat) (x1 : Int32) (u : St1) : Prop := wX_init_168 post mc ms kc ks (gq_cn u) (gq_pt u) (gq_pn u) (gq_lc u) (gq_cl u) (gq_mv u) (gq_ts u) (gq_lv u) (gq_fa u) n x1 (gq_en u) (gq_bf u) (gq_lf u) (gq_rt u) (gq_ph u) (gq_px u) (gq_pa u) (gq_lk u) (gq_lh u) (gq_lx u) (gq_co u) (gq_mu u) (gq_tr u) (gq_lt u) (gq_li u) (gq_lu u) (gq_fx u) (gq_nd u)
theorem cq_init_168 (post : St1 → Prop) (mc : Nat) (ms : Nat) (kc : Nat) (ks : Nat) (n : Nat) (x1 : Int32) (u : St1) (h : (((1024 ≤ x1) → (∃ fu199 : Nat, (qq_init_199 post mc ms kc ks fu199 0 0 u))) ∧ ((¬ (1024 ≤ x1)) → ((vp_in x1 1024) ∧ (∀ am48_150 : Nat → Int32, ((am48_150 = (upd (gq_ph u) x1.toNatClampNeg (-1))) → ((vp_in x1 1024) ∧ (∀ am83_152 : Nat → Int32, ((am83_152 = (upd (gq_lh u) x1.toNatClampNeg (-1))) → (∀ x1_153 : Int32, ((x1_153 = (x1 + 1)) → (qq_init_168 post mc ms kc ks n x1_153 (sq_ph_lh u am48_150 am83_152))))))))))))) : qq_init_168 post mc ms kc ks (n + 1) x1 u := h
theorem cw_wires (post : Int32 → Prop) (u : St1) (h : (post (gq_cn u))) : wpX_wires post u := h
def qq_backTo_0 (post : St1 → Prop) (x1 : Int32) (n : Nat) (u : St1) : Prop := wX_backTo_0 post x1 (gq_cn u) (gq_pn u) (gq_lc u) (gq_cl u) (gq_mv u) (gq_ts u) (gq_lv u) (gq_fa u) n (gq_pt u) (gq_en u) (gq_bf u) (gq_lf u) (gq_rt u) (gq_ph u) (gq_px u) (gq_pa u) (gq_lk u) (gq_lh u) (gq_lx u) (gq_co u) (gq_mu u) (gq_tr u) (gq_lt u) (gq_li u) (gq_lu u) (gq_fx u) (gq_nd u)
theorem cq_backTo_0 (post : St1 → Prop) (x1 : Int32) (n : Nat) (u : St1) (h : ((((gq_pt u) ≤ x1) → (post u)) ∧ ((¬ ((gq_pt u) ≤ x1)) → (∀ f_2 : Int32, ((f_2 = ((gq_pt u) - 1)) → ((vp_in f_2 2560) ∧ ((vp_in f_2 2560) ∧ (wpX_markOfPair (fun r_5 => ((vp_in f_2 2560) ∧ ((vp_in r_5 1024) ∧ (∀ a5_8 : Nat → Int32, ((a5_8 = (upd (gq_ph u) r_5.toNatClampNeg (vp_nar .short ((gq_px u) f_2.toNatClampNeg)))) → ((vp_in f_2 2560) ∧ (wpX_markOfLook (fun r_10 => ((vp_in f_2 2560) ∧ ((vp_in r_10 1024) ∧ (∀ a9_13 : Nat → Int32, ((a9_13 = (upd (gq_lh u) r_10.toNatClampNeg (vp_nar .short ((gq_lx u) f_2.toNatClampNeg)))) → (qq_backTo_0 post x1 n (sq_pt_ph_lh u f_2 a5_8 a9_13))))))) () ((gq_lk u) f_2.toNatClampNeg)))))))) () ((gq_lf u) f_2.toNatClampNeg) ((gq_rt u) f_2.toNatClampNeg))))))))) : qq_backTo_0 post x1 (n + 1) u := h
theorem cw_backTo (post : St1 → Prop) (u : St1) (p0 : Int32) (h : (∃ fu0 : Nat, (qq_backTo_0 post p0 fu0 u))) : wpX_backTo post u p0 := h
theorem cw_drop (post : Int32 → St1 → Prop) (u : St1) (h : ((((gq_cn u) = 8) → (post (-1) u)) ∧ ((¬ ((gq_cn u) = 8)) → (∀ f_2 : Int32, ((f_2 = ((gq_cn u) - 1)) → ((vp_in f_2 40) ∧ (wpX_backTo (fun u1 => (post (gq_cn u1) u1)) (sq_cn u f_2) ((gq_bf u) f_2.toNatClampNeg)))))))) : wpX_drop post u := h
theorem cw_isWire (post : Int32 → Prop) (u : St1) (p0 : Int32) (h : (((p0 < 0) → (post 0)) ∧ ((¬ (p0 < 0)) → ((((gq_cn u) ≤ p0) → (post 0)) ∧ ((¬ ((gq_cn u) ≤ p0)) → (post 1)))))) : wpX_isWire post u p0 := h
theorem cw_equal (post : Int32 → Prop) (u : St1) (p0 : Int32) (p1 : Int32) (h : (wpX_isWire (fun r_1 => (((r_1 = 0) → (post 0)) ∧ ((¬ (r_1 = 0)) → (wpX_isWire (fun r_3 => (((r_3 = 0) → (post 0)) ∧ ((¬ (r_3 = 0)) → ((vp_in p0 40) ∧ ((vp_in p1 40) ∧ (((((gq_en u) p0.toNatClampNeg) = ((gq_en u) p1.toNatClampNeg)) → (post 1)) ∧ ((¬ (((gq_en u) p0.toNatClampNeg) = ((gq_en u) p1.toNatClampNeg))) → (post 0)))))))) u p1)))) u p0)) : wpX_equal post u p0 p1 := h
def qq_concern_82 (post : St1 → Prop) (n : Nat) (x3 : Int32) (u : St1) : Prop := wX_concern_82 post (gq_cn u) (gq_pt u) (gq_pn u) (gq_lc u) (gq_cl u) (gq_mv u) (gq_ts u) (gq_lv u) (gq_fa u) n x3 (gq_en u) (gq_bf u) (gq_lf u) (gq_rt u) (gq_ph u) (gq_px u) (gq_pa u) (gq_lk u) (gq_lh u) (gq_lx u) (gq_co u) (gq_mu u) (gq_tr u) (gq_lt u) (gq_li u) (gq_lu u) (gq_fx u) (gq_nd u)
theorem cq_concern_82 (post : St1 → Prop) (n : Nat) (x3 : Int32) (u : St1) (h : (((x3 < 9) → (post (sq_cl_ts_lv u 0 0 0))) ∧ ((¬ (x3 < 9)) → ((vp_in x3 2560) ∧ (((((gq_co u) x3.toNatClampNeg) = 0) → (∀ x3_9 : Int32, ((x3_9 = (x3 + (-1))) → (qq_concern_82 post n x3_9 u)))) ∧ ((¬ (((gq_co u) x3.toNatClampNeg) = 0)) → ((vp_in x3 2560) ∧ ((vp_in (((gq_lf u) x3.toNatClampNeg) >>> ((1 : Int32) &&& 31)) 2560) ∧ (∀ a11_12 : Nat → Int32, ((a11_12 = (upd (gq_co u) (((gq_lf u) x3.toNatClampNeg) >>> ((1 : Int32) &&& 31)).toNatClampNeg 1)) → ((vp_in x3 2560) ∧ ((vp_in (((gq_rt u) x3.toNatClampNeg) >>> ((1 : Int32) &&& 31)) 2560) ∧ (∀ a11_15 : Nat → Int32, ((a11_15 = (upd a11_12 (((gq_rt u) x3.toNatClampNeg) >>> ((1 : Int32) &&& 31)).toNatClampNeg 1)) → (∀ x3_16 : Int32, ((x3_16 = (x3 + (-1))) → (qq_concern_82 post n x3_16 (sq_co u a11_15)))))))))))))))))) : qq_concern_82 post (n + 1) x3 u := h
def kk_concern_56 (post : St1 → Prop) (J24 : Int32 → St1 → Prop) (x1 : Int32) (x2 : Int32) (x3 : Int32) (z0 : Int32) (z1 : Int32) (u : St1) : Prop := ((vp_in z1 2560) ∧ (∀ a11_19 : Nat → Int32, ((a11_19 = (upd (gq_co u) z1.toNatClampNeg (vp_nar .boolean z0))) → ((vp_in x3 2560) ∧ (∀ a12_21 : Nat → Int32, ((a12_21 = (upd (gq_mu u) x3.toNatClampNeg (-1))) → (∀ x3_22 : Int32, ((x3_22 = (x3 + 1)) → (J24 x3_22 (sq_co_mu u a11_19 a12_21))))))))))
def kk_concern_51 (post : St1 → Prop) (J24 : Int32 → St1 → Prop) (x1 : Int32) (x2 : Int32) (x3 : Int32) (z0 : Int32) (u : St1) : Prop := (kk_concern_56 post J24 x1 x2 x3 1 z0 u)
def qq_concern_24 (post : St1 → Prop) (x1 : Int32) (x2 : Int32) (n : Nat) (x3 : Int32) (u : St1) : Prop := wX_concern_24 post x1 x2 (gq_cn u) (gq_pt u) (gq_pn u) (gq_lc u) (gq_cl u) (gq_mv u) (gq_ts u) (gq_lv u) (gq_fa u) n x3 (gq_en u) (gq_bf u) (gq_lf u) (gq_rt u) (gq_ph u) (gq_px u) (gq_pa u) (gq_lk u) (gq_lh u) (gq_lx u) (gq_co u) (gq_mu u) (gq_tr u) (gq_lt u) (gq_li u) (gq_lu u) (gq_fx u) (gq_nd u)
theorem cq_concern_24 (post : St1 → Prop) (x1 : Int32) (x2 : Int32) (n : Nat) (x3 : Int32) (u : St1) (h : ((((gq_lc u) < x3) → (∀ a12_5 : Nat → Int32, ((a12_5 = (upd (gq_mu u) 0 0)) → (∃ fu82 : Nat, (qq_concern_82 post fu82 (gq_lc u) (sq_mu u a12_5)))))) ∧ ((¬ ((gq_lc u) < x3)) → (((x3 = (x1 >>> ((1 : Int32) &&& 31))) → (kk_concern_51 post (qq_concern_24 post x1 x2 n) x1 x2 x3 x3 u)) ∧ ((¬ (x3 = (x1 >>> ((1 : Int32) &&& 31)))) → (((x3 = (x2 >>> ((1 : Int32) &&& 31))) → (kk_concern_51 post (qq_concern_24 post x1 x2 n) x1 x2 x3 x3 u)) ∧ ((¬ (x3 = (x2 >>> ((1 : Int32) &&& 31)))) → (kk_concern_56 post (qq_concern_24 post x1 x2 n) x1 x2 x3 0 x3 u)))))))) : qq_concern_24 post x1 x2 (n + 1) x3 u := h
theorem cw_concern (post : St1 → Prop) (u : St1) (p0 : Int32) (p1 : Int32) (h : ((((p0 >>> ((1 : Int32) &&& 31)) ≤ (p1 >>> ((1 : Int32) &&& 31))) → (∀ f_2 : Int32, ((f_2 = (p1 >>> ((1 : Int32) &&& 31))) → (∃ fu24 : Nat, (qq_concern_24 post p0 p1 fu24 0 (sq_lc u f_2)))))) ∧ ((¬ ((p0 >>> ((1 : Int32) &&& 31)) ≤ (p1 >>> ((1 : Int32) &&& 31)))) → (∀ f_24 : Int32, ((f_24 = (p0 >>> ((1 : Int32) &&& 31))) → (∃ fu24 : Nat, (qq_concern_24 post p0 p1 fu24 0 (sq_lc u f_24)))))))) : wpX_concern post u p0 p1 := h
theorem cw_demand (post : St1 → Prop) (u : St1) (p0 : Int32) (p1 : Int32) (h : (∀ x3_1 : Int32, ((x3_1 = (p0 >>> ((1 : Int32) &&& 31))) → (∀ x4_2 : Int32, ((x4_2 = (p1 ^^^ (p0 &&& 1))) → ((vp_in x3_1 2560) ∧ (((((gq_mu u) x3_1.toNatClampNeg) = (-1)) → ((vp_in x3_1 2560) ∧ (∀ a12_8 : Nat → Int32, ((a12_8 = (upd (gq_mu u) x3_1.toNatClampNeg x4_2.toInt8.toInt32)) → ((vp_in (gq_ts u) 2560) ∧ (∀ a13_10 : Nat → Int32, ((a13_10 = (upd (gq_tr u) (gq_ts u).toNatClampNeg x3_1.toInt16.toInt32)) → (∀ f_11 : Int32, ((f_11 = ((gq_ts u) + 1)) → (post (sq_mv_ts_mu_tr u 1 f_11 a12_8 a13_10))))))))))) ∧ ((¬ (((gq_mu u) x3_1.toNatClampNeg) = (-1))) → ((vp_in x3_1 2560) ∧ (((((gq_mu u) x3_1.toNatClampNeg) = x4_2) → (post u)) ∧ ((¬ (((gq_mu u) x3_1.toNatClampNeg) = x4_2)) → (post (sq_cl u 1))))))))))))) : wpX_demand post u p0 p1 := h
def qq_openInput_3 (post : Int32 → Prop) (n : Nat) (x1 : Int32) (u : St1) : Prop := wX_openInput_3 post (gq_cn u) (gq_pt u) (gq_pn u) (gq_lc u) (gq_cl u) (gq_mv u) (gq_ts u) (gq_lv u) (gq_fa u) (gq_en u) (gq_bf u) (gq_lf u) (gq_rt u) (gq_ph u) (gq_px u) (gq_pa u) (gq_lk u) (gq_lh u) (gq_lx u) (gq_co u) (gq_mu u) (gq_tr u) (gq_lt u) (gq_li u) (gq_lu u) (gq_fx u) (gq_nd u) n x1
theorem cq_openInput_3 (post : Int32 → Prop) (n : Nat) (x1 : Int32) (u : St1) (h : (((x1 < 0) → (post x1)) ∧ ((¬ (x1 < 0)) → ((((gq_lc u) < (x1 + 1)) → (∀ x1_3 : Int32, ((x1_3 = (x1 + (-1))) → (qq_openInput_3 post n x1_3 u)))) ∧ ((¬ ((gq_lc u) < (x1 + 1))) → ((vp_in (x1 + 1) 2560) ∧ (((((gq_co u) (x1 + 1).toNatClampNeg) = 0) → (∀ x1_6 : Int32, ((x1_6 = (x1 + (-1))) → (qq_openInput_3 post n x1_6 u)))) ∧ ((¬ (((gq_co u) (x1 + 1).toNatClampNeg) = 0)) → ((vp_in (x1 + 1) 2560) ∧ (((((gq_mu u) (x1 + 1).toNatClampNeg) = (-1)) → (post x1)) ∧ ((¬ (((gq_mu u) (x1 + 1).toNatClampNeg) = (-1))) → (∀ x1_9 : Int32, ((x1_9 = (x1 + (-1))) → (qq_openInput_3 post n x1_9 u)))))))))))))) : qq_openInput_3 post (n + 1) x1 u := h
theorem cw_openInput (post : Int32 → Prop) (u : St1) (h : (∃ fu3 : Nat, (qq_openInput_3 post fu3 7 u))) : wpX_openInput post u := h
theorem cw_decide (post : St1 → Prop) (u : St1) (p0 : Int32) (h : ((vp_in (gq_lv u) 9) ∧ (∀ a14_2 : Nat → Int32, ((a14_2 = (upd (gq_lt u) (gq_lv u).toNatClampNeg (gq_ts u).toInt16.toInt32)) → ((vp_in (gq_lv u) 9) ∧ (∀ a15_4 : Nat → Int32, ((a15_4 = (upd (gq_li u) (gq_lv u).toNatClampNeg p0.toInt8.toInt32)) → ((vp_in (gq_lv u) 9) ∧ (∀ a16_6 : Nat → Int32, ((a16_6 = (upd (gq_lu u) (gq_lv u).toNatClampNeg 0)) → (∀ f_7 : Int32, ((f_7 = ((gq_lv u) + 1)) → (wpX_demand (fun u1 => (post u1)) (sq_lv_lt_li_lu u f_7 a14_2 a15_4 a16_6) (2 * (p0 + 1)) 0))))))))))))) : wpX_decide post u p0 := h
def kk_takeAssignment_51 (post : St1 → Prop) (J7 : Int32 → St1 → Prop) (x1 : Int32) (z0 : Int32) (u : St1) : Prop := (((z0 = 0) → (∀ f_4 : Int32, ((f_4 = ((gq_fa u) ||| 0)) → (∀ x1_5 : Int32, ((x1_5 = (x1 + 1)) → (J7 x1_5 (sq_fa u f_4))))))) ∧ ((¬ (z0 = 0)) → (∀ f_6 : Int32, ((f_6 = ((gq_fa u) ||| ((1 : Int32) <<< (x1 &&& 31)))) → (∀ x1_7 : Int32, ((x1_7 = (x1 + 1)) → (J7 x1_7 (sq_fa u f_6))))))))
def kk_takeAssignment_50 (post : St1 → Prop) (J7 : Int32 → St1 → Prop) (x1 : Int32) (u : St1) : Prop := (kk_takeAssignment_51 post J7 x1 0 u)
def qq_takeAssignment_7 (post : St1 → Prop) (n : Nat) (x1 : Int32) (u : St1) : Prop := wX_takeAssignment_7 post (gq_cn u) (gq_pt u) (gq_pn u) (gq_lc u) (gq_cl u) (gq_mv u) (gq_ts u) (gq_lv u) (gq_en u) (gq_bf u) (gq_lf u) (gq_rt u) (gq_ph u) (gq_px u) (gq_pa u) (gq_lk u) (gq_lh u) (gq_lx u) (gq_co u) (gq_mu u) (gq_tr u) (gq_lt u) (gq_li u) (gq_lu u) (gq_fx u) (gq_nd u) n x1 (gq_fa u)
theorem cq_takeAssignment_7 (post : St1 → Prop) (n : Nat) (x1 : Int32) (u : St1) (h : (((8 ≤ x1) → (post u)) ∧ ((¬ (8 ≤ x1)) → ((((gq_lc u) < (x1 + 1)) → (kk_takeAssignment_50 post (qq_takeAssignment_7 post n) x1 u)) ∧ ((¬ ((gq_lc u) < (x1 + 1))) → ((vp_in (x1 + 1) 2560) ∧ (((((gq_co u) (x1 + 1).toNatClampNeg) = 0) → (kk_takeAssignment_50 post (qq_takeAssignment_7 post n) x1 u)) ∧ ((¬ (((gq_co u) (x1 + 1).toNatClampNeg) = 0)) → ((vp_in (x1 + 1) 2560) ∧ (((((gq_mu u) (x1 + 1).toNatClampNeg) = 1) → (kk_takeAssignment_51 post (qq_takeAssignment_7 post n) x1 1 u)) ∧ ((¬ (((gq_mu u) (x1 + 1).toNatClampNeg) = 1)) → (kk_takeAssignment_50 post (qq_takeAssignment_7 post n) x1 u)))))))))))) : qq_takeAssignment_7 post (n + 1) x1 u := h
theorem cw_takeAssignment (post : St1 → Prop) (u : St1) (h : (∃ fu7 : Nat, (qq_takeAssignment_7 post fu7 0 (sq_fa u 0)))) : wpX_takeAssignment post u := h
def qq_turn_43 (post : Int32 → St1 → Prop) (n : Nat) (u : St1) : Prop := wX_turn_43 post (gq_cn u) (gq_pt u) (gq_pn u) (gq_lc u) (gq_cl u) (gq_mv u) (gq_lv u) (gq_fa u) n (gq_ts u) (gq_en u) (gq_bf u) (gq_lf u) (gq_rt u) (gq_ph u) (gq_px u) (gq_pa u) (gq_lk u) (gq_lh u) (gq_lx u) (gq_co u) (gq_mu u) (gq_tr u) (gq_lt u) (gq_li u) (gq_lu u) (gq_fx u) (gq_nd u)
theorem cq_turn_43 (post : Int32 → St1 → Prop) (n : Nat) (u : St1) (h : ((vp_in ((gq_lv u) - 1) 9) ∧ ((((gq_ts u) ≤ ((gq_lt u) ((gq_lv u) - 1).toNatClampNeg)) → ((vp_in ((gq_lv u) - 1) 9) ∧ (∀ a16_6 : Nat → Int32, ((a16_6 = (upd (gq_lu u) ((gq_lv u) - 1).toNatClampNeg 1)) → ((vp_in ((gq_lv u) - 1) 9) ∧ (wpX_demand (fun u1 => (post 1 u1)) (sq_cl_lu u 0 a16_6) (2 * (((gq_li u) ((gq_lv u) - 1).toNatClampNeg) + 1)) 1)))))) ∧ ((¬ ((gq_ts u) ≤ ((gq_lt u) ((gq_lv u) - 1).toNatClampNeg))) → (∀ f_72 : Int32, ((f_72 = ((gq_ts u) - 1)) → ((vp_in f_72 2560) ∧ ((vp_in ((gq_tr u) f_72.toNatClampNeg) 2560) ∧ (∀ a12_75 : Nat → Int32, ((a12_75 = (upd (gq_mu u) ((gq_tr u) f_72.toNatClampNeg).toNatClampNeg (-1))) → (qq_turn_43 post n (sq_ts_mu u f_72 a12_75)))))))))))) : qq_turn_43 post (n + 1) u := h
def kk_turn_34 (post : Int32 → St1 → Prop) (u : St1) : Prop := ((((gq_lv u) = 0) → (post 0 u)) ∧ ((¬ ((gq_lv u) = 0)) → (∃ fu43 : Nat, (qq_turn_43 post fu43 u))))
def qq_turn_0 (post : Int32 → St1 → Prop) (n : Nat) (u : St1) : Prop := wX_turn_0 post (gq_cn u) (gq_pt u) (gq_pn u) (gq_lc u) (gq_cl u) (gq_mv u) (gq_ts u) (gq_fa u) (gq_en u) (gq_bf u) (gq_lf u) (gq_rt u) (gq_ph u) (gq_px u) (gq_pa u) (gq_lk u) (gq_lh u) (gq_lx u) (gq_co u) (gq_mu u) (gq_tr u) (gq_lt u) (gq_li u) (gq_lu u) (gq_fx u) (gq_nd u) n (gq_lv u)
theorem cq_turn_0 (post : Int32 → St1 → Prop) (n : Nat) (u : St1) (h : ((((gq_lv u) ≤ 0) → (kk_turn_34 post u)) ∧ ((¬ ((gq_lv u) ≤ 0)) → ((vp_in ((gq_lv u) - 1) 9) ∧ (((((gq_lu u) ((gq_lv u) - 1).toNatClampNeg) = 0) → (kk_turn_34 post u)) ∧ ((¬ (((gq_lu u) ((gq_lv u) - 1).toNatClampNeg) = 0)) → (∀ f_78 : Int32, ((f_78 = ((gq_lv u) - 1)) → (qq_turn_0 post n (sq_lv u f_78)))))))))) : qq_turn_0 post (n + 1) u := h
theorem cw_turn (post : Int32 → St1 → Prop) (u : St1) (h : (∃ fu0 : Nat, (qq_turn_0 post fu0 u))) : wpX_turn post u := h
theorem cw_mustEnd (post : Int32 → Prop) (u : St1) (p0 : Int32) (h : ((vp_in (p0 >>> ((1 : Int32) &&& 31)) 2560) ∧ (∀ x2_2 : Int32, ((x2_2 = ((gq_mu u) (p0 >>> ((1 : Int32) &&& 31)).toNatClampNeg)) → (((x2_2 = (-1)) → (post (-1))) ∧ ((¬ (x2_2 = (-1))) → (post (x2_2 ^^^ (p0 &&& 1))))))))) : wpX_mustEnd post u p0 := h
def kk_follow_122 (post : St1 → Prop) (x1 : Int32) (x3 : Int32) (x4 : Int32) (u : St1) : Prop := (((x4 = 0) → (((x3 = 1) → ((vp_in x1 2560) ∧ (wpX_demand (fun u1 => (post u1)) u ((gq_lf u) x1.toNatClampNeg) 0))) ∧ ((¬ (x3 = 1)) → (post u)))) ∧ ((¬ (x4 = 0)) → (post u)))
def kk_follow_67 (post : St1 → Prop) (x1 : Int32) (x2 : Int32) (x3 : Int32) (x4 : Int32) (u : St1) : Prop := (((x4 = 1) → ((vp_in x1 2560) ∧ (wpX_demand (fun u1 => ((vp_in x1 2560) ∧ (wpX_demand (fun u2 => (post u2)) u1 ((gq_rt u1) x1.toNatClampNeg) 1))) u ((gq_lf u) x1.toNatClampNeg) 1))) ∧ ((¬ (x4 = 1)) → (((x4 = 0) → (((x2 = 1) → ((vp_in x1 2560) ∧ (wpX_demand (fun u3 => (post u3)) u ((gq_rt u) x1.toNatClampNeg) 0))) ∧ ((¬ (x2 = 1)) → (kk_follow_122 post x1 x3 x4 u)))) ∧ ((¬ (x4 = 0)) → (kk_follow_122 post x1 x3 x4 u)))))
def kk_follow_38 (post : St1 → Prop) (x1 : Int32) (x2 : Int32) (x3 : Int32) (x4 : Int32) (u : St1) : Prop := (wpX_demand (fun u1 => (kk_follow_67 post x1 x2 x3 x4 u1)) u (2 * x1) 0)
theorem cw_follow (post : St1 → Prop) (u : St1) (p0 : Int32) (h : ((vp_in p0 2560) ∧ (wpX_mustEnd (fun r_2 => ((vp_in p0 2560) ∧ (wpX_mustEnd (fun r_4 => ((vp_in p0 2560) ∧ (∀ x4_6 : Int32, ((x4_6 = ((gq_mu u) p0.toNatClampNeg)) → (((r_2 = 0) → (kk_follow_38 post p0 r_2 r_4 x4_6 u)) ∧ ((¬ (r_2 = 0)) → (((r_4 = 0) → (kk_follow_38 post p0 r_2 r_4 x4_6 u)) ∧ ((¬ (r_4 = 0)) → (((r_2 = 1) → (((r_4 = 1) → (wpX_demand (fun u1 => (kk_follow_67 post p0 r_2 r_4 x4_6 u1)) u (2 * p0) 1)) ∧ ((¬ (r_4 = 1)) → (kk_follow_67 post p0 r_2 r_4 x4_6 u)))) ∧ ((¬ (r_2 = 1)) → (kk_follow_67 post p0 r_2 r_4 x4_6 u))))))))))) u ((gq_rt u) p0.toNatClampNeg)))) u ((gq_lf u) p0.toNatClampNeg)))) : wpX_follow post u p0 := h
def qq_followAll_65 (post : St1 → Prop) (J5 : St1 → Prop) (n : Nat) (x1 : Int32) (u : St1) : Prop := wX_followAll_65 post (fun y0 y1 y2 y3 y4 y5 y6 y7 y8 y9 y10 y11 y12 y13 y14 y15 y16 y17 y18 y19 y20 y21 y22 y23 y24 y25 y26 => J5  (y0, y1, y2, y3, y4, y5, y6, y7, y8, y9, y10, y11, y12, y13, y14, y15, y16, y17, y18, y19, y20, y21, y22, y23, y24, y25, y26)) n x1 (gq_cn u) (gq_pt u) (gq_pn u) (gq_lc u) (gq_cl u) (gq_mv u) (gq_ts u) (gq_lv u) (gq_fa u) (gq_en u) (gq_bf u) (gq_lf u) (gq_rt u) (gq_ph u) (gq_px u) (gq_pa u) (gq_lk u) (gq_lh u) (gq_lx u) (gq_co u) (gq_mu u) (gq_tr u) (gq_lt u) (gq_li u) (gq_lu u) (gq_fx u) (gq_nd u)
theorem cq_followAll_65 (post : St1 → Prop) (J5 : St1 → Prop) (n : Nat) (x1 : Int32) (u : St1) (h : ((((gq_lc u) < x1) → (J5 u)) ∧ ((¬ ((gq_lc u) < x1)) → ((((gq_cl u) = 0) → ((vp_in x1 2560) ∧ (((((gq_co u) x1.toNatClampNeg) = 0) → (∀ x1_8 : Int32, ((x1_8 = (x1 + 1)) → (qq_followAll_65 post J5 n x1_8 u)))) ∧ ((¬ (((gq_co u) x1.toNatClampNeg) = 0)) → (wpX_follow (fun u1 => (∀ x1_73 : Int32, ((x1_73 = (x1 + 1)) → (qq_followAll_65 post J5 n x1_73 u1)))) u x1))))) ∧ ((¬ ((gq_cl u) = 0)) → (J5 u)))))) : qq_followAll_65 post J5 (n + 1) x1 u := h
def qq_followAll_29 (post : St1 → Prop) (J5 : St1 → Prop) (n : Nat) (x1 : Int32) (u : St1) : Prop := wX_followAll_29 post (fun y0 y1 y2 y3 y4 y5 y6 y7 y8 y9 y10 y11 y12 y13 y14 y15 y16 y17 y18 y19 y20 y21 y22 y23 y24 y25 y26 => J5  (y0, y1, y2, y3, y4, y5, y6, y7, y8, y9, y10, y11, y12, y13, y14, y15, y16, y17, y18, y19, y20, y21, y22, y23, y24, y25, y26)) n x1 (gq_cn u) (gq_pt u) (gq_pn u) (gq_lc u) (gq_cl u) (gq_mv u) (gq_ts u) (gq_lv u) (gq_fa u) (gq_en u) (gq_bf u) (gq_lf u) (gq_rt u) (gq_ph u) (gq_px u) (gq_pa u) (gq_lk u) (gq_lh u) (gq_lx u) (gq_co u) (gq_mu u) (gq_tr u) (gq_lt u) (gq_li u) (gq_lu u) (gq_fx u) (gq_nd u)
theorem cq_followAll_29 (post : St1 → Prop) (J5 : St1 → Prop) (n : Nat) (x1 : Int32) (u : St1) (h : (((x1 < 9) → (∃ fu65 : Nat, (qq_followAll_65 post J5 fu65 9 u))) ∧ ((¬ (x1 < 9)) → ((((gq_cl u) = 0) → ((vp_in x1 2560) ∧ (((((gq_co u) x1.toNatClampNeg) = 0) → (∀ x1_77 : Int32, ((x1_77 = (x1 + (-1))) → (qq_followAll_29 post J5 n x1_77 u)))) ∧ ((¬ (((gq_co u) x1.toNatClampNeg) = 0)) → (wpX_follow (fun u1 => (∀ x1_142 : Int32, ((x1_142 = (x1 + (-1))) → (qq_followAll_29 post J5 n x1_142 u1)))) u x1))))) ∧ ((¬ ((gq_cl u) = 0)) → (∃ fu65 : Nat, (qq_followAll_65 post J5 fu65 9 u))))))) : qq_followAll_29 post J5 (n + 1) x1 u := h
def qq_followAll_5 (post : St1 → Prop) (n : Nat) (u : St1) : Prop := wX_followAll_5 post n (gq_cn u) (gq_pt u) (gq_pn u) (gq_lc u) (gq_cl u) (gq_mv u) (gq_ts u) (gq_lv u) (gq_fa u) (gq_en u) (gq_bf u) (gq_lf u) (gq_rt u) (gq_ph u) (gq_px u) (gq_pa u) (gq_lk u) (gq_lh u) (gq_lx u) (gq_co u) (gq_mu u) (gq_tr u) (gq_lt u) (gq_li u) (gq_lu u) (gq_fx u) (gq_nd u)
theorem cq_followAll_5 (post : St1 → Prop) (n : Nat) (u : St1) (h : ((((gq_mv u) = 0) → (post u)) ∧ ((¬ ((gq_mv u) = 0)) → ((((gq_cl u) = 0) → (∃ fu29 : Nat, (qq_followAll_29 post (qq_followAll_5 post n) fu29 (gq_lc u) (sq_mv u 0)))) ∧ ((¬ ((gq_cl u) = 0)) → (post u)))))) : qq_followAll_5 post (n + 1) u := h
theorem cw_followAll (post : St1 → Prop) (u : St1) (h : (∃ fu5 : Nat, (qq_followAll_5 post fu5 (sq_mv u 1)))) : wpX_followAll post u := h
def kk_search_38 (post : Int32 → St1 → Prop) (J20 : Int32 → St1 → Prop) (x3 : Int32) (u : St1) : Prop := ((((gq_cl u) = 0) → (wpX_openInput (fun r_196 => (((0 ≤ r_196) → (wpX_decide (fun u1 => (∀ x3_262 : Int32, ((x3_262 = (x3 + 1)) → (J20 x3_262 u1)))) u r_196)) ∧ ((¬ (0 ≤ r_196)) → (wpX_takeAssignment (fun u2 => (post 1 u2)) u)))) u)) ∧ ((¬ ((gq_cl u) = 0)) → (wpX_turn (fun r_327 u3 => (((r_327 = 0) → (post 0 u3)) ∧ ((¬ (r_327 = 0)) → (∀ x3_392 : Int32, ((x3_392 = (x3 + 1)) → (J20 x3_392 u3)))))) u)))
def qq_search_20 (post : Int32 → St1 → Prop) (n : Nat) (x3 : Int32) (u : St1) : Prop := wX_search_20 post n x3 (gq_cn u) (gq_pt u) (gq_pn u) (gq_lc u) (gq_cl u) (gq_mv u) (gq_ts u) (gq_lv u) (gq_fa u) (gq_en u) (gq_bf u) (gq_lf u) (gq_rt u) (gq_ph u) (gq_px u) (gq_pa u) (gq_lk u) (gq_lh u) (gq_lx u) (gq_co u) (gq_mu u) (gq_tr u) (gq_lt u) (gq_li u) (gq_lu u) (gq_fx u) (gq_nd u)
theorem cq_search_20 (post : Int32 → St1 → Prop) (n : Nat) (x3 : Int32) (u : St1) (h : (((1024 ≤ x3) → (post 0 u)) ∧ ((¬ (1024 ≤ x3)) → ((((gq_cl u) = 0) → (wpX_followAll (fun u1 => (kk_search_38 post (qq_search_20 post n) x3 u1)) u)) ∧ ((¬ ((gq_cl u) = 0)) → (kk_search_38 post (qq_search_20 post n) x3 u)))))) : qq_search_20 post (n + 1) x3 u := h
theorem cw_search (post : Int32 → St1 → Prop) (u : St1) (p0 : Int32) (p1 : Int32) (h : (wpX_concern (fun u1 => (wpX_demand (fun u2 => (wpX_demand (fun u3 => (∃ fu20 : Nat, (qq_search_20 post fu20 0 u3))) u2 p1 1)) u1 p0 1)) u p0 p1)) : wpX_search post u p0 p1 := h
def kk_differ_95 (post : Int32 → St1 → Prop) (z0 : Int32) (u : St1) : Prop := (((255 < z0) → (post (-3) u)) ∧ ((¬ (255 < z0)) → (post z0 u)))
def kk_differ_81 (post : Int32 → St1 → Prop) (x3 : Int32) (z0 : Int32) (u : St1) : Prop := (((x3 ≤ z0) → (kk_differ_95 post x3 u)) ∧ ((¬ (x3 ≤ z0)) → (kk_differ_95 post z0 u)))
def kk_differ_49 (post : Int32 → St1 → Prop) (x1 : Int32) (x2 : Int32) (z0 : Int32) (u : St1) : Prop := ((vp_in x1 40) ∧ ((vp_in x2 40) ∧ (wpX_search (fun r_74 u1 => (((r_74 = 0) → (kk_differ_81 post z0 256 u1)) ∧ ((¬ (r_74 = 0)) → (kk_differ_81 post z0 (gq_fa u1) u1)))) u (((gq_en u) x1.toNatClampNeg) ^^^ 1) ((gq_en u) x2.toNatClampNeg))))
theorem cw_differ (post : Int32 → St1 → Prop) (u : St1) (p0 : Int32) (p1 : Int32) (h : (wpX_isWire (fun r_1 => (((r_1 = 0) → (post (-1) u)) ∧ ((¬ (r_1 = 0)) → (wpX_isWire (fun r_3 => (((r_3 = 0) → (post (-1) u)) ∧ ((¬ (r_3 = 0)) → ((vp_in p0 40) ∧ ((vp_in p1 40) ∧ (wpX_search (fun r_7 u1 => (((r_7 = 0) → (kk_differ_49 post p0 p1 256 u1)) ∧ ((¬ (r_7 = 0)) → (kk_differ_49 post p0 p1 (gq_fa u1) u1)))) u ((gq_en u) p0.toNatClampNeg) (((gq_en u) p1.toNatClampNeg) ^^^ 1))))))) u p1)))) u p0)) : wpX_differ post u p0 p1 := h
def kk_workOut_113 (post : Int32 → St1 → Prop) (J53 : Int32 → St1 → Prop) (x1 : Int32) (x4 : Int32) (x5 : Int32) (x6 : Int32) (z0 : Int32) (u : St1) : Prop := (((z0 = 0) → (((x5 = 1) → (((x6 = 1) → ((vp_in x4 2560) ∧ (∀ am312_86 : Nat → Int32, ((am312_86 = (upd (gq_mu u) x4.toNatClampNeg (1 : Int32).toInt8.toInt32)) → (∀ x4_87 : Int32, ((x4_87 = (x4 + 1)) → (J53 x4_87 (sq_mu u am312_86)))))))) ∧ ((¬ (x6 = 1)) → ((vp_in x4 2560) ∧ (∀ am312_83 : Nat → Int32, ((am312_83 = (upd (gq_mu u) x4.toNatClampNeg ((-1) : Int32).toInt8.toInt32)) → (∀ x4_84 : Int32, ((x4_84 = (x4 + 1)) → (J53 x4_84 (sq_mu u am312_83)))))))))) ∧ ((¬ (x5 = 1)) → ((vp_in x4 2560) ∧ (∀ am312_79 : Nat → Int32, ((am312_79 = (upd (gq_mu u) x4.toNatClampNeg ((-1) : Int32).toInt8.toInt32)) → (∀ x4_80 : Int32, ((x4_80 = (x4 + 1)) → (J53 x4_80 (sq_mu u am312_79)))))))))) ∧ ((¬ (z0 = 0)) → ((vp_in x4 2560) ∧ (∀ am312_89 : Nat → Int32, ((am312_89 = (upd (gq_mu u) x4.toNatClampNeg (0 : Int32).toInt8.toInt32)) → (∀ x4_90 : Int32, ((x4_90 = (x4 + 1)) → (J53 x4_90 (sq_mu u am312_89)))))))))
def kk_workOut_108 (post : Int32 → St1 → Prop) (J53 : Int32 → St1 → Prop) (x1 : Int32) (x4 : Int32) (x5 : Int32) (x6 : Int32) (u : St1) : Prop := (kk_workOut_113 post J53 x1 x4 x5 x6 1 u)
def qq_workOut_53 (post : Int32 → St1 → Prop) (x1 : Int32) (n : Nat) (x4 : Int32) (u : St1) : Prop := wX_workOut_53 post x1 (gq_cn u) (gq_pt u) (gq_pn u) (gq_lc u) (gq_cl u) (gq_mv u) (gq_ts u) (gq_lv u) (gq_fa u) n x4 (gq_en u) (gq_bf u) (gq_lf u) (gq_rt u) (gq_ph u) (gq_px u) (gq_pa u) (gq_lk u) (gq_lh u) (gq_lx u) (gq_co u) (gq_mu u) (gq_tr u) (gq_lt u) (gq_li u) (gq_lu u) (gq_fx u) (gq_nd u)
theorem cq_workOut_53 (post : Int32 → St1 → Prop) (x1 : Int32) (n : Nat) (x4 : Int32) (u : St1) (h : ((((gq_lc u) < x4) → (wpX_mustEnd (fun r_67 => (post r_67 u)) u x1)) ∧ ((¬ ((gq_lc u) < x4)) → ((vp_in x4 2560) ∧ (((((gq_co u) x4.toNatClampNeg) = 0) → (∀ x4_70 : Int32, ((x4_70 = (x4 + 1)) → (qq_workOut_53 post x1 n x4_70 u)))) ∧ ((¬ (((gq_co u) x4.toNatClampNeg) = 0)) → ((vp_in x4 2560) ∧ (wpX_mustEnd (fun r_72 => ((vp_in x4 2560) ∧ (wpX_mustEnd (fun r_74 => (((r_72 = 0) → (kk_workOut_108 post (qq_workOut_53 post x1 n) x1 x4 r_72 r_74 u)) ∧ ((¬ (r_72 = 0)) → (((r_74 = 0) → (kk_workOut_108 post (qq_workOut_53 post x1 n) x1 x4 r_72 r_74 u)) ∧ ((¬ (r_74 = 0)) → (kk_workOut_113 post (qq_workOut_53 post x1 n) x1 x4 r_72 r_74 0 u)))))) u ((gq_rt u) x4.toNatClampNeg)))) u ((gq_lf u) x4.toNatClampNeg))))))))) : qq_workOut_53 post x1 (n + 1) x4 u := h
def qq_workOut_9 (post : Int32 → St1 → Prop) (x1 : Int32) (x2 : Int32) (n : Nat) (x4 : Int32) (u : St1) : Prop := wX_workOut_9 post x1 x2 (gq_cn u) (gq_pt u) (gq_pn u) (gq_lc u) (gq_cl u) (gq_mv u) (gq_ts u) (gq_lv u) (gq_fa u) n x4 (gq_en u) (gq_bf u) (gq_lf u) (gq_rt u) (gq_ph u) (gq_px u) (gq_pa u) (gq_lk u) (gq_lh u) (gq_lx u) (gq_co u) (gq_mu u) (gq_tr u) (gq_lt u) (gq_li u) (gq_lu u) (gq_fx u) (gq_nd u)
theorem cq_workOut_9 (post : Int32 → St1 → Prop) (x1 : Int32) (x2 : Int32) (n : Nat) (x4 : Int32) (u : St1) (h : (((8 ≤ x4) → (∃ fu53 : Nat, (qq_workOut_53 post x1 fu53 9 u))) ∧ ((¬ (8 ≤ x4)) → ((((gq_lc u) < (x4 + 1)) → (∃ fu53 : Nat, (qq_workOut_53 post x1 fu53 9 u))) ∧ ((¬ ((gq_lc u) < (x4 + 1))) → ((vp_in (x4 + 1) 2560) ∧ (∀ am312_94 : Nat → Int32, ((am312_94 = (upd (gq_mu u) (x4 + 1).toNatClampNeg ((x2 >>> (x4 &&& 31)) &&& 1).toInt8.toInt32)) → (∀ x4_95 : Int32, ((x4_95 = (x4 + 1)) → (qq_workOut_9 post x1 x2 n x4_95 (sq_mu u am312_94)))))))))))) : qq_workOut_9 post x1 x2 (n + 1) x4 u := h
theorem cw_workOut (post : Int32 → St1 → Prop) (u : St1) (p0 : Int32) (p1 : Int32) (p2 : Int32) (h : (wpX_concern (fun u1 => (∃ fu9 : Nat, (qq_workOut_9 post p0 p1 fu9 p2 u1))) u p0 p0)) : wpX_workOut post u p0 p1 p2 := h
def qq_count_78 (post : Int32 → St1 → Prop) (J21 : Int32 → Int32 → Int32 → Int32 → St1 → Prop) (x1 : Int32) (x2 : Int32) (x3 : Int32) (x5 : Int32) (n : Nat) (x4 : Int32) (u : St1) : Prop := wX_count_78 post (fun y0 y1 y2 y3 y4 y5 y6 y7 y8 y9 y10 y11 y12 y13 y14 y15 y16 y17 y18 y19 y20 y21 y22 y23 y24 y25 y26 y27 y28 y29 y30 => J21 y0 y1 y2 y3 (y4, y5, y6, y7, y8, y9, y10, y11, y12, y13, y14, y15, y16, y17, y18, y19, y20, y21, y22, y23, y24, y25, y26, y27, y28, y29, y30)) x1 x2 x3 x5 (gq_cn u) (gq_pt u) (gq_pn u) (gq_lc u) (gq_cl u) (gq_mv u) (gq_ts u) (gq_lv u) (gq_fa u) (gq_en u) (gq_bf u) (gq_lf u) (gq_rt u) (gq_ph u) (gq_px u) (gq_pa u) (gq_lk u) (gq_lh u) (gq_lx u) (gq_co u) (gq_mu u) (gq_tr u) (gq_lt u) (gq_li u) (gq_lu u) (gq_fx u) (gq_nd u) n x4
theorem cq_count_78 (post : Int32 → St1 → Prop) (J21 : Int32 → Int32 → Int32 → Int32 → St1 → Prop) (x1 : Int32) (x2 : Int32) (x3 : Int32) (x5 : Int32) (n : Nat) (x4 : Int32) (u : St1) (h : (((8 ≤ x4) → (∀ x5_74 : Int32, ((x5_74 = (x5 + 1)) → (J21 x2 x3 x4 x5_74 u)))) ∧ ((¬ (8 ≤ x4)) → (((((x3 >>> (x4 &&& 31)) &&& 1) = 0) → (∀ x4_77 : Int32, ((x4_77 = (x4 + 1)) → (qq_count_78 post J21 x1 x2 x3 x5 n x4_77 u)))) ∧ ((¬ (((x3 >>> (x4 &&& 31)) &&& 1) = 0)) → (∀ x5_76 : Int32, ((x5_76 = (x5 + 1)) → (J21 x2 x3 x4 x5_76 u)))))))) : qq_count_78 post J21 x1 x2 x3 x5 (n + 1) x4 u := h
def qq_count_21 (post : Int32 → St1 → Prop) (x1 : Int32) (n : Nat) (x2 : Int32) (x3 : Int32) (x4 : Int32) (x5 : Int32) (u : St1) : Prop := wX_count_21 post x1 n x2 x3 x4 x5 (gq_cn u) (gq_pt u) (gq_pn u) (gq_lc u) (gq_cl u) (gq_mv u) (gq_ts u) (gq_lv u) (gq_fa u) (gq_en u) (gq_bf u) (gq_lf u) (gq_rt u) (gq_ph u) (gq_px u) (gq_pa u) (gq_lk u) (gq_lh u) (gq_lx u) (gq_co u) (gq_mu u) (gq_tr u) (gq_lt u) (gq_li u) (gq_lu u) (gq_fx u) (gq_nd u)
theorem cq_count_21 (post : Int32 → St1 → Prop) (x1 : Int32) (n : Nat) (x2 : Int32) (x3 : Int32) (x4 : Int32) (x5 : Int32) (u : St1) (h : (((1024 ≤ x5) → (post x2 u)) ∧ ((¬ (1024 ≤ x5)) → (((255 < x3) → (post x2 u)) ∧ ((¬ (255 < x3)) → ((vp_in x1 40) ∧ (wpX_workOut (fun r_6 u1 => (((r_6 = (-1)) → (∀ x4_78 : Int32, ((x4_78 = (x4 + (-1))) → (∀ x5_79 : Int32, ((x5_79 = (x5 + 1)) → (qq_count_21 post x1 n x2 x3 x4_78 x5_79 u1)))))) ∧ ((¬ (r_6 = (-1))) → (∀ x2_71 : Int32, ((x2_71 = (x2 + (r_6 <<< (x4 &&& 31)))) → (∀ x3_72 : Int32, ((x3_72 = (x3 + ((1 : Int32) <<< (x4 &&& 31)))) → (∃ fu78 : Nat, (qq_count_78 post (qq_count_21 post x1 n) x1 x2_71 x3_72 x5 fu78 x4 u1))))))))) u ((gq_en u) x1.toNatClampNeg) x3 x4))))))) : qq_count_21 post x1 (n + 1) x2 x3 x4 x5 u := h
theorem cw_count (post : Int32 → St1 → Prop) (u : St1) (p0 : Int32) (h : (wpX_isWire (fun r_1 => (((r_1 = 0) → (post (-1) u)) ∧ ((¬ (r_1 = 0)) → (∃ fu21 : Nat, (qq_count_21 post p0 fu21 0 0 8 0 u))))) u p0)) : wpX_count post u p0 := h
theorem cw_implies (post : Int32 → St1 → Prop) (u : St1) (p0 : Int32) (p1 : Int32) (h : (wpX_isWire (fun r_1 => (((r_1 = 0) → (post 0 u)) ∧ ((¬ (r_1 = 0)) → (wpX_isWire (fun r_3 => (((r_3 = 0) → (post 0 u)) ∧ ((¬ (r_3 = 0)) → ((vp_in p0 40) ∧ ((vp_in p1 40) ∧ (wpX_search (fun r_7 u1 => (((r_7 = 0) → (post 1 u1)) ∧ ((¬ (r_7 = 0)) → (post 0 u1)))) u ((gq_en u) p0.toNatClampNeg) (((gq_en u) p1.toNatClampNeg) ^^^ 1))))))) u p1)))) u p0)) : wpX_implies post u p0 p1 := h
def qq_first_12 (post : Int32 → Prop) (x1 : Int32) (n : Nat) (x2 : Int32) (u : St1) : Prop := wX_first_12 post x1 (gq_cn u) (gq_pt u) (gq_pn u) (gq_lc u) (gq_cl u) (gq_mv u) (gq_ts u) (gq_lv u) (gq_fa u) (gq_en u) (gq_bf u) (gq_lf u) (gq_rt u) (gq_ph u) (gq_px u) (gq_pa u) (gq_lk u) (gq_lh u) (gq_lx u) (gq_co u) (gq_mu u) (gq_tr u) (gq_lt u) (gq_li u) (gq_lu u) (gq_fx u) (gq_nd u) n x2
theorem cq_first_12 (post : Int32 → Prop) (x1 : Int32) (n : Nat) (x2 : Int32) (u : St1) (h : ((vp_in x2 40) ∧ ((vp_in x1 40) ∧ (((((gq_en u) x2.toNatClampNeg) = ((gq_en u) x1.toNatClampNeg)) → (post x2)) ∧ ((¬ (((gq_en u) x2.toNatClampNeg) = ((gq_en u) x1.toNatClampNeg))) → (∀ x2_6 : Int32, ((x2_6 = (x2 + 1)) → (qq_first_12 post x1 n x2_6 u)))))))) : qq_first_12 post x1 (n + 1) x2 u := h
theorem cw_first (post : Int32 → Prop) (u : St1) (p0 : Int32) (h : (wpX_isWire (fun r_1 => (((r_1 = 0) → (post (-1))) ∧ ((¬ (r_1 = 0)) → (∃ fu12 : Nat, (qq_first_12 post p0 fu12 0 u))))) u p0)) : wpX_first post u p0 := h
theorem cw_opposite (post : Int32 → Prop) (u : St1) (p0 : Int32) (p1 : Int32) (h : (wpX_isWire (fun r_1 => (((r_1 = 0) → (post 0)) ∧ ((¬ (r_1 = 0)) → (wpX_isWire (fun r_3 => (((r_3 = 0) → (post 0)) ∧ ((¬ (r_3 = 0)) → ((vp_in p0 40) ∧ ((vp_in p1 40) ∧ (((((gq_en u) p0.toNatClampNeg) = (((gq_en u) p1.toNatClampNeg) ^^^ 1)) → (post 1)) ∧ ((¬ (((gq_en u) p0.toNatClampNeg) = (((gq_en u) p1.toNatClampNeg) ^^^ 1))) → (post 0)))))))) u p1)))) u p0)) : wpX_opposite post u p0 p1 := h
theorem cw_value (post : Int32 → St1 → Prop) (u : St1) (p0 : Int32) (p1 : Int32) (h : (wpX_isWire (fun r_1 => (((r_1 = 0) → (post (-1) u)) ∧ ((¬ (r_1 = 0)) → (((p1 < 0) → (post (-1) u)) ∧ ((¬ (p1 < 0)) → (((255 < p1) → (post (-1) u)) ∧ ((¬ (255 < p1)) → ((vp_in p0 40) ∧ (wpX_workOut (fun r_6 u1 => (post r_6 u1)) u ((gq_en u) p0.toNatClampNeg) p1 0))))))))) u p0)) : wpX_value post u p0 p1 := h
def kk_pair_129L (post : Int32 → St1 → Prop) (x1 : Int32) (x2 : Int32) (x4 : Int32) (u : St1) : Prop := (((x4 < 0) → (post 1 u)) ∧ ((¬ (x4 < 0)) → (wpX_value (fun r_270 u1 => (wpX_value (fun r_334 u2 => (((r_270 = r_334) → (post 0 u2)) ∧ ((¬ (r_270 = r_334)) → (post 1 u2)))) u1 x2 x4)) u x1 x4)))
def kk_pair_109L (post : Int32 → St1 → Prop) (x1 : Int32) (x2 : Int32) (x4 : Int32) (x5 : Int32) (x6 : Int32) (u : St1) : Prop := (wpX_opposite (fun r_267 => (((r_267 = 0) → (kk_pair_129L post x1 x2 x4 u)) ∧ ((¬ (r_267 = 0)) → ((((x5 + x6) = 256) → (kk_pair_129L post x1 x2 x4 u)) ∧ ((¬ ((x5 + x6) = 256)) → (post 0 u)))))) u x1 x2)
def kk_pair_89L (post : Int32 → St1 → Prop) (x1 : Int32) (x2 : Int32) (x3 : Int32) (x4 : Int32) (x5 : Int32) (x6 : Int32) (x7 : Int32) (z0 : Int32) (z1 : Int32) (u : St1) : Prop := (((z1 = z0) → (((x3 = x7) → (((x3 = 0) → (kk_pair_109L post x1 x2 x4 x5 x6 u)) ∧ ((¬ (x3 = 0)) → (((x5 = x6) → (kk_pair_109L post x1 x2 x4 x5 x6 u)) ∧ ((¬ (x5 = x6)) → (post 0 u)))))) ∧ ((¬ (x3 = x7)) → (post 0 u)))) ∧ ((¬ (z1 = z0)) → (post 0 u)))
def kk_pair_67L (post : Int32 → St1 → Prop) (x1 : Int32) (x2 : Int32) (x3 : Int32) (x4 : Int32) (x5 : Int32) (x6 : Int32) (x7 : Int32) (z0 : Int32) (z1 : Int32) (u : St1) : Prop := (((z1 = z0) → (wpX_first (fun r_261 => (wpX_first (fun r_262 => (((r_261 = r_262) → (kk_pair_89L post x1 x2 x3 x4 x5 x6 x7 1 x3 u)) ∧ ((¬ (r_261 = r_262)) → (kk_pair_89L post x1 x2 x3 x4 x5 x6 x7 0 x3 u)))) u x2)) u x1)) ∧ ((¬ (z1 = z0)) → (post 0 u)))
def kk_pair_52L (post : Int32 → St1 → Prop) (x1 : Int32) (x2 : Int32) (x3 : Int32) (x4 : Int32) (x5 : Int32) (x6 : Int32) (z0 : Int32) (u : St1) : Prop := (((x4 = (-3)) → (kk_pair_67L post x1 x2 x3 x4 x5 x6 z0 1 x3 u)) ∧ ((¬ (x4 = (-3))) → (kk_pair_67L post x1 x2 x3 x4 x5 x6 z0 0 x3 u)))
def kk_pair_51L (post : Int32 → St1 → Prop) (x1 : Int32) (x2 : Int32) (x3 : Int32) (x4 : Int32) (x5 : Int32) (x6 : Int32) (u : St1) : Prop := (kk_pair_52L post x1 x2 x3 x4 x5 x6 0 u)
theorem cw_Lpair (post : Int32 → St1 → Prop) (u : St1) (p1 : Int32) (p2 : Int32) (h : (wpX_equal (fun r_1 => (wpX_differ (fun r_2 u1 => (wpX_count (fun r_66 u2 => (wpX_count (fun r_130 u3 => (wpX_implies (fun r_194 u4 => (((r_194 = 0) → (kk_pair_51L post p1 p2 r_1 r_2 r_66 r_130 u4)) ∧ ((¬ (r_194 = 0)) → (wpX_implies (fun r_401 u5 => (((r_401 = 0) → (kk_pair_51L post p1 p2 r_1 r_2 r_66 r_130 u5)) ∧ ((¬ (r_401 = 0)) → (kk_pair_52L post p1 p2 r_1 r_2 r_66 r_130 1 u5)))) u4 p2 p1)))) u3 p1 p2)) u2 p2)) u1 p1)) u p1 p2)) u p1 p2)) : wpL_pair post u p1 p2 := h
theorem cw_constant (post : Int32 → Prop) (u : St1) (p0 : Int32) (h : (wpX_isWire (fun r_1 => (((r_1 = 0) → (post (-1))) ∧ ((¬ (r_1 = 0)) → ((vp_in p0 40) ∧ (((1 < ((gq_en u) p0.toNatClampNeg)) → (post (-3))) ∧ ((¬ (1 < ((gq_en u) p0.toNatClampNeg))) → ((vp_in p0 40) ∧ (post ((gq_en u) p0.toNatClampNeg))))))))) u p0)) : wpX_constant post u p0 := h
theorem cw_witness (post : Int32 → St1 → Prop) (u : St1) (p0 : Int32) (h : (wpX_isWire (fun r_1 => (((r_1 = 0) → (post (-1) u)) ∧ ((¬ (r_1 = 0)) → ((vp_in p0 40) ∧ (wpX_search (fun r_4 u1 => (((r_4 = 0) → (post (-3) u1)) ∧ ((¬ (r_4 = 0)) → (post (gq_fa u1) u1)))) u ((gq_en u) p0.toNatClampNeg) 1))))) u p0)) : wpX_witness post u p0 := h
def qq_markConcerned_31 (post : St1 → Prop) (n : Nat) (x2 : Int32) (u : St1) : Prop := wX_markConcerned_31 post (gq_cn u) (gq_pt u) (gq_pn u) (gq_lc u) (gq_cl u) (gq_mv u) (gq_ts u) (gq_lv u) (gq_fa u) n x2 (gq_en u) (gq_bf u) (gq_lf u) (gq_rt u) (gq_ph u) (gq_px u) (gq_pa u) (gq_lk u) (gq_lh u) (gq_lx u) (gq_co u) (gq_mu u) (gq_tr u) (gq_lt u) (gq_li u) (gq_lu u) (gq_fx u) (gq_nd u)
theorem cq_markConcerned_31 (post : St1 → Prop) (n : Nat) (x2 : Int32) (u : St1) (h : (((x2 < 9) → (post u)) ∧ ((¬ (x2 < 9)) → ((vp_in x2 2560) ∧ (((((gq_nd u) x2.toNatClampNeg) = 0) → (∀ x2_5 : Int32, ((x2_5 = (x2 + (-1))) → (qq_markConcerned_31 post n x2_5 u)))) ∧ ((¬ (((gq_nd u) x2.toNatClampNeg) = 0)) → ((vp_in x2 2560) ∧ ((vp_in (((gq_lf u) x2.toNatClampNeg) >>> ((1 : Int32) &&& 31)) 2560) ∧ (∀ a18_8 : Nat → Int32, ((a18_8 = (upd (gq_nd u) (((gq_lf u) x2.toNatClampNeg) >>> ((1 : Int32) &&& 31)).toNatClampNeg 1)) → ((vp_in x2 2560) ∧ ((vp_in (((gq_rt u) x2.toNatClampNeg) >>> ((1 : Int32) &&& 31)) 2560) ∧ (∀ a18_11 : Nat → Int32, ((a18_11 = (upd a18_8 (((gq_rt u) x2.toNatClampNeg) >>> ((1 : Int32) &&& 31)).toNatClampNeg 1)) → (∀ x2_12 : Int32, ((x2_12 = (x2 + (-1))) → (qq_markConcerned_31 post n x2_12 (sq_nd u a18_11)))))))))))))))))) : qq_markConcerned_31 post (n + 1) x2 u := h
def qq_markConcerned_2 (post : St1 → Prop) (x1 : Int32) (n : Nat) (x2 : Int32) (u : St1) : Prop := wX_markConcerned_2 post x1 (gq_cn u) (gq_pt u) (gq_pn u) (gq_lc u) (gq_cl u) (gq_mv u) (gq_ts u) (gq_lv u) (gq_fa u) n x2 (gq_en u) (gq_bf u) (gq_lf u) (gq_rt u) (gq_ph u) (gq_px u) (gq_pa u) (gq_lk u) (gq_lh u) (gq_lx u) (gq_co u) (gq_mu u) (gq_tr u) (gq_lt u) (gq_li u) (gq_lu u) (gq_fx u) (gq_nd u)
theorem cq_markConcerned_2 (post : St1 → Prop) (x1 : Int32) (n : Nat) (x2 : Int32) (u : St1) (h : (((x1 < x2) → (∃ fu31 : Nat, (qq_markConcerned_31 post fu31 x1 u))) ∧ ((¬ (x1 < x2)) → (((x2 = x1) → ((vp_in x2 2560) ∧ (∀ a18_18 : Nat → Int32, ((a18_18 = (upd (gq_nd u) x2.toNatClampNeg 1)) → (∀ x2_19 : Int32, ((x2_19 = (x2 + 1)) → (qq_markConcerned_2 post x1 n x2_19 (sq_nd u a18_18)))))))) ∧ ((¬ (x2 = x1)) → ((vp_in x2 2560) ∧ (∀ a18_15 : Nat → Int32, ((a18_15 = (upd (gq_nd u) x2.toNatClampNeg 0)) → (∀ x2_16 : Int32, ((x2_16 = (x2 + 1)) → (qq_markConcerned_2 post x1 n x2_16 (sq_nd u a18_15)))))))))))) : qq_markConcerned_2 post x1 (n + 1) x2 u := h
theorem cw_markConcerned (post : St1 → Prop) (u : St1) (p0 : Int32) (h : (∃ fu2 : Nat, (qq_markConcerned_2 post p0 fu2 0 u))) : wpX_markConcerned post u p0 := h
theorem cw_isAnd (post : Int32 → Prop) (u : St1) (p0 : Int32) (h : ((((p0 >>> ((1 : Int32) &&& 31)) < 9) → (post 0)) ∧ ((¬ ((p0 >>> ((1 : Int32) &&& 31)) < 9)) → (post 1)))) : wpX_isAnd post u p0 := h
theorem cw_has (post : Int32 → Prop) (u : St1) (p0 : Int32) (p1 : Int32) (h : ((vp_in (p0 >>> ((1 : Int32) &&& 31)) 2560) ∧ (((((gq_lf u) (p0 >>> ((1 : Int32) &&& 31)).toNatClampNeg) = p1) → (post 1)) ∧ ((¬ (((gq_lf u) (p0 >>> ((1 : Int32) &&& 31)).toNatClampNeg) = p1)) → ((vp_in (p0 >>> ((1 : Int32) &&& 31)) 2560) ∧ (((((gq_rt u) (p0 >>> ((1 : Int32) &&& 31)).toNatClampNeg) = p1) → (post 1)) ∧ ((¬ (((gq_rt u) (p0 >>> ((1 : Int32) &&& 31)).toNatClampNeg) = p1)) → (post 0)))))))) : wpX_has post u p0 p1 := h
theorem cw_otherThan (post : Int32 → Prop) (u : St1) (p0 : Int32) (p1 : Int32) (h : ((vp_in (p0 >>> ((1 : Int32) &&& 31)) 2560) ∧ (((((gq_lf u) (p0 >>> ((1 : Int32) &&& 31)).toNatClampNeg) = p1) → ((vp_in (p0 >>> ((1 : Int32) &&& 31)) 2560) ∧ (post ((gq_rt u) (p0 >>> ((1 : Int32) &&& 31)).toNatClampNeg)))) ∧ ((¬ (((gq_lf u) (p0 >>> ((1 : Int32) &&& 31)).toNatClampNeg) = p1)) → ((vp_in (p0 >>> ((1 : Int32) &&& 31)) 2560) ∧ (post ((gq_lf u) (p0 >>> ((1 : Int32) &&& 31)).toNatClampNeg))))))) : wpX_otherThan post u p0 p1 := h
def qq_found_40 (post : Int32 → Prop) (x3 : Int32) (x4 : Int32) (n : Nat) (x6 : Int32) (u : St1) : Prop := wX_found_40 post x3 x4 (gq_cn u) (gq_pt u) (gq_pn u) (gq_lc u) (gq_cl u) (gq_mv u) (gq_ts u) (gq_lv u) (gq_fa u) (gq_en u) (gq_bf u) (gq_lf u) (gq_rt u) (gq_ph u) (gq_px u) (gq_pa u) (gq_lk u) (gq_lh u) (gq_lx u) (gq_co u) (gq_mu u) (gq_tr u) (gq_lt u) (gq_li u) (gq_lu u) (gq_fx u) (gq_nd u) n x6
theorem cq_found_40 (post : Int32 → Prop) (x3 : Int32) (x4 : Int32) (n : Nat) (x6 : Int32) (u : St1) (h : (((x6 < 0) → (post (-1))) ∧ ((¬ (x6 < 0)) → ((vp_in x6 2560) ∧ (((((gq_lf u) x6.toNatClampNeg) = x3) → ((vp_in x6 2560) ∧ (((((gq_rt u) x6.toNatClampNeg) = x4) → (post (2 * x6))) ∧ ((¬ (((gq_rt u) x6.toNatClampNeg) = x4)) → ((vp_in x6 2560) ∧ (∀ x6_14 : Int32, ((x6_14 = ((gq_px u) x6.toNatClampNeg)) → (qq_found_40 post x3 x4 n x6_14 u)))))))) ∧ ((¬ (((gq_lf u) x6.toNatClampNeg) = x3)) → ((vp_in x6 2560) ∧ (∀ x6_10 : Int32, ((x6_10 = ((gq_px u) x6.toNatClampNeg)) → (qq_found_40 post x3 x4 n x6_10 u)))))))))) : qq_found_40 post x3 x4 (n + 1) x6 u := h
def kk_found_21 (post : Int32 → Prop) (x3 : Int32) (z0 : Int32) (u : St1) : Prop := (wpX_markOfPair (fun r_3 => ((vp_in r_3 1024) ∧ (∀ x6_5 : Int32, ((x6_5 = ((gq_ph u) r_3.toNatClampNeg)) → (∃ fu40 : Nat, (qq_found_40 post x3 z0 fu40 x6_5 u)))))) () x3 z0)
def kk_found_10 (post : Int32 → Prop) (x1 : Int32) (x2 : Int32) (z0 : Int32) (u : St1) : Prop := (((x2 ≤ x1) → (kk_found_21 post z0 x1 u)) ∧ ((¬ (x2 ≤ x1)) → (kk_found_21 post z0 x2 u)))
theorem cw_found (post : Int32 → Prop) (u : St1) (p0 : Int32) (p1 : Int32) (h : (((p1 ≤ p0) → (kk_found_10 post p0 p1 p1 u)) ∧ ((¬ (p1 ≤ p0)) → (kk_found_10 post p0 p1 p0 u)))) : wpX_found post u p0 p1 := h
def kk_absorbed_135 (post : Int32 → Prop) (z0 : Int32) (u : St1) : Prop := (((z0 = 0) → (post (-1))) ∧ ((¬ (z0 = 0)) → (post 0)))
def kk_absorbed_130 (post : Int32 → Prop) (u : St1) : Prop := (kk_absorbed_135 post 1 u)
def kk_absorbed_21 (post : Int32 → Prop) (x1 : Int32) (x2 : Int32) (z0 : Int32) (u : St1) : Prop := (wpX_has (fun r_4 => (((r_4 = 0) → (wpX_has (fun r_6 => (((r_6 = 0) → (((z0 = 0) → (post (-1))) ∧ ((¬ (z0 = 0)) → (wpX_isAnd (fun r_9 => (((r_9 = 0) → (post (-1))) ∧ ((¬ (r_9 = 0)) → ((((x2 &&& 1) = 0) → ((vp_in (x1 >>> ((1 : Int32) &&& 31)) 2560) ∧ (wpX_has (fun r_13 => (((r_13 = 0) → ((vp_in (x1 >>> ((1 : Int32) &&& 31)) 2560) ∧ (wpX_has (fun r_17 => (((r_17 = 0) → (kk_absorbed_135 post 0 u)) ∧ ((¬ (r_17 = 0)) → (kk_absorbed_130 post u)))) u x2 (((gq_rt u) (x1 >>> ((1 : Int32) &&& 31)).toNatClampNeg) ^^^ 1)))) ∧ ((¬ (r_13 = 0)) → (kk_absorbed_130 post u)))) u x2 (((gq_lf u) (x1 >>> ((1 : Int32) &&& 31)).toNatClampNeg) ^^^ 1)))) ∧ ((¬ ((x2 &&& 1) = 0)) → (post (-1))))))) u x2)))) ∧ ((¬ (r_6 = 0)) → (((z0 = 0) → (wpX_otherThan (fun r_20 => (∀ x4_21 : Int32, ((x4_21 = (r_20 ^^^ 1)) → (wpX_found (fun r_22 => (post r_22)) u x2 x4_21)))) u x1 x2)) ∧ ((¬ (z0 = 0)) → (post x1)))))) u x1 x2)) ∧ ((¬ (r_4 = 0)) → (((z0 = 0) → (post x2)) ∧ ((¬ (z0 = 0)) → (post 0)))))) u x1 (x2 ^^^ 1))
theorem cw_absorbed (post : Int32 → Prop) (u : St1) (p0 : Int32) (p1 : Int32) (h : (wpX_isAnd (fun r_1 => (((r_1 = 0) → (post (-1))) ∧ ((¬ (r_1 = 0)) → ((((p0 &&& 1) = 0) → (kk_absorbed_21 post p0 p1 1 u)) ∧ ((¬ ((p0 &&& 1) = 0)) → (kk_absorbed_21 post p0 p1 0 u)))))) u p0)) : wpX_absorbed post u p0 p1 := h
theorem cw_byLaws (post : Int32 → Prop) (u : St1) (p0 : Int32) (p1 : Int32) (h : (((p0 = 0) → (post 0)) ∧ ((¬ (p0 = 0)) → (((p1 = 0) → (post 0)) ∧ ((¬ (p1 = 0)) → (((p0 = (p1 ^^^ 1)) → (post 0)) ∧ ((¬ (p0 = (p1 ^^^ 1))) → (((p0 = 1) → (post p1)) ∧ ((¬ (p0 = 1)) → (((p0 = p1) → (post p1)) ∧ ((¬ (p0 = p1)) → (((p1 = 1) → (post p0)) ∧ ((¬ (p1 = 1)) → (wpX_absorbed (fun r_7 => (((r_7 = (-1)) → (wpX_absorbed (fun r_9 => (post r_9)) u p1 p0)) ∧ ((¬ (r_7 = (-1))) → (post r_7)))) u p0 p1)))))))))))))) : wpX_byLaws post u p0 p1 := h
theorem cw_addPart (post : Int32 → St1 → Prop) (u : St1) (p0 : Int32) (p1 : Int32) (h : (∀ f_1 : Int32, ((f_1 = ((gq_pt u) + 1)) → ((vp_in (gq_pt u) 2560) ∧ (∀ a3_3 : Nat → Int32, ((a3_3 = (upd (gq_lf u) (gq_pt u).toNatClampNeg p0.toInt16.toInt32)) → ((vp_in (gq_pt u) 2560) ∧ (∀ a4_5 : Nat → Int32, ((a4_5 = (upd (gq_rt u) (gq_pt u).toNatClampNeg p1.toInt16.toInt32)) → (wpX_markOfPair (fun r_6 => ((vp_in r_6 1024) ∧ ((vp_in (gq_pt u) 2560) ∧ (∀ a6_9 : Nat → Int32, ((a6_9 = (upd (gq_px u) (gq_pt u).toNatClampNeg (vp_nar .short ((gq_ph u) r_6.toNatClampNeg)))) → ((vp_in r_6 1024) ∧ (∀ a5_11 : Nat → Int32, ((a5_11 = (upd (gq_ph u) r_6.toNatClampNeg (gq_pt u).toInt16.toInt32)) → (wpX_lookOfEnd (fun r_12 => (wpX_lookOfEnd (fun r_13 => ((vp_in (gq_pt u) 2560) ∧ (∀ a8_15 : Nat → Int64, ((a8_15 = (vp_updL (gq_lk u) (gq_pt u).toNatClampNeg (r_12 &&& r_13))) → (wpX_enterLook_2 (fun u1 => (post (gq_pt u) u1)) (sq_pt_lf_rt_ph_px_lk u f_1 a3_3 a4_5 a5_11 a6_9 a8_15) (gq_pt u)))))) (sq_pt_lf_rt_ph_px u f_1 a3_3 a4_5 a5_11 a6_9) p1)) (sq_pt_lf_rt_ph_px u f_1 a3_3 a4_5 a5_11 a6_9) p0))))))))) () p0 p1)))))))))) : wpX_addPart post u p0 p1 := h
theorem cw_learn (post : St1 → Prop) (u : St1) (p0 : Int32) (h : ((vp_in (gq_pn u) 64) ∧ (∀ a7_2 : Nat → Int32, ((a7_2 = (upd (gq_pa u) (gq_pn u).toNatClampNeg p0.toInt16.toInt32)) → ((¬ ((64 : Int32) = 0)) ∧ (∀ f_4 : Int32, ((f_4 = (((gq_pn u) + 1) - ((((gq_pn u) + 1) / 64) * 64))) → (wpX_lookAgain_2 (fun u1 => (post u1)) (sq_pn_pa u f_4 a7_2))))))))) : wpX_learn post u p0 := h
def kk_sweep_114 (post : Int32 → St1 → Prop) (J28 : Int32 → Int32 → St1 → Prop) (x1 : Int32) (x2 : Int64) (x6 : Int32) (u : St1) : Prop := ((vp_in x6 2560) ∧ (∀ x6_146 : Int32, ((x6_146 = ((gq_lx u) x6.toNatClampNeg)) → (J28 1 x6_146 u))))
def kk_sweep_80 (post : Int32 → St1 → Prop) (J28 : Int32 → Int32 → St1 → Prop) (x1 : Int32) (x2 : Int64) (x6 : Int32) (z0 : Int32) (z1 : Int32) (u : St1) : Prop := (∀ x7_81 : Int32, ((x7_81 = (z1 + z0)) → (wpX_search_2 (fun r_82 u1 => (((r_82 = 0) → (wpX_search_2 (fun r_147 u2 => (((r_147 = 0) → (post x7_81 u2)) ∧ ((¬ (r_147 = 0)) → (kk_sweep_114 post J28 x1 x2 x6 u2)))) u1 ((2 * x1) + 1) x7_81)) ∧ ((¬ (r_82 = 0)) → (kk_sweep_114 post J28 x1 x2 x6 u1)))) u (2 * x1) (x7_81 ^^^ 1))))
def qq_sweep_28 (post : Int32 → St1 → Prop) (x1 : Int32) (x2 : Int64) (n : Nat) (x5 : Int32) (x6 : Int32) (u : St1) : Prop := wX_sweep_28 post x1 x2 n x5 x6 (gq_cn u) (gq_pt u) (gq_pn u) (gq_lc u) (gq_cl u) (gq_mv u) (gq_ts u) (gq_lv u) (gq_fa u) (gq_en u) (gq_bf u) (gq_lf u) (gq_rt u) (gq_ph u) (gq_px u) (gq_pa u) (gq_lk u) (gq_lh u) (gq_lx u) (gq_co u) (gq_mu u) (gq_tr u) (gq_lt u) (gq_li u) (gq_lu u) (gq_fx u) (gq_nd u)
theorem cq_sweep_28 (post : Int32 → St1 → Prop) (x1 : Int32) (x2 : Int64) (n : Nat) (x5 : Int32) (x6 : Int32) (u : St1) (h : (((x6 < 0) → (((x5 = 0) → (post (-1) u)) ∧ ((¬ (x5 = 0)) → (wpX_learn (fun u1 => (post (-1) u1)) u (gq_fa u))))) ∧ ((¬ (x6 < 0)) → (((x1 ≤ x6) → ((vp_in x6 2560) ∧ (∀ x6_72 : Int32, ((x6_72 = ((gq_lx u) x6.toNatClampNeg)) → (qq_sweep_28 post x1 x2 n x5 x6_72 u))))) ∧ ((¬ (x1 ≤ x6)) → ((vp_in x6 2560) ∧ (wpX_neutral (fun r_74 => (((r_74 = x2) → ((vp_in x6 2560) ∧ ((vp_in x1 2560) ∧ (((((gq_lk u) x6.toNatClampNeg) = ((gq_lk u) x1.toNatClampNeg)) → (kk_sweep_80 post (qq_sweep_28 post x1 x2 n) x1 x2 x6 0 (2 * x6) u)) ∧ ((¬ (((gq_lk u) x6.toNatClampNeg) = ((gq_lk u) x1.toNatClampNeg))) → (kk_sweep_80 post (qq_sweep_28 post x1 x2 n) x1 x2 x6 1 (2 * x6) u)))))) ∧ ((¬ (r_74 = x2)) → ((vp_in x6 2560) ∧ (∀ x6_77 : Int32, ((x6_77 = ((gq_lx u) x6.toNatClampNeg)) → (qq_sweep_28 post x1 x2 n x5 x6_77 u))))))) () ((gq_lk u) x6.toNatClampNeg)))))))) : qq_sweep_28 post x1 x2 (n + 1) x5 x6 u := h
theorem cw_sweep (post : Int32 → St1 → Prop) (u : St1) (p0 : Int32) (h : ((vp_in p0 2560) ∧ (wpX_neutral (fun r_2 => (wpX_markOfLook (fun r_3 => ((vp_in r_3 1024) ∧ (∀ x6_5 : Int32, ((x6_5 = ((gq_lh u) r_3.toNatClampNeg)) → (∃ fu28 : Nat, (qq_sweep_28 post p0 r_2 fu28 0 x6_5 u)))))) () r_2)) () ((gq_lk u) p0.toNatClampNeg)))) : wpX_sweep post u p0 := h
def kk_and_47 (post : Int32 → St1 → Prop) (x3 : Int32) (x4 : Int32) (x5 : Int32) (u : St1) : Prop := (((x5 = (-1)) → (wpX_addPart (fun r_6 u1 => (wpX_sweep (fun r_68 u2 => (((r_68 = (-1)) → (post (2 * r_6) u2)) ∧ ((¬ (r_68 = (-1))) → (wpX_backTo_2 (fun u3 => (post r_68 u3)) u2 r_6)))) u1 r_6)) u x3 x4)) ∧ ((¬ (x5 = (-1))) → (post x5 u)))
def kk_and_21 (post : Int32 → St1 → Prop) (x3 : Int32) (z0 : Int32) (u : St1) : Prop := (wpX_byLaws (fun r_3 => (((r_3 = (-1)) → (wpX_found (fun r_193 => (kk_and_47 post x3 z0 r_193 u)) u x3 z0)) ∧ ((¬ (r_3 = (-1))) → (kk_and_47 post x3 z0 r_3 u)))) u x3 z0)
def kk_and_10 (post : Int32 → St1 → Prop) (x1 : Int32) (x2 : Int32) (z0 : Int32) (u : St1) : Prop := (((x2 ≤ x1) → (kk_and_21 post z0 x1 u)) ∧ ((¬ (x2 ≤ x1)) → (kk_and_21 post z0 x2 u)))
theorem cw_and (post : Int32 → St1 → Prop) (u : St1) (p0 : Int32) (p1 : Int32) (h : (((p1 ≤ p0) → (kk_and_10 post p0 p1 p1 u)) ∧ ((¬ (p1 ≤ p0)) → (kk_and_10 post p0 p1 p0 u)))) : wpX_and post u p0 p1 := h
def kk_fix_160 (post : Int32 → St1 → Prop) (J62 : Int32 → St1 → Prop) (x1 : Int32) (x4 : Int32) (x5 : Int32) (x6 : Int32) (x7 : Int32) (z0 : Int32) (u : St1) : Prop := (((z0 = 0) → (wpX_and (fun r_85 u1 => ((vp_in x5 2560) ∧ (∀ am5517_148 : Nat → Int32, ((am5517_148 = (upd (gq_fx u1) x5.toNatClampNeg r_85.toInt16.toInt32)) → (∀ x5_149 : Int32, ((x5_149 = (x5 + 1)) → (J62 x5_149 (sq_fx u1 am5517_148)))))))) u x6 x7)) ∧ ((¬ (z0 = 0)) → ((vp_in x5 2560) ∧ (∀ am5517_151 : Nat → Int32, ((am5517_151 = (upd (gq_fx u) x5.toNatClampNeg (2 * x5).toInt16.toInt32)) → (∀ x5_152 : Int32, ((x5_152 = (x5 + 1)) → (J62 x5_152 (sq_fx u am5517_151)))))))))
def kk_fix_159 (post : Int32 → St1 → Prop) (J62 : Int32 → St1 → Prop) (x1 : Int32) (x4 : Int32) (x5 : Int32) (x6 : Int32) (x7 : Int32) (u : St1) : Prop := (kk_fix_160 post J62 x1 x4 x5 x6 x7 0 u)
def qq_fix_62 (post : Int32 → St1 → Prop) (x1 : Int32) (x4 : Int32) (n : Nat) (x5 : Int32) (u : St1) : Prop := wX_fix_62 post x1 x4 n x5 (gq_cn u) (gq_pt u) (gq_pn u) (gq_lc u) (gq_cl u) (gq_mv u) (gq_ts u) (gq_lv u) (gq_fa u) (gq_en u) (gq_bf u) (gq_lf u) (gq_rt u) (gq_ph u) (gq_px u) (gq_pa u) (gq_lk u) (gq_lh u) (gq_lx u) (gq_co u) (gq_mu u) (gq_tr u) (gq_lt u) (gq_li u) (gq_lu u) (gq_fx u) (gq_nd u)
theorem cq_fix_62 (post : Int32 → St1 → Prop) (x1 : Int32) (x4 : Int32) (n : Nat) (x5 : Int32) (u : St1) (h : (((x4 < x5) → ((vp_in x4 2560) ∧ (post (((gq_fx u) x4.toNatClampNeg) ^^^ (x1 &&& 1)) u))) ∧ ((¬ (x4 < x5)) → ((vp_in x5 2560) ∧ (((((gq_nd u) x5.toNatClampNeg) = 0) → (∀ x5_73 : Int32, ((x5_73 = (x5 + 1)) → (qq_fix_62 post x1 x4 n x5_73 u)))) ∧ ((¬ (((gq_nd u) x5.toNatClampNeg) = 0)) → ((vp_in x5 2560) ∧ ((vp_in (((gq_lf u) x5.toNatClampNeg) >>> ((1 : Int32) &&& 31)) 2560) ∧ ((vp_in x5 2560) ∧ (∀ x6_77 : Int32, ((x6_77 = (((gq_fx u) (((gq_lf u) x5.toNatClampNeg) >>> ((1 : Int32) &&& 31)).toNatClampNeg) ^^^ (((gq_lf u) x5.toNatClampNeg) &&& 1))) → ((vp_in x5 2560) ∧ ((vp_in (((gq_rt u) x5.toNatClampNeg) >>> ((1 : Int32) &&& 31)) 2560) ∧ ((vp_in x5 2560) ∧ (∀ x7_81 : Int32, ((x7_81 = (((gq_fx u) (((gq_rt u) x5.toNatClampNeg) >>> ((1 : Int32) &&& 31)).toNatClampNeg) ^^^ (((gq_rt u) x5.toNatClampNeg) &&& 1))) → ((vp_in x5 2560) ∧ (((x6_77 = ((gq_lf u) x5.toNatClampNeg)) → ((vp_in x5 2560) ∧ (((x7_81 = ((gq_rt u) x5.toNatClampNeg)) → (kk_fix_160 post (qq_fix_62 post x1 x4 n) x1 x4 x5 x6_77 x7_81 1 u)) ∧ ((¬ (x7_81 = ((gq_rt u) x5.toNatClampNeg))) → (kk_fix_159 post (qq_fix_62 post x1 x4 n) x1 x4 x5 x6_77 x7_81 u))))) ∧ ((¬ (x6_77 = ((gq_lf u) x5.toNatClampNeg))) → (kk_fix_159 post (qq_fix_62 post x1 x4 n) x1 x4 x5 x6_77 x7_81 u)))))))))))))))))))) : qq_fix_62 post x1 x4 (n + 1) x5 u := h
def qq_fix_15 (post : Int32 → St1 → Prop) (x1 : Int32) (x2 : Int32) (x3 : Int32) (x4 : Int32) (n : Nat) (x5 : Int32) (u : St1) : Prop := wX_fix_15 post x1 x2 x3 x4 (gq_cn u) (gq_pt u) (gq_pn u) (gq_lc u) (gq_cl u) (gq_mv u) (gq_ts u) (gq_lv u) (gq_fa u) n x5 (gq_en u) (gq_bf u) (gq_lf u) (gq_rt u) (gq_ph u) (gq_px u) (gq_pa u) (gq_lk u) (gq_lh u) (gq_lx u) (gq_co u) (gq_mu u) (gq_tr u) (gq_lt u) (gq_li u) (gq_lu u) (gq_fx u) (gq_nd u)
theorem cq_fix_15 (post : Int32 → St1 → Prop) (x1 : Int32) (x2 : Int32) (x3 : Int32) (x4 : Int32) (n : Nat) (x5 : Int32) (u : St1) (h : (((9 ≤ x5) → (wpX_markConcerned (fun u1 => (∃ fu62 : Nat, (qq_fix_62 post x1 x4 fu62 9 u1))) u x4)) ∧ ((¬ (9 ≤ x5)) → (((x5 = (x2 + 1)) → ((vp_in x5 2560) ∧ (∀ a17_160 : Nat → Int32, ((a17_160 = (upd (gq_fx u) x5.toNatClampNeg x3.toInt16.toInt32)) → (∀ x5_161 : Int32, ((x5_161 = (x5 + 1)) → (qq_fix_15 post x1 x2 x3 x4 n x5_161 (sq_fx u a17_160)))))))) ∧ ((¬ (x5 = (x2 + 1))) → ((vp_in x5 2560) ∧ (∀ a17_157 : Nat → Int32, ((a17_157 = (upd (gq_fx u) x5.toNatClampNeg (2 * x5).toInt16.toInt32)) → (∀ x5_158 : Int32, ((x5_158 = (x5 + 1)) → (qq_fix_15 post x1 x2 x3 x4 n x5_158 (sq_fx u a17_157)))))))))))) : qq_fix_15 post x1 x2 x3 x4 (n + 1) x5 u := h
theorem cw_fix (post : Int32 → St1 → Prop) (u : St1) (p0 : Int32) (p1 : Int32) (p2 : Int32) (h : (∀ x4_1 : Int32, ((x4_1 = (p0 >>> ((1 : Int32) &&& 31))) → (∀ a17_3 : Nat → Int32, ((a17_3 = (upd (gq_fx u) 0 0)) → (∃ fu15 : Nat, (qq_fix_15 post p0 p1 p2 x4_1 fu15 1 (sq_fx u a17_3)))))))) : wpX_fix post u p0 p1 p2 := h
def kk_depends_69 (post : Int32 → St1 → Prop) (J14 : Int32 → Int32 → St1 → Prop) (x1 : Int32) (x3 : Int32) (x4 : Int32) (z0 : Int32) (z1 : Int32) (u : St1) : Prop := (∀ x2_135 : Int32, ((x2_135 = (z1 ||| z0)) → (wpX_backTo (fun u1 => (∀ x3_200 : Int32, ((x3_200 = (x3 + 1)) → (J14 x2_135 x3_200 u1)))) u x4)))
def qq_depends_14 (post : Int32 → St1 → Prop) (x1 : Int32) (n : Nat) (x2 : Int32) (x3 : Int32) (u : St1) : Prop := wX_depends_14 post x1 n x2 x3 (gq_cn u) (gq_pt u) (gq_pn u) (gq_lc u) (gq_cl u) (gq_mv u) (gq_ts u) (gq_lv u) (gq_fa u) (gq_en u) (gq_bf u) (gq_lf u) (gq_rt u) (gq_ph u) (gq_px u) (gq_pa u) (gq_lk u) (gq_lh u) (gq_lx u) (gq_co u) (gq_mu u) (gq_tr u) (gq_lt u) (gq_li u) (gq_lu u) (gq_fx u) (gq_nd u)
theorem cq_depends_14 (post : Int32 → St1 → Prop) (x1 : Int32) (n : Nat) (x2 : Int32) (x3 : Int32) (u : St1) (h : (((8 ≤ x3) → (post x2 u)) ∧ ((¬ (8 ≤ x3)) → ((vp_in x1 40) ∧ (wpX_fix (fun r_5 u1 => ((vp_in x1 40) ∧ (wpX_fix (fun r_70 u2 => (((r_5 = r_70) → (kk_depends_69 post (qq_depends_14 post x1 n) x1 x3 (gq_pt u) 0 x2 u2)) ∧ ((¬ (r_5 = r_70)) → (kk_depends_69 post (qq_depends_14 post x1 n) x1 x3 (gq_pt u) ((1 : Int32) <<< (x3 &&& 31)) x2 u2)))) u1 ((gq_en u1) x1.toNatClampNeg) x3 1))) u ((gq_en u) x1.toNatClampNeg) x3 0))))) : qq_depends_14 post x1 (n + 1) x2 x3 u := h
theorem cw_depends (post : Int32 → St1 → Prop) (u : St1) (p0 : Int32) (h : (wpX_isWire (fun r_1 => (((r_1 = 0) → (post (-1) u)) ∧ ((¬ (r_1 = 0)) → (∃ fu14 : Nat, (qq_depends_14 post p0 fu14 0 0 u))))) u p0)) : wpX_depends post u p0 := h
theorem cw_symmetric (post : Int32 → St1 → Prop) (u : St1) (p0 : Int32) (p1 : Int32) (p2 : Int32) (h : (wpX_isWire (fun r_1 => (((r_1 = 0) → (post 0 u)) ∧ ((¬ (r_1 = 0)) → (wpX_isInput (fun r_3 => (((r_3 = 0) → (post 0 u)) ∧ ((¬ (r_3 = 0)) → (wpX_isInput (fun r_5 => (((r_5 = 0) → (post 0 u)) ∧ ((¬ (r_5 = 0)) → (((p1 = p2) → (post 1 u)) ∧ ((¬ (p1 = p2)) → ((vp_in p0 40) ∧ (wpX_fix (fun r_9 u1 => (wpX_fix (fun r_73 u2 => ((vp_in p0 40) ∧ (wpX_fix (fun r_138 u3 => (wpX_fix (fun r_202 u4 => (wpX_backTo (fun u5 => (((r_73 = r_202) → (post 1 u5)) ∧ ((¬ (r_73 = r_202)) → (post 0 u5)))) u4 (gq_pt u))) u3 r_138 p2 0)) u2 ((gq_en u2) p0.toNatClampNeg) p1 1))) u1 r_9 p2 1)) u ((gq_en u) p0.toNatClampNeg) p1 0))))))) () p2)))) () p1)))) u p0)) : wpX_symmetric post u p0 p1 p2 := h
def kk_follows_98 (post : Int32 → St1 → Prop) (x3 : Int32) (z0 : Int32) (u : St1) : Prop := (wpX_backTo (fun u1 => (post z0 u1)) u x3)
def kk_follows_97 (post : Int32 → St1 → Prop) (x3 : Int32) (z0 : Int32) (z1 : Int32) (u : St1) : Prop := (kk_follows_98 post x3 (z1 + z0) u)
def kk_follows_79 (post : Int32 → St1 → Prop) (x3 : Int32) (x4 : Int32) (x5 : Int32) (z0 : Int32) (u : St1) : Prop := (wpX_search (fun r_201 u1 => (((r_201 = 0) → (kk_follows_97 post x3 0 z0 u1)) ∧ ((¬ (r_201 = 0)) → (kk_follows_97 post x3 2 z0 u1)))) u x4 (x5 ^^^ 1))
theorem cw_follows (post : Int32 → St1 → Prop) (u : St1) (p0 : Int32) (p1 : Int32) (h : (wpX_isWire (fun r_1 => (((r_1 = 0) → (post (-1) u)) ∧ ((¬ (r_1 = 0)) → (wpX_isInput (fun r_3 => (((r_3 = 0) → (post (-1) u)) ∧ ((¬ (r_3 = 0)) → ((vp_in p0 40) ∧ (wpX_fix (fun r_6 u1 => ((vp_in p0 40) ∧ (wpX_fix (fun r_71 u2 => (((r_6 = r_71) → (kk_follows_98 post (gq_pt u) 0 u2)) ∧ ((¬ (r_6 = r_71)) → (wpX_search (fun r_136 u3 => (((r_136 = 0) → (kk_follows_79 post (gq_pt u) r_6 r_71 0 u3)) ∧ ((¬ (r_136 = 0)) → (kk_follows_79 post (gq_pt u) r_6 r_71 1 u3)))) u2 r_71 (r_6 ^^^ 1))))) u1 ((gq_en u1) p0.toNatClampNeg) p1 1))) u ((gq_en u) p0.toNatClampNeg) p1 0))))) () p1)))) u p0)) : wpX_follows post u p0 p1 := h
def kk_wire_199L (post : Int32 → St1 → Prop) (x1 : Int32) (x2 : Int32) (x3 : Int32) (z0 : Int32) (z1 : Int32) (u : St1) : Prop := (((z1 = z0) → (wpX_symmetric (fun r_202 u1 => (wpX_symmetric (fun r_266 u2 => (((r_202 = r_266) → (wpX_symmetric (fun r_331 u3 => (((r_331 = 0) → (post 0 u3)) ∧ ((¬ (r_331 = 0)) → (post 1 u3)))) u2 x1 x2 x2)) ∧ ((¬ (r_202 = r_266)) → (post 0 u2)))) u1 x1 x3 x2)) u x1 x2 x3)) ∧ ((¬ (z1 = z0)) → (post 0 u)))
def kk_wire_187L (post : Int32 → St1 → Prop) (x1 : Int32) (x2 : Int32) (x3 : Int32) (x6 : Int32) (z0 : Int32) (u : St1) : Prop := (((x6 = (-3)) → (kk_wire_199L post x1 x2 x3 1 z0 u)) ∧ ((¬ (x6 = (-3))) → (kk_wire_199L post x1 x2 x3 0 z0 u)))
def kk_wire_174L (post : Int32 → St1 → Prop) (x1 : Int32) (x2 : Int32) (x3 : Int32) (x5 : Int32) (x6 : Int32) (z0 : Int32) (z1 : Int32) (u : St1) : Prop := (((z1 = z0) → (((x5 = 0) → (kk_wire_187L post x1 x2 x3 x6 1 u)) ∧ ((¬ (x5 = 0)) → (kk_wire_187L post x1 x2 x3 x6 0 u)))) ∧ ((¬ (z1 = z0)) → (post 0 u)))
def kk_wire_161L (post : Int32 → St1 → Prop) (x1 : Int32) (x2 : Int32) (x3 : Int32) (x4 : Int32) (x5 : Int32) (x6 : Int32) (z0 : Int32) (u : St1) : Prop := (((x4 = 256) → (kk_wire_174L post x1 x2 x3 x5 x6 1 z0 u)) ∧ ((¬ (x4 = 256)) → (kk_wire_174L post x1 x2 x3 x5 x6 0 z0 u)))
def kk_wire_139L (post : Int32 → St1 → Prop) (J101 : Int32 → St1 → Prop) (x1 : Int32) (x2 : Int32) (x3 : Int32) (x4 : Int32) (x5 : Int32) (x6 : Int32) (x7 : Int32) (x8 : Int32) (z0 : Int32) (z1 : Int32) (u : St1) : Prop := (((z1 = z0) → (∀ x8_463 : Int32, ((x8_463 = (x8 + 1)) → (J101 x8_463 u)))) ∧ ((¬ (z1 = z0)) → (post 0 u)))
def kk_wire_124L (post : Int32 → St1 → Prop) (J101 : Int32 → St1 → Prop) (x1 : Int32) (x2 : Int32) (x3 : Int32) (x4 : Int32) (x5 : Int32) (x6 : Int32) (x7 : Int32) (x8 : Int32) (z0 : Int32) (u : St1) : Prop := (wpX_follows (fun r_397 u1 => (((r_397 = 0) → (kk_wire_139L post J101 x1 x2 x3 x4 x5 x6 x7 x8 0 z0 u1)) ∧ ((¬ (r_397 = 0)) → (kk_wire_139L post J101 x1 x2 x3 x4 x5 x6 x7 x8 1 z0 u1)))) u x1 x8)
def qq_wire_101L (post : Int32 → St1 → Prop) (x1 : Int32) (x2 : Int32) (x3 : Int32) (x4 : Int32) (x5 : Int32) (x6 : Int32) (x7 : Int32) (n : Nat) (x8 : Int32) (u : St1) : Prop := wL_wire_101 post x1 x2 x3 x4 x5 x6 x7 n x8 (gq_cn u) (gq_pt u) (gq_pn u) (gq_lc u) (gq_cl u) (gq_mv u) (gq_ts u) (gq_lv u) (gq_fa u) (gq_en u) (gq_bf u) (gq_lf u) (gq_rt u) (gq_ph u) (gq_px u) (gq_pa u) (gq_lk u) (gq_lh u) (gq_lx u) (gq_co u) (gq_mu u) (gq_tr u) (gq_lt u) (gq_li u) (gq_lu u) (gq_fx u) (gq_nd u)
theorem cq_wire_101L (post : Int32 → St1 → Prop) (x1 : Int32) (x2 : Int32) (x3 : Int32) (x4 : Int32) (x5 : Int32) (x6 : Int32) (x7 : Int32) (n : Nat) (x8 : Int32) (u : St1) (h : (((8 ≤ x8) → (((x5 = 1) → (kk_wire_161L post x1 x2 x3 x4 x5 x6 1 u)) ∧ ((¬ (x5 = 1)) → (kk_wire_161L post x1 x2 x3 x4 x5 x6 0 u)))) ∧ ((¬ (8 ≤ x8)) → (((((x7 >>> (x8 &&& 31)) &&& 1) = 1) → (kk_wire_124L post (qq_wire_101L post x1 x2 x3 x4 x5 x6 x7 n) x1 x2 x3 x4 x5 x6 x7 x8 1 u)) ∧ ((¬ (((x7 >>> (x8 &&& 31)) &&& 1) = 1)) → (kk_wire_124L post (qq_wire_101L post x1 x2 x3 x4 x5 x6 x7 n) x1 x2 x3 x4 x5 x6 x7 x8 0 u)))))) : qq_wire_101L post x1 x2 x3 x4 x5 x6 x7 (n + 1) x8 u := h
def kk_wire_77L (post : Int32 → St1 → Prop) (J31 : Int32 → St1 → Prop) (x1 : Int32) (x2 : Int32) (x3 : Int32) (x4 : Int32) (x5 : Int32) (x6 : Int32) (x7 : Int32) (x8 : Int32) (x10 : Int32) (u : St1) : Prop := (((x8 = x6) → (((x10 = 1) → (∀ x8_533 : Int32, ((x8_533 = (x8 + 1)) → (J31 x8_533 u)))) ∧ ((¬ (x10 = 1)) → (post 0 u)))) ∧ ((¬ (x8 = x6)) → (∀ x8_531 : Int32, ((x8_531 = (x8 + 1)) → (J31 x8_531 u)))))
def kk_wire_56L (post : Int32 → St1 → Prop) (J31 : Int32 → St1 → Prop) (x1 : Int32) (x2 : Int32) (x3 : Int32) (x4 : Int32) (x5 : Int32) (x6 : Int32) (x7 : Int32) (x8 : Int32) (z0 : Int32) (u : St1) : Prop := (wpX_value (fun r_465 u1 => (((z0 = 0) → (kk_wire_77L post J31 x1 x2 x3 x4 x5 x6 x7 x8 r_465 u1)) ∧ ((¬ (z0 = 0)) → (((r_465 = 0) → (kk_wire_77L post J31 x1 x2 x3 x4 x5 x6 x7 x8 r_465 u1)) ∧ ((¬ (r_465 = 0)) → (post 0 u1)))))) u x1 x8)
def kk_wire_51L (post : Int32 → St1 → Prop) (J31 : Int32 → St1 → Prop) (x1 : Int32) (x2 : Int32) (x3 : Int32) (x4 : Int32) (x5 : Int32) (x6 : Int32) (x7 : Int32) (x8 : Int32) (u : St1) : Prop := (kk_wire_56L post J31 x1 x2 x3 x4 x5 x6 x7 x8 1 u)
def qq_wire_31L (post : Int32 → St1 → Prop) (x1 : Int32) (x2 : Int32) (x3 : Int32) (x4 : Int32) (x5 : Int32) (x6 : Int32) (x7 : Int32) (n : Nat) (x8 : Int32) (u : St1) : Prop := wL_wire_31 post x1 x2 x3 x4 x5 x6 x7 n x8 (gq_cn u) (gq_pt u) (gq_pn u) (gq_lc u) (gq_cl u) (gq_mv u) (gq_ts u) (gq_lv u) (gq_fa u) (gq_en u) (gq_bf u) (gq_lf u) (gq_rt u) (gq_ph u) (gq_px u) (gq_pa u) (gq_lk u) (gq_lh u) (gq_lx u) (gq_co u) (gq_mu u) (gq_tr u) (gq_lt u) (gq_li u) (gq_lu u) (gq_fx u) (gq_nd u)
theorem cq_wire_31L (post : Int32 → St1 → Prop) (x1 : Int32) (x2 : Int32) (x3 : Int32) (x4 : Int32) (x5 : Int32) (x6 : Int32) (x7 : Int32) (n : Nat) (x8 : Int32) (u : St1) (h : (((256 ≤ x8) → (∃ fu101 : Nat, (qq_wire_101L post x1 x2 x3 x4 x5 x6 x7 fu101 0 u))) ∧ ((¬ (256 ≤ x8)) → (((x6 < 0) → (kk_wire_51L post (qq_wire_31L post x1 x2 x3 x4 x5 x6 x7 n) x1 x2 x3 x4 x5 x6 x7 x8 u)) ∧ ((¬ (x6 < 0)) → (((x6 ≤ x8) → (kk_wire_56L post (qq_wire_31L post x1 x2 x3 x4 x5 x6 x7 n) x1 x2 x3 x4 x5 x6 x7 x8 0 u)) ∧ ((¬ (x6 ≤ x8)) → (kk_wire_51L post (qq_wire_31L post x1 x2 x3 x4 x5 x6 x7 n) x1 x2 x3 x4 x5 x6 x7 x8 u)))))))) : qq_wire_31L post x1 x2 x3 x4 x5 x6 x7 (n + 1) x8 u := h
theorem cw_Lwire (post : Int32 → St1 → Prop) (u : St1) (p1 : Int32) (p2 : Int32) (p3 : Int32) (h : (wpX_count (fun r_1 u1 => (wpX_constant (fun r_65 => (wpX_witness (fun r_66 u2 => (wpX_depends (fun r_130 u3 => (∃ fu31 : Nat, (qq_wire_31L post p1 p2 p3 r_1 r_65 r_66 r_130 fu31 0 u3))) u2 p1)) u1 p1)) u1 p1)) u p1)) : wpL_wire post u p1 p2 p3 := h
def qq_groups_4 (post : Int32 → Prop) (n : Nat) (x1 : Int32) (x2 : Int32) (u : St1) : Prop := wX_groups_4 post (gq_cn u) (gq_pt u) (gq_pn u) (gq_lc u) (gq_cl u) (gq_mv u) (gq_ts u) (gq_lv u) (gq_fa u) (gq_en u) (gq_bf u) (gq_lf u) (gq_rt u) (gq_ph u) (gq_px u) (gq_pa u) (gq_lk u) (gq_lh u) (gq_lx u) (gq_co u) (gq_mu u) (gq_tr u) (gq_lt u) (gq_li u) (gq_lu u) (gq_fx u) (gq_nd u) n x1 x2
theorem cq_groups_4 (post : Int32 → Prop) (n : Nat) (x1 : Int32) (x2 : Int32) (u : St1) (h : ((((gq_cn u) ≤ x2) → (post x1)) ∧ ((¬ ((gq_cn u) ≤ x2)) → (wpX_first (fun r_2 => (((r_2 = x2) → (∀ x1_6 : Int32, ((x1_6 = (x1 + 1)) → (∀ x2_7 : Int32, ((x2_7 = (x2 + 1)) → (qq_groups_4 post n x1_6 x2_7 u)))))) ∧ ((¬ (r_2 = x2)) → (∀ x1_4 : Int32, ((x1_4 = (x1 + 0)) → (∀ x2_5 : Int32, ((x2_5 = (x2 + 1)) → (qq_groups_4 post n x1_4 x2_5 u)))))))) u x2)))) : qq_groups_4 post (n + 1) x1 x2 u := h
theorem cw_groups (post : Int32 → Prop) (u : St1) (h : (∃ fu4 : Nat, (qq_groups_4 post fu4 0 0 u))) : wpX_groups post u := h
def qq_groups_9L (post : Int32 → Prop) (x1 : Int32) (n : Nat) (x2 : Int32) (x3 : Int32) (u : St1) : Prop := wL_groups_9 post x1 (gq_cn u) (gq_pt u) (gq_pn u) (gq_lc u) (gq_cl u) (gq_mv u) (gq_ts u) (gq_lv u) (gq_fa u) (gq_en u) (gq_bf u) (gq_lf u) (gq_rt u) (gq_ph u) (gq_px u) (gq_pa u) (gq_lk u) (gq_lh u) (gq_lx u) (gq_co u) (gq_mu u) (gq_tr u) (gq_lt u) (gq_li u) (gq_lu u) (gq_fx u) (gq_nd u) n x2 x3
theorem cq_groups_9L (post : Int32 → Prop) (x1 : Int32) (n : Nat) (x2 : Int32) (x3 : Int32) (u : St1) (h : (((x1 ≤ x3) → (wpX_groups (fun r_3 => (((r_3 = x2) → (post 1)) ∧ ((¬ (r_3 = x2)) → (post 0)))) u)) ∧ ((¬ (x1 ≤ x3)) → (wpX_first (fun r_5 => (((r_5 = x3) → (∀ x2_8 : Int32, ((x2_8 = (x2 + 1)) → (∀ x3_9 : Int32, ((x3_9 = (x3 + 1)) → (qq_groups_9L post x1 n x2_8 x3_9 u)))))) ∧ ((¬ (r_5 = x3)) → (∀ x3_7 : Int32, ((x3_7 = (x3 + 1)) → (qq_groups_9L post x1 n x2 x3_7 u)))))) u x3)))) : qq_groups_9L post x1 (n + 1) x2 x3 u := h
theorem cw_Lgroups (post : Int32 → Prop) (u : St1) (h : (wpX_wires (fun r_1 => (∃ fu9 : Nat, (qq_groups_9L post r_1 fu9 0 0 u))) u)) : wpL_groups post u := h
theorem cw_or (post : Int32 → St1 → Prop) (u : St1) (p0 : Int32) (p1 : Int32) (h : (wpX_and_2 (fun r_1 u1 => (post (r_1 ^^^ 1) u1)) u (p0 ^^^ 1) (p1 ^^^ 1))) : wpX_or post u p0 p1 := h
theorem cw_xor (post : Int32 → St1 → Prop) (u : St1) (p0 : Int32) (p1 : Int32) (h : (wpX_and_2 (fun r_1 u1 => (wpX_and_2 (fun r_63 u2 => (wpX_or (fun r_125 u3 => (post r_125 u3)) u2 r_1 r_63)) u1 (p0 ^^^ 1) p1)) u p0 (p1 ^^^ 1))) : wpX_xor post u p0 p1 := h
theorem cw_choose (post : Int32 → St1 → Prop) (u : St1) (p0 : Int32) (p1 : Int32) (p2 : Int32) (h : (wpX_and_2 (fun r_1 u1 => (wpX_and_2 (fun r_63 u2 => (wpX_or (fun r_125 u3 => (post r_125 u3)) u2 r_1 r_63)) u1 (p0 ^^^ 1) p2)) u p0 p1)) : wpX_choose post u p0 p1 p2 := h
theorem cw_majority (post : Int32 → St1 → Prop) (u : St1) (p0 : Int32) (p1 : Int32) (p2 : Int32) (h : (wpX_and_2 (fun r_1 u1 => (wpX_or (fun r_63 u2 => (wpX_and_2 (fun r_125 u3 => (wpX_or (fun r_187 u4 => (post r_187 u4)) u3 r_1 r_125)) u2 r_63 p2)) u1 p0 p1)) u p0 p1)) : wpX_majority post u p0 p1 p2 := h
theorem cw_endFor (post : Int32 → St1 → Prop) (u : St1) (p0 : Int32) (p1 : Int32) (p2 : Int32) (p3 : Int32) (h : (((p0 < 0) → (wpX_xor (fun r_3 u1 => (wpX_xor (fun r_65 u2 => (post r_65 u2)) u1 r_3 p3)) u p1 p2)) ∧ ((¬ (p0 < 0)) → (((8 < p0) → (wpX_xor (fun r_127 u3 => (wpX_xor (fun r_189 u4 => (post r_189 u4)) u3 r_127 p3)) u p1 p2)) ∧ ((¬ (8 < p0)) → (((p0 = 0) → (wpX_and_2 (fun r_252 u5 => (post r_252 u5)) u p1 p2)) ∧ ((¬ (p0 = 0)) → (((p0 = 1) → (wpX_or (fun r_315 u6 => (post r_315 u6)) u p1 p2)) ∧ ((¬ (p0 = 1)) → (((p0 = 2) → (wpX_xor (fun r_378 u7 => (post r_378 u7)) u p1 p2)) ∧ ((¬ (p0 = 2)) → (((p0 = 3) → (wpX_and_2 (fun r_441 u8 => (post (r_441 ^^^ 1) u8)) u p1 p2)) ∧ ((¬ (p0 = 3)) → (((p0 = 4) → (wpX_or (fun r_504 u9 => (post (r_504 ^^^ 1) u9)) u p1 p2)) ∧ ((¬ (p0 = 4)) → (((p0 = 5) → (wpX_xor (fun r_567 u10 => (post (r_567 ^^^ 1) u10)) u p1 p2)) ∧ ((¬ (p0 = 5)) → (((p0 = 6) → (wpX_and_2 (fun r_630 u11 => (post (r_630 ^^^ 1) u11)) u p1 (p2 ^^^ 1))) ∧ ((¬ (p0 = 6)) → (((p0 = 7) → (wpX_choose (fun r_693 u12 => (post r_693 u12)) u p1 p2 p3)) ∧ ((¬ (p0 = 7)) → (((p0 = 8) → (wpX_majority (fun r_756 u13 => (post r_756 u13)) u p1 p2 p3)) ∧ ((¬ (p0 = 8)) → True))))))))))))))))))))))) : wpX_endFor post u p0 p1 p2 p3 := h
def kk_gate_72 (post : Int32 → St1 → Prop) (x1 : Int32) (x2 : Int32) (x3 : Int32) (z0 : Int32) (u : St1) : Prop := ((vp_in (gq_cn u) 40) ∧ (∀ a2_11 : Nat → Int32, ((a2_11 = (upd (gq_bf u) (gq_cn u).toNatClampNeg (gq_pt u).toInt16.toInt32)) → ((vp_in x2 40) ∧ ((vp_in x3 40) ∧ (wpX_endFor (fun r_14 u1 => ((vp_in (gq_cn u) 40) ∧ (∀ a1_77 : Nat → Int32, ((a1_77 = (upd (gq_en u1) (gq_cn u).toNatClampNeg r_14.toInt16.toInt32)) → (∀ f_78 : Int32, ((f_78 = ((gq_cn u1) + 1)) → (post (f_78 - 1) (sq_cn_en u1 f_78 a1_77)))))))) (sq_bf u a2_11) x1 ((gq_en u) x2.toNatClampNeg) ((gq_en u) x3.toNatClampNeg) z0))))))
def kk_gate_43 (post : Int32 → St1 → Prop) (x1 : Int32) (x2 : Int32) (x3 : Int32) (x4 : Int32) (u : St1) : Prop := ((((gq_cn u) < 40) → (((x1 < 7) → (kk_gate_72 post x1 x2 x3 0 u)) ∧ ((¬ (x1 < 7)) → ((vp_in x4 40) ∧ (kk_gate_72 post x1 x2 x3 ((gq_en u) x4.toNatClampNeg) u))))) ∧ ((¬ ((gq_cn u) < 40)) → (post (-2) u)))
theorem cw_gate (post : Int32 → St1 → Prop) (u : St1) (p0 : Int32) (p1 : Int32) (p2 : Int32) (p3 : Int32) (h : (((p0 < 0) → (post (-1) u)) ∧ ((¬ (p0 < 0)) → (((9 < p0) → (post (-1) u)) ∧ ((¬ (9 < p0)) → (wpX_isWire (fun r_3 => (((r_3 = 0) → (post (-1) u)) ∧ ((¬ (r_3 = 0)) → (wpX_isWire (fun r_5 => (((r_5 = 0) → (post (-1) u)) ∧ ((¬ (r_5 = 0)) → (((p0 < 7) → (kk_gate_43 post p0 p1 p2 p3 u)) ∧ ((¬ (p0 < 7)) → (wpX_isWire (fun r_80 => (((r_80 = 0) → (post (-1) u)) ∧ ((¬ (r_80 = 0)) → (kk_gate_43 post p0 p1 p2 p3 u)))) u p3)))))) u p2)))) u p1)))))) : wpX_gate post u p0 p1 p2 p3 := h
theorem cw_LcomesAndGoes (post : Int32 → St1 → Prop) (u : St1) (p1 : Int32) (p2 : Int32) (p3 : Int32) (p4 : Int32) (h : (wpX_wires (fun r_1 => (wpX_groups (fun r_2 => (wpX_first (fun r_3 => (wpX_count (fun r_4 u1 => (wpX_depends (fun r_68 u2 => (wpX_gate (fun r_132 u3 => (((0 ≤ r_132) → (wpX_drop (fun r_197 u4 => (((r_132 = r_1) → (((r_197 = r_1) → (wpX_groups (fun r_263 => (((r_263 = r_2) → (wpX_first (fun r_265 => (((r_265 = r_3) → (wpX_count (fun r_267 u5 => (((r_267 = r_4) → (wpX_depends (fun r_332 u6 => (((r_332 = r_68) → (wpX_value (fun r_397 u7 => (((r_397 = (-1)) → (post 1 u7)) ∧ ((¬ (r_397 = (-1))) → (post 0 u7)))) u6 r_1 0)) ∧ ((¬ (r_332 = r_68)) → (post 0 u6)))) u5 p4)) ∧ ((¬ (r_267 = r_4)) → (post 0 u5)))) u4 p3)) ∧ ((¬ (r_265 = r_3)) → (post 0 u4)))) u4 p2)) ∧ ((¬ (r_263 = r_2)) → (post 0 u4)))) u4)) ∧ ((¬ (r_197 = r_1)) → (post 0 u4)))) ∧ ((¬ (r_132 = r_1)) → (post 0 u4)))) u3)) ∧ ((¬ (0 ≤ r_132)) → (((r_1 = 40) → (((r_132 = (-2)) → (post 1 u3)) ∧ ((¬ (r_132 = (-2))) → (post 0 u3)))) ∧ ((¬ (r_1 = 40)) → (post 0 u3)))))) u2 p1 p2 p3 p4)) u1 p4)) u p3)) u p2)) u)) u)) : wpL_comesAndGoes post u p1 p2 p3 p4 := h
def kk_law_113L (post : Int32 → Prop) (L : Nat) (xs : Nat → Int32) (J10 : Int32 → St1 → Prop) (x2 : Int32) (x3 : Int32) (x5 : Int32) (x6 : Int32) (x7 : Int32) (kc : Nat) (ks : Nat) (u : St1) : Prop := (wpX_wires (fun r_146 => ((¬ (r_146 = 0)) ∧ (wpL_pair (fun r_148 u1 => (((r_148 = 0) → (post 0)) ∧ ((¬ (r_148 = 0)) → ((¬ (r_146 = 0)) ∧ ((¬ (r_146 = 0)) ∧ (wpL_pair (fun r_215 u2 => (((r_215 = 0) → (post 0)) ∧ ((¬ (r_215 = 0)) → (wpL_wire (fun r_280 u3 => (((r_280 = 0) → (post 0)) ∧ ((¬ (r_280 = 0)) → (wpL_groups (fun r_345 => (((r_345 = 0) → (post 0)) ∧ ((¬ (r_345 = 0)) → ((¬ ((10 : Int32) = 0)) ∧ ((¬ (r_146 = 0)) ∧ ((¬ (r_146 = 0)) ∧ ((¬ (r_146 = 0)) ∧ (wpL_comesAndGoes (fun r_351 u4 => (((r_351 = 0) → (post 0)) ∧ ((¬ (r_351 = 0)) → (∀ x2_416 : Int32, ((x2_416 = (x2 + 1)) → (J10 x2_416 u4)))))) u3 (((x3 >>> ((2 : Int32) &&& 31)) &&& 15) - ((((x3 >>> ((2 : Int32) &&& 31)) &&& 15) / 10) * 10)) (x5 - ((x5 / r_146) * r_146)) (x6 - ((x6 / r_146) * r_146)) (x7 - ((x7 / r_146) * r_146)))))))))) u3)))) u2 (r_146 - 1) (x3 &&& 7) ((x3 >>> ((3 : Int32) &&& 31)) &&& 7))))) u1 (x6 - ((x6 / r_146) * r_146)) (x7 - ((x7 / r_146) * r_146)))))))) u (r_146 - 1) (x5 - ((x5 / r_146) * r_146))))) u)
def kk_law_97L (post : Int32 → Prop) (L : Nat) (xs : Nat → Int32) (J10 : Int32 → St1 → Prop) (x2 : Int32) (x3 : Int32) (x5 : Int32) (x6 : Int32) (x7 : Int32) (z0 : Int32) (z1 : Int32) (kc : Nat) (ks : Nat) (u : St1) : Prop := (wpX_gate (fun r_419 u1 => (kk_law_113L post L xs J10 x2 x3 x5 x6 x7 kc ks u1)) u z1 z0 x6 x7)
def qq_law_10L (post : Int32 → Prop) (L : Nat) (xs : Nat → Int32) (kc : Nat) (ks : Nat) (n : Nat) (x2 : Int32) (u : St1) : Prop := wL_law_10 post L xs kc ks n x2 (gq_cn u) (gq_pt u) (gq_pn u) (gq_lc u) (gq_cl u) (gq_mv u) (gq_ts u) (gq_lv u) (gq_fa u) (gq_en u) (gq_bf u) (gq_lf u) (gq_rt u) (gq_ph u) (gq_px u) (gq_pa u) (gq_lk u) (gq_lh u) (gq_lx u) (gq_co u) (gq_mu u) (gq_tr u) (gq_lt u) (gq_li u) (gq_lu u) (gq_fx u) (gq_nd u)
theorem cq_law_10L (post : Int32 → Prop) (L : Nat) (xs : Nat → Int32) (kc : Nat) (ks : Nat) (n : Nat) (x2 : Int32) (u : St1) (h : ((((Int32.ofNat L) ≤ x2) → (post 1)) ∧ ((¬ ((Int32.ofNat L) ≤ x2)) → ((vp_in x2 L) ∧ (∀ x3_72 : Int32, ((x3_72 = ((xs x2.toNatClampNeg) >>> ((4 : Int32) &&& 31))) → (wpX_wires (fun r_73 => ((¬ (r_73 = 0)) ∧ (∀ x5_75 : Int32, ((x5_75 = (((x3_72 >>> ((4 : Int32) &&& 31)) &&& 63) - ((((x3_72 >>> ((4 : Int32) &&& 31)) &&& 63) / r_73) * r_73))) → ((¬ (r_73 = 0)) ∧ (∀ x6_77 : Int32, ((x6_77 = (((x3_72 >>> ((10 : Int32) &&& 31)) &&& 63) - ((((x3_72 >>> ((10 : Int32) &&& 31)) &&& 63) / r_73) * r_73))) → ((¬ (r_73 = 0)) ∧ (∀ x7_79 : Int32, ((x7_79 = (((x3_72 >>> ((16 : Int32) &&& 31)) &&& 63) - ((((x3_72 >>> ((16 : Int32) &&& 31)) &&& 63) / r_73) * r_73))) → ((vp_in x2 L) ∧ (((14 ≤ ((xs x2.toNatClampNeg) &&& 15)) → (wpX_drop (fun r_82 u1 => (kk_law_113L post L xs (qq_law_10L post L xs kc ks n) x2 x3_72 x5_75 x6_77 x7_79 kc ks u1)) u)) ∧ ((¬ (14 ≤ ((xs x2.toNatClampNeg) &&& 15))) → ((¬ ((10 : Int32) = 0)) ∧ ((((x3_72 &&& 1) = 0) → (kk_law_97L post L xs (qq_law_10L post L xs kc ks n) x2 x3_72 x5_75 x6_77 x7_79 (r_73 - 1) ((x3_72 &&& 15) - (((x3_72 &&& 15) / 10) * 10)) kc ks u)) ∧ ((¬ ((x3_72 &&& 1) = 0)) → (kk_law_97L post L xs (qq_law_10L post L xs kc ks n) x2 x3_72 x5_75 x6_77 x7_79 x5_75 ((x3_72 &&& 15) - (((x3_72 &&& 15) / 10) * 10)) kc ks u))))))))))))))))) u))))))) : qq_law_10L post L xs kc ks (n + 1) x2 u := h
end
section
theorem ce_enterLook_2 : wpX_enterLook_2 = wpX_enterLook := by
  delta wpX_enterLook_2 wpX_enterLook
  rfl
theorem ce_LlookAgain_2_97 : wX_lookAgain_2_97 = wX_lookAgain_97 := by
  delta wX_lookAgain_2_97 wX_lookAgain_97
  rw [ce_enterLook_2]
theorem ce_LlookAgain_2_24 : wX_lookAgain_2_24 = wX_lookAgain_24 := by
  delta wX_lookAgain_2_24 wX_lookAgain_24 wX_lookAgain_2_24._f wX_lookAgain_24._f
  rw [ce_LlookAgain_2_97]
theorem ce_LlookAgain_2_2 : wX_lookAgain_2_2 = wX_lookAgain_2 := by
  delta wX_lookAgain_2_2 wX_lookAgain_2 wX_lookAgain_2_2._f wX_lookAgain_2._f
  rw [ce_LlookAgain_2_24]
theorem ce_lookAgain_2 : wpX_lookAgain_2 = wpX_lookAgain := by
  delta wpX_lookAgain_2 wpX_lookAgain
  rw [ce_LlookAgain_2_2]
theorem ce_Lconcern_2_82 : wX_concern_2_82 = wX_concern_82 := by
  delta wX_concern_2_82 wX_concern_82 wX_concern_2_82._f wX_concern_82._f
  rfl
theorem ce_Lconcern_2_56 : wX_concern_2_56 = wX_concern_56 := by
  delta wX_concern_2_56 wX_concern_56
  rfl
theorem ce_Lconcern_2_51 : wX_concern_2_51 = wX_concern_51 := by
  delta wX_concern_2_51 wX_concern_51
  rw [ce_Lconcern_2_56]
theorem ce_Lconcern_2_24 : wX_concern_2_24 = wX_concern_24 := by
  delta wX_concern_2_24 wX_concern_24 wX_concern_2_24._f wX_concern_24._f
  rw [ce_Lconcern_2_82, ce_Lconcern_2_51, ce_Lconcern_2_56]
theorem ce_concern_2 : wpX_concern_2 = wpX_concern := by
  delta wpX_concern_2 wpX_concern
  rw [ce_Lconcern_2_24]
theorem ce_demand_2 : wpX_demand_2 = wpX_demand := by
  delta wpX_demand_2 wpX_demand
  rfl
theorem ce_decide_2 : wpX_decide_2 = wpX_decide := by
  delta wpX_decide_2 wpX_decide
  rw [ce_demand_2]
theorem ce_LtakeAssignment_2_51 : wX_takeAssignment_2_51 = wX_takeAssignment_51 := by
  delta wX_takeAssignment_2_51 wX_takeAssignment_51
  rfl
theorem ce_LtakeAssignment_2_50 : wX_takeAssignment_2_50 = wX_takeAssignment_50 := by
  delta wX_takeAssignment_2_50 wX_takeAssignment_50
  rw [ce_LtakeAssignment_2_51]
theorem ce_LtakeAssignment_2_7 : wX_takeAssignment_2_7 = wX_takeAssignment_7 := by
  delta wX_takeAssignment_2_7 wX_takeAssignment_7 wX_takeAssignment_2_7._f wX_takeAssignment_7._f
  rw [ce_LtakeAssignment_2_50, ce_LtakeAssignment_2_51]
theorem ce_takeAssignment_2 : wpX_takeAssignment_2 = wpX_takeAssignment := by
  delta wpX_takeAssignment_2 wpX_takeAssignment
  rw [ce_LtakeAssignment_2_7]
theorem ce_Lturn_2_43 : wX_turn_2_43 = wX_turn_43 := by
  delta wX_turn_2_43 wX_turn_43 wX_turn_2_43._f wX_turn_43._f
  rw [ce_demand_2]
theorem ce_Lturn_2_34 : wX_turn_2_34 = wX_turn_34 := by
  delta wX_turn_2_34 wX_turn_34
  rw [ce_Lturn_2_43]
theorem ce_Lturn_2_0 : wX_turn_2_0 = wX_turn_0 := by
  delta wX_turn_2_0 wX_turn_0 wX_turn_2_0._f wX_turn_0._f
  rw [ce_Lturn_2_34]
theorem ce_turn_2 : wpX_turn_2 = wpX_turn := by
  delta wpX_turn_2 wpX_turn
  rw [ce_Lturn_2_0]
theorem ce_Lfollow_2_122 : wX_follow_2_122 = wX_follow_122 := by
  delta wX_follow_2_122 wX_follow_122
  rw [ce_demand_2]
theorem ce_Lfollow_2_67 : wX_follow_2_67 = wX_follow_67 := by
  delta wX_follow_2_67 wX_follow_67
  rw [ce_demand_2, ce_Lfollow_2_122]
theorem ce_Lfollow_2_38 : wX_follow_2_38 = wX_follow_38 := by
  delta wX_follow_2_38 wX_follow_38
  rw [ce_demand_2, ce_Lfollow_2_67]
theorem ce_follow_2 : wpX_follow_2 = wpX_follow := by
  delta wpX_follow_2 wpX_follow
  rw [ce_Lfollow_2_38, ce_demand_2, ce_Lfollow_2_67]
theorem ce_LfollowAll_2_65 : wX_followAll_2_65 = wX_followAll_65 := by
  delta wX_followAll_2_65 wX_followAll_65 wX_followAll_2_65._f wX_followAll_65._f
  rw [ce_follow_2]
theorem ce_LfollowAll_2_29 : wX_followAll_2_29 = wX_followAll_29 := by
  delta wX_followAll_2_29 wX_followAll_29 wX_followAll_2_29._f wX_followAll_29._f
  rw [ce_LfollowAll_2_65, ce_follow_2]
theorem ce_LfollowAll_2_5 : wX_followAll_2_5 = wX_followAll_5 := by
  delta wX_followAll_2_5 wX_followAll_5 wX_followAll_2_5._f wX_followAll_5._f
  rw [ce_LfollowAll_2_29]
theorem ce_followAll_2 : wpX_followAll_2 = wpX_followAll := by
  delta wpX_followAll_2 wpX_followAll
  rw [ce_LfollowAll_2_5]
theorem ce_Lsearch_2_38 : wX_search_2_38 = wX_search_38 := by
  delta wX_search_2_38 wX_search_38
  rw [ce_decide_2, ce_takeAssignment_2, ce_turn_2]
theorem ce_Lsearch_2_20 : wX_search_2_20 = wX_search_20 := by
  delta wX_search_2_20 wX_search_20 wX_search_2_20._f wX_search_20._f
  rw [ce_followAll_2, ce_Lsearch_2_38]
theorem ce_search_2 : wpX_search_2 = wpX_search := by
  delta wpX_search_2 wpX_search
  rw [ce_concern_2, ce_demand_2, ce_Lsearch_2_20]
theorem ce_LbackTo_2_0 : wX_backTo_2_0 = wX_backTo_0 := by
  delta wX_backTo_2_0 wX_backTo_0 wX_backTo_2_0._f wX_backTo_0._f
  rfl
theorem ce_backTo_2 : wpX_backTo_2 = wpX_backTo := by
  delta wpX_backTo_2 wpX_backTo
  rw [ce_LbackTo_2_0]
theorem ce_enterLook_3 : wpX_enterLook_3 = wpX_enterLook := by
  delta wpX_enterLook_3 wpX_enterLook
  rfl
theorem ce_addPart_2 : wpX_addPart_2 = wpX_addPart := by
  delta wpX_addPart_2 wpX_addPart
  rw [ce_enterLook_3, ce_enterLook_2]
theorem ce_LlookAgain_3_97 : wX_lookAgain_3_97 = wX_lookAgain_97 := by
  delta wX_lookAgain_3_97 wX_lookAgain_97
  rw [ce_enterLook_3]
theorem ce_LlookAgain_3_24 : wX_lookAgain_3_24 = wX_lookAgain_24 := by
  delta wX_lookAgain_3_24 wX_lookAgain_24 wX_lookAgain_3_24._f wX_lookAgain_24._f
  rw [ce_LlookAgain_3_97]
theorem ce_LlookAgain_3_2 : wX_lookAgain_3_2 = wX_lookAgain_2 := by
  delta wX_lookAgain_3_2 wX_lookAgain_2 wX_lookAgain_3_2._f wX_lookAgain_2._f
  rw [ce_LlookAgain_3_24]
theorem ce_lookAgain_3 : wpX_lookAgain_3 = wpX_lookAgain := by
  delta wpX_lookAgain_3 wpX_lookAgain
  rw [ce_LlookAgain_3_2]
theorem ce_learn_2 : wpX_learn_2 = wpX_learn := by
  delta wpX_learn_2 wpX_learn
  rw [ce_lookAgain_3, ce_lookAgain_2]
theorem ce_Lconcern_3_82 : wX_concern_3_82 = wX_concern_82 := by
  delta wX_concern_3_82 wX_concern_82 wX_concern_3_82._f wX_concern_82._f
  rfl
theorem ce_Lconcern_3_56 : wX_concern_3_56 = wX_concern_56 := by
  delta wX_concern_3_56 wX_concern_56
  rfl
theorem ce_Lconcern_3_51 : wX_concern_3_51 = wX_concern_51 := by
  delta wX_concern_3_51 wX_concern_51
  rw [ce_Lconcern_3_56]
theorem ce_Lconcern_3_24 : wX_concern_3_24 = wX_concern_24 := by
  delta wX_concern_3_24 wX_concern_24 wX_concern_3_24._f wX_concern_24._f
  rw [ce_Lconcern_3_82, ce_Lconcern_3_51, ce_Lconcern_3_56]
theorem ce_concern_3 : wpX_concern_3 = wpX_concern := by
  delta wpX_concern_3 wpX_concern
  rw [ce_Lconcern_3_24]
theorem ce_demand_3 : wpX_demand_3 = wpX_demand := by
  delta wpX_demand_3 wpX_demand
  rfl
theorem ce_decide_3 : wpX_decide_3 = wpX_decide := by
  delta wpX_decide_3 wpX_decide
  rw [ce_demand_3]
theorem ce_LtakeAssignment_3_51 : wX_takeAssignment_3_51 = wX_takeAssignment_51 := by
  delta wX_takeAssignment_3_51 wX_takeAssignment_51
  rfl
theorem ce_LtakeAssignment_3_50 : wX_takeAssignment_3_50 = wX_takeAssignment_50 := by
  delta wX_takeAssignment_3_50 wX_takeAssignment_50
  rw [ce_LtakeAssignment_3_51]
theorem ce_LtakeAssignment_3_7 : wX_takeAssignment_3_7 = wX_takeAssignment_7 := by
  delta wX_takeAssignment_3_7 wX_takeAssignment_7 wX_takeAssignment_3_7._f wX_takeAssignment_7._f
  rw [ce_LtakeAssignment_3_50, ce_LtakeAssignment_3_51]
theorem ce_takeAssignment_3 : wpX_takeAssignment_3 = wpX_takeAssignment := by
  delta wpX_takeAssignment_3 wpX_takeAssignment
  rw [ce_LtakeAssignment_3_7]
theorem ce_Lturn_3_43 : wX_turn_3_43 = wX_turn_43 := by
  delta wX_turn_3_43 wX_turn_43 wX_turn_3_43._f wX_turn_43._f
  rw [ce_demand_3]
theorem ce_Lturn_3_34 : wX_turn_3_34 = wX_turn_34 := by
  delta wX_turn_3_34 wX_turn_34
  rw [ce_Lturn_3_43]
theorem ce_Lturn_3_0 : wX_turn_3_0 = wX_turn_0 := by
  delta wX_turn_3_0 wX_turn_0 wX_turn_3_0._f wX_turn_0._f
  rw [ce_Lturn_3_34]
theorem ce_turn_3 : wpX_turn_3 = wpX_turn := by
  delta wpX_turn_3 wpX_turn
  rw [ce_Lturn_3_0]
theorem ce_Lfollow_3_122 : wX_follow_3_122 = wX_follow_122 := by
  delta wX_follow_3_122 wX_follow_122
  rw [ce_demand_3]
theorem ce_Lfollow_3_67 : wX_follow_3_67 = wX_follow_67 := by
  delta wX_follow_3_67 wX_follow_67
  rw [ce_demand_3, ce_Lfollow_3_122]
theorem ce_Lfollow_3_38 : wX_follow_3_38 = wX_follow_38 := by
  delta wX_follow_3_38 wX_follow_38
  rw [ce_demand_3, ce_Lfollow_3_67]
theorem ce_follow_3 : wpX_follow_3 = wpX_follow := by
  delta wpX_follow_3 wpX_follow
  rw [ce_Lfollow_3_38, ce_demand_3, ce_Lfollow_3_67]
theorem ce_LfollowAll_3_65 : wX_followAll_3_65 = wX_followAll_65 := by
  delta wX_followAll_3_65 wX_followAll_65 wX_followAll_3_65._f wX_followAll_65._f
  rw [ce_follow_3]
theorem ce_LfollowAll_3_29 : wX_followAll_3_29 = wX_followAll_29 := by
  delta wX_followAll_3_29 wX_followAll_29 wX_followAll_3_29._f wX_followAll_29._f
  rw [ce_LfollowAll_3_65, ce_follow_3]
theorem ce_LfollowAll_3_5 : wX_followAll_3_5 = wX_followAll_5 := by
  delta wX_followAll_3_5 wX_followAll_5 wX_followAll_3_5._f wX_followAll_5._f
  rw [ce_LfollowAll_3_29]
theorem ce_followAll_3 : wpX_followAll_3 = wpX_followAll := by
  delta wpX_followAll_3 wpX_followAll
  rw [ce_LfollowAll_3_5]
theorem ce_Lsearch_3_38 : wX_search_3_38 = wX_search_38 := by
  delta wX_search_3_38 wX_search_38
  rw [ce_decide_3, ce_takeAssignment_3, ce_turn_3]
theorem ce_Lsearch_3_20 : wX_search_3_20 = wX_search_20 := by
  delta wX_search_3_20 wX_search_20 wX_search_3_20._f wX_search_20._f
  rw [ce_followAll_3, ce_Lsearch_3_38]
theorem ce_search_3 : wpX_search_3 = wpX_search := by
  delta wpX_search_3 wpX_search
  rw [ce_concern_3, ce_demand_3, ce_Lsearch_3_20]
theorem ce_Lsweep_2_114 : wX_sweep_2_114 = wX_sweep_114 := by
  delta wX_sweep_2_114 wX_sweep_114
  rfl
theorem ce_Lsweep_2_80 : wX_sweep_2_80 = wX_sweep_80 := by
  delta wX_sweep_2_80 wX_sweep_80
  rw [ce_search_3, ce_Lsweep_2_114, ce_search_2]
theorem ce_Lsweep_2_28 : wX_sweep_2_28 = wX_sweep_28 := by
  delta wX_sweep_2_28 wX_sweep_28 wX_sweep_2_28._f wX_sweep_28._f
  rw [ce_learn_2, ce_Lsweep_2_80]
theorem ce_sweep_2 : wpX_sweep_2 = wpX_sweep := by
  delta wpX_sweep_2 wpX_sweep
  rw [ce_Lsweep_2_28]
theorem ce_LbackTo_3_0 : wX_backTo_3_0 = wX_backTo_0 := by
  delta wX_backTo_3_0 wX_backTo_0 wX_backTo_3_0._f wX_backTo_0._f
  rfl
theorem ce_backTo_3 : wpX_backTo_3 = wpX_backTo := by
  delta wpX_backTo_3 wpX_backTo
  rw [ce_LbackTo_3_0]
theorem ce_Land_2_47 : wX_and_2_47 = wX_and_47 := by
  delta wX_and_2_47 wX_and_47
  rw [ce_addPart_2, ce_sweep_2, ce_backTo_3, ce_backTo_2]
theorem ce_Land_2_21 : wX_and_2_21 = wX_and_21 := by
  delta wX_and_2_21 wX_and_21
  rw [ce_Land_2_47]
theorem ce_Land_2_10 : wX_and_2_10 = wX_and_10 := by
  delta wX_and_2_10 wX_and_10
  rw [ce_Land_2_21]
theorem ce_and_2 : wpX_and_2 = wpX_and := by
  delta wpX_and_2 wpX_and
  rw [ce_Land_2_10]
end
section

def fz_d (u : St1) : St1 := (gq_cn u, gq_pt u, gq_pn u, gq_lc u, 0, 0, 0, gq_lv u, gq_fa u, gq_en u, gq_bf u, gq_lf u, gq_rt u, gq_ph u, gq_px u, gq_pa u, gq_lk u, gq_lh u, gq_lx u, gq_co u, (fun _ => 0), (fun _ => 0), gq_lt u, gq_li u, gq_lu u, gq_fx u, gq_nd u)
theorem fd_cn {u u' : St1} (h : fz_d u' = fz_d u) : gq_cn u' = gq_cn u := by
  have g : gq_cn (fz_d u') = gq_cn (fz_d u) := congrArg gq_cn h
  exact g
theorem fd_pt {u u' : St1} (h : fz_d u' = fz_d u) : gq_pt u' = gq_pt u := by
  have g : gq_pt (fz_d u') = gq_pt (fz_d u) := congrArg gq_pt h
  exact g
theorem fd_pn {u u' : St1} (h : fz_d u' = fz_d u) : gq_pn u' = gq_pn u := by
  have g : gq_pn (fz_d u') = gq_pn (fz_d u) := congrArg gq_pn h
  exact g
theorem fd_lc {u u' : St1} (h : fz_d u' = fz_d u) : gq_lc u' = gq_lc u := by
  have g : gq_lc (fz_d u') = gq_lc (fz_d u) := congrArg gq_lc h
  exact g
theorem fd_lv {u u' : St1} (h : fz_d u' = fz_d u) : gq_lv u' = gq_lv u := by
  have g : gq_lv (fz_d u') = gq_lv (fz_d u) := congrArg gq_lv h
  exact g
theorem fd_fa {u u' : St1} (h : fz_d u' = fz_d u) : gq_fa u' = gq_fa u := by
  have g : gq_fa (fz_d u') = gq_fa (fz_d u) := congrArg gq_fa h
  exact g
theorem fd_en {u u' : St1} (h : fz_d u' = fz_d u) : gq_en u' = gq_en u := by
  have g : gq_en (fz_d u') = gq_en (fz_d u) := congrArg gq_en h
  exact g
theorem fd_bf {u u' : St1} (h : fz_d u' = fz_d u) : gq_bf u' = gq_bf u := by
  have g : gq_bf (fz_d u') = gq_bf (fz_d u) := congrArg gq_bf h
  exact g
theorem fd_lf {u u' : St1} (h : fz_d u' = fz_d u) : gq_lf u' = gq_lf u := by
  have g : gq_lf (fz_d u') = gq_lf (fz_d u) := congrArg gq_lf h
  exact g
theorem fd_rt {u u' : St1} (h : fz_d u' = fz_d u) : gq_rt u' = gq_rt u := by
  have g : gq_rt (fz_d u') = gq_rt (fz_d u) := congrArg gq_rt h
  exact g
theorem fd_ph {u u' : St1} (h : fz_d u' = fz_d u) : gq_ph u' = gq_ph u := by
  have g : gq_ph (fz_d u') = gq_ph (fz_d u) := congrArg gq_ph h
  exact g
theorem fd_px {u u' : St1} (h : fz_d u' = fz_d u) : gq_px u' = gq_px u := by
  have g : gq_px (fz_d u') = gq_px (fz_d u) := congrArg gq_px h
  exact g
theorem fd_pa {u u' : St1} (h : fz_d u' = fz_d u) : gq_pa u' = gq_pa u := by
  have g : gq_pa (fz_d u') = gq_pa (fz_d u) := congrArg gq_pa h
  exact g
theorem fd_lk {u u' : St1} (h : fz_d u' = fz_d u) : gq_lk u' = gq_lk u := by
  have g : gq_lk (fz_d u') = gq_lk (fz_d u) := congrArg gq_lk h
  exact g
theorem fd_lh {u u' : St1} (h : fz_d u' = fz_d u) : gq_lh u' = gq_lh u := by
  have g : gq_lh (fz_d u') = gq_lh (fz_d u) := congrArg gq_lh h
  exact g
theorem fd_lx {u u' : St1} (h : fz_d u' = fz_d u) : gq_lx u' = gq_lx u := by
  have g : gq_lx (fz_d u') = gq_lx (fz_d u) := congrArg gq_lx h
  exact g
theorem fd_co {u u' : St1} (h : fz_d u' = fz_d u) : gq_co u' = gq_co u := by
  have g : gq_co (fz_d u') = gq_co (fz_d u) := congrArg gq_co h
  exact g
theorem fd_lt {u u' : St1} (h : fz_d u' = fz_d u) : gq_lt u' = gq_lt u := by
  have g : gq_lt (fz_d u') = gq_lt (fz_d u) := congrArg gq_lt h
  exact g
theorem fd_li {u u' : St1} (h : fz_d u' = fz_d u) : gq_li u' = gq_li u := by
  have g : gq_li (fz_d u') = gq_li (fz_d u) := congrArg gq_li h
  exact g
theorem fd_lu {u u' : St1} (h : fz_d u' = fz_d u) : gq_lu u' = gq_lu u := by
  have g : gq_lu (fz_d u') = gq_lu (fz_d u) := congrArg gq_lu h
  exact g
theorem fd_fx {u u' : St1} (h : fz_d u' = fz_d u) : gq_fx u' = gq_fx u := by
  have g : gq_fx (fz_d u') = gq_fx (fz_d u) := congrArg gq_fx h
  exact g
theorem fd_nd {u u' : St1} (h : fz_d u' = fz_d u) : gq_nd u' = gq_nd u := by
  have g : gq_nd (fz_d u') = gq_nd (fz_d u) := congrArg gq_nd h
  exact g
def fz_s (u : St1) : St1 := (gq_cn u, gq_pt u, gq_pn u, 0, 0, 0, 0, 0, 0, gq_en u, gq_bf u, gq_lf u, gq_rt u, gq_ph u, gq_px u, gq_pa u, gq_lk u, gq_lh u, gq_lx u, (fun _ => 0), (fun _ => 0), (fun _ => 0), (fun _ => 0), (fun _ => 0), (fun _ => 0), gq_fx u, gq_nd u)
theorem fs_cn {u u' : St1} (h : fz_s u' = fz_s u) : gq_cn u' = gq_cn u := by
  have g : gq_cn (fz_s u') = gq_cn (fz_s u) := congrArg gq_cn h
  exact g
theorem fs_pt {u u' : St1} (h : fz_s u' = fz_s u) : gq_pt u' = gq_pt u := by
  have g : gq_pt (fz_s u') = gq_pt (fz_s u) := congrArg gq_pt h
  exact g
theorem fs_pn {u u' : St1} (h : fz_s u' = fz_s u) : gq_pn u' = gq_pn u := by
  have g : gq_pn (fz_s u') = gq_pn (fz_s u) := congrArg gq_pn h
  exact g
theorem fs_en {u u' : St1} (h : fz_s u' = fz_s u) : gq_en u' = gq_en u := by
  have g : gq_en (fz_s u') = gq_en (fz_s u) := congrArg gq_en h
  exact g
theorem fs_bf {u u' : St1} (h : fz_s u' = fz_s u) : gq_bf u' = gq_bf u := by
  have g : gq_bf (fz_s u') = gq_bf (fz_s u) := congrArg gq_bf h
  exact g
theorem fs_lf {u u' : St1} (h : fz_s u' = fz_s u) : gq_lf u' = gq_lf u := by
  have g : gq_lf (fz_s u') = gq_lf (fz_s u) := congrArg gq_lf h
  exact g
theorem fs_rt {u u' : St1} (h : fz_s u' = fz_s u) : gq_rt u' = gq_rt u := by
  have g : gq_rt (fz_s u') = gq_rt (fz_s u) := congrArg gq_rt h
  exact g
theorem fs_ph {u u' : St1} (h : fz_s u' = fz_s u) : gq_ph u' = gq_ph u := by
  have g : gq_ph (fz_s u') = gq_ph (fz_s u) := congrArg gq_ph h
  exact g
theorem fs_px {u u' : St1} (h : fz_s u' = fz_s u) : gq_px u' = gq_px u := by
  have g : gq_px (fz_s u') = gq_px (fz_s u) := congrArg gq_px h
  exact g
theorem fs_pa {u u' : St1} (h : fz_s u' = fz_s u) : gq_pa u' = gq_pa u := by
  have g : gq_pa (fz_s u') = gq_pa (fz_s u) := congrArg gq_pa h
  exact g
theorem fs_lk {u u' : St1} (h : fz_s u' = fz_s u) : gq_lk u' = gq_lk u := by
  have g : gq_lk (fz_s u') = gq_lk (fz_s u) := congrArg gq_lk h
  exact g
theorem fs_lh {u u' : St1} (h : fz_s u' = fz_s u) : gq_lh u' = gq_lh u := by
  have g : gq_lh (fz_s u') = gq_lh (fz_s u) := congrArg gq_lh h
  exact g
theorem fs_lx {u u' : St1} (h : fz_s u' = fz_s u) : gq_lx u' = gq_lx u := by
  have g : gq_lx (fz_s u') = gq_lx (fz_s u) := congrArg gq_lx h
  exact g
theorem fs_fx {u u' : St1} (h : fz_s u' = fz_s u) : gq_fx u' = gq_fx u := by
  have g : gq_fx (fz_s u') = gq_fx (fz_s u) := congrArg gq_fx h
  exact g
theorem fs_nd {u u' : St1} (h : fz_s u' = fz_s u) : gq_nd u' = gq_nd u := by
  have g : gq_nd (fz_s u') = gq_nd (fz_s u) := congrArg gq_nd h
  exact g
def fz_n (u : St1) : St1 := (gq_cn u, 0, 0, 0, 0, 0, 0, 0, 0, gq_en u, gq_bf u, (fun _ => 0), (fun _ => 0), (fun _ => 0), (fun _ => 0), (fun _ => 0), (fun _ => 0), (fun _ => 0), (fun _ => 0), (fun _ => 0), (fun _ => 0), (fun _ => 0), (fun _ => 0), (fun _ => 0), (fun _ => 0), gq_fx u, gq_nd u)
theorem fn_cn {u u' : St1} (h : fz_n u' = fz_n u) : gq_cn u' = gq_cn u := by
  have g : gq_cn (fz_n u') = gq_cn (fz_n u) := congrArg gq_cn h
  exact g
theorem fn_en {u u' : St1} (h : fz_n u' = fz_n u) : gq_en u' = gq_en u := by
  have g : gq_en (fz_n u') = gq_en (fz_n u) := congrArg gq_en h
  exact g
theorem fn_bf {u u' : St1} (h : fz_n u' = fz_n u) : gq_bf u' = gq_bf u := by
  have g : gq_bf (fz_n u') = gq_bf (fz_n u) := congrArg gq_bf h
  exact g
theorem fn_fx {u u' : St1} (h : fz_n u' = fz_n u) : gq_fx u' = gq_fx u := by
  have g : gq_fx (fz_n u') = gq_fx (fz_n u) := congrArg gq_fx h
  exact g
theorem fn_nd {u u' : St1} (h : fz_n u' = fz_n u) : gq_nd u' = gq_nd u := by
  have g : gq_nd (fz_n u') = gq_nd (fz_n u) := congrArg gq_nd h
  exact g
def fz_b (u : St1) : St1 := (gq_cn u, 0, gq_pn u, gq_lc u, gq_cl u, gq_mv u, gq_ts u, gq_lv u, gq_fa u, gq_en u, gq_bf u, gq_lf u, gq_rt u, (fun _ => 0), gq_px u, gq_pa u, gq_lk u, (fun _ => 0), gq_lx u, gq_co u, gq_mu u, gq_tr u, gq_lt u, gq_li u, gq_lu u, gq_fx u, gq_nd u)
theorem fb_cn {u u' : St1} (h : fz_b u' = fz_b u) : gq_cn u' = gq_cn u := by
  have g : gq_cn (fz_b u') = gq_cn (fz_b u) := congrArg gq_cn h
  exact g
theorem fb_pn {u u' : St1} (h : fz_b u' = fz_b u) : gq_pn u' = gq_pn u := by
  have g : gq_pn (fz_b u') = gq_pn (fz_b u) := congrArg gq_pn h
  exact g
theorem fb_lc {u u' : St1} (h : fz_b u' = fz_b u) : gq_lc u' = gq_lc u := by
  have g : gq_lc (fz_b u') = gq_lc (fz_b u) := congrArg gq_lc h
  exact g
theorem fb_cl {u u' : St1} (h : fz_b u' = fz_b u) : gq_cl u' = gq_cl u := by
  have g : gq_cl (fz_b u') = gq_cl (fz_b u) := congrArg gq_cl h
  exact g
theorem fb_mv {u u' : St1} (h : fz_b u' = fz_b u) : gq_mv u' = gq_mv u := by
  have g : gq_mv (fz_b u') = gq_mv (fz_b u) := congrArg gq_mv h
  exact g
theorem fb_ts {u u' : St1} (h : fz_b u' = fz_b u) : gq_ts u' = gq_ts u := by
  have g : gq_ts (fz_b u') = gq_ts (fz_b u) := congrArg gq_ts h
  exact g
theorem fb_lv {u u' : St1} (h : fz_b u' = fz_b u) : gq_lv u' = gq_lv u := by
  have g : gq_lv (fz_b u') = gq_lv (fz_b u) := congrArg gq_lv h
  exact g
theorem fb_fa {u u' : St1} (h : fz_b u' = fz_b u) : gq_fa u' = gq_fa u := by
  have g : gq_fa (fz_b u') = gq_fa (fz_b u) := congrArg gq_fa h
  exact g
theorem fb_en {u u' : St1} (h : fz_b u' = fz_b u) : gq_en u' = gq_en u := by
  have g : gq_en (fz_b u') = gq_en (fz_b u) := congrArg gq_en h
  exact g
theorem fb_bf {u u' : St1} (h : fz_b u' = fz_b u) : gq_bf u' = gq_bf u := by
  have g : gq_bf (fz_b u') = gq_bf (fz_b u) := congrArg gq_bf h
  exact g
theorem fb_lf {u u' : St1} (h : fz_b u' = fz_b u) : gq_lf u' = gq_lf u := by
  have g : gq_lf (fz_b u') = gq_lf (fz_b u) := congrArg gq_lf h
  exact g
theorem fb_rt {u u' : St1} (h : fz_b u' = fz_b u) : gq_rt u' = gq_rt u := by
  have g : gq_rt (fz_b u') = gq_rt (fz_b u) := congrArg gq_rt h
  exact g
theorem fb_px {u u' : St1} (h : fz_b u' = fz_b u) : gq_px u' = gq_px u := by
  have g : gq_px (fz_b u') = gq_px (fz_b u) := congrArg gq_px h
  exact g
theorem fb_pa {u u' : St1} (h : fz_b u' = fz_b u) : gq_pa u' = gq_pa u := by
  have g : gq_pa (fz_b u') = gq_pa (fz_b u) := congrArg gq_pa h
  exact g
theorem fb_lk {u u' : St1} (h : fz_b u' = fz_b u) : gq_lk u' = gq_lk u := by
  have g : gq_lk (fz_b u') = gq_lk (fz_b u) := congrArg gq_lk h
  exact g
theorem fb_lx {u u' : St1} (h : fz_b u' = fz_b u) : gq_lx u' = gq_lx u := by
  have g : gq_lx (fz_b u') = gq_lx (fz_b u) := congrArg gq_lx h
  exact g
theorem fb_co {u u' : St1} (h : fz_b u' = fz_b u) : gq_co u' = gq_co u := by
  have g : gq_co (fz_b u') = gq_co (fz_b u) := congrArg gq_co h
  exact g
theorem fb_mu {u u' : St1} (h : fz_b u' = fz_b u) : gq_mu u' = gq_mu u := by
  have g : gq_mu (fz_b u') = gq_mu (fz_b u) := congrArg gq_mu h
  exact g
theorem fb_tr {u u' : St1} (h : fz_b u' = fz_b u) : gq_tr u' = gq_tr u := by
  have g : gq_tr (fz_b u') = gq_tr (fz_b u) := congrArg gq_tr h
  exact g
theorem fb_lt {u u' : St1} (h : fz_b u' = fz_b u) : gq_lt u' = gq_lt u := by
  have g : gq_lt (fz_b u') = gq_lt (fz_b u) := congrArg gq_lt h
  exact g
theorem fb_li {u u' : St1} (h : fz_b u' = fz_b u) : gq_li u' = gq_li u := by
  have g : gq_li (fz_b u') = gq_li (fz_b u) := congrArg gq_li h
  exact g
theorem fb_lu {u u' : St1} (h : fz_b u' = fz_b u) : gq_lu u' = gq_lu u := by
  have g : gq_lu (fz_b u') = gq_lu (fz_b u) := congrArg gq_lu h
  exact g
theorem fb_fx {u u' : St1} (h : fz_b u' = fz_b u) : gq_fx u' = gq_fx u := by
  have g : gq_fx (fz_b u') = gq_fx (fz_b u) := congrArg gq_fx h
  exact g
theorem fb_nd {u u' : St1} (h : fz_b u' = fz_b u) : gq_nd u' = gq_nd u := by
  have g : gq_nd (fz_b u') = gq_nd (fz_b u) := congrArg gq_nd h
  exact g
def fz_l (u : St1) : St1 := (gq_cn u, gq_pt u, gq_pn u, gq_lc u, gq_cl u, gq_mv u, gq_ts u, gq_lv u, gq_fa u, gq_en u, gq_bf u, gq_lf u, gq_rt u, gq_ph u, gq_px u, gq_pa u, (fun _ => 0), (fun _ => 0), (fun _ => 0), gq_co u, gq_mu u, gq_tr u, gq_lt u, gq_li u, gq_lu u, gq_fx u, gq_nd u)
theorem fl_cn {u u' : St1} (h : fz_l u' = fz_l u) : gq_cn u' = gq_cn u := by
  have g : gq_cn (fz_l u') = gq_cn (fz_l u) := congrArg gq_cn h
  exact g
theorem fl_pt {u u' : St1} (h : fz_l u' = fz_l u) : gq_pt u' = gq_pt u := by
  have g : gq_pt (fz_l u') = gq_pt (fz_l u) := congrArg gq_pt h
  exact g
theorem fl_pn {u u' : St1} (h : fz_l u' = fz_l u) : gq_pn u' = gq_pn u := by
  have g : gq_pn (fz_l u') = gq_pn (fz_l u) := congrArg gq_pn h
  exact g
theorem fl_lc {u u' : St1} (h : fz_l u' = fz_l u) : gq_lc u' = gq_lc u := by
  have g : gq_lc (fz_l u') = gq_lc (fz_l u) := congrArg gq_lc h
  exact g
theorem fl_cl {u u' : St1} (h : fz_l u' = fz_l u) : gq_cl u' = gq_cl u := by
  have g : gq_cl (fz_l u') = gq_cl (fz_l u) := congrArg gq_cl h
  exact g
theorem fl_mv {u u' : St1} (h : fz_l u' = fz_l u) : gq_mv u' = gq_mv u := by
  have g : gq_mv (fz_l u') = gq_mv (fz_l u) := congrArg gq_mv h
  exact g
theorem fl_ts {u u' : St1} (h : fz_l u' = fz_l u) : gq_ts u' = gq_ts u := by
  have g : gq_ts (fz_l u') = gq_ts (fz_l u) := congrArg gq_ts h
  exact g
theorem fl_lv {u u' : St1} (h : fz_l u' = fz_l u) : gq_lv u' = gq_lv u := by
  have g : gq_lv (fz_l u') = gq_lv (fz_l u) := congrArg gq_lv h
  exact g
theorem fl_fa {u u' : St1} (h : fz_l u' = fz_l u) : gq_fa u' = gq_fa u := by
  have g : gq_fa (fz_l u') = gq_fa (fz_l u) := congrArg gq_fa h
  exact g
theorem fl_en {u u' : St1} (h : fz_l u' = fz_l u) : gq_en u' = gq_en u := by
  have g : gq_en (fz_l u') = gq_en (fz_l u) := congrArg gq_en h
  exact g
theorem fl_bf {u u' : St1} (h : fz_l u' = fz_l u) : gq_bf u' = gq_bf u := by
  have g : gq_bf (fz_l u') = gq_bf (fz_l u) := congrArg gq_bf h
  exact g
theorem fl_lf {u u' : St1} (h : fz_l u' = fz_l u) : gq_lf u' = gq_lf u := by
  have g : gq_lf (fz_l u') = gq_lf (fz_l u) := congrArg gq_lf h
  exact g
theorem fl_rt {u u' : St1} (h : fz_l u' = fz_l u) : gq_rt u' = gq_rt u := by
  have g : gq_rt (fz_l u') = gq_rt (fz_l u) := congrArg gq_rt h
  exact g
theorem fl_ph {u u' : St1} (h : fz_l u' = fz_l u) : gq_ph u' = gq_ph u := by
  have g : gq_ph (fz_l u') = gq_ph (fz_l u) := congrArg gq_ph h
  exact g
theorem fl_px {u u' : St1} (h : fz_l u' = fz_l u) : gq_px u' = gq_px u := by
  have g : gq_px (fz_l u') = gq_px (fz_l u) := congrArg gq_px h
  exact g
theorem fl_pa {u u' : St1} (h : fz_l u' = fz_l u) : gq_pa u' = gq_pa u := by
  have g : gq_pa (fz_l u') = gq_pa (fz_l u) := congrArg gq_pa h
  exact g
theorem fl_co {u u' : St1} (h : fz_l u' = fz_l u) : gq_co u' = gq_co u := by
  have g : gq_co (fz_l u') = gq_co (fz_l u) := congrArg gq_co h
  exact g
theorem fl_mu {u u' : St1} (h : fz_l u' = fz_l u) : gq_mu u' = gq_mu u := by
  have g : gq_mu (fz_l u') = gq_mu (fz_l u) := congrArg gq_mu h
  exact g
theorem fl_tr {u u' : St1} (h : fz_l u' = fz_l u) : gq_tr u' = gq_tr u := by
  have g : gq_tr (fz_l u') = gq_tr (fz_l u) := congrArg gq_tr h
  exact g
theorem fl_lt {u u' : St1} (h : fz_l u' = fz_l u) : gq_lt u' = gq_lt u := by
  have g : gq_lt (fz_l u') = gq_lt (fz_l u) := congrArg gq_lt h
  exact g
theorem fl_li {u u' : St1} (h : fz_l u' = fz_l u) : gq_li u' = gq_li u := by
  have g : gq_li (fz_l u') = gq_li (fz_l u) := congrArg gq_li h
  exact g
theorem fl_lu {u u' : St1} (h : fz_l u' = fz_l u) : gq_lu u' = gq_lu u := by
  have g : gq_lu (fz_l u') = gq_lu (fz_l u) := congrArg gq_lu h
  exact g
theorem fl_fx {u u' : St1} (h : fz_l u' = fz_l u) : gq_fx u' = gq_fx u := by
  have g : gq_fx (fz_l u') = gq_fx (fz_l u) := congrArg gq_fx h
  exact g
theorem fl_nd {u u' : St1} (h : fz_l u' = fz_l u) : gq_nd u' = gq_nd u := by
  have g : gq_nd (fz_l u') = gq_nd (fz_l u) := congrArg gq_nd h
  exact g
def fz_c (u : St1) : St1 := (gq_cn u, gq_pt u, gq_pn u, 0, 0, gq_mv u, 0, 0, gq_fa u, gq_en u, gq_bf u, gq_lf u, gq_rt u, gq_ph u, gq_px u, gq_pa u, gq_lk u, gq_lh u, gq_lx u, (fun _ => 0), (fun _ => 0), gq_tr u, gq_lt u, gq_li u, gq_lu u, gq_fx u, gq_nd u)
theorem fc_cn {u u' : St1} (h : fz_c u' = fz_c u) : gq_cn u' = gq_cn u := by
  have g : gq_cn (fz_c u') = gq_cn (fz_c u) := congrArg gq_cn h
  exact g
theorem fc_pt {u u' : St1} (h : fz_c u' = fz_c u) : gq_pt u' = gq_pt u := by
  have g : gq_pt (fz_c u') = gq_pt (fz_c u) := congrArg gq_pt h
  exact g
theorem fc_pn {u u' : St1} (h : fz_c u' = fz_c u) : gq_pn u' = gq_pn u := by
  have g : gq_pn (fz_c u') = gq_pn (fz_c u) := congrArg gq_pn h
  exact g
theorem fc_mv {u u' : St1} (h : fz_c u' = fz_c u) : gq_mv u' = gq_mv u := by
  have g : gq_mv (fz_c u') = gq_mv (fz_c u) := congrArg gq_mv h
  exact g
theorem fc_fa {u u' : St1} (h : fz_c u' = fz_c u) : gq_fa u' = gq_fa u := by
  have g : gq_fa (fz_c u') = gq_fa (fz_c u) := congrArg gq_fa h
  exact g
theorem fc_en {u u' : St1} (h : fz_c u' = fz_c u) : gq_en u' = gq_en u := by
  have g : gq_en (fz_c u') = gq_en (fz_c u) := congrArg gq_en h
  exact g
theorem fc_bf {u u' : St1} (h : fz_c u' = fz_c u) : gq_bf u' = gq_bf u := by
  have g : gq_bf (fz_c u') = gq_bf (fz_c u) := congrArg gq_bf h
  exact g
theorem fc_lf {u u' : St1} (h : fz_c u' = fz_c u) : gq_lf u' = gq_lf u := by
  have g : gq_lf (fz_c u') = gq_lf (fz_c u) := congrArg gq_lf h
  exact g
theorem fc_rt {u u' : St1} (h : fz_c u' = fz_c u) : gq_rt u' = gq_rt u := by
  have g : gq_rt (fz_c u') = gq_rt (fz_c u) := congrArg gq_rt h
  exact g
theorem fc_ph {u u' : St1} (h : fz_c u' = fz_c u) : gq_ph u' = gq_ph u := by
  have g : gq_ph (fz_c u') = gq_ph (fz_c u) := congrArg gq_ph h
  exact g
theorem fc_px {u u' : St1} (h : fz_c u' = fz_c u) : gq_px u' = gq_px u := by
  have g : gq_px (fz_c u') = gq_px (fz_c u) := congrArg gq_px h
  exact g
theorem fc_pa {u u' : St1} (h : fz_c u' = fz_c u) : gq_pa u' = gq_pa u := by
  have g : gq_pa (fz_c u') = gq_pa (fz_c u) := congrArg gq_pa h
  exact g
theorem fc_lk {u u' : St1} (h : fz_c u' = fz_c u) : gq_lk u' = gq_lk u := by
  have g : gq_lk (fz_c u') = gq_lk (fz_c u) := congrArg gq_lk h
  exact g
theorem fc_lh {u u' : St1} (h : fz_c u' = fz_c u) : gq_lh u' = gq_lh u := by
  have g : gq_lh (fz_c u') = gq_lh (fz_c u) := congrArg gq_lh h
  exact g
theorem fc_lx {u u' : St1} (h : fz_c u' = fz_c u) : gq_lx u' = gq_lx u := by
  have g : gq_lx (fz_c u') = gq_lx (fz_c u) := congrArg gq_lx h
  exact g
theorem fc_tr {u u' : St1} (h : fz_c u' = fz_c u) : gq_tr u' = gq_tr u := by
  have g : gq_tr (fz_c u') = gq_tr (fz_c u) := congrArg gq_tr h
  exact g
theorem fc_lt {u u' : St1} (h : fz_c u' = fz_c u) : gq_lt u' = gq_lt u := by
  have g : gq_lt (fz_c u') = gq_lt (fz_c u) := congrArg gq_lt h
  exact g
theorem fc_li {u u' : St1} (h : fz_c u' = fz_c u) : gq_li u' = gq_li u := by
  have g : gq_li (fz_c u') = gq_li (fz_c u) := congrArg gq_li h
  exact g
theorem fc_lu {u u' : St1} (h : fz_c u' = fz_c u) : gq_lu u' = gq_lu u := by
  have g : gq_lu (fz_c u') = gq_lu (fz_c u) := congrArg gq_lu h
  exact g
theorem fc_fx {u u' : St1} (h : fz_c u' = fz_c u) : gq_fx u' = gq_fx u := by
  have g : gq_fx (fz_c u') = gq_fx (fz_c u) := congrArg gq_fx h
  exact g
theorem fc_nd {u u' : St1} (h : fz_c u' = fz_c u) : gq_nd u' = gq_nd u := by
  have g : gq_nd (fz_c u') = gq_nd (fz_c u) := congrArg gq_nd h
  exact g
def fz_t (u : St1) : St1 := (gq_cn u, gq_pt u, gq_pn u, 0, 0, 0, 0, 0, gq_fa u, gq_en u, gq_bf u, gq_lf u, gq_rt u, gq_ph u, gq_px u, gq_pa u, gq_lk u, gq_lh u, gq_lx u, (fun _ => 0), (fun _ => 0), (fun _ => 0), (fun _ => 0), (fun _ => 0), (fun _ => 0), gq_fx u, gq_nd u)
theorem ft_cn {u u' : St1} (h : fz_t u' = fz_t u) : gq_cn u' = gq_cn u := by
  have g : gq_cn (fz_t u') = gq_cn (fz_t u) := congrArg gq_cn h
  exact g
theorem ft_pt {u u' : St1} (h : fz_t u' = fz_t u) : gq_pt u' = gq_pt u := by
  have g : gq_pt (fz_t u') = gq_pt (fz_t u) := congrArg gq_pt h
  exact g
theorem ft_pn {u u' : St1} (h : fz_t u' = fz_t u) : gq_pn u' = gq_pn u := by
  have g : gq_pn (fz_t u') = gq_pn (fz_t u) := congrArg gq_pn h
  exact g
theorem ft_fa {u u' : St1} (h : fz_t u' = fz_t u) : gq_fa u' = gq_fa u := by
  have g : gq_fa (fz_t u') = gq_fa (fz_t u) := congrArg gq_fa h
  exact g
theorem ft_en {u u' : St1} (h : fz_t u' = fz_t u) : gq_en u' = gq_en u := by
  have g : gq_en (fz_t u') = gq_en (fz_t u) := congrArg gq_en h
  exact g
theorem ft_bf {u u' : St1} (h : fz_t u' = fz_t u) : gq_bf u' = gq_bf u := by
  have g : gq_bf (fz_t u') = gq_bf (fz_t u) := congrArg gq_bf h
  exact g
theorem ft_lf {u u' : St1} (h : fz_t u' = fz_t u) : gq_lf u' = gq_lf u := by
  have g : gq_lf (fz_t u') = gq_lf (fz_t u) := congrArg gq_lf h
  exact g
theorem ft_rt {u u' : St1} (h : fz_t u' = fz_t u) : gq_rt u' = gq_rt u := by
  have g : gq_rt (fz_t u') = gq_rt (fz_t u) := congrArg gq_rt h
  exact g
theorem ft_ph {u u' : St1} (h : fz_t u' = fz_t u) : gq_ph u' = gq_ph u := by
  have g : gq_ph (fz_t u') = gq_ph (fz_t u) := congrArg gq_ph h
  exact g
theorem ft_px {u u' : St1} (h : fz_t u' = fz_t u) : gq_px u' = gq_px u := by
  have g : gq_px (fz_t u') = gq_px (fz_t u) := congrArg gq_px h
  exact g
theorem ft_pa {u u' : St1} (h : fz_t u' = fz_t u) : gq_pa u' = gq_pa u := by
  have g : gq_pa (fz_t u') = gq_pa (fz_t u) := congrArg gq_pa h
  exact g
theorem ft_lk {u u' : St1} (h : fz_t u' = fz_t u) : gq_lk u' = gq_lk u := by
  have g : gq_lk (fz_t u') = gq_lk (fz_t u) := congrArg gq_lk h
  exact g
theorem ft_lh {u u' : St1} (h : fz_t u' = fz_t u) : gq_lh u' = gq_lh u := by
  have g : gq_lh (fz_t u') = gq_lh (fz_t u) := congrArg gq_lh h
  exact g
theorem ft_lx {u u' : St1} (h : fz_t u' = fz_t u) : gq_lx u' = gq_lx u := by
  have g : gq_lx (fz_t u') = gq_lx (fz_t u) := congrArg gq_lx h
  exact g
theorem ft_fx {u u' : St1} (h : fz_t u' = fz_t u) : gq_fx u' = gq_fx u := by
  have g : gq_fx (fz_t u') = gq_fx (fz_t u) := congrArg gq_fx h
  exact g
theorem ft_nd {u u' : St1} (h : fz_t u' = fz_t u) : gq_nd u' = gq_nd u := by
  have g : gq_nd (fz_t u') = gq_nd (fz_t u) := congrArg gq_nd h
  exact g
end
section
/-- the value of an end: its part's value, turned when the end is odd -/
def sv_e (V : Nat → Nat → Bool) (e x : Nat) : Bool := xor (V (e / 2) x) (decide (e % 2 = 1))
/-- the opposite end -/
def sv_ng (e : Nat) : Nat := if e % 2 = 0 then e + 1 else e - 1
def sv_b (b : Bool) : Int32 := if b then 1 else 0
theorem sv_ng_half (e : Nat) : sv_ng e / 2 = e / 2 := by
  unfold sv_ng
  split <;> omega
theorem sv_ng_odd (e : Nat) : sv_ng e % 2 = 1 - e % 2 := by
  unfold sv_ng
  split <;> omega
theorem sv_ng_lt {e P : Nat} (h : e < 2 * P) : sv_ng e < 2 * P := by
  unfold sv_ng
  split <;> omega
theorem sv_ng_ng (e : Nat) : sv_ng (sv_ng e) = e := by
  have h1 := sv_ng_half (sv_ng e)
  have h2 := sv_ng_odd (sv_ng e)
  have h3 := sv_ng_half e
  have h4 := sv_ng_odd e
  omega
theorem sv_ng_ne (e : Nat) : sv_ng e ≠ e := by
  have h := sv_ng_odd e
  intro z
  rw [z] at h
  omega
theorem sv_e_ng (V : Nat → Nat → Bool) (e x : Nat) : sv_e V (sv_ng e) x = !sv_e V e x := by
  unfold sv_e
  rw [sv_ng_half, sv_ng_odd]
  rcases Nat.mod_two_eq_zero_or_one e with h | h <;> rw [h] <;> cases V (e / 2) x <;> rfl
theorem sv_e_even (V : Nat → Nat → Bool) (p x : Nat) : sv_e V (2 * p) x = V p x := by
  unfold sv_e
  rw [show 2 * p / 2 = p by omega, show 2 * p % 2 = 0 by omega]
  cases V p x <;> rfl
theorem sv_e_odd (V : Nat → Nat → Bool) (p x : Nat) : sv_e V (2 * p + 1) x = !V p x := by
  unfold sv_e
  rw [show (2 * p + 1) / 2 = p by omega, show (2 * p + 1) % 2 = 1 by omega]
  cases V p x <;> rfl
theorem sv_e_congr {V V' : Nat → Nat → Bool} {P e : Nat} (h : ∀ p, p < P → ∀ x, V' p x = V p x) (he : e < 2 * P) (x : Nat) : sv_e V' e x = sv_e V e x := by
  unfold sv_e
  rw [h (e / 2) (by omega) x]
theorem sv_b_ne (b : Bool) : sv_b b ≠ -1 := by cases b <;> decide
theorem sv_b_inj {a b : Bool} (h : sv_b a = sv_b b) : a = b := by
  cases a <;> cases b <;> first | rfl | exact absurd h (by decide)
theorem sv_b_0 (b : Bool) : sv_b b = 0 ↔ b = false := by cases b <;> decide
theorem sv_b_1 (b : Bool) : sv_b b = 1 ↔ b = true := by cases b <;> decide
theorem sv_b_byte (b : Bool) : (sv_b b).toInt8.toInt32 = sv_b b := by cases b <;> decide
/-! ints -/
theorem si_half {e : Nat} (h : e < 2 ^ 31) : nI e >>> ((1 : Int32) &&& 31) = nI (e / 2) := pk_shrN h _ 1 (by decide)
theorem si_odd {e : Nat} (h : e < 2 ^ 31) : nI e &&& 1 = nI (e % 2) := pk_andN (by omega) 1 (by decide)
theorem si_xor (a b : Nat) : nI a ^^^ nI b = nI (a ^^^ b) := by
  apply Int32.toBitVec_inj.mp
  rw [Int32.toBitVec_xor]
  show BitVec.ofNat 32 a ^^^ BitVec.ofNat 32 b = BitVec.ofNat 32 (a ^^^ b)
  apply BitVec.eq_of_toNat_eq
  rw [BitVec.toNat_xor, BitVec.toNat_ofNat, BitVec.toNat_ofNat, BitVec.toNat_ofNat, Nat.xor_mod_two_pow]
theorem si_nx1 (e : Nat) : e ^^^ 1 = sv_ng e := by
  have h1 : (e ^^^ 1) / 2 = e / 2 := by rw [Nat.xor_div_two]; exact Nat.xor_zero _
  have h2 : ((e ^^^ 1) % 2 = 1) ↔ ¬ ((e % 2 = 1) ↔ (1 % 2 = 1)) := Nat.xor_mod_two_eq_one
  have h3 := sv_ng_half e
  have h4 := sv_ng_odd e
  rcases Nat.mod_two_eq_zero_or_one e with h | h
  · have : (e ^^^ 1) % 2 = 1 := h2.mpr (by omega)
    omega
  · have : ¬ (e ^^^ 1) % 2 = 1 := fun z => (h2.mp z) (by omega)
    omega
theorem si_ng (e : Nat) : nI e ^^^ 1 = nI (sv_ng e) := by
  rw [← si_nx1]
  exact si_xor e 1
theorem si_nx0 (e : Nat) : nI e ^^^ 0 = nI e := by
  have h := si_xor e 0
  rw [Nat.xor_zero] at h
  exact h
theorem si_own (b : Bool) {e : Nat} (h : e < 2 ^ 31) : sv_b b ^^^ (nI e &&& 1) = sv_b (xor b (decide (e % 2 = 1))) := by
  rw [si_odd h]
  rcases Nat.mod_two_eq_zero_or_one e with h | h <;> rw [h] <;> cases b <;> decide
theorem si_short {n : Nat} (h : n < 32768) : (nI n).toInt16.toInt32 = nI n := by
  refine lg_i2s_small ?_ ?_
  · rw [nI_toInt (by omega)]; omega
  · rw [nI_toInt (by omega)]; omega
theorem si_nar {n : Nat} (h : n < 32768) : vp_nar .short (nI n) = nI n := by
  rw [vp_nar_short]
  exact si_short h
theorem si_narm : vp_nar .short (-1) = -1 := by
  rw [vp_nar_short]
  decide
theorem si_nm1 {n : Nat} (h : n < 2 ^ 31) : nI n ≠ -1 := by
  intro z
  have h1 := nI_pos h
  rw [z] at h1
  exact h1 (by decide)
theorem si_inj {a b : Nat} (ha : a < 2 ^ 31) (hb : b < 2 ^ 31) (h : nI a = nI b) : a = b := (nI_eq ha hb).mp h
theorem si_2 (a : Nat) : 2 * nI a = nI (2 * a) := pk_mul 2 a
/-- distinct values below m: no more than m of them -/
theorem sq_pigeon : ∀ (m n : Nat) (t : Nat → Nat), (∀ k, k < n → t k < m) → (∀ j k, j < k → k < n → t j ≠ t k) → n ≤ m := by
  intro m
  induction m with
  | zero =>
    intro n t h1 h2
    rcases Nat.eq_zero_or_pos n with z | z
    · omega
    · exact absurd (h1 0 z) (by omega)
  | succ m ih =>
    intro n t h1 h2
    rcases Nat.eq_zero_or_pos n with z | z
    · omega
    · by_cases hx : ∃ j, j < n ∧ t j = m
      · obtain ⟨j, hj, ej⟩ := hx
        have := ih (n - 1) (fun k => if k < j then t k else t (k + 1)) (by
          intro k hk
          by_cases z1 : k < j
          · show (if k < j then t k else t (k + 1)) < m
            rw [if_pos z1]
            have a := h1 k (by omega)
            have b := h2 k j z1 hj
            omega
          · show (if k < j then t k else t (k + 1)) < m
            rw [if_neg z1]
            have a := h1 (k + 1) (by omega)
            have b := h2 j (k + 1) (by omega) (by omega)
            omega) (by
          intro a b hab hb
          show (if a < j then t a else t (a + 1)) ≠ (if b < j then t b else t (b + 1))
          by_cases za : a < j
          · rw [if_pos za]
            by_cases zb : b < j
            · rw [if_pos zb]; exact h2 a b hab (by omega)
            · rw [if_neg zb]; exact h2 a (b + 1) (by omega) (by omega)
          · rw [if_neg za, if_neg (by omega)]
            exact h2 (a + 1) (b + 1) (by omega) (by omega))
        omega
      · have := ih n t (fun k hk => by
          have a := h1 k hk
          have b : t k ≠ m := fun z => hx ⟨k, hk, z⟩
          omega) h2
        omega
end
section
/-- the graph of parts: part 0 is 0, parts 1 .. 8 the inputs, each other one the AND of two ends of lesser parts -/
def sg_G (V : Nat → Nat → Bool) (P : Nat) (lf rt : Nat → Int32) : Prop :=
  9 ≤ P ∧ P ≤ 2560 ∧ (∀ x, V 0 x = false) ∧ (∀ i, i < 8 → ∀ x, V (i + 1) x = x.testBit i) ∧
  ∀ p, 9 ≤ p → p < P → ∃ a b, lf p = nI a ∧ rt p = nI b ∧ a < 2 * p ∧ b < 2 * p ∧ ∀ x, V p x = (sv_e V a x && sv_e V b x)
/-- what the search keeps: the trail holds just the parts that are settled -/
def ss_T (l : Nat) (mu tr : Nat → Int32) (t : Nat) : Prop :=
  (∀ p, p ≤ l → mu p = -1 ∨ ∃ b, mu p = sv_b b) ∧ mu 0 = 0 ∧
  (∀ k, k < t → ∃ p, tr k = nI p ∧ 1 ≤ p ∧ p ≤ l ∧ mu p ≠ -1) ∧
  (∀ j k, j < k → k < t → tr j ≠ tr k) ∧
  (∀ p, 1 ≤ p → p ≤ l → mu p ≠ -1 → ∃ k, k < t ∧ tr k = nI p)
def ss_C (l : Nat) (co lf rt : Nat → Int32) : Prop := ∀ p a b, 9 ≤ p → p ≤ l → co p ≠ 0 → lf p = nI a → rt p = nI b → a < 2 * p → b < 2 * p → co (a / 2) ≠ 0 ∧ co (b / 2) ≠ 0
def ss_t (u : St1) : Nat := (gq_ts u).toNatClampNeg
def ss_I (V : Nat → Nat → Bool) (P l : Nat) (D : Nat → Prop) (u : St1) : Prop :=
  gq_lc u = nI l ∧ l < P ∧ sg_G V P (gq_lf u) (gq_rt u) ∧ ss_C l (gq_co u) (gq_lf u) (gq_rt u) ∧ gq_ts u = nI (ss_t u) ∧ ss_T l (gq_mu u) (gq_tr u) (ss_t u) ∧
  (∀ x, D x → ∀ p, p ≤ l → gq_mu u p ≠ -1 → gq_mu u p = sv_b (V p x)) ∧ (gq_cl u ≠ 0 → ∀ x, ¬ D x)
def ss_R (l : Nat) (u u' : St1) : Prop :=
  fz_d u' = fz_d u ∧ ss_t u ≤ ss_t u' ∧ (∀ k, k < ss_t u → gq_tr u' k = gq_tr u k) ∧ (∀ p, p ≤ l → gq_mu u p ≠ -1 → gq_mu u' p = gq_mu u p) ∧
  (gq_mv u' = 0 → gq_mv u = 0 ∧ gq_mu u' = gq_mu u) ∧ (gq_mv u' ≠ 0 → gq_mv u ≠ 0 ∨ ss_t u < ss_t u') ∧ (gq_cl u ≠ 0 → gq_cl u' ≠ 0)
theorem ss_R_refl (l : Nat) (u : St1) : ss_R l u u :=
  ⟨rfl, Nat.le_refl _, fun _ _ => rfl, fun _ _ _ => rfl, fun h => ⟨h, rfl⟩, fun h => Or.inl h, fun h => h⟩
theorem ss_R_trans {l : Nat} {u u' u'' : St1} (h : ss_R l u u') (g : ss_R l u' u'') : ss_R l u u'' := by
  obtain ⟨h1, h2, h3, h4, h5, h6, h7⟩ := h
  obtain ⟨g1, g2, g3, g4, g5, g6, g7⟩ := g
  refine ⟨g1.trans h1, by omega, fun k hk => (g3 k (by omega)).trans (h3 k hk), fun p hp hm => ?_, fun z => ?_, fun z => ?_, fun z => g7 (h7 z)⟩
  · have e := h4 p hp hm
    rw [g4 p hp (by rw [e]; exact hm), e]
  · obtain ⟨z1, z2⟩ := g5 z
    obtain ⟨z3, z4⟩ := h5 z1
    exact ⟨z3, z2.trans z4⟩
  · rcases g6 z with y | y
    · rcases h6 y with w | w
      · exact Or.inl w
      · exact Or.inr (by omega)
    · exact Or.inr (by omega)
theorem ss_T_le {l : Nat} {mu tr : Nat → Int32} {t : Nat} (hl : l < 2560) (h : ss_T l mu tr t) : t ≤ l := by
  obtain ⟨h1, h2, h3, h4, h5⟩ := h
  refine sq_pigeon l t (fun k => (tr k).toNatClampNeg - 1) (fun k hk => ?_) (fun j k hjk hk => ?_)
  · obtain ⟨p, e, q1, q2, q3⟩ := h3 k hk
    show (tr k).toNatClampNeg - 1 < l
    rw [e, nI_clamp (by omega)]
    omega
  · obtain ⟨p, e, q1, q2, q3⟩ := h3 k hk
    obtain ⟨p', e', q1', q2', q3'⟩ := h3 j (by omega)
    have hne := h4 j k hjk hk
    show (tr j).toNatClampNeg - 1 ≠ (tr k).toNatClampNeg - 1
    rw [e, e', nI_clamp (by omega), nI_clamp (by omega)]
    intro z
    apply hne
    rw [e, e', show p' = p by omega]
theorem ss_T_add {l : Nat} {mu tr : Nat → Int32} {t p : Nat} {b : Bool} (hl : l < 2560) (h : ss_T l mu tr t) (hp : p ≤ l) (hm : mu p = -1) :
    ss_T l (upd mu p (sv_b b)) (upd tr t (nI p)) (t + 1) := by
  obtain ⟨h1, h2, h3, h4, h5⟩ := h
  have hp1 : 1 ≤ p := by
    rcases Nat.eq_zero_or_pos p with z | z
    · rw [z, h2] at hm
      exact absurd hm (by decide)
    · exact z
  refine ⟨fun q hq => ?_, ?_, fun k hk => ?_, fun j k hjk hk => ?_, fun q hq1 hq2 hq3 => ?_⟩
  · by_cases e : q = p
    · rw [e, pk_us]; exact Or.inr ⟨b, rfl⟩
    · rw [pk_un e]; exact h1 q hq
  · rw [pk_un (by omega)]; exact h2
  · by_cases e : k = t
    · refine ⟨p, by rw [e, pk_us], hp1, hp, by rw [pk_us]; exact sv_b_ne b⟩
    · obtain ⟨q, e1, q1, q2, q3⟩ := h3 k (by omega)
      refine ⟨q, by rw [pk_un e]; exact e1, q1, q2, ?_⟩
      rw [pk_un (fun z => q3 (by rw [z]; exact hm))]
      exact q3
  · by_cases e : k = t
    · obtain ⟨q, e1, q1, q2, q3⟩ := h3 j (by omega)
      rw [e, pk_us, pk_un (by omega), e1]
      intro z
      exact q3 (by rw [si_inj (by omega) (by omega) z]; exact hm)
    · rw [pk_un e, pk_un (by omega)]
      exact h4 j k hjk (by omega)
  · by_cases e : q = p
    · exact ⟨t, by omega, by rw [pk_us, e]⟩
    · rw [pk_un e] at hq3
      obtain ⟨k, hk, ek⟩ := h5 q hq1 hq2 hq3
      exact ⟨k, by omega, by rw [pk_un (by omega)]; exact ek⟩
theorem sd_raw {post : St1 → Prop} {u : St1} {e : Nat} {v : Bool} {t : Nat} (he : e / 2 < 2560) (ht : gq_ts u = nI t)
    (h1 : gq_mu u (e / 2) = -1 → t < 2560 ∧ post (sq_mv_ts_mu_tr u 1 (nI (t + 1)) (upd (gq_mu u) (e / 2) (sv_b (xor v (decide (e % 2 = 1))))) (upd (gq_tr u) t (nI (e / 2)))))
    (h2 : gq_mu u (e / 2) ≠ -1 → gq_mu u (e / 2) = sv_b (xor v (decide (e % 2 = 1))) → post u)
    (h3 : gq_mu u (e / 2) ≠ -1 → gq_mu u (e / 2) ≠ sv_b (xor v (decide (e % 2 = 1))) → post (sq_cl u 1)) : wpX_demand post u (nI e) (sv_b v) := by
  refine cw_demand _ _ _ _ ?_
  rintro _ rfl _ rfl
  rw [si_half (by omega), si_own v (by omega), nI_clamp (by omega)]
  refine ⟨vp_in_nI he (by decide), fun h => ?_, fun h => ⟨vp_in_nI he (by decide), fun h' => h2 h h', fun h' => h3 h h'⟩⟩
  obtain ⟨ht2, hp⟩ := h1 h
  refine ⟨vp_in_nI he (by decide), ?_⟩
  rintro _ rfl
  refine ⟨by rw [ht]; exact vp_in_nI ht2 (by decide), ?_⟩
  rintro _ rfl _ rfl
  rw [sv_b_byte, ht, nI_clamp (by omega), si_short (by omega), nI_1]
  exact hp
/-- the open case, exact -/
theorem sd_open {post : St1 → Prop} {u : St1} {e l : Nat} {v : Bool} {t : Nat} (hl : l < 2560) (he : e / 2 ≤ l) (ht : gq_ts u = nI t) (hT : ss_T l (gq_mu u) (gq_tr u) t)
    (hm : gq_mu u (e / 2) = -1)
    (h1 : post (sq_mv_ts_mu_tr u 1 (nI (t + 1)) (upd (gq_mu u) (e / 2) (sv_b (xor v (decide (e % 2 = 1))))) (upd (gq_tr u) t (nI (e / 2))))) : wpX_demand post u (nI e) (sv_b v) := by
  have := ss_T_le hl (ss_T_add (b := v) hl hT he hm)
  exact sd_raw (by omega) ht (fun _ => ⟨by omega, h1⟩) (fun z => absurd hm z) (fun z => absurd hm z)
theorem sd_demand {post : St1 → Prop} {u : St1} {V : Nat → Nat → Bool} {P l : Nat} {D : Nat → Prop} {e : Nat} {v : Bool} (hI : ss_I V P l D u) (he : e / 2 ≤ l) (hv : ∀ x, D x → sv_e V e x = v)
    (hp : ∀ u', ss_I V P l D u' → ss_R l u u' → (gq_cl u' = 0 → gq_mu u' (e / 2) = sv_b (xor v (decide (e % 2 = 1)))) → post u') : wpX_demand post u (nI e) (sv_b v) := by
  obtain ⟨hlc, hlP, hG, hC, hts, hT, hA, hcl⟩ := hI
  have hl : l < 2560 := by have := hG.2.1; omega
  have hV : ∀ x, D x → V (e / 2) x = xor v (decide (e % 2 = 1)) := by
    intro x hx
    have := hv x hx
    unfold sv_e at this
    rw [← this]
    cases V (e / 2) x <;> cases decide (e % 2 = 1) <;> rfl
  refine sd_raw (by omega) hts (fun hm => ?_) (fun hm hm' => ?_) (fun hm hm' => ?_)
  · have hT' := ss_T_add (b := xor v (decide (e % 2 = 1))) hl hT he hm
    have hle := ss_T_le hl hT'
    have hst : ss_t (sq_mv_ts_mu_tr u 1 (nI (ss_t u + 1)) (upd (gq_mu u) (e / 2) (sv_b (xor v (decide (e % 2 = 1))))) (upd (gq_tr u) (ss_t u) (nI (e / 2)))) = ss_t u + 1 := nI_clamp (by omega)
    refine ⟨by omega, hp _ ⟨hlc, hlP, hG, hC, ?_, ?_, ?_, hcl⟩ ⟨rfl, ?_, ?_, ?_, ?_, ?_, fun z => z⟩ (fun _ => pk_us)⟩
    · rw [hst]; rfl
    · rw [hst]; exact hT'
    · intro x hx p hp hpm
      show upd (gq_mu u) (e / 2) _ p = _
      by_cases z : p = e / 2
      · rw [z, pk_us, hV x hx]
      · rw [pk_un z]
        have hpm' : upd (gq_mu u) (e / 2) (sv_b (xor v (decide (e % 2 = 1)))) p ≠ -1 := hpm
        rw [pk_un z] at hpm'
        exact hA x hx p hp hpm'
    · rw [hst]; omega
    · intro k hk
      show upd (gq_tr u) (ss_t u) _ k = _
      exact pk_un (by omega)
    · intro p hp hpm
      show upd (gq_mu u) (e / 2) _ p = _
      exact pk_un (fun z => hpm (by rw [z]; exact hm))
    · intro z
      exact absurd z (by show ¬ ((1 : Int32) = 0); decide)
    · intro _
      right
      rw [hst]; omega
  · exact hp u ⟨hlc, hlP, hG, hC, hts, hT, hA, hcl⟩ (ss_R_refl l u) (fun _ => hm')
  · refine hp _ ⟨hlc, hlP, hG, hC, hts, hT, hA, fun _ x hx => ?_⟩ ⟨rfl, Nat.le_refl _, fun _ _ => rfl, fun _ _ _ => rfl, fun z => ⟨z, rfl⟩, fun z => Or.inl z, fun _ => by show ¬ ((1 : Int32) = 0); decide⟩ (fun z => absurd z (by show ¬ ((1 : Int32) = 0); decide))
    have := hA x hx (e / 2) he hm
    rw [hV x hx] at this
    exact hm' this
end
section
/-- what an end must be -/
def sm_e (mu : Nat → Int32) (e : Nat) : Int32 := if mu (e / 2) = -1 then -1 else mu (e / 2) ^^^ (nI e &&& 1)
theorem sm_e_open {mu : Nat → Int32} {e : Nat} (h : mu (e / 2) = -1) : sm_e mu e = -1 := if_pos h
theorem sm_e_b {mu : Nat → Int32} {e : Nat} {b : Bool} (he : e < 2 ^ 31) (h : mu (e / 2) = sv_b b) : sm_e mu e = sv_b (xor b (decide (e % 2 = 1))) := by
  unfold sm_e
  rw [h, if_neg (sv_b_ne b)]
  exact si_own b he
theorem sd_mustEnd {post : Int32 → Prop} {u : St1} {e : Nat} (he : e / 2 < 2560) (h : post (sm_e (gq_mu u) e)) : wpX_mustEnd post u (nI e) := by
  refine cw_mustEnd _ _ _ ?_
  rw [si_half (by omega), nI_clamp (by omega)]
  refine ⟨vp_in_nI he (by decide), ?_⟩
  rintro _ rfl
  unfold sm_e at h
  refine ⟨fun z => ?_, fun z => ?_⟩
  · rw [if_pos z] at h; exact h
  · rw [if_neg z] at h; exact h
/-- an assignment that agrees gives an end what it must be -/
theorem sm_e_val {V : Nat → Nat → Bool} {mu : Nat → Int32} {l e x : Nat} (he : e / 2 ≤ l) (hl : l < 2560) (hA : ∀ p, p ≤ l → mu p ≠ -1 → mu p = sv_b (V p x)) (h : sm_e mu e ≠ -1) : sm_e mu e = sv_b (sv_e V e x) := by
  have hm : mu (e / 2) ≠ -1 := fun z => h (sm_e_open z)
  rw [sm_e_b (by omega) (hA _ he hm)]
  rfl
theorem sm_e_tri {mu : Nat → Int32} {l e : Nat} (he : e / 2 ≤ l) (hl : l < 2560) (h1 : ∀ p, p ≤ l → mu p = -1 ∨ ∃ b, mu p = sv_b b) : sm_e mu e = -1 ∨ ∃ b, sm_e mu e = sv_b b := by
  rcases h1 _ he with z | ⟨b, z⟩
  · exact Or.inl (sm_e_open z)
  · exact Or.inr ⟨_, sm_e_b (by omega) z⟩
/-- an AND that is settled by its ends is settled so -/
def ss_S (mu : Nat → Int32) (p a b : Nat) : Prop := ((sm_e mu a = 0 ∨ sm_e mu b = 0) → mu p = 0) ∧ (sm_e mu a = 1 → sm_e mu b = 1 → mu p = 1)
theorem sd_f67 {post : St1 → Prop} {u : St1} {V : Nat → Nat → Bool} {P l : Nat} {D : Nat → Prop} {p a b : Nat} {r2 r4 x4 : Int32} (hI : ss_I V P l D u) (hp : p ≤ l)
    (ea : gq_lf u p = nI a) (eb : gq_rt u p = nI b) (ha : a < 2 * p) (hb : b < 2 * p)
    (f1 : x4 = 1 → ∀ x, D x → sv_e V a x = true ∧ sv_e V b x = true) (f2 : x4 = 0 → r2 = 1 → ∀ x, D x → sv_e V b x = false) (f3 : x4 = 0 → r4 = 1 → ∀ x, D x → sv_e V a x = false)
    (H : ∀ u', ss_I V P l D u' → ss_R l u u' → post u') : kk_follow_67 post (nI p) r2 r4 x4 u := by
  have hl : l < 2560 := by have := hI.2.1; have := hI.2.2.1.2.1; omega
  have h122 : kk_follow_122 post (nI p) r4 x4 u := by
    unfold kk_follow_122
    rw [nI_clamp (by omega), ea]
    refine ⟨fun z => ⟨fun z2 => ⟨vp_in_nI (by omega) (by decide), ?_⟩, fun _ => H u hI (ss_R_refl l u)⟩, fun _ => H u hI (ss_R_refl l u)⟩
    exact sd_demand (v := false) hI (by omega) (f3 z z2) (fun u' hI' hR' _ => H u' hI' hR')
  unfold kk_follow_67
  rw [nI_clamp (by omega), ea, eb]
  refine ⟨fun z => ⟨vp_in_nI (by omega) (by decide), ?_⟩, fun _ => ⟨fun z => ⟨fun z2 => ⟨vp_in_nI (by omega) (by decide), ?_⟩, fun _ => h122⟩, fun _ => h122⟩⟩
  · refine sd_demand (v := true) hI (by omega) (fun x hx => (f1 z x hx).1) (fun u1 hI1 hR1 _ => ⟨vp_in_nI (by omega) (by decide), ?_⟩)
    rw [fd_rt hR1.1, eb]
    exact sd_demand (v := true) hI1 (by omega) (fun x hx => (f1 z x hx).2) (fun u2 hI2 hR2 _ => H u2 hI2 (ss_R_trans hR1 hR2))
  · exact sd_demand (v := false) hI (by omega) (f2 z z2) (fun u' hI' hR' _ => H u' hI' hR')
theorem sd_follow {post : St1 → Prop} {u : St1} {V : Nat → Nat → Bool} {P l : Nat} {D : Nat → Prop} {p a b : Nat} (hI : ss_I V P l D u) (h9 : 9 ≤ p) (hp : p ≤ l)
    (ea : gq_lf u p = nI a) (eb : gq_rt u p = nI b) (ha : a < 2 * p) (hb : b < 2 * p) (hV : ∀ x, V p x = (sv_e V a x && sv_e V b x))
    (H : ∀ u', ss_I V P l D u' → ss_R l u u' → (gq_mv u' = 0 → gq_cl u' = 0 → ss_S (gq_mu u') p a b) → post u') : wpX_follow post u (nI p) := by
  have hl : l < 2560 := by have := hI.2.1; have := hI.2.2.1.2.1; omega
  have hA := hI.2.2.2.2.2.2.1
  have hT1 := hI.2.2.2.2.2.1.1
  have va : ∀ x, D x → sm_e (gq_mu u) a ≠ -1 → sm_e (gq_mu u) a = sv_b (sv_e V a x) := fun x hx => sm_e_val (by omega) hl (hA x hx)
  have vb : ∀ x, D x → sm_e (gq_mu u) b ≠ -1 → sm_e (gq_mu u) b = sv_b (sv_e V b x) := fun x hx => sm_e_val (by omega) hl (hA x hx)
  have ne : ∀ {y : Int32}, y = 1 → y ≠ -1 := fun h => by rw [h]; decide
  have ne0 : ∀ {y : Int32}, y = 0 → y ≠ -1 := fun h => by rw [h]; decide
  have a1 : sm_e (gq_mu u) a = 1 → ∀ x, D x → sv_e V a x = true := fun h x hx => (sv_b_1 _).mp ((va x hx (ne h)).symm.trans h)
  have b1 : sm_e (gq_mu u) b = 1 → ∀ x, D x → sv_e V b x = true := fun h x hx => (sv_b_1 _).mp ((vb x hx (ne h)).symm.trans h)
  have a0 : sm_e (gq_mu u) a = 0 → ∀ x, D x → sv_e V a x = false := fun h x hx => (sv_b_0 _).mp ((va x hx (ne0 h)).symm.trans h)
  have b0 : sm_e (gq_mu u) b = 0 → ∀ x, D x → sv_e V b x = false := fun h x hx => (sv_b_0 _).mp ((vb x hx (ne0 h)).symm.trans h)
  have o1 : gq_mu u p = 1 → ∀ x, D x → V p x = true := fun h x hx => (sv_b_1 _).mp ((hA x hx p hp (ne h)).symm.trans h)
  have o0 : gq_mu u p = 0 → ∀ x, D x → V p x = false := fun h x hx => (sv_b_0 _).mp ((hA x hx p hp (ne0 h)).symm.trans h)
  have f1 : gq_mu u p = 1 → ∀ x, D x → sv_e V a x = true ∧ sv_e V b x = true := fun h x hx => by
    have := o1 h x hx
    rw [hV x] at this
    exact Bool.and_eq_true_iff.mp this
  have f2 : gq_mu u p = 0 → sm_e (gq_mu u) a = 1 → ∀ x, D x → sv_e V b x = false := fun h h' x hx => by
    have := o0 h x hx
    rw [hV x, a1 h' x hx, Bool.true_and] at this
    exact this
  have f3 : gq_mu u p = 0 → sm_e (gq_mu u) b = 1 → ∀ x, D x → sv_e V a x = false := fun h h' x hx => by
    have := o0 h x hx
    rw [hV x, b1 h' x hx, Bool.and_true] at this
    exact this
  -- what comes behind the first demand
  have fin : ∀ u1, ss_I V P l D u1 → ss_R l u u1 → (gq_mv u1 = 0 → gq_cl u1 = 0 → ss_S (gq_mu u1) p a b) → kk_follow_67 post (nI p) (sm_e (gq_mu u) a) (sm_e (gq_mu u) b) (gq_mu u p) u1 := by
    intro u1 hI1 hR1 hS
    refine sd_f67 hI1 hp ((congrFun (fd_lf hR1.1) p).trans ea) ((congrFun (fd_rt hR1.1) p).trans eb) ha hb f1 f2 f3 (fun u' hI' hR' => H u' hI' (ss_R_trans hR1 hR') (fun z z2 => ?_))
    obtain ⟨m0, m1⟩ := hR'.2.2.2.2.1 z
    rw [m1]
    refine hS m0 ?_
    rcases Classical.em (gq_cl u1 = 0) with c | c
    · exact c
    · exact absurd z2 (hR'.2.2.2.2.2.2 c)
  have d38 : (sm_e (gq_mu u) a = 0 ∨ sm_e (gq_mu u) b = 0) → kk_follow_38 post (nI p) (sm_e (gq_mu u) a) (sm_e (gq_mu u) b) (gq_mu u p) u := by
    intro h
    unfold kk_follow_38
    rw [si_2]
    refine sd_demand (v := false) hI (by omega) (fun x hx => ?_) (fun u1 hI1 hR1 hm => fin u1 hI1 hR1 (fun z z2 => ?_))
    · rw [sv_e_even, hV x]
      rcases h with h | h
      · rw [a0 h x hx]; rfl
      · rw [b0 h x hx, Bool.and_false]
    · have e := (hR1.2.2.2.2.1 z).2
      have hm' := hm z2
      rw [show 2 * p / 2 = p by omega, show decide (2 * p % 2 = 1) = false from decide_eq_false (by omega)] at hm'
      refine ⟨fun _ => hm', fun y1 y2 => ?_⟩
      rw [e] at y1 y2
      rcases h with h | h
      · rw [h] at y1; exact absurd y1 (by decide)
      · rw [h] at y2; exact absurd y2 (by decide)
  refine cw_follow _ _ _ ?_
  rw [nI_clamp (by omega), ea, eb]
  refine ⟨vp_in_nI (by omega) (by decide), sd_mustEnd (by omega) ⟨vp_in_nI (by omega) (by decide), sd_mustEnd (by omega) ⟨vp_in_nI (by omega) (by decide), ?_⟩⟩⟩
  rintro _ rfl
  refine ⟨fun z => d38 (Or.inl z), fun z1 => ⟨fun z => d38 (Or.inr z), fun z2 => ⟨fun z3 => ⟨fun z4 => ?_, fun z4 => ?_⟩, fun z3 => ?_⟩⟩⟩
  · rw [si_2]
    refine sd_demand (v := true) hI (by omega) (fun x hx => ?_) (fun u1 hI1 hR1 hm => fin u1 hI1 hR1 (fun z z2 => ?_))
    · rw [sv_e_even, hV x, a1 z3 x hx, b1 z4 x hx]; rfl
    · have e := (hR1.2.2.2.2.1 z).2
      have hm' := hm z2
      rw [show 2 * p / 2 = p by omega, show decide (2 * p % 2 = 1) = false from decide_eq_false (by omega)] at hm'
      refine ⟨fun y => ?_, fun _ _ => hm'⟩
      rw [e, z3, z4] at y
      rcases y with y | y <;> exact absurd y (by decide)
  · refine fin u hI (ss_R_refl l u) (fun _ _ => ⟨fun y => ?_, fun _ y => absurd y z4⟩)
    rcases y with y | y
    · exact absurd y z1
    · exact absurd y z2
  · refine fin u hI (ss_R_refl l u) (fun _ _ => ⟨fun y => ?_, fun y _ => absurd y z3⟩)
    rcases y with y | y
    · exact absurd y z1
    · exact absurd y z2
end
section
/-- what following keeps -/
def ss_E (l : Nat) (u u' : St1) : Prop :=
  fz_d u' = fz_d u ∧ ss_t u ≤ ss_t u' ∧ (∀ k, k < ss_t u → gq_tr u' k = gq_tr u k) ∧ (∀ p, p ≤ l → gq_mu u p ≠ -1 → gq_mu u' p = gq_mu u p) ∧ (gq_cl u ≠ 0 → gq_cl u' ≠ 0)
theorem ss_E_refl (l : Nat) (u : St1) : ss_E l u u := ⟨rfl, Nat.le_refl _, fun _ _ => rfl, fun _ _ _ => rfl, fun h => h⟩
theorem ss_E_of {l : Nat} {u u' : St1} (h : ss_R l u u') : ss_E l u u' := ⟨h.1, h.2.1, h.2.2.1, h.2.2.2.1, h.2.2.2.2.2.2⟩
theorem ss_E_trans {l : Nat} {u u' u'' : St1} (h : ss_E l u u') (g : ss_E l u' u'') : ss_E l u u'' := by
  obtain ⟨h1, h2, h3, h4, h7⟩ := h
  obtain ⟨g1, g2, g3, g4, g7⟩ := g
  refine ⟨g1.trans h1, by omega, fun k hk => (g3 k (by omega)).trans (h3 k hk), fun p hp hm => ?_, fun z => g7 (h7 z)⟩
  have e := h4 p hp hm
  rw [g4 p hp (by rw [e]; exact hm), e]
/-- all concerned ANDs below i are settled by their ends -/
def ss_Q (l : Nat) (u : St1) (i : Nat) : Prop := ∀ p a b, 9 ≤ p → p < i → p ≤ l → gq_co u p ≠ 0 → gq_lf u p = nI a → gq_rt u p = nI b → a < 2 * p → b < 2 * p → ss_S (gq_mu u) p a b
theorem sd_fa65 {post : St1 → Prop} {J : St1 → Prop} {u : St1} {V : Nat → Nat → Bool} {P l : Nat} {D : Nat → Prop} (hI : ss_I V P l D u)
    (H : ∀ u', ss_I V P l D u' → ss_R l u u' → (gq_mv u' = 0 → gq_cl u' = 0 → ss_Q l u' (l + 1)) → J u') : ∃ n, qq_followAll_65 post J n 9 u := by
  have hl : l < 2560 := by have := hI.2.1; have := hI.2.2.1.2.1; omega
  refine loop_m (fun n (s : Nat × St1) => qq_followAll_65 post J n (nI s.1) s.2) (fun s => 9 ≤ s.1 ∧ s.1 < 2562 ∧ ss_I V P l D s.2 ∧ ss_R l u s.2 ∧ (gq_mv s.2 = 0 → gq_cl s.2 = 0 → ss_Q l s.2 s.1)) (fun s => l + 1 - s.1) ?_ (9, u) ⟨Nat.le_refl 9, by omega, hI, ss_R_refl l u, fun _ _ p a b h1 h2 => absurd h2 (Nat.not_lt.mpr h1)⟩
  rintro n ⟨i, w⟩ ⟨h9, hi2, hIw, hRw, hQ⟩ ih
  have h9' : 9 ≤ i := h9
  have hi2' : i < 2562 := hi2
  show qq_followAll_65 post J (n + 1) (nI i) w
  refine cq_followAll_65 _ _ _ _ _ ?_
  have hQ' : gq_mv w = 0 → gq_cl w = 0 → ss_Q l w i := hQ
  rw [hIw.1, nI_clamp (by omega)]
  refine pk_lt l i (fun z => H w hIw hRw (fun y y2 p a b p1 p2 p3 => hQ' y y2 p a b p1 (by omega) p3)) (fun z => ⟨fun c => ⟨vp_in_nI (by omega) (by decide), fun e => ?_, fun e => ?_⟩, fun c => H w hIw hRw (fun _ y => absurd y c)⟩)
  · rintro _ rfl
    rw [nI_1]
    refine ih (i + 1, w) ⟨by show 9 ≤ i + 1; omega, by show i + 1 < 2562; omega, hIw, hRw, fun y y2 p a b p1 p2 p3 p4 => ?_⟩ (by show l + 1 - (i + 1) < l + 1 - i; omega)
    refine hQ' y y2 p a b p1 ?_ p3 p4
    have : p < i + 1 := p2
    have : p ≠ i := fun q => p4 (by rw [q]; exact e)
    omega
  · obtain ⟨a, b, ea, eb, ha, hb, hV⟩ := hIw.2.2.1.2.2.2.2 i h9' (by have := hIw.2.1; omega)
    refine sd_follow hIw h9' z ea eb ha hb hV (fun u1 hI1 hR1 hS => ?_)
    rintro _ rfl
    rw [nI_1]
    refine ih (i + 1, u1) ⟨by show 9 ≤ i + 1; omega, by show i + 1 < 2562; omega, hI1, ss_R_trans hRw hR1, fun y y2 p a' b' p1 p2 p3 p4 q1 q2 q3 q4 => ?_⟩ (by show l + 1 - (i + 1) < l + 1 - i; omega)
    have y' : gq_mv u1 = 0 := y
    have y2' : gq_cl u1 = 0 := y2
    have q1' : gq_lf u1 p = nI a' := q1
    have q2' : gq_rt u1 p = nI b' := q2
    have p4' : gq_co u1 p ≠ 0 := p4
    rw [fd_lf hR1.1] at q1'
    rw [fd_rt hR1.1] at q2'
    rw [fd_co hR1.1] at p4'
    obtain ⟨m0, m1⟩ := hR1.2.2.2.2.1 y'
    have c0 : gq_cl w = 0 := c
    by_cases ep : p = i
    · subst ep
      rw [ea] at q1'
      rw [eb] at q2'
      have e1 := si_inj (by omega) (by omega) q1'
      have e2 := si_inj (by omega) (by omega) q2'
      subst e1 e2
      exact hS y' y2'
    · show ss_S (gq_mu u1) p a' b'
      rw [m1]
      have p2' : p < i + 1 := p2
      exact hQ' m0 c0 p a' b' p1 (by omega) p3 p4' q1' q2' q3 q4
theorem sd_fa29 {post : St1 → Prop} {J : St1 → Prop} {u : St1} {V : Nat → Nat → Bool} {P l : Nat} {D : Nat → Prop} (hI : ss_I V P l D u)
    (H : ∀ u', ss_I V P l D u' → ss_R l u u' → (gq_mv u' = 0 → gq_cl u' = 0 → ss_Q l u' (l + 1)) → J u') : ∃ n, qq_followAll_29 post J n (gq_lc u) u := by
  have hl : l < 2560 := by have := hI.2.1; have := hI.2.2.1.2.1; omega
  rw [hI.1]
  refine loop_m (fun n (s : Nat × St1) => qq_followAll_29 post J n (nI s.1) s.2) (fun s => s.1 ≤ l ∧ ss_I V P l D s.2 ∧ ss_R l u s.2) (fun s => s.1) ?_ (l, u) ⟨Nat.le_refl l, hI, ss_R_refl l u⟩
  rintro n ⟨i, w⟩ ⟨hil, hIw, hRw⟩ ih
  have hil' : i ≤ l := hil
  show qq_followAll_29 post J (n + 1) (nI i) w
  refine cq_followAll_29 _ _ _ _ _ ?_
  have nxt : ∃ n, qq_followAll_65 post J n 9 w := sd_fa65 hIw (fun u' hI' hR' hQ => H u' hI' (ss_R_trans hRw hR') hQ)
  rw [nI_clamp (by omega)]
  refine pk_lt i 9 (fun z => nxt) (fun z => ⟨fun c => ⟨vp_in_nI (by omega) (by decide), fun e => ?_, fun e => ?_⟩, fun c => nxt⟩)
  · rintro _ rfl
    rw [sb_m1 (by omega)]
    exact ih (i - 1, w) ⟨by show i - 1 ≤ l; omega, hIw, hRw⟩ (by show i - 1 < i; omega)
  · obtain ⟨a, b, ea, eb, ha, hb, hV⟩ := hIw.2.2.1.2.2.2.2 i z (by have := hIw.2.1; omega)
    refine sd_follow hIw z hil' ea eb ha hb hV (fun u1 hI1 hR1 hS => ?_)
    rintro _ rfl
    rw [sb_m1 (by omega)]
    exact ih (i - 1, u1) ⟨by show i - 1 ≤ l; omega, hI1, ss_R_trans hRw hR1⟩ (by show i - 1 < i; omega)
theorem sd_followAll {post : St1 → Prop} {u : St1} {V : Nat → Nat → Bool} {P l : Nat} {D : Nat → Prop} (hI : ss_I V P l D u)
    (H : ∀ u', ss_I V P l D u' → ss_E l u u' → (gq_cl u' = 0 → ss_Q l u' (l + 1)) → post u') : wpX_followAll post u := by
  have hl : l < 2560 := by have := hI.2.1; have := hI.2.2.1.2.1; omega
  refine cw_followAll _ _ ?_
  refine loop_m (fun n (s : St1) => qq_followAll_5 post n s) (fun s => ss_I V P l D s ∧ ss_E l u s ∧ (gq_mv s = 0 → gq_cl s = 0 → ss_Q l s (l + 1))) (fun s => 2 * (l + 1 - ss_t s) + (if gq_mv s = 0 then 0 else 1)) ?_ (sq_mv u 1) ⟨hI, ss_E_refl l u, fun z => absurd z (by show ¬ ((1 : Int32) = 0); decide)⟩
  rintro n w ⟨hIw, hEw, hQw⟩ ih
  refine cq_followAll_5 _ _ _ ⟨fun z => H w hIw hEw (hQw z), fun z => ⟨fun c => ?_, fun c => H w hIw hEw (fun y => absurd y c)⟩⟩
  have hI1 : ss_I V P l D (sq_mv w 0) := hIw
  refine sd_fa29 hI1 (fun u' hI' hR' hQ => ih u' ⟨hI', ss_E_trans hEw (ss_E_of (u := sq_mv w 0) hR'), hQ⟩ ?_)
  have t1 := ss_T_le hl hI'.2.2.2.2.2.1
  have t2 : ss_t w ≤ ss_t u' := hR'.2.1
  rw [if_neg z]
  by_cases m : gq_mv u' = 0
  · rw [if_pos m]; omega
  · rw [if_neg m]
    rcases hR'.2.2.2.2.2.1 m with y | y
    · exact absurd rfl y
    · have y' : ss_t w < ss_t u' := y
      omega
end
section
theorem si_nb0 : vp_nar .boolean 0 = 0 := by decide
theorem si_nb1 : vp_nar .boolean 1 = 1 := by decide
theorem sd_c82 {post : St1 → Prop} {u : St1} {V : Nat → Nat → Bool} {P l : Nat} (hlP : l < P) (hG : sg_G V P (gq_lf u) (gq_rt u))
    (H : ∀ co', (∀ p, gq_co u p ≠ 0 → co' p ≠ 0) → ss_C l co' (gq_lf u) (gq_rt u) → post (sq_cl_ts_lv (sq_co u co') 0 0 0)) : ∃ n, qq_concern_82 post n (nI l) u := by
  have hP := hG.2.1
  refine loop_m (fun n (s : Nat × (Nat → Int32)) => qq_concern_82 post n (nI s.1) (sq_co u s.2)) (fun s => s.1 ≤ l ∧ (∀ p, gq_co u p ≠ 0 → s.2 p ≠ 0) ∧ (∀ p a b, s.1 < p → 9 ≤ p → p ≤ l → s.2 p ≠ 0 → gq_lf u p = nI a → gq_rt u p = nI b → a < 2 * p → b < 2 * p → s.2 (a / 2) ≠ 0 ∧ s.2 (b / 2) ≠ 0)) (fun s => s.1) ?_ (l, gq_co u) ⟨Nat.le_refl l, fun _ h => h, fun p a b h1 _ h2 => absurd h2 (Nat.not_le.mpr h1)⟩
  rintro n ⟨i, c⟩ ⟨hil, hc, hcl⟩ ih
  have hil' : i ≤ l := hil
  have hc' : ∀ p, gq_co u p ≠ 0 → c p ≠ 0 := hc
  have hcl' : ∀ p a b, i < p → 9 ≤ p → p ≤ l → c p ≠ 0 → gq_lf u p = nI a → gq_rt u p = nI b → a < 2 * p → b < 2 * p → c (a / 2) ≠ 0 ∧ c (b / 2) ≠ 0 := hcl
  show qq_concern_82 post (n + 1) (nI i) (sq_co u c)
  refine cq_concern_82 _ _ _ _ ?_
  rw [nI_clamp (by omega)]
  refine pk_lt i 9 (fun z => H c hc' (fun p a b h9 => hcl' p a b (by omega) h9)) (fun z => ⟨vp_in_nI (by omega) (by decide), fun e => ?_, fun e => ?_⟩)
  · rintro _ rfl
    rw [sb_m1 (by omega)]
    refine ih (i - 1, c) ⟨by show i - 1 ≤ l; omega, hc, fun p a b h1 h9 hpl hp => ?_⟩ (by show i - 1 < i; omega)
    have h1' : i - 1 < p := h1
    have : p ≠ i := fun q => hp (by rw [q]; exact e)
    exact hcl' p a b (by omega) h9 hpl hp
  · obtain ⟨a, b, ea, eb, ha, hb, hV⟩ := hG.2.2.2.2 i z (by omega)
    have ea' : gq_lf (sq_co u c) i = nI a := ea
    have eb' : gq_rt (sq_co u c) i = nI b := eb
    rw [ea', eb', si_half (by omega), si_half (by omega), nI_clamp (by omega), nI_clamp (by omega)]
    refine ⟨vp_in_nI (by omega) (by decide), vp_in_nI (by omega) (by decide), ?_⟩
    rintro _ rfl
    refine ⟨vp_in_nI (by omega) (by decide), vp_in_nI (by omega) (by decide), ?_⟩
    rintro _ rfl _ rfl
    rw [sb_m1 (by omega)]
    have mono : ∀ p, c p ≠ 0 → upd (upd c (a / 2) 1) (b / 2) 1 p ≠ 0 := by
      intro p hp
      by_cases h1 : p = b / 2
      · rw [h1, pk_us]; decide
      · rw [pk_un h1]
        by_cases h2 : p = a / 2
        · rw [h2, pk_us]; decide
        · rw [pk_un h2]; exact hp
    refine ih (i - 1, upd (upd c (a / 2) 1) (b / 2) 1) ⟨by show i - 1 ≤ l; omega, fun p hp => mono p (hc' p hp), fun p a' b' h1 h9 hpl hp q1 q2 q3 q4 => ?_⟩ (by show i - 1 < i; omega)
    have h1' : i - 1 < p := h1
    by_cases ep : p = i
    · subst ep
      rw [ea] at q1
      rw [eb] at q2
      have e1 := si_inj (by omega) (by omega) q1
      have e2 := si_inj (by omega) (by omega) q2
      subst e1 e2
      refine ⟨?_, ?_⟩
      · show upd (upd c (a / 2) 1) (b / 2) 1 (a / 2) ≠ 0
        by_cases h2 : a / 2 = b / 2
        · rw [h2, pk_us]; decide
        · rw [pk_un h2, pk_us]; decide
      · show upd (upd c (a / 2) 1) (b / 2) 1 (b / 2) ≠ 0
        rw [pk_us]; decide
    · have hp' : upd (upd c (a / 2) 1) (b / 2) 1 p ≠ 0 := hp
      rw [pk_un (by omega), pk_un (by omega)] at hp'
      obtain ⟨r1, r2⟩ := hcl' p a' b' (by omega) h9 hpl hp' q1 q2 q3 q4
      exact ⟨mono _ r1, mono _ r2⟩
theorem sd_c24 {post : St1 → Prop} {u : St1} {V : Nat → Nat → Bool} {P l o1 o2 : Nat} (hlc : gq_lc u = nI l) (hlP : l < P) (hG : sg_G V P (gq_lf u) (gq_rt u)) (h1 : o1 < 2 * P) (h2 : o2 < 2 * P)
    (H : ∀ co' mu', mu' 0 = 0 → (∀ p, 1 ≤ p → p ≤ l → mu' p = -1) → (o1 / 2 ≤ l → co' (o1 / 2) ≠ 0) → (o2 / 2 ≤ l → co' (o2 / 2) ≠ 0) → ss_C l co' (gq_lf u) (gq_rt u) → post (sq_cl_ts_lv (sq_co_mu u co' mu') 0 0 0)) : ∃ n, qq_concern_24 post (nI o1) (nI o2) n 0 u := by
  have hP := hG.2.1
  refine loop_m (fun n (s : Nat × (Nat → Int32) × (Nat → Int32)) => qq_concern_24 post (nI o1) (nI o2) n (nI s.1) (sq_co_mu u s.2.1 s.2.2)) (fun s => s.1 ≤ l + 1 ∧ (∀ p, p < s.1 → s.2.2 p = -1) ∧ (o1 / 2 < s.1 → s.2.1 (o1 / 2) ≠ 0) ∧ (o2 / 2 < s.1 → s.2.1 (o2 / 2) ≠ 0)) (fun s => l + 1 - s.1) ?_ (0, gq_co u, gq_mu u) ⟨Nat.zero_le _, fun p h => absurd h (Nat.not_lt_zero p), fun h => absurd h (Nat.not_lt_zero _), fun h => absurd h (Nat.not_lt_zero _)⟩
  rintro n ⟨i, c, m⟩ ⟨hil, hm, hc1, hc2⟩ ih
  have hil' : i ≤ l + 1 := hil
  have hm' : ∀ p, p < i → m p = -1 := hm
  have hc1' : o1 / 2 < i → c (o1 / 2) ≠ 0 := hc1
  have hc2' : o2 / 2 < i → c (o2 / 2) ≠ 0 := hc2
  show qq_concern_24 post (nI o1) (nI o2) (n + 1) (nI i) (sq_co_mu u c m)
  refine cq_concern_24 _ _ _ _ _ _ ?_
  have hlc' : gq_lc (sq_co_mu u c m) = nI l := hlc
  rw [hlc', si_half (by omega), si_half (by omega)]
  have step : ∀ z0 : Int32, (z0 = 0 ∨ z0 = 1) → ((i = o1 / 2 ∨ i = o2 / 2) → z0 = 1) → i ≤ l → kk_concern_56 post (qq_concern_24 post (nI o1) (nI o2) n) (nI o1) (nI o2) (nI i) z0 (nI i) (sq_co_mu u c m) := by
    intro z0 hz hz1 hi
    have hz' : vp_nar .boolean z0 = z0 := by
      rcases hz with z | z <;> rw [z]
      · exact si_nb0
      · exact si_nb1
    refine ⟨vp_in_nI (by omega) (by decide), ?_⟩
    rintro _ rfl
    refine ⟨vp_in_nI (by omega) (by decide), ?_⟩
    rintro _ rfl _ rfl
    rw [nI_clamp (by omega), hz', nI_1]
    refine ih (i + 1, upd c i z0, upd m i (-1)) ⟨by show i + 1 ≤ l + 1; omega, fun p hp => ?_, fun hp => ?_, fun hp => ?_⟩ (by show l + 1 - (i + 1) < l + 1 - i; omega)
    · show upd m i (-1) p = -1
      have hp' : p < i + 1 := hp
      by_cases e : p = i
      · rw [e, pk_us]
      · rw [pk_un e]; exact hm' p (by omega)
    · show upd c i z0 (o1 / 2) ≠ 0
      have hp' : o1 / 2 < i + 1 := hp
      by_cases e : o1 / 2 = i
      · rw [e, pk_us, hz1 (Or.inl e.symm)]; decide
      · rw [pk_un e]; exact hc1' (by omega)
    · show upd c i z0 (o2 / 2) ≠ 0
      have hp' : o2 / 2 < i + 1 := hp
      by_cases e : o2 / 2 = i
      · rw [e, pk_us, hz1 (Or.inr e.symm)]; decide
      · rw [pk_un e]; exact hc2' (by omega)
  refine pk_lt l i (fun z => ?_) (fun z => ?_)
  · rintro _ rfl
    refine sd_c82 (u := sq_mu (sq_co_mu u c m) (upd (gq_mu (sq_co_mu u c m)) 0 0)) hlP hG (fun co' k1 k2 => ?_)
    refine H co' (upd m 0 0) pk_us (fun p p1 p2 => ?_) (fun k => k1 _ (hc1' (by omega))) (fun k => k1 _ (hc2' (by omega))) k2
    rw [pk_un (by omega)]
    exact hm' p (by omega)
  · refine pk_eq i (o1 / 2) (fun e => step 1 (Or.inr rfl) (fun _ => rfl) z) (fun e => pk_eq i (o2 / 2) (fun e2 => step 1 (Or.inr rfl) (fun _ => rfl) z) (fun e2 => step 0 (Or.inl rfl) (fun k => ?_) z))
    rcases k with k | k
    · exact absurd k e
    · exact absurd k e2
theorem sd_concern {post : St1 → Prop} {u : St1} {V : Nat → Nat → Bool} {P o1 o2 : Nat} (hG : sg_G V P (gq_lf u) (gq_rt u)) (h1 : o1 < 2 * P) (h2 : o2 < 2 * P)
    (H : ∀ u' l, fz_c u' = fz_c u → gq_lc u' = nI l → l < P → o1 / 2 ≤ l → o2 / 2 ≤ l → gq_cl u' = 0 → gq_ts u' = 0 → gq_lv u' = 0 → gq_mu u' 0 = 0 → (∀ p, 1 ≤ p → p ≤ l → gq_mu u' p = -1) →
      gq_co u' (o1 / 2) ≠ 0 → gq_co u' (o2 / 2) ≠ 0 → ss_C l (gq_co u') (gq_lf u') (gq_rt u') → post u') : wpX_concern post u (nI o1) (nI o2) := by
  have hP := hG.2.1
  refine cw_concern _ _ _ _ ?_
  rw [si_half (by omega), si_half (by omega)]
  have main : ∀ l, l < P → o1 / 2 ≤ l → o2 / 2 ≤ l → ∃ n, qq_concern_24 post (nI o1) (nI o2) n 0 (sq_lc u (nI l)) := by
    intro l hl k1 k2
    exact sd_c24 (u := sq_lc u (nI l)) rfl hl hG h1 h2 (fun co' mu' m0 m1 c1 c2 cC => H (sq_cl_ts_lv (sq_co_mu (sq_lc u (nI l)) co' mu') 0 0 0) l rfl rfl hl k1 k2 rfl rfl rfl m0 m1 (c1 k1) (c2 k2) cC)
  refine pk_le (o1 / 2) (o2 / 2) (fun z => ?_) (fun z => ?_)
  · rintro _ rfl
    exact main _ (by omega) z (Nat.le_refl _)
  · rintro _ rfl
    exact main _ (by omega) (Nat.le_refl _) (by omega)
theorem sd_openInput {post : Int32 → Prop} {u : St1} {l : Nat} (hlc : gq_lc u = nI l) (hl : l < 2560)
    (Hn : (∀ q, q < 8 → q + 1 ≤ l → gq_co u (q + 1) ≠ 0 → gq_mu u (q + 1) ≠ -1) → post (-1))
    (Hs : ∀ i, i < 8 → i + 1 ≤ l → gq_co u (i + 1) ≠ 0 → gq_mu u (i + 1) = -1 → (∀ q, i < q → q < 8 → q + 1 ≤ l → gq_co u (q + 1) ≠ 0 → gq_mu u (q + 1) ≠ -1) → post (nI i)) : wpX_openInput post u := by
  refine cw_openInput _ _ ⟨9, ?_⟩
  refine pk_loopD (σ := Unit) (fun n j _ => qq_openInput_3 post n (nI j + (-1)) u) (fun j _ => j ≤ 8 ∧ ∀ q, j ≤ q → q < 8 → q + 1 ≤ l → gq_co u (q + 1) ≠ 0 → gq_mu u (q + 1) ≠ -1) ?_ ?_ 8 () ⟨Nat.le_refl 8, fun q h1 h2 => absurd h2 (Nat.not_lt.mpr h1)⟩
  · intro n _ hI
    refine cq_openInput_3 _ _ _ _ (br_t (by decide) (Hn (fun q h => hI.2 q (Nat.zero_le q) h)))
  · intro n i _ hI ih
    have hi8 : i + 1 ≤ 8 := hI.1
    show qq_openInput_3 post (n + 1) (nI (i + 1) + (-1)) u
    rw [pk_m1]
    refine cq_openInput_3 _ _ _ _ (br_f (nI_pos (by omega)) ?_)
    have nxt : (i + 1 ≤ l → gq_co u (i + 1) ≠ 0 → gq_mu u (i + 1) ≠ -1) → qq_openInput_3 post n (nI i + (-1)) u := by
      intro h
      refine ih () ⟨by omega, fun q h1 h2 h3 => ?_⟩
      by_cases e : q = i
      · rw [e]; rw [e] at h3; exact h h3
      · exact hI.2 q (by omega) h2 h3
    rw [hlc, nI_1, nI_clamp (by omega)]
    refine pk_lt l (i + 1) (fun z => ?_) (fun z => ⟨vp_in_nI (by omega) (by decide), fun e => ?_, fun e => ⟨vp_in_nI (by omega) (by decide), fun e2 => Hs i (by omega) z e e2 (fun q h1 => hI.2 q (by omega)), fun e2 => ?_⟩⟩)
    · rintro _ rfl
      exact nxt (fun h => absurd h (by omega))
    · rintro _ rfl
      exact nxt (fun _ h => absurd e h)
    · rintro _ rfl
      exact nxt (fun _ _ => e2)
/-- a number by its bits -/
def sx_num (f : Nat → Bool) : Nat → Nat
  | 0 => 0
  | n + 1 => sx_num f n + (if f n then 2 ^ n else 0)
theorem sx_num_lt (f : Nat → Bool) : ∀ n, sx_num f n < 2 ^ n := by
  intro n
  induction n with
  | zero => exact Nat.one_pos
  | succ n ih =>
    have e : (2 : Nat) ^ (n + 1) = 2 ^ n + 2 ^ n := by rw [Nat.pow_succ]; omega
    show sx_num f n + (if f n then 2 ^ n else 0) < 2 ^ (n + 1)
    rw [e]
    split <;> omega
theorem sx_num_bit (f : Nat → Bool) : ∀ n i, (sx_num f n).testBit i = (decide (i < n) && f i) := by
  intro n
  induction n with
  | zero =>
    intro i
    show (0 : Nat).testBit i = _
    rw [Nat.zero_testBit, decide_eq_false (Nat.not_lt_zero i)]
    rfl
  | succ n ih =>
    intro i
    have hlt := sx_num_lt f (n + 1)
    rcases Nat.lt_trichotomy i n with h | h | h
    · rw [decide_eq_true (show i < n + 1 by omega), Bool.true_and]
      have ihi := ih i
      rw [decide_eq_true h, Bool.true_and] at ihi
      show (sx_num f n + (if f n then 2 ^ n else 0)).testBit i = f i
      split
      · rw [Nat.add_comm, Nat.testBit_two_pow_add_gt h]; exact ihi
      · rw [Nat.add_zero]; exact ihi
    · subst h
      rw [decide_eq_true (show i < i + 1 by omega), Bool.true_and]
      have h0 : (sx_num f i).testBit i = false := Nat.testBit_lt_two_pow (sx_num_lt f i)
      show (sx_num f i + (if f i then 2 ^ i else 0)).testBit i = f i
      cases hf : f i
      · rw [if_neg (by decide), Nat.add_zero]; exact h0
      · rw [if_pos rfl, Nat.add_comm, Nat.testBit_two_pow_add_eq, h0]; rfl
    · rw [decide_eq_false (show ¬ i < n + 1 by omega), Bool.false_and]
      refine Nat.testBit_lt_two_pow (Nat.lt_of_lt_of_le hlt ?_)
      exact Nat.pow_le_pow_right (by decide) (by omega)
theorem si_orp : ∀ i, i < 8 → ∀ a, a < 2 ^ i → nI a ||| nI (2 ^ i) = nI (a + 2 ^ i) := by decide +kernel
theorem si_or0 : ∀ a, a < 256 → nI a ||| 0 = nI a := by decide +kernel
theorem si_p2 : ∀ i, i < 8 → (1 : Int32) <<< (nI i &&& 31) = nI (2 ^ i) := by decide +kernel
theorem sd_take {post : St1 → Prop} {u : St1} {l : Nat} (hlc : gq_lc u = nI l) (hl : l < 2560)
    (H : post (sq_fa u (nI (sx_num (fun i => decide (i + 1 ≤ l ∧ gq_co u (i + 1) ≠ 0 ∧ gq_mu u (i + 1) = 1)) 8)))) : wpX_takeAssignment post u := by
  refine cw_takeAssignment _ _ ?_
  refine pk_loop (σ := Unit) (fun n i _ => qq_takeAssignment_7 post n (nI i) (sq_fa u (nI (sx_num (fun i => decide (i + 1 ≤ l ∧ gq_co u (i + 1) ≠ 0 ∧ gq_mu u (i + 1) = 1)) i)))) (fun _ _ => True) 8 0 () (by decide) trivial ?_ ?_
  · intro n _ _
    exact cq_takeAssignment_7 _ _ _ _ (br_t (by decide) H)
  · intro n i _ hi _ ih
    refine cq_takeAssignment_7 _ _ _ _ ?_
    have hlt := sx_num_lt (fun i => decide (i + 1 ≤ l ∧ gq_co u (i + 1) ≠ 0 ∧ gq_mu u (i + 1) = 1)) i
    have hlt2 : 2 ^ i < 256 := Nat.lt_of_lt_of_le (Nat.pow_lt_pow_right (by decide) hi) (by decide)
    have ih' := ih () trivial
    have n50 : ¬ (i + 1 ≤ l ∧ gq_co u (i + 1) ≠ 0 ∧ gq_mu u (i + 1) = 1) → kk_takeAssignment_51 post (qq_takeAssignment_7 post n) (nI i) 0 (sq_fa u (nI (sx_num (fun i => decide (i + 1 ≤ l ∧ gq_co u (i + 1) ≠ 0 ∧ gq_mu u (i + 1) = 1)) i))) := by
      intro hn
      refine br_t rfl ?_
      rintro _ rfl _ rfl
      rw [nI_1]
      have e : gq_fa (sq_fa u (nI (sx_num (fun i => decide (i + 1 ≤ l ∧ gq_co u (i + 1) ≠ 0 ∧ gq_mu u (i + 1) = 1)) i))) ||| 0 = nI (sx_num (fun i => decide (i + 1 ≤ l ∧ gq_co u (i + 1) ≠ 0 ∧ gq_mu u (i + 1) = 1)) (i + 1)) := by
        show nI (sx_num (fun i => decide (i + 1 ≤ l ∧ gq_co u (i + 1) ≠ 0 ∧ gq_mu u (i + 1) = 1)) i) ||| 0 = nI (sx_num (fun i => decide (i + 1 ≤ l ∧ gq_co u (i + 1) ≠ 0 ∧ gq_mu u (i + 1) = 1)) i + (if (decide (i + 1 ≤ l ∧ gq_co u (i + 1) ≠ 0 ∧ gq_mu u (i + 1) = 1)) then 2 ^ i else 0))
        rw [if_neg (by rw [decide_eq_false hn]; decide), Nat.add_zero]
        exact si_or0 _ (by omega)
      rw [e]
      exact ih'
    rw [show gq_lc (sq_fa u (nI (sx_num (fun i => decide (i + 1 ≤ l ∧ gq_co u (i + 1) ≠ 0 ∧ gq_mu u (i + 1) = 1)) i))) = nI l from hlc, nI_1, nI_clamp (by omega)]
    refine br_f (nI_ge (b := 8) hi (by decide)) ?_
    refine pk_lt l (i + 1) (fun z => n50 (fun h => absurd h.1 (by omega))) (fun z => ⟨vp_in_nI (by omega) (by decide), fun e => n50 (fun h => h.2.1 e), fun e => ⟨vp_in_nI (by omega) (by decide), fun e2 => ?_, fun e2 => n50 (fun h => e2 h.2.2)⟩⟩)
    refine br_f (by decide) ?_
    rintro _ rfl _ rfl
    rw [nI_1, si_p2 i hi]
    have e : gq_fa (sq_fa u (nI (sx_num (fun i => decide (i + 1 ≤ l ∧ gq_co u (i + 1) ≠ 0 ∧ gq_mu u (i + 1) = 1)) i))) ||| nI (2 ^ i) = nI (sx_num (fun i => decide (i + 1 ≤ l ∧ gq_co u (i + 1) ≠ 0 ∧ gq_mu u (i + 1) = 1)) (i + 1)) := by
      show nI (sx_num (fun i => decide (i + 1 ≤ l ∧ gq_co u (i + 1) ≠ 0 ∧ gq_mu u (i + 1) = 1)) i) ||| nI (2 ^ i) = nI (sx_num (fun i => decide (i + 1 ≤ l ∧ gq_co u (i + 1) ≠ 0 ∧ gq_mu u (i + 1) = 1)) i + (if (decide (i + 1 ≤ l ∧ gq_co u (i + 1) ≠ 0 ∧ gq_mu u (i + 1) = 1)) then 2 ^ i else 0))
      rw [if_pos (decide_eq_true ⟨z, e, e2⟩)]
      exact si_orp i hi _ hlt
    rw [e]
    exact ih'
end
section
/-- both ends are 1 -/
def sl_S (V : Nat → Nat → Bool) (o1 o2 x : Nat) : Prop := x < 256 ∧ sv_e V o1 x = true ∧ sv_e V o2 x = true
/-- x agrees with the decisions below level j -/
def sl_d (I : Nat → Nat) (B : Nat → Bool) (j x : Nat) : Prop := ∀ i, i < j → x.testBit (I i) = B i
def sl_1 (V : Nat → Nat → Bool) (o1 o2 l : Nat) (lt li lu tr mu co : Nat → Int32) (t : Nat) (T I : Nat → Nat) (B : Nat → Bool) (j : Nat) : Prop :=
  lt j = nI (T j) ∧ li j = nI (I j) ∧ lu j = sv_b (B j) ∧ T j < t ∧ tr (T j) = nI (I j + 1) ∧ mu (I j + 1) = sv_b (B j) ∧ I j + j < 8 ∧ I j + 1 ≤ l ∧
  (∀ i, i < j → T i < T j ∧ I j < I i) ∧
  (∀ q, I j < q → q < 8 → q + 1 ≤ l → co (q + 1) ≠ 0 → ∃ k, k < T j ∧ tr k = nI (q + 1)) ∧
  (o1 / 2 = 0 ∨ ∃ k, k < T j ∧ tr k = nI (o1 / 2)) ∧ (o2 / 2 = 0 ∨ ∃ k, k < T j ∧ tr k = nI (o2 / 2)) ∧
  (∀ x, sl_S V o1 o2 x → sl_d I B j x → ∀ k p, k < T j → tr k = nI p → p ≤ l → mu p = sv_b (V p x)) ∧
  (B j = true → ∀ x, sl_S V o1 o2 x → sl_d I B j x → x.testBit (I j) = true)
def sl_L (V : Nat → Nat → Bool) (o1 o2 l : Nat) (u : St1) (T I : Nat → Nat) (B : Nat → Bool) (n : Nat) : Prop :=
  ∀ j, j < n → sl_1 V o1 o2 l (gq_lt u) (gq_li u) (gq_lu u) (gq_tr u) (gq_mu u) (gq_co u) (ss_t u) T I B j
def sl_K (o1 o2 : Nat) (mu : Nat → Int32) : Prop := mu (o1 / 2) = sv_b (xor true (decide (o1 % 2 = 1))) ∧ mu (o2 / 2) = sv_b (xor true (decide (o2 % 2 = 1)))
def sl_W (V : Nat → Nat → Bool) (P o1 o2 l : Nat) (u : St1) (T I : Nat → Nat) (B : Nat → Bool) (n : Nat) : Prop :=
  gq_lv u = nI n ∧ ss_I V P l (fun x => sl_S V o1 o2 x ∧ sl_d I B n x) u ∧ sl_L V o1 o2 l u T I B n ∧ gq_co u (o1 / 2) ≠ 0 ∧ gq_co u (o2 / 2) ≠ 0 ∧ o1 / 2 ≤ l ∧ o2 / 2 ≤ l ∧
  ((n = 0 ∧ gq_cl u ≠ 0) ∨ sl_K o1 o2 (gq_mu u))
theorem sl_d_congr {I I' : Nat → Nat} {B B' : Nat → Bool} {j x : Nat} (hI : ∀ i, i < j → I' i = I i) (hB : ∀ i, i < j → B' i = B i) : sl_d I' B' j x ↔ sl_d I B j x := by
  constructor
  · intro h i hi
    rw [← hI i hi, ← hB i hi]; exact h i hi
  · intro h i hi
    rw [hI i hi, hB i hi]; exact h i hi
/-- following keeps the levels -/
theorem sl_W_E {V : Nat → Nat → Bool} {P o1 o2 l : Nat} {u u' : St1} {T I : Nat → Nat} {B : Nat → Bool} {n : Nat} (h : sl_W V P o1 o2 l u T I B n) (hcl : gq_cl u = 0)
    (hI' : ss_I V P l (fun x => sl_S V o1 o2 x ∧ sl_d I B n x) u') (hE : ss_E l u u') : sl_W V P o1 o2 l u' T I B n := by
  obtain ⟨w1, w2, w3, w4, w5, w6, w7, w8⟩ := h
  obtain ⟨e1, e2, e3, e4, e5⟩ := hE
  have hl : l < 2560 := by have := w2.2.1; have := w2.2.2.1.2.1; omega
  obtain ⟨t1, t2, t3, t4, t5⟩ := w2.2.2.2.2.2.1
  refine ⟨(fd_lv e1).trans w1, hI', fun j hj => ?_, by rw [fd_co e1]; exact w4, by rw [fd_co e1]; exact w5, w6, w7, Or.inr ?_⟩
  · obtain ⟨a1, a2, a3, a4, a5, a6, a7, a8, a9, a10, a11, a12, a13, a14⟩ := w3 j hj
    have tr' : ∀ k, k < T j → gq_tr u' k = gq_tr u k := fun k hk => e3 k (by omega)
    refine ⟨by rw [fd_lt e1]; exact a1, by rw [fd_li e1]; exact a2, by rw [fd_lu e1]; exact a3, by omega, by rw [e3 _ a4]; exact a5, ?_, a7, a8, a9, fun q q1 q2 q3 q4 => ?_, ?_, ?_, ?_, a14⟩
    · rw [e4 _ a8 (by rw [a6]; exact sv_b_ne _)]; exact a6
    · rw [fd_co e1] at q4
      obtain ⟨k, k1, k2⟩ := a10 q q1 q2 q3 q4
      exact ⟨k, k1, by rw [tr' k k1]; exact k2⟩
    · rcases a11 with z | ⟨k, k1, k2⟩
      · exact Or.inl z
      · exact Or.inr ⟨k, k1, by rw [tr' k k1]; exact k2⟩
    · rcases a12 with z | ⟨k, k1, k2⟩
      · exact Or.inl z
      · exact Or.inr ⟨k, k1, by rw [tr' k k1]; exact k2⟩
    · intro x hx hd k p hk hp hpl
      rw [tr' k hk] at hp
      obtain ⟨p', p1, p2, p3, p4⟩ := t3 k (by omega)
      rw [hp] at p1
      have ep := si_inj (by omega) (by omega) p1
      rw [e4 p hpl (by rw [ep]; exact p4)]
      exact a13 x hx hd k p hk hp hpl
  · rcases w8 with ⟨_, z⟩ | ⟨z1, z2⟩
    · exact absurd hcl z
    · exact ⟨by rw [e4 _ w6 (by rw [z1]; exact sv_b_ne _)]; exact z1, by rw [e4 _ w7 (by rw [z2]; exact sv_b_ne _)]; exact z2⟩
/-- a decision -/
theorem sl_push {V : Nat → Nat → Bool} {P o1 o2 l : Nat} {u u2 : St1} {T I : Nat → Nat} {B : Nat → Bool} {n i : Nat} (h : sl_W V P o1 o2 l u T I B n) (hcl : gq_cl u = 0)
    (i1 : i < 8) (i2 : i + 1 ≤ l) (i4 : gq_mu u (i + 1) = -1) (i5 : ∀ q, i < q → q < 8 → q + 1 ≤ l → gq_co u (q + 1) ≠ 0 → gq_mu u (q + 1) ≠ -1) (i3 : gq_co u (i + 1) ≠ 0)
    (e_lv : gq_lv u2 = nI (n + 1)) (e_lt : gq_lt u2 = upd (gq_lt u) n (nI (ss_t u))) (e_li : gq_li u2 = upd (gq_li u) n (nI i)) (e_lu : gq_lu u2 = upd (gq_lu u) n (sv_b false))
    (e_ts : gq_ts u2 = nI (ss_t u + 1)) (e_mu : gq_mu u2 = upd (gq_mu u) (i + 1) (sv_b false)) (e_tr : gq_tr u2 = upd (gq_tr u) (ss_t u) (nI (i + 1)))
    (e_lc : gq_lc u2 = gq_lc u) (e_co : gq_co u2 = gq_co u) (e_lf : gq_lf u2 = gq_lf u) (e_rt : gq_rt u2 = gq_rt u) (e_cl : gq_cl u2 = gq_cl u) :
    sl_W V P o1 o2 l u2 (fun j => if j = n then ss_t u else T j) (fun j => if j = n then i else I j) (fun j => if j = n then false else B j) (n + 1) ∧ i + n < 8 ∧ (∀ j, j < n → i < I j) := by
  obtain ⟨w1, w2, w3, w4, w5, w6, w7, w8⟩ := h
  obtain ⟨v1, v2, v3, v4, v5, v6, v7, v8⟩ := w2
  have hl : l < 2560 := by have := v3.2.1; omega
  have v6c := v6
  obtain ⟨t1, t2, t3, t4, t5⟩ := v6c
  have ht := ss_T_le hl v6
  have hT' := ss_T_add (b := false) hl v6 i2 i4
  have hst : ss_t u2 = ss_t u + 1 := by
    show (gq_ts u2).toNatClampNeg = _
    rw [e_ts, nI_clamp (by omega)]
  have dec : ∀ j, j < n → i < I j := by
    intro j hj
    obtain ⟨a1, a2, a3, a4, a5, a6, a7, a8, a9, a10, a11, a12, a13, a14⟩ := w3 j hj
    rcases Nat.lt_trichotomy i (I j) with z | z | z
    · exact z
    · rw [z, a6] at i4; exact absurd i4 (sv_b_ne _)
    · obtain ⟨k, k1, k2⟩ := a10 i z i1 i2 i3
      obtain ⟨p', p1, p2, p3, p4⟩ := t3 k (by omega)
      rw [k2] at p1
      have ep := si_inj (by omega) (by omega) p1
      rw [← ep] at p4
      exact absurd i4 p4
  have hin : i + n < 8 := by
    rcases Nat.eq_zero_or_pos n with z | z
    · omega
    · have := dec (n - 1) (by omega)
      have := (w3 (n - 1) (by omega)).2.2.2.2.2.2.1
      omega
  have K : sl_K o1 o2 (gq_mu u) := by
    rcases w8 with ⟨_, z⟩ | z
    · exact absurd hcl z
    · exact z
  have fI : ∀ j, j < n → (fun j => if j = n then i else I j) j = I j := fun j hj => if_neg (by omega)
  have fB : ∀ j, j < n → (fun j => if j = n then false else B j) j = B j := fun j hj => if_neg (by omega)
  have fT : ∀ j, j < n → (fun j => if j = n then ss_t u else T j) j = T j := fun j hj => if_neg (by omega)
  have nI1 : (fun j => if j = n then i else I j) n = i := if_pos rfl
  have nB1 : (fun j => if j = n then false else B j) n = false := if_pos rfl
  have nT1 : (fun j => if j = n then ss_t u else T j) n = ss_t u := if_pos rfl
  have mu2 : ∀ p, gq_mu u p ≠ -1 → gq_mu u2 p = gq_mu u p := by
    intro p hp
    rw [e_mu, pk_un (fun z => hp (by rw [z]; exact i4))]
  have on : ∀ p, p ≤ l → gq_mu u p ≠ -1 → p = 0 ∨ ∃ k, k < ss_t u ∧ gq_tr u2 k = nI p := by
    intro p hp hm
    rcases Nat.eq_zero_or_pos p with z | z
    · exact Or.inl z
    · obtain ⟨k, k1, k2⟩ := t5 p z hp hm
      exact Or.inr ⟨k, k1, by rw [e_tr, pk_un (by omega)]; exact k2⟩
  refine ⟨⟨e_lv, ⟨e_lc.trans v1, v2, by rw [e_lf, e_rt]; exact v3, by rw [e_co, e_lf, e_rt]; exact v4, by rw [hst]; exact e_ts, ?_, ?_, ?_⟩, ?_, by rw [e_co]; exact w4, by rw [e_co]; exact w5, w6, w7, Or.inr ?_⟩, hin, dec⟩
  · rw [hst, e_mu, e_tr]; exact hT'
  · rintro x ⟨hx, hd⟩ p hp hm
    by_cases ep : p = i + 1
    · rw [ep, e_mu, pk_us]
      have := hd n (by omega)
      rw [nI1, nB1] at this
      rw [v3.2.2.2.1 i i1 x, this]
    · rw [e_mu, pk_un ep] at hm ⊢
      exact v7 x ⟨hx, (sl_d_congr fI fB).mp (fun k hk => hd k (by omega))⟩ p hp hm
  · intro z
    rw [e_cl] at z
    exact absurd hcl z
  · intro j hj
    unfold sl_1
    rw [e_lt, e_li, e_lu, e_co, hst]
    by_cases ej : j = n
    · subst ej
      rw [nI1, nB1, nT1, pk_us, pk_us, pk_us]
      refine ⟨rfl, rfl, rfl, by omega, by rw [e_tr, pk_us], by rw [e_mu, pk_us], hin, i2, fun k hk => ?_, fun q q1 q2 q3 q4 => ?_, on _ w6 (by rw [K.1]; exact sv_b_ne _), on _ w7 (by rw [K.2]; exact sv_b_ne _), fun x hx hd k p hk hp hpl => ?_, fun z => absurd z (by decide)⟩
      · rw [fT k hk, fI k hk]
        exact ⟨(w3 k hk).2.2.2.1, dec k hk⟩
      · rcases on (q + 1) q3 (i5 q q1 q2 q3 q4) with z | z
        · exact absurd z (by omega)
        · exact z
      · rw [e_tr, pk_un (by omega)] at hp
        obtain ⟨p', p1, p2, p3, p4⟩ := t3 k hk
        rw [hp] at p1
        have ep := si_inj (by omega) (by omega) p1
        rw [← ep] at p4
        rw [mu2 p p4]
        exact v7 x ⟨hx, (sl_d_congr fI fB).mp hd⟩ p hpl p4
    · have hj' : j < n := by omega
      obtain ⟨a1, a2, a3, a4, a5, a6, a7, a8, a9, a10, a11, a12, a13, a14⟩ := w3 j hj'
      have trk : ∀ k, k < ss_t u → gq_tr u2 k = gq_tr u k := fun k hk => by rw [e_tr, pk_un (by omega)]
      rw [fI j hj', fB j hj', fT j hj', pk_un ej, pk_un ej, pk_un ej]
      refine ⟨a1, a2, a3, by omega, by rw [trk _ a4]; exact a5, ?_, a7, a8, fun k hk => ?_, fun q q1 q2 q3 q4 => ?_, ?_, ?_, fun x hx hd k p hk hp hpl => ?_, fun z x hx hd => ?_⟩
      · rw [mu2 _ (by rw [a6]; exact sv_b_ne _)]; exact a6
      · rw [fT k (by omega), fI k (by omega)]
        exact a9 k hk
      · obtain ⟨k, k1, k2⟩ := a10 q q1 q2 q3 q4
        exact ⟨k, k1, by rw [trk k (by omega)]; exact k2⟩
      · rcases a11 with z | ⟨k, k1, k2⟩
        · exact Or.inl z
        · exact Or.inr ⟨k, k1, by rw [trk k (by omega)]; exact k2⟩
      · rcases a12 with z | ⟨k, k1, k2⟩
        · exact Or.inl z
        · exact Or.inr ⟨k, k1, by rw [trk k (by omega)]; exact k2⟩
      · rw [trk k (by omega)] at hp
        obtain ⟨p', p1, p2, p3, p4⟩ := t3 k (by omega)
        have p1' := p1
        rw [hp] at p1'
        have ep := si_inj (by omega) (by omega) p1'
        rw [← ep] at p4
        rw [mu2 p p4]
        exact a13 x hx ((sl_d_congr (fun k hk => fI k (by omega)) (fun k hk => fB k (by omega))).mp hd) k p hk hp hpl
      · exact a14 z x hx ((sl_d_congr (fun k hk => fI k (by omega)) (fun k hk => fB k (by omega))).mp hd)
  · exact ⟨by rw [mu2 _ (by rw [K.1]; exact sv_b_ne _)]; exact K.1, by rw [mu2 _ (by rw [K.2]; exact sv_b_ne _)]; exact K.2⟩
theorem si_byte8 : ∀ i, i < 8 → (nI i).toInt8.toInt32 = nI i := by decide +kernel
theorem sd_decide {post : St1 → Prop} {u : St1} {V : Nat → Nat → Bool} {P o1 o2 l : Nat} {T I : Nat → Nat} {B : Nat → Bool} {n i : Nat} (h : sl_W V P o1 o2 l u T I B n) (hcl : gq_cl u = 0)
    (i1 : i < 8) (i2 : i + 1 ≤ l) (i3 : gq_co u (i + 1) ≠ 0) (i4 : gq_mu u (i + 1) = -1) (i5 : ∀ q, i < q → q < 8 → q + 1 ≤ l → gq_co u (q + 1) ≠ 0 → gq_mu u (q + 1) ≠ -1)
    (H : ∀ u', fz_t u' = fz_t u → sl_W V P o1 o2 l u' (fun j => if j = n then ss_t u else T j) (fun j => if j = n then i else I j) (fun j => if j = n then false else B j) (n + 1) → i + n < 8 → (∀ j, j < n → i < I j) → post u') : wpX_decide post u (nI i) := by
  have hw := h
  obtain ⟨w1, w2, w3, w4, w5, w6, w7, w8⟩ := h
  obtain ⟨v1, v2, v3, v4, v5, v6, v7, v8⟩ := w2
  have hl : l < 2560 := by have := v3.2.1; omega
  have ht := ss_T_le hl v6
  have P1 := sl_push (u2 := sq_mv_ts_mu_tr (sq_lv_lt_li_lu u (nI (n + 1)) (upd (gq_lt u) n (nI (ss_t u))) (upd (gq_li u) n (nI i)) (upd (gq_lu u) n 0)) 1 (nI (ss_t u + 1)) (upd (gq_mu u) (i + 1) (sv_b false)) (upd (gq_tr u) (ss_t u) (nI (i + 1))))
    hw hcl i1 i2 i4 i5 i3 rfl rfl rfl rfl rfl rfl rfl rfl rfl rfl rfl rfl
  have hn : n < 8 := by have := P1.2.1; omega
  refine cw_decide _ _ _ ?_
  rw [w1, nI_clamp (by omega), v5, si_short (by omega), si_byte8 i i1, nI_1, nI_1, si_2]
  refine ⟨vp_in_nI (by omega) (by decide), ?_⟩
  rintro _ rfl
  refine ⟨vp_in_nI (by omega) (by decide), ?_⟩
  rintro _ rfl
  refine ⟨vp_in_nI (by omega) (by decide), ?_⟩
  rintro _ rfl _ rfl
  have e2 : 2 * (i + 1) / 2 = i + 1 := by omega
  refine sd_open (v := false) (t := ss_t u) hl (by omega) v5 v6 (by rw [e2]; exact i4) ?_
  rw [e2, show decide (2 * (i + 1) % 2 = 1) = false from decide_eq_false (by omega)]
  exact H _ rfl P1.1 P1.2.1 P1.2.2
end
section
def sq_ts_lv_mu (u : St1) (v6 : Int32) (v7 : Int32) (v20 : Nat → Int32) : St1 := (gq_cn u, gq_pt u, gq_pn u, gq_lc u, gq_cl u, gq_mv u, v6, v7, gq_fa u, gq_en u, gq_bf u, gq_lf u, gq_rt u, gq_ph u, gq_px u, gq_pa u, gq_lk u, gq_lh u, gq_lx u, gq_co u, v20, gq_tr u, gq_lt u, gq_li u, gq_lu u, gq_fx u, gq_nd u)
def sq_cl_ts_lv_mu_lu (u : St1) (v4 : Int32) (v6 : Int32) (v7 : Int32) (v20 : Nat → Int32) (v24 : Nat → Int32) : St1 := (gq_cn u, gq_pt u, gq_pn u, gq_lc u, v4, gq_mv u, v6, v7, gq_fa u, gq_en u, gq_bf u, gq_lf u, gq_rt u, gq_ph u, gq_px u, gq_pa u, gq_lk u, gq_lh u, gq_lx u, gq_co u, v20, gq_tr u, gq_lt u, gq_li u, v24, gq_fx u, gq_nd u)
theorem ss_T_pop {l : Nat} {mu tr : Nat → Int32} {t p : Nat} (hl : l < 2560) (h : ss_T l mu tr (t + 1)) (hp : tr t = nI p) (hpl : p ≤ l) (hp1 : 1 ≤ p) : ss_T l (upd mu p (-1)) tr t := by
  obtain ⟨h1, h2, h3, h4, h5⟩ := h
  refine ⟨fun q hq => ?_, ?_, fun k hk => ?_, fun j k hjk hk => h4 j k hjk (by omega), fun q hq1 hq2 hq3 => ?_⟩
  · by_cases e : q = p
    · rw [e, pk_us]; exact Or.inl rfl
    · rw [pk_un e]; exact h1 q hq
  · rw [pk_un (by omega)]; exact h2
  · obtain ⟨q, e1, q1, q2, q3⟩ := h3 k (by omega)
    refine ⟨q, e1, q1, q2, ?_⟩
    have : q ≠ p := fun z => h4 k t hk (by omega) (by rw [e1, hp, z])
    rw [pk_un this]; exact q3
  · by_cases e : q = p
    · rw [e, pk_us] at hq3; exact absurd rfl hq3
    · rw [pk_un e] at hq3
      obtain ⟨k, hk, ek⟩ := h5 q hq1 hq2 hq3
      have : k ≠ t := fun z => by
        rw [z, hp] at ek
        exact e (si_inj (by omega) (by omega) ek).symm
      exact ⟨k, by omega, ek⟩
/-- a decision is turned -/
theorem sl_flip {V : Nat → Nat → Bool} {P o1 o2 l : Nat} {u u2 : St1} {T I : Nat → Nat} {B : Nat → Bool} {n j : Nat} {m : Nat → Int32} (h : sl_W V P o1 o2 l u T I B n) (hj : j < n) (hB : B j = false)
    (hno : ∀ x, sl_S V o1 o2 x → ¬ sl_d I B (j + 1) x) (hm : ss_T l m (gq_tr u) (T j)) (hmm : ∀ p, p ≤ l → m p ≠ -1 → m p = gq_mu u p) (hmo : m (I j + 1) = -1)
    (e_lv : gq_lv u2 = nI (j + 1)) (e_lt : gq_lt u2 = gq_lt u) (e_li : gq_li u2 = gq_li u) (e_lu : gq_lu u2 = upd (gq_lu u) j (sv_b true))
    (e_ts : gq_ts u2 = nI (T j + 1)) (e_mu : gq_mu u2 = upd m (I j + 1) (sv_b true)) (e_tr : gq_tr u2 = upd (gq_tr u) (T j) (nI (I j + 1)))
    (e_lc : gq_lc u2 = gq_lc u) (e_co : gq_co u2 = gq_co u) (e_lf : gq_lf u2 = gq_lf u) (e_rt : gq_rt u2 = gq_rt u) (e_cl : gq_cl u2 = 0) :
    sl_W V P o1 o2 l u2 T I (fun k => if k = j then true else B k) (j + 1) := by
  obtain ⟨w1, w2, w3, w4, w5, w6, w7, w8⟩ := h
  obtain ⟨v1, v2, v3, v4, v5, v6, v7, v8⟩ := w2
  have hl : l < 2560 := by have := v3.2.1; omega
  obtain ⟨t1, t2, t3, t4, t5⟩ := v6
  have hmc := hm
  obtain ⟨m1, m2, m3, m4, m5⟩ := hmc
  obtain ⟨c1, c2, c3, c4, c5, c6, c7, c8, c9, c10, c11, c12, c13, c14⟩ := w3 j hj
  have hT' := ss_T_add (b := true) hl hm c8 hmo
  have htl := ss_T_le hl hT'
  have hst : ss_t u2 = T j + 1 := by
    show (gq_ts u2).toNatClampNeg = _
    rw [e_ts, nI_clamp (by omega)]
  have K : sl_K o1 o2 (gq_mu u) := by
    rcases w8 with ⟨z, _⟩ | z
    · exact absurd z (by omega)
    · exact z
  have fB : ∀ k, k < j → (fun k => if k = j then true else B k) k = B k := fun k hk => if_neg (by omega)
  have nB1 : (fun k => if k = j then true else B k) j = true := if_pos rfl
  have fd : ∀ i, i ≤ j → ∀ x, sl_d I (fun k => if k = j then true else B k) i x ↔ sl_d I B i x := fun i hi x => sl_d_congr (fun _ _ => rfl) (fun k hk => fB k (by omega))
  have trk : ∀ k, k < T j → gq_tr u2 k = gq_tr u k := fun k hk => by rw [e_tr, pk_un (by omega)]
  -- what stands on the trail below T j is kept
  have keep : ∀ k p, k < T j → gq_tr u k = nI p → p ≤ l → gq_mu u2 p = gq_mu u p := by
    intro k p hk hp hpl
    obtain ⟨p', p1, p2, p3, p4⟩ := m3 k hk
    have p1' := p1
    rw [hp] at p1'
    have ep := si_inj (by omega) (by omega) p1'
    rw [← ep] at p4
    have ne : p ≠ I j + 1 := fun z => t4 k (T j) hk c4 (by rw [hp, c5, z])
    rw [e_mu, pk_un ne]
    exact hmm p hpl p4
  have keep0 : gq_mu u2 0 = gq_mu u 0 := by rw [e_mu, pk_un (by omega), m2, t2]
  refine ⟨e_lv, ⟨e_lc.trans v1, v2, by rw [e_lf, e_rt]; exact v3, by rw [e_co, e_lf, e_rt]; exact v4, by rw [hst]; exact e_ts, ?_, ?_, ?_⟩, ?_, by rw [e_co]; exact w4, by rw [e_co]; exact w5, w6, w7, Or.inr ?_⟩
  · rw [hst, e_mu, e_tr]; exact hT'
  · rintro x ⟨hx, hd⟩ p hp hpm
    by_cases ep : p = I j + 1
    · have := hd j (by omega)
      rw [nB1] at this
      rw [ep, e_mu, pk_us, v3.2.2.2.1 (I j) (by omega) x, this]
    · rw [e_mu, pk_un ep] at hpm
      rcases Nat.eq_zero_or_pos p with z | z
      · rw [z, keep0, t2, v3.2.2.1 x]; rfl
      · obtain ⟨k, k1, k2⟩ := m5 p z hp hpm
        rw [keep k p k1 k2 hp]
        exact c13 x hx ((fd j (Nat.le_refl j) x).mp (fun i hi => hd i (by omega))) k p k1 k2 hp
  · intro z
    exact absurd e_cl z
  · intro k hk
    unfold sl_1
    rw [e_lt, e_li, e_lu, e_co, hst]
    by_cases ek : k = j
    · subst ek
      rw [nB1, pk_us]
      refine ⟨c1, c2, rfl, by omega, by rw [e_tr, pk_us], by rw [e_mu, pk_us], c7, c8, c9, fun q q1 q2 q3 q4 => ?_, ?_, ?_, fun x hx hd k' p hk' hp hpl => ?_, fun _ x hx hd => ?_⟩
      · obtain ⟨k', k1, k2⟩ := c10 q q1 q2 q3 q4
        exact ⟨k', k1, by rw [trk k' k1]; exact k2⟩
      · rcases c11 with z | ⟨k', k1, k2⟩
        · exact Or.inl z
        · exact Or.inr ⟨k', k1, by rw [trk k' k1]; exact k2⟩
      · rcases c12 with z | ⟨k', k1, k2⟩
        · exact Or.inl z
        · exact Or.inr ⟨k', k1, by rw [trk k' k1]; exact k2⟩
      · rw [trk k' hk'] at hp
        rw [keep k' p hk' hp hpl]
        exact c13 x hx ((fd k (Nat.le_refl k) x).mp hd) k' p hk' hp hpl
      · cases hb : x.testBit (I k)
        · refine absurd ?_ (hno x hx)
          intro i hi
          by_cases ei : i = k
          · rw [ei, hb, hB]
          · exact (fd k (Nat.le_refl k) x).mp hd i (by omega)
        · rfl
    · have hk' : k < j := by omega
      obtain ⟨a1, a2, a3, a4, a5, a6, a7, a8, a9, a10, a11, a12, a13, a14⟩ := w3 k (by omega)
      have hTk := (c9 k hk').1
      rw [fB k hk', pk_un ek]
      refine ⟨a1, a2, a3, by omega, by rw [trk _ hTk]; exact a5, by rw [keep _ _ hTk a5 a8]; exact a6, a7, a8, a9, fun q q1 q2 q3 q4 => ?_, ?_, ?_, fun x hx hd k' p hk2 hp hpl => ?_, fun z x hx hd => a14 z x hx ((fd k (by omega) x).mp hd)⟩
      · obtain ⟨k', k1, k2⟩ := a10 q q1 q2 q3 q4
        exact ⟨k', k1, by rw [trk k' (by omega)]; exact k2⟩
      · rcases a11 with z | ⟨k', k1, k2⟩
        · exact Or.inl z
        · exact Or.inr ⟨k', k1, by rw [trk k' (by omega)]; exact k2⟩
      · rcases a12 with z | ⟨k', k1, k2⟩
        · exact Or.inl z
        · exact Or.inr ⟨k', k1, by rw [trk k' (by omega)]; exact k2⟩
      · rw [trk k' (by omega)] at hp
        rw [keep k' p (by omega) hp hpl]
        exact a13 x hx ((fd k (by omega) x).mp hd) k' p hk2 hp hpl
  · refine ⟨?_, ?_⟩
    · rcases c11 with z | ⟨k', k1, k2⟩
      · have := K.1
        rw [z] at this ⊢
        rw [keep0]; exact this
      · rw [keep k' _ k1 k2 w6]; exact K.1
    · rcases c12 with z | ⟨k', k1, k2⟩
      · have := K.2
        rw [z] at this ⊢
        rw [keep0]; exact this
      · rw [keep k' _ k1 k2 w7]; exact K.2
theorem sd_t43 {post : Int32 → St1 → Prop} {u : St1} {V : Nat → Nat → Bool} {P o1 o2 l : Nat} {T I : Nat → Nat} {B : Nat → Bool} {n j : Nat} (h : sl_W V P o1 o2 l u T I B n) (hj : j < n) (hB : B j = false)
    (hno : ∀ x, sl_S V o1 o2 x → ¬ sl_d I B (j + 1) x)
    (H : ∀ u', fz_t u' = fz_t u → sl_W V P o1 o2 l u' T I (fun k => if k = j then true else B k) (j + 1) → post 1 u') : ∃ f, qq_turn_43 post f (sq_lv u (nI (j + 1))) := by
  have hw := h
  obtain ⟨w1, w2, w3, w4, w5, w6, w7, w8⟩ := h
  obtain ⟨v1, v2, v3, v4, v5, v6, v7, v8⟩ := w2
  have hl : l < 2560 := by have := v3.2.1; omega
  obtain ⟨c1, c2, c3, c4, c5, c6, c7, c8, c9, c10, c11, c12, c13, c14⟩ := w3 j hj
  have ht := ss_T_le hl v6
  have key : ∀ w : St1, w = sq_ts_lv_mu u (nI (ss_t u)) (nI (j + 1)) (gq_mu u) → ∃ f, qq_turn_43 post f w := by
    intro w hw0
    rw [hw0]
    refine loop_m (fun f (s : Nat × (Nat → Int32)) => qq_turn_43 post f (sq_ts_lv_mu u (nI s.1) (nI (j + 1)) s.2)) (fun s => T j ≤ s.1 ∧ s.1 ≤ ss_t u ∧ ss_T l s.2 (gq_tr u) s.1 ∧ (∀ p, p ≤ l → s.2 p ≠ -1 → s.2 p = gq_mu u p)) (fun s => s.1) ?_ (ss_t u, gq_mu u) ⟨Nat.le_of_lt c4, Nat.le_refl _, v6, fun _ _ _ => rfl⟩
    rintro f ⟨t, m⟩ ⟨h1, h2, h3, h4⟩ ih
    have h1' : T j ≤ t := h1
    have h2' : t ≤ ss_t u := h2
    have h3' : ss_T l m (gq_tr u) t := h3
    have h4' : ∀ p, p ≤ l → m p ≠ -1 → m p = gq_mu u p := h4
    show qq_turn_43 post (f + 1) (sq_ts_lv_mu u (nI t) (nI (j + 1)) m)
    refine cq_turn_43 _ _ _ ?_
    have g1 : gq_lv (sq_ts_lv_mu u (nI t) (nI (j + 1)) m) - 1 = nI j := nI_pred j
    have g2 : gq_lt (sq_ts_lv_mu u (nI t) (nI (j + 1)) m) j = nI (T j) := c1
    have g3 : gq_li (sq_ts_lv_mu u (nI t) (nI (j + 1)) m) j = nI (I j) := c2
    have g4 : gq_ts (sq_ts_lv_mu u (nI t) (nI (j + 1)) m) = nI t := rfl
    rw [g1, nI_clamp (by omega), g2, g3, g4]
    refine ⟨vp_in_nI (by omega) (by decide), pk_le t (T j) (fun z => ⟨vp_in_nI (by omega) (by decide), ?_⟩) (fun z => ?_)⟩
    · have et : t = T j := by omega
      subst et
      rintro _ rfl
      refine ⟨vp_in_nI (by omega) (by decide), ?_⟩
      rw [nI_1, si_2]
      have e2 : 2 * (I j + 1) / 2 = I j + 1 := by omega
      have hmo : m (I j + 1) = -1 := by
        rcases h3'.1 (I j + 1) c8 with z | ⟨b, z⟩
        · exact z
        · obtain ⟨k, k1, k2⟩ := h3'.2.2.2.2 (I j + 1) (by omega) c8 (by rw [z]; exact sv_b_ne b)
          exact absurd (k2.trans c5.symm) (v6.2.2.2.1 k (T j) k1 c4)
      have e3 : sq_cl_lu (sq_ts_lv_mu u (nI (T j)) (nI (j + 1)) m) 0 (upd (gq_lu (sq_ts_lv_mu u (nI (T j)) (nI (j + 1)) m)) j 1) = sq_cl_ts_lv_mu_lu u 0 (nI (T j)) (nI (j + 1)) m (upd (gq_lu u) j (sv_b true)) := rfl
      rw [e3]
      refine sd_open (v := true) (t := T j) hl (by omega) rfl h3' (by rw [e2]; exact hmo) ?_
      rw [e2, show decide (2 * (I j + 1) % 2 = 1) = false from decide_eq_false (by omega)]
      exact H _ rfl (sl_flip hw hj hB hno h3' h4' hmo rfl rfl rfl rfl rfl rfl rfl rfl rfl rfl rfl rfl)
    · rintro _ rfl
      obtain ⟨t', rfl⟩ : ∃ t', t = t' + 1 := ⟨t - 1, by omega⟩
      obtain ⟨p, p1, p2, p3, p4⟩ := h3'.2.2.1 t' (by omega)
      have g5 : gq_tr (sq_ts_lv_mu u (nI (t' + 1)) (nI (j + 1)) m) t' = nI p := p1
      rw [nI_pred, nI_clamp (by omega), g5, nI_clamp (by omega)]
      refine ⟨vp_in_nI (by omega) (by decide), vp_in_nI (by omega) (by decide), ?_⟩
      rintro _ rfl
      refine ih (t', upd m p (-1)) ⟨by show T j ≤ t'; omega, by show t' ≤ ss_t u; omega, ss_T_pop hl h3' p1 p3 p2, fun q hq hqm => ?_⟩ (Nat.lt_succ_self t')
      have hqm' : upd m p (-1) q ≠ -1 := hqm
      show upd m p (-1) q = gq_mu u q
      by_cases e : q = p
      · rw [e, pk_us] at hqm'; exact absurd rfl hqm'
      · rw [pk_un e] at hqm' ⊢
        exact h4' q hq hqm'
  refine key _ ?_
  rw [← v5]
  rfl
theorem sd_turn {post : Int32 → St1 → Prop} {u : St1} {V : Nat → Nat → Bool} {P o1 o2 l : Nat} {T I : Nat → Nat} {B : Nat → Bool} {n : Nat} (h : sl_W V P o1 o2 l u T I B n) (hcl : gq_cl u ≠ 0)
    (H0 : ∀ u', fz_t u' = fz_t u → (∀ x, ¬ sl_S V o1 o2 x) → post 0 u')
    (H1 : ∀ u' j, j < n → B j = false → fz_t u' = fz_t u → sl_W V P o1 o2 l u' T I (fun k => if k = j then true else B k) (j + 1) → post 1 u') : wpX_turn post u := by
  have hw := h
  obtain ⟨w1, w2, w3, w4, w5, w6, w7, w8⟩ := h
  obtain ⟨v1, v2, v3, v4, v5, v6, v7, v8⟩ := w2
  have hn8 : n ≤ 8 := by
    rcases Nat.eq_zero_or_pos n with z | z
    · omega
    · have := (w3 (n - 1) (by omega)).2.2.2.2.2.2.1
      omega
  refine cw_turn _ _ ?_
  have key : ∀ w : St1, w = sq_lv u (nI n) → ∃ f, qq_turn_0 post f w := by
    intro w hw0
    rw [hw0]
    refine loop_m (fun f (s : Nat) => qq_turn_0 post f (sq_lv u (nI s))) (fun s => s ≤ n ∧ ∀ x, sl_S V o1 o2 x → ¬ sl_d I B s x) (fun s => s) ?_ n ⟨Nat.le_refl n, fun x hx hd => v8 hcl x ⟨hx, hd⟩⟩
    rintro f j ⟨hj, hno⟩ ih
    refine cq_turn_0 _ _ _ ?_
    have g0 : gq_lv (sq_lv u (nI j)) = nI j := rfl
    rw [g0]
    refine pk_le j 0 (fun z => ?_) (fun z => ?_)
    · have ej : j = 0 := by omega
      subst ej
      refine br_t rfl (H0 _ rfl (fun x hx => hno x hx (fun i hi => absurd hi (Nat.not_lt_zero i))))
    · obtain ⟨j', rfl⟩ : ∃ j', j = j' + 1 := ⟨j - 1, by omega⟩
      have hj' : j' < n := by omega
      obtain ⟨c1, c2, c3, c4, c5, c6, c7, c8, c9, c10, c11, c12, c13, c14⟩ := w3 j' hj'
      have g1 : gq_lu (sq_lv u (nI (j' + 1))) j' = sv_b (B j') := c3
      rw [nI_pred, nI_clamp (by omega), g1]
      refine ⟨vp_in_nI (by omega) (by decide), fun z0 => ?_, fun z0 => ?_⟩
      · have hB := (sv_b_0 _).mp z0
        refine br_f (nI_ne0 (by omega) (by omega)) ?_
        exact sd_t43 hw hj' hB hno (fun u' hf hW => H1 u' j' hj' hB hf hW)
      · rintro _ rfl
        have hB : B j' = true := by
          cases hb : B j'
          · rw [hb] at z0; exact absurd rfl z0
          · rfl
        refine ih j' ⟨by omega, fun x hx hd => hno x hx (fun i hi => ?_)⟩ (Nat.lt_succ_self j')
        by_cases e : i = j'
        · rw [e, hB]; exact c14 hB x hx hd
        · exact hd i (by omega)
  refine key u ?_
  rw [← w1]
  rfl
end
section
def sp_phi (I : Nat → Nat) (B : Nat → Bool) : Nat → Nat
  | 0 => 0
  | n + 1 => sp_phi I B n + (if B n then 0 else 2 ^ (I n + 1) - 1)
def sp_cur (I : Nat → Nat) (n : Nat) : Nat := if n = 0 then 511 else 2 ^ (I (n - 1) + 1) - 1
/-- the rounds that may still come -/
def sp_rest (I : Nat → Nat) (B : Nat → Bool) (n : Nat) : Nat := sp_phi I B n + sp_cur I n
theorem sp_phi_congr {I I' : Nat → Nat} {B B' : Nat → Bool} : ∀ n, (∀ i, i < n → I' i = I i) → (∀ i, i < n → B' i = B i) → sp_phi I' B' n = sp_phi I B n := by
  intro n
  induction n with
  | zero => intro _ _; rfl
  | succ n ih =>
    intro h1 h2
    show sp_phi I' B' n + (if B' n then 0 else 2 ^ (I' n + 1) - 1) = sp_phi I B n + (if B n then 0 else 2 ^ (I n + 1) - 1)
    rw [ih (fun i hi => h1 i (by omega)) (fun i hi => h2 i (by omega)), h1 n (by omega), h2 n (by omega)]
theorem sp_phi_mono {I : Nat → Nat} {B : Nat → Bool} {m : Nat} : ∀ n, m ≤ n → sp_phi I B m ≤ sp_phi I B n := by
  intro n
  induction n with
  | zero => intro h; rw [show m = 0 by omega]; exact Nat.le_refl _
  | succ n ih =>
    intro h
    by_cases e : m = n + 1
    · rw [e]; exact Nat.le_refl _
    · have := ih (by omega)
      show sp_phi I B m ≤ sp_phi I B n + (if B n then 0 else 2 ^ (I n + 1) - 1)
      omega
theorem sp_cur_pos (I : Nat → Nat) (n : Nat) : 1 ≤ sp_cur I n := by
  unfold sp_cur
  split
  · decide
  · have : 2 ^ (I (n - 1) + 1) = 2 * 2 ^ (I (n - 1)) := by rw [Nat.pow_succ]; omega
    have : 0 < 2 ^ (I (n - 1)) := Nat.two_pow_pos _
    omega
theorem sp_decide {I : Nat → Nat} {B : Nat → Bool} {n i : Nat} (i1 : i < 8) (hd : ∀ j, j < n → i < I j) :
    sp_rest (fun j => if j = n then i else I j) (fun j => if j = n then false else B j) (n + 1) + 1 ≤ sp_rest I B n := by
  have e1 : sp_phi (fun j => if j = n then i else I j) (fun j => if j = n then false else B j) n = sp_phi I B n := sp_phi_congr n (fun k hk => if_neg (by omega)) (fun k hk => if_neg (by omega))
  have e2 : sp_phi (fun j => if j = n then i else I j) (fun j => if j = n then false else B j) (n + 1) = sp_phi I B n + (2 ^ (i + 1) - 1) := by
    show sp_phi (fun j => if j = n then i else I j) (fun j => if j = n then false else B j) n + (if (if n = n then false else B n) then 0 else 2 ^ ((if n = n then i else I n) + 1) - 1) = _
    rw [e1, if_pos rfl, if_pos rfl]
    rfl
  have e3 : sp_cur (fun j => if j = n then i else I j) (n + 1) = 2 ^ (i + 1) - 1 := by
    show (if n + 1 = 0 then 511 else 2 ^ ((if n + 1 - 1 = n then i else I (n + 1 - 1)) + 1) - 1) = _
    rw [if_neg (by omega), if_pos (by omega)]
  have e4 : 2 ^ (i + 2) - 1 ≤ sp_cur I n := by
    unfold sp_cur
    split
    · have : 2 ^ (i + 2) ≤ 2 ^ 9 := Nat.pow_le_pow_right (by decide) (by omega)
      omega
    · have := hd (n - 1) (by omega)
      have : 2 ^ (i + 2) ≤ 2 ^ (I (n - 1) + 1) := Nat.pow_le_pow_right (by decide) (by omega)
      omega
  have e5 : 2 ^ (i + 2) = 2 * 2 ^ (i + 1) := by rw [Nat.pow_succ 2 (i + 1)]; omega
  have e6 : 0 < 2 ^ (i + 1) := Nat.two_pow_pos _
  unfold sp_rest
  rw [e2, e3]
  omega
theorem sp_turn {I : Nat → Nat} {B : Nat → Bool} {n j : Nat} (hj : j < n) (hB : B j = false) : sp_rest I (fun k => if k = j then true else B k) (j + 1) + 1 ≤ sp_rest I B n := by
  have e1 : sp_phi I (fun k => if k = j then true else B k) j = sp_phi I B j := sp_phi_congr j (fun _ _ => rfl) (fun k hk => if_neg (by omega))
  have e2 : sp_phi I (fun k => if k = j then true else B k) (j + 1) = sp_phi I B j := by
    show sp_phi I (fun k => if k = j then true else B k) j + (if (if j = j then true else B j) then 0 else 2 ^ (I j + 1) - 1) = _
    rw [e1, if_pos (if_pos rfl)]
    rfl
  have e3 : sp_cur I (j + 1) = 2 ^ (I j + 1) - 1 := by
    show (if j + 1 = 0 then 511 else 2 ^ (I (j + 1 - 1) + 1) - 1) = _
    rw [if_neg (by omega)]
    rfl
  have e4 : sp_phi I B (j + 1) = sp_phi I B j + (2 ^ (I j + 1) - 1) := by
    show sp_phi I B j + (if B j then 0 else 2 ^ (I j + 1) - 1) = _
    rw [hB]
    rfl
  have e5 : sp_phi I B (j + 1) ≤ sp_phi I B n := sp_phi_mono n (by omega)
  have e6 := sp_cur_pos I n
  unfold sp_rest
  rw [e2, e3]
  omega
theorem sx_lt {x y i : Nat} (h : ∀ q, i < q → x.testBit q = true → y.testBit q = true) (hx : x.testBit i = false) (hy : y.testBit i = true) : x < y := by
  have h1 : x / 2 ^ (i + 1) ≤ y / 2 ^ (i + 1) := Nat.le_of_testBit (fun k hk => by
    rw [Nat.testBit_div_two_pow] at hk ⊢
    exact h _ (by omega) hk)
  rw [Nat.pow_succ, ← Nat.div_div_eq_div_mul, ← Nat.div_div_eq_div_mul] at h1
  rw [Nat.testBit_eq_decide_div_mod_eq] at hx hy
  have hx' := of_decide_eq_false hx
  have hy' := of_decide_eq_true hy
  rcases Nat.lt_or_ge x y with z | z
  · exact z
  · have := Nat.div_le_div_right (c := 2 ^ i) z
    omega
/-- what the search has found when nothing is open -/
theorem sl_fin {V : Nat → Nat → Bool} {P o1 o2 l : Nat} {u : St1} {T I : Nat → Nat} {B : Nat → Bool} {n : Nat} (h : sl_W V P o1 o2 l u T I B n) (hcl : gq_cl u = 0) (hQ : ss_Q l u (l + 1))
    (ho : ∀ q, q < 8 → q + 1 ≤ l → gq_co u (q + 1) ≠ 0 → gq_mu u (q + 1) ≠ -1) :
    sl_S V o1 o2 (sx_num (fun i => decide (i + 1 ≤ l ∧ gq_co u (i + 1) ≠ 0 ∧ gq_mu u (i + 1) = 1)) 8) ∧ ∀ y, sl_S V o1 o2 y → sx_num (fun i => decide (i + 1 ≤ l ∧ gq_co u (i + 1) ≠ 0 ∧ gq_mu u (i + 1) = 1)) 8 ≤ y := by
  have hb : ∀ i, (sx_num (fun i => decide (i + 1 ≤ l ∧ gq_co u (i + 1) ≠ 0 ∧ gq_mu u (i + 1) = 1)) 8).testBit i = (decide (i < 8) && decide (i + 1 ≤ l ∧ gq_co u (i + 1) ≠ 0 ∧ gq_mu u (i + 1) = 1)) := fun i => sx_num_bit _ 8 i
  have hlt : sx_num (fun i => decide (i + 1 ≤ l ∧ gq_co u (i + 1) ≠ 0 ∧ gq_mu u (i + 1) = 1)) 8 < 256 := sx_num_lt _ 8
  generalize sx_num (fun i => decide (i + 1 ≤ l ∧ gq_co u (i + 1) ≠ 0 ∧ gq_mu u (i + 1) = 1)) 8 = x0 at hb hlt
  obtain ⟨w1, w2, w3, w4, w5, w6, w7, w8⟩ := h
  obtain ⟨v1, v2, v3, v4, v5, v6, v7, v8⟩ := w2
  have hl : l < 2560 := by have := v3.2.1; omega
  obtain ⟨t1, t2, t3, t4, t5⟩ := v6
  have K : sl_K o1 o2 (gq_mu u) := by
    rcases w8 with ⟨_, z⟩ | z
    · exact absurd hcl z
    · exact z
  have hbt : ∀ q, x0.testBit q = true → q < 8 ∧ q + 1 ≤ l ∧ gq_co u (q + 1) ≠ 0 ∧ gq_mu u (q + 1) = 1 := by
    intro q hq
    rw [hb q] at hq
    obtain ⟨z1, z2⟩ := Bool.and_eq_true_iff.mp hq
    exact ⟨of_decide_eq_true z1, of_decide_eq_true z2⟩
  have all : ∀ m p, p < m → p ≤ l → gq_co u p ≠ 0 → gq_mu u p = sv_b (V p x0) := by
    intro m
    induction m with
    | zero => intro p hp; exact absurd hp (Nat.not_lt_zero p)
    | succ m ih =>
      intro p hp hpl hco
      rcases Nat.eq_zero_or_pos p with z | z
      · rw [z, t2, v3.2.2.1 x0]; rfl
      · by_cases h9 : 9 ≤ p
        · obtain ⟨a, b, ea, eb, ha, hb', hV⟩ := v3.2.2.2.2 p h9 (by omega)
          obtain ⟨ca, cb⟩ := v4 p a b h9 hpl hco ea eb ha hb'
          have ma := ih (a / 2) (by omega) (by omega) ca
          have mb := ih (b / 2) (by omega) (by omega) cb
          have sa : sm_e (gq_mu u) a = sv_b (sv_e V a x0) := sm_e_b (by omega) ma
          have sb : sm_e (gq_mu u) b = sv_b (sv_e V b x0) := sm_e_b (by omega) mb
          obtain ⟨s1, s2⟩ := hQ p a b h9 (by omega) hpl hco ea eb ha hb'
          rw [hV x0]
          cases xa : sv_e V a x0
          · rw [xa] at sa
            rw [s1 (Or.inl sa)]; rfl
          · cases xb : sv_e V b x0
            · rw [xb] at sb
              rw [s1 (Or.inr sb)]; rfl
            · rw [xa] at sa
              rw [xb] at sb
              rw [s2 sa sb]; rfl
        · obtain ⟨i, rfl⟩ : ∃ i, p = i + 1 := ⟨p - 1, by omega⟩
          have hm := ho i (by omega) hpl hco
          rcases t1 (i + 1) hpl with y | ⟨b, y⟩
          · exact absurd y hm
          · rw [v3.2.2.2.1 i (by omega) x0, hb i, decide_eq_true (show i < 8 by omega), Bool.true_and, y]
            cases b
            · rw [decide_eq_false (by rintro ⟨_, _, z3⟩; exact absurd z3 (by decide))]
            · rw [decide_eq_true ⟨hpl, hco, rfl⟩]
  have endv : ∀ o, o / 2 ≤ l → gq_co u (o / 2) ≠ 0 → gq_mu u (o / 2) = sv_b (xor true (decide (o % 2 = 1))) → sv_e V o x0 = true := by
    intro o h1 h2 h3
    have h4 := all (o / 2 + 1) (o / 2) (by omega) h1 h2
    rw [h3] at h4
    have h5 := sv_b_inj h4
    unfold sv_e
    rw [← h5]
    cases decide (o % 2 = 1) <;> rfl
  refine ⟨⟨hlt, endv o1 w6 w4 K.1, endv o2 w7 w5 K.2⟩, fun y hy => ?_⟩
  have main : ∀ j, j ≤ n → sl_d I B j y ∨ x0 < y := by
    intro j
    induction j with
    | zero => intro _; exact Or.inl (fun i hi => absurd hi (Nat.not_lt_zero i))
    | succ j ih =>
      intro hj
      rcases ih (by omega) with hd | z
      · obtain ⟨a1, a2, a3, a4, a5, a6, a7, a8, a9, a10, a11, a12, a13, a14⟩ := w3 j (by omega)
        by_cases e : y.testBit (I j) = B j
        · left
          intro i hi
          by_cases ei : i = j
          · rw [ei]; exact e
          · exact hd i (by omega)
        · right
          cases hB : B j
          · rw [hB] at e a6
            have hyt : y.testBit (I j) = true := by
              cases hz : y.testBit (I j)
              · exact absurd hz e
              · rfl
            refine sx_lt (i := I j) (fun q hq hx => ?_) ?_ hyt
            · obtain ⟨q1, q2, q3, q4⟩ := hbt q hx
              obtain ⟨k, k1, k2⟩ := a10 q hq q1 q2 q3
              have := a13 y hy hd k (q + 1) k1 k2 q2
              rw [q4, v3.2.2.2.1 q q1 y] at this
              exact (sv_b_1 _).mp this.symm
            · cases hz : x0.testBit (I j)
              · rfl
              · have := (hbt (I j) hz).2.2.2
                rw [a6] at this
                exact absurd this (by decide)
          · exact absurd ((a14 hB y hy hd).trans hB.symm) e
      · exact Or.inr z
  rcases main n (Nat.le_refl n) with hd | z
  · refine Nat.le_of_testBit (fun q hq => ?_)
    obtain ⟨q1, q2, q3, q4⟩ := hbt q hq
    have := v7 y ⟨hy, hd⟩ (q + 1) q2 (by rw [q4]; decide)
    rw [q4, v3.2.2.2.1 q q1 y] at this
    exact (sv_b_1 _).mp this.symm
  · exact Nat.le_of_lt z
theorem sd_s38 {post : Int32 → St1 → Prop} {J : Int32 → St1 → Prop} {u : St1} {V : Nat → Nat → Bool} {P o1 o2 l : Nat} {T I : Nat → Nat} {B : Nat → Bool} {n r : Nat} (h : sl_W V P o1 o2 l u T I B n)
    (hQ : gq_cl u = 0 → ss_Q l u (l + 1))
    (H0 : ∀ u', fz_t u' = fz_t u → (∀ x, ¬ sl_S V o1 o2 x) → post 0 u')
    (H1 : ∀ x, sl_S V o1 o2 x → (∀ y, sl_S V o1 o2 y → x ≤ y) → post 1 (sq_fa u (nI x)))
    (HJ : ∀ u' T' I' B' n', fz_t u' = fz_t u → sl_W V P o1 o2 l u' T' I' B' n' → sp_rest I' B' n' + 1 ≤ sp_rest I B n → J (nI (r + 1)) u') : kk_search_38 post J (nI r) u := by
  have hl : l < 2560 := by have := h.2.1.2.1; have := h.2.1.2.2.1.2.1; omega
  refine ⟨fun c => ?_, fun c => ?_⟩
  · refine sd_openInput h.2.1.1 hl (fun ho => br_f (by decide) ?_) (fun i i1 i2 i3 i4 i5 => br_t (nI_pos' (by omega)) ?_)
    · have F := sl_fin h c (hQ c) ho
      exact sd_take h.2.1.1 hl (H1 _ F.1 F.2)
    · refine sd_decide h c i1 i2 i3 i4 i5 (fun u' hf hW _ hd => ?_)
      rintro _ rfl
      rw [nI_1]
      exact HJ u' _ _ _ _ hf hW (sp_decide i1 hd)
  · refine sd_turn h c (fun u' hf hno => br_t rfl (H0 u' hf hno)) (fun u' j hj hB hf hW => br_f (by decide) ?_)
    rintro _ rfl
    rw [nI_1]
    exact HJ u' _ _ _ _ hf hW (sp_turn hj hB)
theorem fz_td {u u' : St1} (h : fz_d u' = fz_d u) : fz_t u' = fz_t u := by
  have g : fz_t (fz_d u') = fz_t (fz_d u) := congrArg fz_t h
  exact g
theorem fz_tc {u u' : St1} (h : fz_c u' = fz_c u) : fz_t u' = fz_t u := by
  have g : fz_t (fz_c u') = fz_t (fz_c u) := congrArg fz_t h
  exact g
theorem fz_st {u u' : St1} (h : fz_t u' = fz_t u) : fz_s u' = fz_s u := by
  have g : fz_s (fz_t u') = fz_s (fz_t u) := congrArg fz_s h
  exact g
theorem fz_sfa (u : St1) (v : Int32) : fz_s (sq_fa u v) = fz_s u := rfl
theorem sd_s20 {post : Int32 → St1 → Prop} {u : St1} {V : Nat → Nat → Bool} {P o1 o2 l : Nat} {T I : Nat → Nat} {B : Nat → Bool} {n : Nat} (h : sl_W V P o1 o2 l u T I B n) (hr : sp_rest I B n ≤ 511)
    (H0 : ∀ u', fz_t u' = fz_t u → (∀ x, ¬ sl_S V o1 o2 x) → post 0 u')
    (H1 : ∀ u' x, fz_s u' = fz_s u → gq_fa u' = nI x → sl_S V o1 o2 x → (∀ y, sl_S V o1 o2 y → x ≤ y) → post 1 u') : ∃ f, qq_search_20 post f 0 u := by
  refine loop_m (fun f (s : Nat × St1) => qq_search_20 post f (nI s.1) s.2) (fun s => fz_t s.2 = fz_t u ∧ ∃ T I B n, sl_W V P o1 o2 l s.2 T I B n ∧ s.1 + sp_rest I B n ≤ 511) (fun s => 1024 - s.1) ?_ (0, u) ⟨rfl, T, I, B, n, h, by show 0 + _ ≤ 511; omega⟩
  rintro f ⟨r, w⟩ ⟨hf, T, I, B, n, hW, hr⟩ ih
  have hf' : fz_t w = fz_t u := hf
  have hW' : sl_W V P o1 o2 l w T I B n := hW
  have hr' : r + sp_rest I B n ≤ 511 := hr
  show qq_search_20 post (f + 1) (nI r) w
  refine cq_search_20 _ _ _ _ (br_f (nI_ge (b := 1024) (by omega) (by decide)) ?_)
  have goOn : ∀ w1, fz_t w1 = fz_t u → sl_W V P o1 o2 l w1 T I B n → (gq_cl w1 = 0 → ss_Q l w1 (l + 1)) → kk_search_38 post (qq_search_20 post f) (nI r) w1 := by
    intro w1 hf1 hW1 hQ1
    refine sd_s38 hW1 hQ1 (fun u' hf2 hno => H0 u' (hf2.trans hf1) hno) (fun x hx hy => H1 _ x ((fz_sfa w1 _).trans (fz_st hf1)) rfl hx hy) (fun u' T' I' B' n' hf2 hW2 hr2 => ?_)
    exact ih (r + 1, u') ⟨hf2.trans hf1, T', I', B', n', hW2, by show r + 1 + _ ≤ 511; omega⟩ (by show 1024 - (r + 1) < 1024 - r; omega)
  refine ⟨fun c => ?_, fun c => goOn w hf' hW' (fun z => absurd z c)⟩
  refine sd_followAll hW'.2.1 (fun u1 hI1 hE1 hQ1 => goOn u1 ((fz_td hE1.1).trans hf') (sl_W_E hW' c hI1 hE1) hQ1)
theorem sd_search {post : Int32 → St1 → Prop} {u : St1} {V : Nat → Nat → Bool} {P o1 o2 : Nat} (hG : sg_G V P (gq_lf u) (gq_rt u)) (h1 : o1 < 2 * P) (h2 : o2 < 2 * P)
    (H0 : ∀ u', fz_t u' = fz_t u → (∀ x, ¬ sl_S V o1 o2 x) → post 0 u')
    (H1 : ∀ u' x, fz_s u' = fz_s u → gq_fa u' = nI x → sl_S V o1 o2 x → (∀ y, sl_S V o1 o2 y → x ≤ y) → post 1 u') : wpX_search post u (nI o1) (nI o2) := by
  have hP := hG.2.1
  refine cw_search _ _ _ _ (sd_concern hG h1 h2 (fun u1 l hf1 lc lP ol1 ol2 cl0 ts0 lv0 mu0 mu1 co1 co2 hC => ?_))
  have hst : ss_t u1 = 0 := by
    show (gq_ts u1).toNatClampNeg = 0
    rw [ts0]; decide
  have hI1 : ss_I V P l (fun x => sl_S V o1 o2 x ∧ sl_d (fun _ => 0) (fun _ => false) 0 x) u1 := by
    refine ⟨lc, lP, by rw [fc_lf hf1, fc_rt hf1]; exact hG, hC, by rw [hst]; exact ts0, ?_, fun x hx p hp hm => ?_, fun z => absurd cl0 z⟩
    · rw [hst]
      refine ⟨fun p hp => ?_, mu0, fun k hk => absurd hk (Nat.not_lt_zero k), fun j k _ hk => absurd hk (Nat.not_lt_zero k), fun p p1 p2 p3 => absurd (mu1 p p1 p2) p3⟩
      rcases Nat.eq_zero_or_pos p with z | z
      · exact Or.inr ⟨false, by rw [z]; exact mu0⟩
      · exact Or.inl (mu1 p z hp)
    · rcases Nat.eq_zero_or_pos p with z | z
      · rw [z, mu0, hG.2.2.1 x]; rfl
      · exact absurd (mu1 p z hp) hm
  refine sd_demand (v := true) hI1 ol1 (fun x hx => hx.1.2.1) (fun u2 hI2 hR2 hm2 => ?_)
  refine sd_demand (v := true) hI2 ol2 (fun x hx => hx.1.2.2) (fun u3 hI3 hR3 hm3 => ?_)
  have ft : fz_t u3 = fz_t u := (fz_td hR3.1).trans ((fz_td hR2.1).trans (fz_tc hf1))
  have hW : sl_W V P o1 o2 l u3 (fun _ => 0) (fun _ => 0) (fun _ => false) 0 := by
    refine ⟨(fd_lv hR3.1).trans ((fd_lv hR2.1).trans lv0), hI3, fun j hj => absurd hj (Nat.not_lt_zero j), by rw [fd_co hR3.1, fd_co hR2.1]; exact co1, by rw [fd_co hR3.1, fd_co hR2.1]; exact co2, ol1, ol2, ?_⟩
    rcases Classical.em (gq_cl u3 = 0) with c | c
    · right
      have c2 : gq_cl u2 = 0 := by
        rcases Classical.em (gq_cl u2 = 0) with c2 | c2
        · exact c2
        · exact absurd c (hR3.2.2.2.2.2.2 c2)
      refine ⟨?_, hm3 c⟩
      have := hm2 c2
      rw [hR3.2.2.2.1 _ ol1 (by rw [this]; exact sv_b_ne _)]
      exact this
    · exact Or.inl ⟨rfl, c⟩
  exact sd_s20 hW (by decide) (fun u' hf hno => H0 u' (hf.trans ft) hno) (fun u' x hf hfa hx hy => H1 u' x (hf.trans (fz_st ft)) hfa hx hy)
end
section
theorem wb_tb (n : Nat) : (lN n).toBitVec = BitVec.ofNat 64 n := rfl
theorem wb_inj {a b : Int64} (h : a.toBitVec = b.toBitVec) : a = b := Int64.toBitVec_inj.mp h
theorem wb_of (x : Int64) : ∃ n, n < 2 ^ 64 ∧ x = lN n := ⟨x.toBitVec.toNat, x.toBitVec.isLt, wb_inj (by rw [wb_tb]; simp)⟩
theorem wb_lt2 {a b : Nat} (h : a < b) : 2 ^ a < 2 ^ b := Nat.pow_lt_pow_right (by decide) h
theorem wb_and {a b : Nat} (ha : a < 2 ^ 64) (hb : b < 2 ^ 64) : lN a &&& lN b = lN (a &&& b) := by
  apply wb_inj
  rw [Int64.toBitVec_and, wb_tb, wb_tb, wb_tb]
  apply BitVec.eq_of_toNat_eq
  rw [BitVec.toNat_and, BitVec.toNat_ofNat, BitVec.toNat_ofNat, BitVec.toNat_ofNat, Nat.mod_eq_of_lt ha, Nat.mod_eq_of_lt hb, Nat.mod_eq_of_lt (Nat.and_lt_two_pow _ hb)]
theorem wb_mask {n k : Nat} (hn : n < 2 ^ 64) (hk : k < 64) : lN n &&& lN (2 ^ k - 1) = lN (n % 2 ^ k) := by
  rw [wb_and hn (by have := wb_lt2 hk; omega), Nat.and_two_pow_sub_one_eq_mod]
/-! bits of a look -/
def sk_b (x : Int64) (k : Nat) : Bool := x.toBitVec.getLsbD k
theorem sk_b_ext {x y : Int64} (h : ∀ k, k < 64 → sk_b x k = sk_b y k) : x = y := wb_inj (BitVec.eq_of_getLsbD_eq h)
theorem sk_b_and (x y : Int64) (k : Nat) : sk_b (x &&& y) k = (sk_b x k && sk_b y k) := by
  unfold sk_b
  rw [Int64.toBitVec_and, BitVec.getLsbD_and]
theorem sk_b_or (x y : Int64) (k : Nat) : sk_b (x ||| y) k = (sk_b x k || sk_b y k) := by
  unfold sk_b
  rw [Int64.toBitVec_or, BitVec.getLsbD_or]
theorem sk_b_m1 : ∀ k, k < 64 → sk_b (-1) k = true := by decide +kernel
theorem sk_b_1 : ∀ k, k < 64 → sk_b 1 k = decide (k = 0) := by decide +kernel
theorem sk_b_0 : ∀ k, k < 64 → sk_b 0 k = false := by decide +kernel
theorem sk_b_p2 : ∀ k, k < 64 → ∀ j, j < 64 → sk_b ((1 : Int64) <<< ((nI k).toInt64 &&& 63)) j = decide (j = k) := by decide +kernel
theorem sk_b_not (x : Int64) {k : Nat} (hk : k < 64) : sk_b (x ^^^ (-1)) k = !sk_b x k := by
  have h := sk_b_m1 k hk
  unfold sk_b at h ⊢
  rw [Int64.toBitVec_xor, BitVec.getLsbD_xor, h]
  cases x.toBitVec.getLsbD k <;> rfl
theorem sk_b_even (x : Int64) : x &&& 1 = 0 ↔ sk_b x 0 = false := by
  constructor
  · intro h
    have h1 := sk_b_and x 1 0
    rw [h, sk_b_0 0 (by decide), sk_b_1 0 (by decide)] at h1
    cases hb : sk_b x 0
    · rfl
    · rw [hb] at h1; exact absurd h1 (by decide)
  · intro h
    refine sk_b_ext (fun k hk => ?_)
    rw [sk_b_and, sk_b_0 k hk, sk_b_1 k hk]
    by_cases e : k = 0
    · rw [e, h]; rfl
    · rw [decide_eq_false e, Bool.and_false]
/-- the look without regard to which of it and its opposite it is -/
def sk_nt (x : Int64) : Int64 := if x &&& 1 = 0 then x else x ^^^ (-1)
theorem sk_nt_even (x : Int64) : sk_nt x &&& 1 = 0 := by
  unfold sk_nt
  by_cases h : x &&& 1 = 0
  · rw [if_pos h]; exact h
  · rw [if_neg h, sk_b_even, sk_b_not x (by decide)]
    cases hb : sk_b x 0
    · exact absurd ((sk_b_even x).mpr hb) h
    · rfl
theorem sk_nt_nt (x : Int64) : sk_nt (sk_nt x) = sk_nt x := by
  have h := sk_nt_even x
  show (if sk_nt x &&& 1 = 0 then sk_nt x else _) = _
  rw [if_pos h]
theorem sk_not_not (x : Int64) : x ^^^ (-1) ^^^ (-1) = x := sk_b_ext (fun k hk => by rw [sk_b_not _ hk, sk_b_not _ hk, Bool.not_not])
theorem sk_nt_not (x : Int64) : sk_nt (x ^^^ (-1)) = sk_nt x := by
  unfold sk_nt
  have e := sk_b_not x (show 0 < 64 by decide)
  by_cases h : x &&& 1 = 0
  · rw [if_pos h, if_neg (fun z => by
      rw [(sk_b_even _).mp z, (sk_b_even x).mp h] at e
      exact absurd e (by decide)), sk_not_not]
  · rw [if_neg h, if_pos]
    rw [sk_b_even, e]
    cases hb : sk_b x 0
    · exact absurd ((sk_b_even x).mpr hb) h
    · rfl
theorem sk_nt_cases {x y : Int64} (h : sk_nt x = sk_nt y) : x = y ∨ x = y ^^^ (-1) := by
  unfold sk_nt at h
  by_cases hx : x &&& 1 = 0
  · rw [if_pos hx] at h
    by_cases hy : y &&& 1 = 0
    · rw [if_pos hy] at h; exact Or.inl h
    · rw [if_neg hy] at h; exact Or.inr h
  · rw [if_neg hx] at h
    by_cases hy : y &&& 1 = 0
    · rw [if_pos hy] at h
      right
      rw [← h, sk_not_not]
    · rw [if_neg hy] at h
      left
      rw [← sk_not_not x, h, sk_not_not]
theorem sd_neutral {post : Int64 → Prop} {x : Int64} (H : post (sk_nt x)) : wpX_neutral post () x := by
  unfold sk_nt at H
  refine ⟨fun h => ?_, fun h => ?_⟩
  · rw [if_pos h] at H; exact H
  · rw [if_neg h] at H; exact H
def sk_mx (r : Int64) : Int64 := (r ^^^ ((r.toUInt64 >>> ((17 : Int32).toInt64.toUInt64 &&& Int64.toUInt64 63)).toInt64)) ^^^ ((r.toUInt64 >>> ((41 : Int32).toInt64.toUInt64 &&& Int64.toUInt64 63)).toInt64)
/-- the mark of a look -/
def sk_ml (x : Int64) : Nat := ((sk_mx (sk_nt x)) &&& 1023).toInt32.toNatClampNeg
theorem sk_ml_of (y : Int64) : ∃ j, j < 1024 ∧ (y &&& 1023).toInt32 = nI j := by
  obtain ⟨n, hn, rfl⟩ := wb_of y
  refine ⟨n % 1024, Nat.mod_lt _ (by decide), ?_⟩
  rw [show (1023 : Int64) = lN (2 ^ 10 - 1) from rfl, wb_mask hn (by decide), lN_i]
theorem sk_ml_lt (x : Int64) : sk_ml x < 1024 := by
  obtain ⟨j, hj, e⟩ := sk_ml_of (sk_mx (sk_nt x))
  unfold sk_ml
  rw [e, nI_clamp (by omega)]
  exact hj
theorem sk_ml_eq (x : Int64) : ((sk_mx (sk_nt x)) &&& 1023).toInt32 = nI (sk_ml x) := by
  obtain ⟨j, hj, e⟩ := sk_ml_of (sk_mx (sk_nt x))
  unfold sk_ml
  rw [e, nI_clamp (by omega)]
theorem sd_markOfLook {post : Int32 → Prop} {x : Int64} (H : post (nI (sk_ml x))) : wpX_markOfLook post () x := by
  unfold wpX_markOfLook
  refine sd_neutral ?_
  rintro _ rfl
  have := sk_ml_eq x
  unfold sk_mx at this
  rw [this]
  exact H
theorem sk_ml_nt (x : Int64) : sk_ml (sk_nt x) = sk_ml x := by
  unfold sk_ml
  rw [sk_nt_nt]
def sk_mp (a b : Int32) : Nat := (((a * 37) + (b * 101)) &&& 1023).toNatClampNeg
theorem sk_mp_eq (a b : Int32) : (((a * 37) + (b * 101)) &&& 1023) = nI (sk_mp a b) ∧ sk_mp a b < 1024 := by
  obtain ⟨j, hj, e⟩ := pk_andE ((a * 37) + (b * 101)) (m := 1023) 10 (by decide)
  unfold sk_mp
  rw [e, nI_clamp (by omega)]
  exact ⟨rfl, hj⟩
theorem sd_markOfPair {post : Int32 → Prop} {a b : Int32} (H : post (nI (sk_mp a b))) : wpX_markOfPair post () a b := by
  unfold wpX_markOfPair
  rw [(sk_mp_eq a b).1]
  exact H
/-! tables: the head is the greatest part of the mark, next the greatest below of the same mark -/
def st_prev (M : Nat → Nat) (lo P m : Nat) (r : Int32) : Prop := (r = -1 ∧ ∀ q, lo ≤ q → q < P → M q ≠ m) ∨ (∃ p, r = nI p ∧ lo ≤ p ∧ p < P ∧ M p = m ∧ ∀ q, p < q → q < P → M q ≠ m)
def st_ok (M : Nat → Nat) (lo P : Nat) (hd nx : Nat → Int32) : Prop := (∀ m, m < 1024 → st_prev M lo P m (hd m)) ∧ (∀ p, lo ≤ p → p < P → st_prev M lo p (M p) (nx p))
theorem st_nar {M : Nat → Nat} {lo P m : Nat} {r : Int32} (hP : P ≤ 2560) (h : st_prev M lo P m r) : vp_nar .short r = r := by
  rcases h with ⟨e, _⟩ | ⟨p, e, _, hp, _⟩
  · rw [e]; exact si_narm
  · rw [e]; exact si_nar (by omega)
theorem st_add {M : Nat → Nat} {lo P : Nat} {hd nx : Nat → Int32} (h : st_ok M lo P hd nx) (hlo : lo ≤ P) (hM : M P < 1024) : st_ok M lo (P + 1) (upd hd (M P) (nI P)) (upd nx P (hd (M P))) := by
  obtain ⟨h1, h2⟩ := h
  refine ⟨fun m hm => ?_, fun p hp hp2 => ?_⟩
  · by_cases e : m = M P
    · rw [e, pk_us]
      exact Or.inr ⟨P, rfl, hlo, by omega, rfl, fun q q1 q2 => absurd q2 (by omega)⟩
    · rw [pk_un e]
      rcases h1 m hm with ⟨a1, a2⟩ | ⟨p, a1, a2, a3, a4, a5⟩
      · refine Or.inl ⟨a1, fun q q1 q2 => ?_⟩
        by_cases eq : q = P
        · rw [eq]; exact fun z => e z.symm
        · exact a2 q q1 (by omega)
      · refine Or.inr ⟨p, a1, a2, by omega, a4, fun q q1 q2 => ?_⟩
        by_cases eq : q = P
        · rw [eq]; exact fun z => e z.symm
        · exact a5 q q1 (by omega)
  · by_cases e : p = P
    · rw [e, pk_us]; exact h1 _ hM
    · rw [pk_un e]; exact h2 p hp (by omega)
theorem st_del {M : Nat → Nat} {lo P : Nat} {hd nx : Nat → Int32} (h : st_ok M lo (P + 1) hd nx) (hlo : lo ≤ P) : st_ok M lo P (upd hd (M P) (nx P)) nx := by
  obtain ⟨h1, h2⟩ := h
  refine ⟨fun m hm => ?_, fun p hp hp2 => h2 p hp (by omega)⟩
  by_cases e : m = M P
  · rw [e, pk_us]; exact h2 P hlo (by omega)
  · rw [pk_un e]
    rcases h1 m hm with ⟨a1, a2⟩ | ⟨p, a1, a2, a3, a4, a5⟩
    · exact Or.inl ⟨a1, fun q q1 q2 => a2 q q1 (by omega)⟩
    · have : p ≠ P := fun z => e (by rw [← z]; exact a4.symm)
      exact Or.inr ⟨p, a1, a2, by omega, a4, fun q q1 q2 => a5 q q1 (by omega)⟩
theorem st_congr {M M' : Nat → Nat} {lo P : Nat} {hd nx : Nat → Int32} (h : st_ok M lo P hd nx) (hM : ∀ q, lo ≤ q → q < P → M' q = M q) : st_ok M' lo P hd nx := by
  obtain ⟨h1, h2⟩ := h
  have key : ∀ c m r, c ≤ P → st_prev M lo c m r → st_prev M' lo c m r := by
    intro c m r hc hp
    rcases hp with ⟨a1, a2⟩ | ⟨p, a1, a2, a3, a4, a5⟩
    · exact Or.inl ⟨a1, fun q q1 q2 => by rw [hM q q1 (by omega)]; exact a2 q q1 q2⟩
    · exact Or.inr ⟨p, a1, a2, a3, by rw [hM p a2 (by omega)]; exact a4, fun q q1 q2 => by rw [hM q (by omega) (by omega)]; exact a5 q q1 q2⟩
  exact ⟨fun m hm => key _ _ _ (Nat.le_refl P) (h1 m hm), fun p hp hp2 => by rw [hM p hp hp2]; exact key _ _ _ (by omega) (h2 p hp hp2)⟩
theorem st_0 {M : Nat → Nat} {lo : Nat} {hd nx : Nat → Int32} (h : ∀ m, m < 1024 → hd m = -1) : st_ok M lo lo hd nx :=
  ⟨fun m hm => Or.inl ⟨h m hm, fun q q1 q2 => absurd q2 (by omega)⟩, fun p hp hp2 => absurd hp2 (by omega)⟩
/-! patterns and looks -/
def sk_P (pa : Nat → Int32) : Prop := ∀ k, k < 64 → ∃ t, t < 256 ∧ pa k = nI t
def sk_L (V : Nat → Nat → Bool) (P : Nat) (pa : Nat → Int32) (lk : Nat → Int64) : Prop := ∀ p, p < P → ∀ k, k < 64 → sk_b (lk p) k = V p (pa k).toNatClampNeg
def sk_le (lk : Nat → Int64) (e : Nat) : Int64 := if e % 2 = 0 then lk (e / 2) else lk (e / 2) ^^^ (-1)
theorem sk_le_bit {V : Nat → Nat → Bool} {P : Nat} {pa : Nat → Int32} {lk : Nat → Int64} (h : sk_L V P pa lk) {e : Nat} (he : e < 2 * P) {k : Nat} (hk : k < 64) : sk_b (sk_le lk e) k = sv_e V e (pa k).toNatClampNeg := by
  have h1 := h (e / 2) (by omega) k hk
  unfold sk_le sv_e
  rcases Nat.mod_two_eq_zero_or_one e with z | z
  · rw [if_pos z, h1, z]
    cases V (e / 2) (pa k).toNatClampNeg <;> rfl
  · rw [if_neg (by omega), sk_b_not _ hk, h1, z]
    cases V (e / 2) (pa k).toNatClampNeg <;> rfl
theorem sd_lookOfEnd {post : Int64 → Prop} {u : St1} {e : Nat} (he : e / 2 < 2560) (H : post (sk_le (gq_lk u) e)) : wpX_lookOfEnd post u (nI e) := by
  refine cw_lookOfEnd _ _ _ ?_
  rw [si_half (by omega), si_odd (by omega), nI_clamp (by omega)]
  refine ⟨vp_in_nI he (by decide), ?_⟩
  rintro _ rfl
  unfold sk_le at H
  refine pk_eq (e % 2) 0 (fun z => ?_) (fun z => ?_)
  · rw [if_pos z] at H; exact H
  · rw [if_neg z] at H; exact H
theorem sd_enterLook {post : St1 → Prop} {u : St1} {P : Nat} (hP : P < 2560) (h : st_ok (fun p => sk_ml (gq_lk u p)) 0 P (gq_lh u) (gq_lx u))
    (H : ∀ lh' lx', st_ok (fun p => sk_ml (gq_lk u p)) 0 (P + 1) lh' lx' → post (sq_lh_lx u lh' lx')) : wpX_enterLook post u (nI P) := by
  refine cw_enterLook _ _ _ ?_
  rw [nI_clamp (by omega), si_short (by omega)]
  have hm := sk_ml_lt (gq_lk u P)
  refine ⟨vp_in_nI hP (by decide), sd_markOfLook ⟨vp_in_nI hm (by decide), vp_in_nI hP (by decide), ?_⟩⟩
  rintro _ rfl
  refine ⟨vp_in_nI hm (by decide), ?_⟩
  rintro _ rfl
  rw [nI_clamp (by omega), st_nar (by omega) (h.1 _ hm)]
  exact H _ _ (st_add h (Nat.zero_le P) hm)
theorem si_sl : ∀ n, n < 32 → ((nI n &&& 31).toBitVec.smod 32).toNat = n := by decide +kernel
theorem si_bit {t i : Nat} (ht : t < 2 ^ 31) (hi : i < 32) : (nI t >>> (nI i &&& 31)) &&& 1 = nI (t / 2 ^ i % 2) := by
  have : t / 2 ^ i ≤ t := Nat.div_le_self _ _
  rw [pk_shrN ht _ i (si_sl i hi), si_odd (by omega)]
theorem sd_lookOfInput {post : Int64 → Prop} {u : St1} {i : Nat} (hi : i < 8) (hP : sk_P (gq_pa u))
    (H : ∀ w, (∀ k, k < 64 → sk_b w k = ((gq_pa u) k).toNatClampNeg.testBit i) → post w) : wpX_lookOfInput post u (nI i) := by
  refine cw_lookOfInput _ _ _ ?_
  refine pk_loop (fun n k (w : Int64) => qq_lookOfInput_5 post (nI i) n w (nI k) u) (fun k w => ∀ j, j < 64 → sk_b w j = (decide (j < k) && ((gq_pa u) j).toNatClampNeg.testBit i)) 64 0 0 (by decide) ?_ ?_ ?_
  · intro j hj
    rw [sk_b_0 j hj, decide_eq_false (Nat.not_lt_zero j), Bool.false_and]
  · intro n w hw
    refine cq_lookOfInput_5 _ _ _ _ _ _ (br_t (by decide) (H w (fun k hk => ?_)))
    rw [hw k hk, decide_eq_true hk, Bool.true_and]
  · intro n k w hk hw ih
    refine cq_lookOfInput_5 _ _ _ _ _ _ (br_f (nI_ge (b := 64) hk (by decide)) ⟨vp_in_nI hk (by decide), ?_⟩)
    obtain ⟨t, ht, et⟩ := hP k hk
    rw [nI_clamp (by omega), et, si_bit (by omega) (by omega), nI_1]
    have hb : t.testBit i = decide (t / 2 ^ i % 2 = 1) := Nat.testBit_eq_decide_div_mod_eq
    have ek : ((gq_pa u) k).toNatClampNeg.testBit i = decide (t / 2 ^ i % 2 = 1) := by rw [et, nI_clamp (by omega), hb]
    refine pk_eq (t / 2 ^ i % 2) 0 (fun z => ?_) (fun z => ?_)
    · rintro _ rfl _ rfl
      refine ih _ (fun j hj => ?_)
      rw [sk_b_or, sk_b_0 j hj, Bool.or_false, hw j hj]
      by_cases e : j = k
      · rw [e, ek, decide_eq_false (show ¬ t / 2 ^ i % 2 = 1 by omega), Bool.and_false, Bool.and_false]
      · by_cases e2 : j < k
        · rw [decide_eq_true e2, decide_eq_true (show j < k + 1 by omega)]
        · rw [decide_eq_false e2, decide_eq_false (show ¬ j < k + 1 by omega)]
    · rintro _ rfl _ rfl
      refine ih _ (fun j hj => ?_)
      rw [sk_b_or, sk_b_p2 k hk j hj, hw j hj]
      by_cases e : j = k
      · rw [e, ek, decide_eq_true (show t / 2 ^ i % 2 = 1 by omega), decide_eq_true (show k < k + 1 by omega), decide_eq_true rfl, Bool.or_true]; rfl
      · rw [decide_eq_false e, Bool.or_false]
        by_cases e2 : j < k
        · rw [decide_eq_true e2, decide_eq_true (show j < k + 1 by omega)]
        · rw [decide_eq_false e2, decide_eq_false (show ¬ j < k + 1 by omega)]
end
section
def sq_lk_lh_lx (u : St1) (v16 : Nat → Int64) (v17 : Nat → Int32) (v18 : Nat → Int32) : St1 := (gq_cn u, gq_pt u, gq_pn u, gq_lc u, gq_cl u, gq_mv u, gq_ts u, gq_lv u, gq_fa u, gq_en u, gq_bf u, gq_lf u, gq_rt u, gq_ph u, gq_px u, gq_pa u, v16, v17, v18, gq_co u, gq_mu u, gq_tr u, gq_lt u, gq_li u, gq_lu u, gq_fx u, gq_nd u)
def sq_pn_pa_lk_lh_lx (u : St1) (v2 : Int32) (v15 : Nat → Int32) (v16 : Nat → Int64) (v17 : Nat → Int32) (v18 : Nat → Int32) : St1 := (gq_cn u, gq_pt u, v2, gq_lc u, gq_cl u, gq_mv u, gq_ts u, gq_lv u, gq_fa u, gq_en u, gq_bf u, gq_lf u, gq_rt u, gq_ph u, gq_px u, v15, v16, v17, v18, gq_co u, gq_mu u, gq_tr u, gq_lt u, gq_li u, gq_lu u, gq_fx u, gq_nd u)
def fz_q (u : St1) : St1 := (gq_cn u, gq_pt u, 0, 0, 0, 0, 0, 0, 0, gq_en u, gq_bf u, gq_lf u, gq_rt u, gq_ph u, gq_px u, (fun _ => 0), (fun _ => 0), (fun _ => 0), (fun _ => 0), (fun _ => 0), (fun _ => 0), (fun _ => 0), (fun _ => 0), (fun _ => 0), (fun _ => 0), gq_fx u, gq_nd u)
theorem fq_cn {u u' : St1} (h : fz_q u' = fz_q u) : gq_cn u' = gq_cn u := by
  have g : gq_cn (fz_q u') = gq_cn (fz_q u) := congrArg gq_cn h
  exact g
theorem fq_pt {u u' : St1} (h : fz_q u' = fz_q u) : gq_pt u' = gq_pt u := by
  have g : gq_pt (fz_q u') = gq_pt (fz_q u) := congrArg gq_pt h
  exact g
theorem fq_en {u u' : St1} (h : fz_q u' = fz_q u) : gq_en u' = gq_en u := by
  have g : gq_en (fz_q u') = gq_en (fz_q u) := congrArg gq_en h
  exact g
theorem fq_bf {u u' : St1} (h : fz_q u' = fz_q u) : gq_bf u' = gq_bf u := by
  have g : gq_bf (fz_q u') = gq_bf (fz_q u) := congrArg gq_bf h
  exact g
theorem fq_lf {u u' : St1} (h : fz_q u' = fz_q u) : gq_lf u' = gq_lf u := by
  have g : gq_lf (fz_q u') = gq_lf (fz_q u) := congrArg gq_lf h
  exact g
theorem fq_rt {u u' : St1} (h : fz_q u' = fz_q u) : gq_rt u' = gq_rt u := by
  have g : gq_rt (fz_q u') = gq_rt (fz_q u) := congrArg gq_rt h
  exact g
theorem fq_ph {u u' : St1} (h : fz_q u' = fz_q u) : gq_ph u' = gq_ph u := by
  have g : gq_ph (fz_q u') = gq_ph (fz_q u) := congrArg gq_ph h
  exact g
theorem fq_px {u u' : St1} (h : fz_q u' = fz_q u) : gq_px u' = gq_px u := by
  have g : gq_px (fz_q u') = gq_px (fz_q u) := congrArg gq_px h
  exact g
theorem fq_fx {u u' : St1} (h : fz_q u' = fz_q u) : gq_fx u' = gq_fx u := by
  have g : gq_fx (fz_q u') = gq_fx (fz_q u) := congrArg gq_fx h
  exact g
theorem fq_nd {u u' : St1} (h : fz_q u' = fz_q u) : gq_nd u' = gq_nd u := by
  have g : gq_nd (fz_q u') = gq_nd (fz_q u) := congrArg gq_nd h
  exact g
def fz_a (u : St1) : St1 := (gq_cn u, 0, gq_pn u, gq_lc u, gq_cl u, gq_mv u, gq_ts u, gq_lv u, gq_fa u, gq_en u, gq_bf u, (fun _ => 0), (fun _ => 0), (fun _ => 0), (fun _ => 0), gq_pa u, (fun _ => 0), (fun _ => 0), (fun _ => 0), gq_co u, gq_mu u, gq_tr u, gq_lt u, gq_li u, gq_lu u, gq_fx u, gq_nd u)
theorem fa_cn {u u' : St1} (h : fz_a u' = fz_a u) : gq_cn u' = gq_cn u := by
  have g : gq_cn (fz_a u') = gq_cn (fz_a u) := congrArg gq_cn h
  exact g
theorem fa_pn {u u' : St1} (h : fz_a u' = fz_a u) : gq_pn u' = gq_pn u := by
  have g : gq_pn (fz_a u') = gq_pn (fz_a u) := congrArg gq_pn h
  exact g
theorem fa_lc {u u' : St1} (h : fz_a u' = fz_a u) : gq_lc u' = gq_lc u := by
  have g : gq_lc (fz_a u') = gq_lc (fz_a u) := congrArg gq_lc h
  exact g
theorem fa_cl {u u' : St1} (h : fz_a u' = fz_a u) : gq_cl u' = gq_cl u := by
  have g : gq_cl (fz_a u') = gq_cl (fz_a u) := congrArg gq_cl h
  exact g
theorem fa_mv {u u' : St1} (h : fz_a u' = fz_a u) : gq_mv u' = gq_mv u := by
  have g : gq_mv (fz_a u') = gq_mv (fz_a u) := congrArg gq_mv h
  exact g
theorem fa_ts {u u' : St1} (h : fz_a u' = fz_a u) : gq_ts u' = gq_ts u := by
  have g : gq_ts (fz_a u') = gq_ts (fz_a u) := congrArg gq_ts h
  exact g
theorem fa_lv {u u' : St1} (h : fz_a u' = fz_a u) : gq_lv u' = gq_lv u := by
  have g : gq_lv (fz_a u') = gq_lv (fz_a u) := congrArg gq_lv h
  exact g
theorem fa_fa {u u' : St1} (h : fz_a u' = fz_a u) : gq_fa u' = gq_fa u := by
  have g : gq_fa (fz_a u') = gq_fa (fz_a u) := congrArg gq_fa h
  exact g
theorem fa_en {u u' : St1} (h : fz_a u' = fz_a u) : gq_en u' = gq_en u := by
  have g : gq_en (fz_a u') = gq_en (fz_a u) := congrArg gq_en h
  exact g
theorem fa_bf {u u' : St1} (h : fz_a u' = fz_a u) : gq_bf u' = gq_bf u := by
  have g : gq_bf (fz_a u') = gq_bf (fz_a u) := congrArg gq_bf h
  exact g
theorem fa_pa {u u' : St1} (h : fz_a u' = fz_a u) : gq_pa u' = gq_pa u := by
  have g : gq_pa (fz_a u') = gq_pa (fz_a u) := congrArg gq_pa h
  exact g
theorem fa_co {u u' : St1} (h : fz_a u' = fz_a u) : gq_co u' = gq_co u := by
  have g : gq_co (fz_a u') = gq_co (fz_a u) := congrArg gq_co h
  exact g
theorem fa_mu {u u' : St1} (h : fz_a u' = fz_a u) : gq_mu u' = gq_mu u := by
  have g : gq_mu (fz_a u') = gq_mu (fz_a u) := congrArg gq_mu h
  exact g
theorem fa_tr {u u' : St1} (h : fz_a u' = fz_a u) : gq_tr u' = gq_tr u := by
  have g : gq_tr (fz_a u') = gq_tr (fz_a u) := congrArg gq_tr h
  exact g
theorem fa_lt {u u' : St1} (h : fz_a u' = fz_a u) : gq_lt u' = gq_lt u := by
  have g : gq_lt (fz_a u') = gq_lt (fz_a u) := congrArg gq_lt h
  exact g
theorem fa_li {u u' : St1} (h : fz_a u' = fz_a u) : gq_li u' = gq_li u := by
  have g : gq_li (fz_a u') = gq_li (fz_a u) := congrArg gq_li h
  exact g
theorem fa_lu {u u' : St1} (h : fz_a u' = fz_a u) : gq_lu u' = gq_lu u := by
  have g : gq_lu (fz_a u') = gq_lu (fz_a u) := congrArg gq_lu h
  exact g
theorem fa_fx {u u' : St1} (h : fz_a u' = fz_a u) : gq_fx u' = gq_fx u := by
  have g : gq_fx (fz_a u') = gq_fx (fz_a u) := congrArg gq_fx h
  exact g
theorem fa_nd {u u' : St1} (h : fz_a u' = fz_a u) : gq_nd u' = gq_nd u := by
  have g : gq_nd (fz_a u') = gq_nd (fz_a u) := congrArg gq_nd h
  exact g
theorem sd_la24 {post : St1 → Prop} {u : St1} {V : Nat → Nat → Bool} {P : Nat} (hpt : gq_pt u = nI P) (hG : sg_G V P (gq_lf u) (gq_rt u)) (hPa : sk_P (gq_pa u)) (h0 : ∀ m, m < 1024 → gq_lh u m = -1)
    (H : ∀ lk' lh' lx', sk_L V P (gq_pa u) lk' → st_ok (fun p => sk_ml (lk' p)) 0 P lh' lx' → post (sq_lk_lh_lx u lk' lh' lx')) : ∃ n, qq_lookAgain_24 post n 0 u := by
  have hP := hG.2.1
  have key : ∀ w : St1, w = sq_lk_lh_lx u (gq_lk u) (gq_lh u) (gq_lx u) → ∃ n, qq_lookAgain_24 post n 0 w := by
    intro w hw
    rw [hw]
    refine loop_m (fun n (s : Nat × (Nat → Int64) × (Nat → Int32) × (Nat → Int32)) => qq_lookAgain_24 post n (nI s.1) (sq_lk_lh_lx u s.2.1 s.2.2.1 s.2.2.2)) (fun s => s.1 ≤ P ∧ sk_L V s.1 (gq_pa u) s.2.1 ∧ st_ok (fun p => sk_ml (s.2.1 p)) 0 s.1 s.2.2.1 s.2.2.2) (fun s => P - s.1) ?_ (0, gq_lk u, gq_lh u, gq_lx u) ⟨Nat.zero_le _, fun p hp => absurd hp (Nat.not_lt_zero p), st_0 h0⟩
    rintro n ⟨i, lk, lh, lx⟩ ⟨hi, hL, hS⟩ ih
    have hi' : i ≤ P := hi
    have hL' : sk_L V i (gq_pa u) lk := hL
    have hS' : st_ok (fun p => sk_ml (lk p)) 0 i lh lx := hS
    show qq_lookAgain_24 post (n + 1) (nI i) (sq_lk_lh_lx u lk lh lx)
    refine cq_lookAgain_24 _ _ _ _ ?_
    have fin : ∀ v : Int64, i < P → (∀ k, k < 64 → sk_b v k = V i (gq_pa u k).toNatClampNeg) → kk_lookAgain_97 post (qq_lookAgain_24 post n) (nI i) (sq_lk (sq_lk_lh_lx u lk lh lx) (vp_updL (gq_lk (sq_lk_lh_lx u lk lh lx)) i v)) := by
      intro v hiP hv
      have e : sq_lk (sq_lk_lh_lx u lk lh lx) (vp_updL (gq_lk (sq_lk_lh_lx u lk lh lx)) i v) = sq_lk_lh_lx u (vp_updL lk i v) lh lx := rfl
      rw [e]
      unfold kk_lookAgain_97
      refine sd_enterLook (by omega) (st_congr hS' (fun q _ hq => by show sk_ml (vp_updL lk i v q) = sk_ml (lk q); rw [pk_uLn (by omega)])) (fun lh' lx' hT => ?_)
      rintro _ rfl
      rw [nI_1]
      refine ih (i + 1, vp_updL lk i v, lh', lx') ⟨by show i + 1 ≤ P; omega, fun p hp k hk => ?_, hT⟩ (by show P - (i + 1) < P - i; omega)
      have hp' : p < i + 1 := hp
      show sk_b (vp_updL lk i v p) k = _
      by_cases ep : p = i
      · rw [ep, pk_uLs]; exact hv k hk
      · rw [pk_uLn ep]; exact hL' p (by omega) k hk
    have g1 : gq_pt (sq_lk_lh_lx u lk lh lx) = nI P := hpt
    rw [g1]
    refine pk_le P i (fun z => ?_) (fun z => ?_)
    · have ei : i = P := by omega
      subst ei
      exact H lk lh lx hL' hS'
    · rw [nI_clamp (by omega)]
      refine pk_eq i 0 (fun z0 => ⟨vp_in_nI (by omega) (by decide), ?_⟩) (fun z0 => pk_le 9 i (fun z9 => ?_) (fun z9 => ?_))
      · rintro _ rfl
        refine fin 0 z (fun k hk => ?_)
        rw [sk_b_0 k hk, z0, hG.2.2.1]
      · obtain ⟨a, b, ea, eb, ha, hb, hV⟩ := hG.2.2.2.2 i z9 z
        have g2 : gq_lf (sq_lk_lh_lx u lk lh lx) i = nI a := ea
        have g3 : gq_rt (sq_lk_lh_lx u lk lh lx) i = nI b := eb
        rw [g2, g3]
        refine ⟨vp_in_nI (by omega) (by decide), sd_lookOfEnd (by omega) ⟨vp_in_nI (by omega) (by decide), sd_lookOfEnd (by omega) ⟨vp_in_nI (by omega) (by decide), ?_⟩⟩⟩
        rintro _ rfl
        refine fin _ z (fun k hk => ?_)
        have b1 := sk_le_bit hL' ha hk
        have b2 := sk_le_bit hL' hb hk
        rw [sk_b_and, hV]
        exact (congr (congrArg and b1) b2)
      · obtain ⟨j, rfl⟩ : ∃ j, i = j + 1 := ⟨i - 1, by omega⟩
        rw [nI_pred]
        refine sd_lookOfInput (by omega) hPa (fun w hw => ⟨vp_in_nI (by omega) (by decide), ?_⟩)
        rintro _ rfl
        refine fin w z (fun k hk => ?_)
        rw [hG.2.2.2.1 j (by omega)]
        exact hw k hk
  exact key u rfl
theorem sd_lookAgain {post : St1 → Prop} {u : St1} {V : Nat → Nat → Bool} {P : Nat} (hpt : gq_pt u = nI P) (hG : sg_G V P (gq_lf u) (gq_rt u)) (hPa : sk_P (gq_pa u))
    (H : ∀ lk' lh' lx', sk_L V P (gq_pa u) lk' → st_ok (fun p => sk_ml (lk' p)) 0 P lh' lx' → post (sq_lk_lh_lx u lk' lh' lx')) : wpX_lookAgain post u := by
  refine cw_lookAgain _ _ ?_
  have key : ∀ w : St1, w = sq_lh u (gq_lh u) → ∃ n, qq_lookAgain_2 post n 0 w := by
    intro w hw
    rw [hw]
    refine pk_loop (fun n i (s : Nat → Int32) => qq_lookAgain_2 post n (nI i) (sq_lh u s)) (fun i s => ∀ m, m < i → s m = -1) 1024 0 (gq_lh u) (by decide) (fun m hm => absurd hm (Nat.not_lt_zero m)) ?_ ?_
    · intro n s hs
      refine cq_lookAgain_2 _ _ _ _ (br_t (by decide) ?_)
      exact sd_la24 (u := sq_lh u s) hpt hG hPa hs (fun lk' lh' lx' h1 h2 => H lk' lh' lx' h1 h2)
    · intro n i s hi hs ih
      refine cq_lookAgain_2 _ _ _ _ (br_f (nI_ge (b := 1024) hi (by decide)) ⟨vp_in_nI hi (by decide), ?_⟩)
      rintro _ rfl _ rfl
      rw [nI_1, nI_clamp (by omega)]
      refine ih (upd s i (-1)) (fun m hm => ?_)
      by_cases e : m = i
      · rw [e, pk_us]
      · rw [pk_un e]; exact hs m (by omega)
  exact key u rfl
/-- the structure: graph, patterns, looks, both tables -/
def sc_S (V : Nat → Nat → Bool) (P : Nat) (u : St1) : Prop :=
  gq_pt u = nI P ∧ sg_G V P (gq_lf u) (gq_rt u) ∧ sk_P (gq_pa u) ∧ sk_L V P (gq_pa u) (gq_lk u) ∧ st_ok (fun p => sk_mp (gq_lf u p) (gq_rt u p)) 9 P (gq_ph u) (gq_px u) ∧
  st_ok (fun p => sk_ml (gq_lk u p)) 0 P (gq_lh u) (gq_lx u) ∧ (∃ k, k < 64 ∧ gq_pn u = nI k)
theorem sc_S_s {V : Nat → Nat → Bool} {P : Nat} {u u' : St1} (h : sc_S V P u) (hf : fz_s u' = fz_s u) : sc_S V P u' := by
  unfold sc_S
  rw [fs_pt hf, fs_lf hf, fs_rt hf, fs_pa hf, fs_lk hf, fs_ph hf, fs_px hf, fs_lh hf, fs_lx hf, fs_pn hf]
  exact h
theorem sd_learn_t {post : St1 → Prop} {u : St1} {V : Nat → Nat → Bool} {P : Nat} (pn' : Int32) (pa' : Nat → Int32) (h1 : gq_pt u = nI P) (h2 : sg_G V P (gq_lf u) (gq_rt u)) (hPa : sk_P pa')
    (h5 : st_ok (fun p => sk_mp (gq_lf u p) (gq_rt u p)) 9 P (gq_ph u) (gq_px u)) (hpn : ∃ k, k < 64 ∧ pn' = nI k) (H : ∀ u', fz_q u' = fz_q u → sc_S V P u' → post u') : wpX_lookAgain post (sq_pn_pa u pn' pa') := by
  refine sd_lookAgain (u := sq_pn_pa u pn' pa') (V := V) (P := P) h1 h2 hPa (fun lk' lh' lx' k1 k2 => ?_)
  have e2 : sq_lk_lh_lx (sq_pn_pa u pn' pa') lk' lh' lx' = sq_pn_pa_lk_lh_lx u pn' pa' lk' lh' lx' := rfl
  rw [e2]
  have k1' : sk_L V P pa' lk' := k1
  exact H _ rfl ⟨h1, h2, hPa, k1', h5, k2, hpn⟩
theorem sd_learn {post : St1 → Prop} {u : St1} {V : Nat → Nat → Bool} {P x : Nat} (h : sc_S V P u) (hx : x < 256) (H : ∀ u', fz_q u' = fz_q u → sc_S V P u' → post u') : wpX_learn post u (nI x) := by
  obtain ⟨h1, h2, h3, h4, h5, h6, k, hk, h7⟩ := h
  refine cw_learn _ _ _ ?_
  rw [h7, nI_clamp (by omega), si_short (by omega), nI_1, ce_lookAgain_2]
  refine ⟨vp_in_nI hk (by decide), fun pa' epa => ⟨by decide, fun pn' epn => ?_⟩⟩
  refine sd_learn_t pn' pa' h1 h2 ?_ h5 ⟨(k + 1) % 64, Nat.mod_lt _ (by decide), epn.trans (pk_rem (a := k + 1) (d := 64) (by omega) (by decide) (by decide))⟩ H
  intro j hj
  rw [epa]
  by_cases ej : j = k
  · exact ⟨x, hx, by rw [ej, pk_us]⟩
  · rw [pk_un ej]; exact h3 j hj
/-- the values with a further part -/
def sc_V (V : Nat → Nat → Bool) (P a b : Nat) : Nat → Nat → Bool := fun p x => if p = P then (sv_e V a x && sv_e V b x) else V p x
theorem sc_V_lt {V : Nat → Nat → Bool} {P a b p : Nat} (h : p < P) (x : Nat) : sc_V V P a b p x = V p x := if_neg (by omega)
theorem sc_V_eq {V : Nat → Nat → Bool} {P a b : Nat} (x : Nat) : sc_V V P a b P x = (sv_e V a x && sv_e V b x) := if_pos rfl
theorem sc_V_e {V : Nat → Nat → Bool} {P a b e : Nat} (h : e < 2 * P) (x : Nat) : sv_e (sc_V V P a b) e x = sv_e V e x := sv_e_congr (fun p hp x => sc_V_lt hp x) h x
theorem sc_G_add {V : Nat → Nat → Bool} {P a b : Nat} {lf rt : Nat → Int32} (h : sg_G V P lf rt) (hP : P < 2560) (ha : a < 2 * P) (hb : b < 2 * P) : sg_G (sc_V V P a b) (P + 1) (upd lf P (nI a)) (upd rt P (nI b)) := by
  obtain ⟨h1, h2, h3, h4, h5⟩ := h
  refine ⟨by omega, by omega, fun x => by rw [sc_V_lt (by omega)]; exact h3 x, fun i hi x => by rw [sc_V_lt (by omega)]; exact h4 i hi x, fun p hp9 hp => ?_⟩
  by_cases e : p = P
  · subst e
    exact ⟨a, b, pk_us, pk_us, ha, hb, fun x => by rw [sc_V_eq, sc_V_e ha, sc_V_e hb]⟩
  · obtain ⟨a', b', q1, q2, q3, q4, q5⟩ := h5 p hp9 (by omega)
    exact ⟨a', b', by rw [pk_un e]; exact q1, by rw [pk_un e]; exact q2, q3, q4, fun x => by rw [sc_V_lt (by omega), q5 x, sc_V_e (by omega), sc_V_e (by omega)]⟩
theorem sd_add_t {post : Int32 → St1 → Prop} {u : St1} {V : Nat → Nat → Bool} {P : Nat} {pt' : Int32} {lf' rt' ph' px' : Nat → Int32} {lk' : Nat → Int64} (hP : P < 2560) (k1 : pt' = nI (P + 1)) (k2 : sg_G V (P + 1) lf' rt') (k3 : sk_P (gq_pa u))
    (k4 : sk_L V (P + 1) (gq_pa u) lk') (k5 : st_ok (fun p => sk_mp (lf' p) (rt' p)) 9 (P + 1) ph' px') (k6 : st_ok (fun p => sk_ml (lk' p)) 0 P (gq_lh u) (gq_lx u)) (k7 : ∃ k, k < 64 ∧ gq_pn u = nI k)
    (kl : ∀ p, p < P → lf' p = gq_lf u p ∧ rt' p = gq_rt u p)
    (H : ∀ u', fz_a u' = fz_a u → (∀ p, p < P → gq_lf u' p = gq_lf u p ∧ gq_rt u' p = gq_rt u p) → sc_S V (P + 1) u' → post (nI P) u') : wpX_enterLook (fun u1 => post (nI P) u1) (sq_pt_lf_rt_ph_px_lk u pt' lf' rt' ph' px' lk') (nI P) :=
  sd_enterLook (u := sq_pt_lf_rt_ph_px_lk u pt' lf' rt' ph' px' lk') hP k6 (fun lh' lx' T3 => by
    have T3' : st_ok (fun p => sk_ml (lk' p)) 0 (P + 1) lh' lx' := T3
    exact H _ rfl kl ⟨k1, k2, k3, k4, k5, T3', k7⟩)
theorem sd_add_l {post : Int64 → Prop} {u : St1} {e : Nat} {pt' : Int32} {lf' rt' ph' px' : Nat → Int32} (he : e / 2 < 2560) (H : post (sk_le (gq_lk u) e)) : wpX_lookOfEnd post (sq_pt_lf_rt_ph_px u pt' lf' rt' ph' px') (nI e) :=
  sd_lookOfEnd (u := sq_pt_lf_rt_ph_px u pt' lf' rt' ph' px') he H
theorem sd_addPart {post : Int32 → St1 → Prop} {u : St1} {V : Nat → Nat → Bool} {P a b : Nat} (h : sc_S V P u) (ha : a < 2 * P) (hb : b < 2 * P) (hP : P < 2560)
    (H : ∀ u', fz_a u' = fz_a u → (∀ p, p < P → gq_lf u' p = gq_lf u p ∧ gq_rt u' p = gq_rt u p) → sc_S (sc_V V P a b) (P + 1) u' → post (nI P) u') : wpX_addPart post u (nI a) (nI b) := by
  obtain ⟨h1, h2, h3, h4, h5, h6, h7⟩ := h
  have hm := sk_mp_eq (nI a) (nI b)
  refine cw_addPart _ _ _ _ ?_
  rw [h1, nI_clamp (by omega), si_short (by omega), si_short (by omega), si_short (by omega), nI_1, ce_enterLook_2]
  refine fun pt' ept => ⟨vp_in_nI hP (by decide), fun lf' elf => ⟨vp_in_nI hP (by decide), fun rt' ert => ?_⟩⟩
  refine sd_markOfPair ⟨vp_in_nI hm.2 (by decide), vp_in_nI hP (by decide), fun px' epx => ⟨vp_in_nI hm.2 (by decide), fun ph' eph => ?_⟩⟩
  have hmlt := hm.2
  rw [nI_clamp (by omega)] at epx eph
  rw [st_nar (by omega) (h5.1 _ hm.2)] at epx
  refine sd_add_l (by omega) (sd_add_l (by omega) ⟨vp_in_nI hP (by decide), fun lk' elk => ?_⟩)
  have elfn : ∀ p, p < P → lf' p = gq_lf u p := fun p hp => by rw [elf, pk_un (by omega)]
  have ertn : ∀ p, p < P → rt' p = gq_rt u p := fun p hp => by rw [ert, pk_un (by omega)]
  have elkn : ∀ p, p < P → lk' p = gq_lk u p := fun p hp => by rw [elk, pk_uLn (by omega)]
  refine sd_add_t hP ept ?_ h3 ?_ ?_ ?_ h7 (fun p hp => ⟨elfn p hp, ertn p hp⟩) H
  · rw [elf, ert]; exact sc_G_add h2 hP ha hb
  · intro p hp k hk
    by_cases e : p = P
    · rw [e, elk, pk_uLs, sk_b_and, sc_V_eq, sk_le_bit h4 ha hk, sk_le_bit h4 hb hk]
    · rw [elkn p (by omega), sc_V_lt (by omega)]; exact h4 p (by omega) k hk
  · have c := st_congr (M' := fun p => sk_mp (lf' p) (rt' p)) h5 (fun q _ hq => by
      show sk_mp (lf' q) (rt' q) = sk_mp (gq_lf u q) (gq_rt u q)
      rw [elfn q hq, ertn q hq])
    have e : sk_mp (lf' P) (rt' P) = sk_mp (nI a) (nI b) := by rw [elf, ert, pk_us, pk_us]
    have d := st_add c h2.1 (show sk_mp (lf' P) (rt' P) < 1024 by rw [e]; exact hm.2)
    have d' : st_ok (fun p => sk_mp (lf' p) (rt' p)) 9 (P + 1) (upd (gq_ph u) (sk_mp (lf' P) (rt' P)) (nI P)) (upd (gq_px u) P (gq_ph u (sk_mp (lf' P) (rt' P)))) := d
    rw [e] at d'
    rw [epx, eph]
    exact d'
  · exact st_congr h6 (fun q _ hq => by
      show sk_ml (lk' q) = sk_ml (gq_lk u q)
      rw [elkn q hq])
theorem sc_G_le {V : Nat → Nat → Bool} {P Q : Nat} {lf rt : Nat → Int32} (h : sg_G V P lf rt) (h9 : 9 ≤ Q) (hQ : Q ≤ P) : sg_G V Q lf rt :=
  ⟨h9, Nat.le_trans hQ h.2.1, h.2.2.1, h.2.2.2.1, fun p hp hpQ => h.2.2.2.2 p hp (by omega)⟩
theorem sd_backTo {post : St1 → Prop} {u : St1} {V : Nat → Nat → Bool} {P Q : Nat} (h : sc_S V P u) (h9 : 9 ≤ Q) (hQ : Q ≤ P)
    (H : ∀ u', fz_b u' = fz_b u → sc_S V Q u' → post u') : wpX_backTo post u (nI Q) := by
  refine cw_backTo _ _ _ ?_
  have hP := h.2.1.2.1
  have key : ∀ w : St1, w = sq_pt_ph_lh u (nI P) (gq_ph u) (gq_lh u) → ∃ n, qq_backTo_0 post (nI Q) n w := by
    intro w hw
    rw [hw]
    refine loop_m (fun n (s : Nat × (Nat → Int32) × (Nat → Int32)) => qq_backTo_0 post (nI Q) n (sq_pt_ph_lh u (nI s.1) s.2.1 s.2.2)) (fun s => Q ≤ s.1 ∧ s.1 ≤ P ∧ sc_S V s.1 (sq_pt_ph_lh u (nI s.1) s.2.1 s.2.2)) (fun s => s.1) ?_ (P, gq_ph u, gq_lh u) ⟨hQ, Nat.le_refl P, ⟨rfl, h.2⟩⟩
    rintro n ⟨i, ph, lh⟩ ⟨hi1, hi2, hS⟩ ih
    have hi1' : Q ≤ i := hi1
    have hi2' : i ≤ P := hi2
    have hS' : sc_S V i (sq_pt_ph_lh u (nI i) ph lh) := hS
    show qq_backTo_0 post (nI Q) (n + 1) (sq_pt_ph_lh u (nI i) ph lh)
    refine cq_backTo_0 _ _ _ _ ?_
    have g1 : gq_pt (sq_pt_ph_lh u (nI i) ph lh) = nI i := rfl
    rw [g1]
    refine pk_le i Q (fun z => ?_) (fun z => ?_)
    · have ei : i = Q := by omega
      subst ei
      exact H _ rfl hS'
    · obtain ⟨j, rfl⟩ : ∃ j, i = j + 1 := ⟨i - 1, by omega⟩
      rw [nI_pred]
      intro f2 ef2
      rw [ef2, nI_clamp (by omega)]
      obtain ⟨k1, k2, k3, k4, k5, k6, k7⟩ := hS'
      have m1 := (sk_mp_eq (gq_lf u j) (gq_rt u j)).2
      have m2 := sk_ml_lt (gq_lk u j)
      have D1 : st_ok (fun p => sk_mp (gq_lf u p) (gq_rt u p)) 9 j (upd ph (sk_mp (gq_lf u j) (gq_rt u j)) (gq_px u j)) (gq_px u) := st_del k5 (by omega)
      have D2 : st_ok (fun p => sk_ml (gq_lk u p)) 0 j (upd lh (sk_ml (gq_lk u j)) (gq_lx u j)) (gq_lx u) := st_del k6 (Nat.zero_le j)
      have n1 : vp_nar .short (gq_px u j) = gq_px u j := st_nar (by omega) (k5.2 j (by omega) (by omega))
      have n2 : vp_nar .short (gq_lx u j) = gq_lx u j := st_nar (by omega) (k6.2 j (by omega) (by omega))
      have q1 : gq_lf (sq_pt_ph_lh u (nI (j + 1)) ph lh) j = gq_lf u j := rfl
      have q2 : gq_rt (sq_pt_ph_lh u (nI (j + 1)) ph lh) j = gq_rt u j := rfl
      have q3 : gq_lk (sq_pt_ph_lh u (nI (j + 1)) ph lh) j = gq_lk u j := rfl
      have q4 : gq_px (sq_pt_ph_lh u (nI (j + 1)) ph lh) j = gq_px u j := rfl
      have q5 : gq_lx (sq_pt_ph_lh u (nI (j + 1)) ph lh) j = gq_lx u j := rfl
      have q6 : gq_ph (sq_pt_ph_lh u (nI (j + 1)) ph lh) = ph := rfl
      have q7 : gq_lh (sq_pt_ph_lh u (nI (j + 1)) ph lh) = lh := rfl
      rw [q1, q2, q3, q4, q5, q6, q7, n1, n2]
      refine ⟨vp_in_nI (by omega) (by decide), vp_in_nI (by omega) (by decide), sd_markOfPair ⟨vp_in_nI (by omega) (by decide), vp_in_nI m1 (by decide), fun ph' eph => ?_⟩⟩
      refine ⟨vp_in_nI (by omega) (by decide), sd_markOfLook ⟨vp_in_nI (by omega) (by decide), vp_in_nI m2 (by decide), fun lh' elh => ?_⟩⟩
      rw [nI_clamp (by omega)] at eph elh
      have go := ih (j, ph', lh') ⟨by show Q ≤ j; omega, by show j ≤ P; omega, ⟨rfl, sc_G_le k2 (by omega) (by omega), k3, fun p hp => k4 p (by omega), by rw [eph]; exact D1, by rw [elh]; exact D2, k7⟩⟩ (Nat.lt_succ_self j)
      rw [← ef2] at go ⊢
      exact go
  refine key u ?_
  rw [← h.1]
  rfl
end
section
/-- r is an end for the AND of a and b, or -1 -/
def sa_R (V : Nat → Nat → Bool) (P a b : Nat) (r : Int32) : Prop := r = -1 ∨ ∃ e, e < 2 * P ∧ r = nI e ∧ ∀ x, sv_e V e x = (sv_e V a x && sv_e V b x)
theorem sa_R_comm {V : Nat → Nat → Bool} {P a b : Nat} {r : Int32} (h : sa_R V P a b r) : sa_R V P b a r := by
  rcases h with z | ⟨e, h1, h2, h3⟩
  · exact Or.inl z
  · exact Or.inr ⟨e, h1, h2, fun x => by rw [h3 x, Bool.and_comm]⟩
theorem sv_e_par0 {V : Nat → Nat → Bool} {e : Nat} (h : e % 2 = 0) (x : Nat) : sv_e V e x = V (e / 2) x := by
  unfold sv_e
  rw [h]
  cases V (e / 2) x <;> rfl
theorem sv_e_par1 {V : Nat → Nat → Bool} {e : Nat} (h : e % 2 ≠ 0) (x : Nat) : sv_e V e x = !V (e / 2) x := by
  unfold sv_e
  rw [show e % 2 = 1 by omega]
  cases V (e / 2) x <;> rfl
theorem sd_f21 {post : Int32 → Prop} {u : St1} {V : Nat → Nat → Bool} {P a b : Nat} (h : sc_S V P u) (ha : a < 2 * P) (hb : b < 2 * P) (H : ∀ r, sa_R V P a b r → post r) : kk_found_21 post (nI a) (nI b) u := by
  obtain ⟨h1, h2, h3, h4, h5, h6, h7⟩ := h
  have hP := h2.2.1
  have hm := (sk_mp_eq (nI a) (nI b)).2
  refine sd_markOfPair ⟨vp_in_nI hm (by decide), ?_⟩
  rintro _ rfl
  rw [nI_clamp (by omega)]
  have hp := h5.1 _ hm
  generalize gq_ph u (sk_mp (nI a) (nI b)) = r0 at hp
  refine loop_m (fun n (s : Nat × Int32) => qq_found_40 post (nI a) (nI b) n s.2 u) (fun s => s.1 ≤ P ∧ ∃ m, st_prev (fun p => sk_mp (gq_lf u p) (gq_rt u p)) 9 s.1 m s.2) (fun s => s.1) ?_ (P, r0) ⟨Nat.le_refl P, _, hp⟩
  rintro n ⟨c, r⟩ ⟨hc, m, hpr⟩ ih
  have hc' : c ≤ P := hc
  show qq_found_40 post (nI a) (nI b) (n + 1) r u
  refine cq_found_40 _ _ _ _ _ _ ?_
  rcases hpr with ⟨e, _⟩ | ⟨p, e, p1, p2, p3, _⟩
  · have e' : r = -1 := e
    rw [e']
    exact br_t (by decide) (H _ (Or.inl rfl))
  · have e' : r = nI p := e
    have p2' : p < c := p2
    rw [e']
    refine br_f (nI_pos (by omega)) ?_
    rw [nI_clamp (by omega)]
    have nx := ih (p, gq_px u p) ⟨by show p ≤ P; omega, _, h5.2 p p1 (by omega)⟩ p2'
    refine ⟨vp_in_nI (by omega) (by decide), fun q1 => ⟨vp_in_nI (by omega) (by decide), fun q2 => ?_, fun q2 => ⟨vp_in_nI (by omega) (by decide), ?_⟩⟩, fun q1 => ⟨vp_in_nI (by omega) (by decide), ?_⟩⟩
    · rw [si_2]
      obtain ⟨a', b', g1, g2, g3, g4, g5⟩ := h2.2.2.2.2 p p1 (by omega)
      refine H _ (Or.inr ⟨2 * p, by omega, rfl, fun x => ?_⟩)
      rw [g1] at q1
      rw [g2] at q2
      rw [sv_e_even, g5 x, si_inj (by omega) (by omega) q1, si_inj (by omega) (by omega) q2]
    · rintro _ rfl
      exact nx
    · rintro _ rfl
      exact nx
theorem sd_found {post : Int32 → Prop} {u : St1} {V : Nat → Nat → Bool} {P a b : Nat} (h : sc_S V P u) (ha : a < 2 * P) (hb : b < 2 * P) (H : ∀ r, sa_R V P a b r → post r) : wpX_found post u (nI a) (nI b) := by
  have hP := h.2.1.2.1
  refine cw_found _ _ _ _ (pk_le b a (fun z => ?_) (fun z => ?_))
  · exact br_t (nI_le z (by omega)) (sd_f21 h hb ha (fun r hr => H r (sa_R_comm hr)))
  · exact br_f (nI_ge z (by omega)) (sd_f21 h ha hb H)
theorem sd_has {post : Int32 → Prop} {u : St1} {c : Nat} {y : Int32} (hc : c / 2 < 2560) (H1 : (gq_lf u (c / 2) = y ∨ gq_rt u (c / 2) = y) → post 1) (H0 : gq_lf u (c / 2) ≠ y → gq_rt u (c / 2) ≠ y → post 0) : wpX_has post u (nI c) y := by
  refine cw_has _ _ _ _ ?_
  rw [si_half (by omega), nI_clamp (by omega)]
  exact ⟨vp_in_nI hc (by decide), fun z => H1 (Or.inl z), fun z => ⟨vp_in_nI hc (by decide), fun z2 => H1 (Or.inr z2), fun z2 => H0 z z2⟩⟩
theorem sd_isAnd {post : Int32 → Prop} {u : St1} {c : Nat} (hc : c < 2 ^ 31) (H1 : 9 ≤ c / 2 → post 1) (H0 : c / 2 < 9 → post 0) : wpX_isAnd post u (nI c) := by
  refine cw_isAnd _ _ _ ?_
  rw [si_half hc]
  exact pk_lt (c / 2) 9 H0 H1
theorem sd_otherThan {post : Int32 → Prop} {u : St1} {c : Nat} {y : Int32} (hc : c / 2 < 2560) (H1 : gq_lf u (c / 2) = y → post (gq_rt u (c / 2))) (H0 : gq_lf u (c / 2) ≠ y → post (gq_lf u (c / 2))) : wpX_otherThan post u (nI c) y := by
  refine cw_otherThan _ _ _ _ ?_
  rw [si_half (by omega), nI_clamp (by omega)]
  exact ⟨vp_in_nI hc (by decide), fun z => ⟨vp_in_nI hc (by decide), H1 z⟩, fun z => ⟨vp_in_nI hc (by decide), H0 z⟩⟩
theorem sd_absorbed {post : Int32 → Prop} {u : St1} {V : Nat → Nat → Bool} {P c d : Nat} (h : sc_S V P u) (hc : c < 2 * P) (hd : d < 2 * P) (H : ∀ r, sa_R V P c d r → post r) : wpX_absorbed post u (nI c) (nI d) := by
  have h2 := h.2.1
  have hP := h2.2.1
  have hF : sa_R V P c d (-1) := Or.inl rfl
  refine cw_absorbed _ _ _ _ (sd_isAnd (by omega) (fun c9 => br_f (by decide) ?_) (fun _ => br_t rfl (H _ hF)))
  obtain ⟨a, b, ea, eb, ha, hb, hV⟩ := h2.2.2.2.2 (c / 2) c9 (by omega)
  have e0 : ∀ x, sv_e V 0 x = false := fun x => by rw [sv_e_par0 rfl]; exact h2.2.2.1 x
  -- which of the two ends is which
  have isEnd : ∀ y, y < 2 * P → (gq_lf u (c / 2) = nI y ∨ gq_rt u (c / 2) = nI y) → ∀ x, V (c / 2) x = (sv_e V y x && V (c / 2) x) := by
    intro y hy hh x
    rcases hh with z | z
    · rw [ea] at z
      rw [hV x, si_inj (by omega) (by omega) z]
      cases sv_e V y x <;> rfl
    · rw [eb] at z
      rw [hV x, si_inj (by omega) (by omega) z]
      cases sv_e V y x <;> cases sv_e V a x <;> rfl
  rw [si_odd (by omega)]
  have main : ∀ z0 : Int32, (z0 = 0 → c % 2 ≠ 0) → (z0 ≠ 0 → c % 2 = 0) → kk_absorbed_21 post (nI c) (nI d) z0 u := by
    intro z0 hz0 hz1
    unfold kk_absorbed_21
    rw [si_ng]
    refine sd_has (by omega) (fun hh => br_f (by decide) ⟨fun z => ?_, fun z => ?_⟩) (fun n1 n2 => br_t rfl ?_)
    · refine H _ (Or.inr ⟨d, hd, rfl, fun x => ?_⟩)
      have := isEnd _ (sv_ng_lt hd) hh x
      rw [sv_e_par1 (hz0 z) x, sv_e_ng] at *
      cases hdx : sv_e V d x
      · rw [Bool.and_false]
      · rw [hdx] at this
        rw [this]; rfl
    · refine H _ (Or.inr ⟨0, by omega, rfl, fun x => ?_⟩)
      have := isEnd _ (sv_ng_lt hd) hh x
      rw [e0 x, sv_e_par0 (hz1 z) x]
      rw [sv_e_ng] at this
      cases hdx : sv_e V d x
      · rw [Bool.and_false]
      · rw [hdx] at this
        rw [this]; rfl
    · refine sd_has (by omega) (fun hh => br_f (by decide) ⟨fun z => ?_, fun z => ?_⟩) (fun n3 n4 => br_t rfl ⟨fun _ => H _ hF, fun z => ?_⟩)
      · have fin : ∀ y, y < 2 * P → (∀ x, V (c / 2) x = (sv_e V d x && sv_e V y x)) → ∀ x4_21 : Int32, x4_21 = nI y ^^^ 1 → wpX_found (fun r_22 => post r_22) u (nI d) x4_21 := by
          intro y hy hVy
          rintro _ rfl
          rw [si_ng]
          refine sd_found h hd (sv_ng_lt hy) (fun r hr => H r ?_)
          rcases hr with z1 | ⟨e, g1, g2, g3⟩
          · exact Or.inl z1
          · refine Or.inr ⟨e, g1, g2, fun x => ?_⟩
            rw [g3 x, sv_e_par1 (hz0 z) x, hVy x, sv_e_ng]
            cases sv_e V d x <;> cases sv_e V y x <;> rfl
        refine sd_otherThan (by omega) (fun q => ?_) (fun q => ?_)
        · rw [eb]
          refine fin b (by omega) (fun x => ?_)
          rw [ea] at q
          rw [hV x, si_inj (by omega) (by omega) q]
        · rw [ea]
          refine fin a (by omega) (fun x => ?_)
          rcases hh with q2 | q2
          · exact absurd q2 q
          · rw [eb] at q2
            rw [hV x, si_inj (by omega) (by omega) q2, Bool.and_comm]
      · refine H _ (Or.inr ⟨c, hc, rfl, fun x => ?_⟩)
        have := isEnd _ hd hh x
        rw [sv_e_par0 (hz1 z) x, Bool.and_comm]
        exact this
      · refine sd_isAnd (by omega) (fun d9 => br_f (by decide) ?_) (fun _ => br_t rfl (H _ hF))
        rw [si_odd (by omega)]
        refine pk_eq (d % 2) 0 (fun d0 => ?_) (fun d0 => H _ hF)
        obtain ⟨a', b', ea', eb', ha', hb', hV'⟩ := h2.2.2.2.2 (d / 2) d9 (by omega)
        rw [si_half (by omega), nI_clamp (by omega), ea, eb, si_ng, si_ng]
        -- d has the opposite of an end y of c
        have clash : ∀ y, y < 2 * P → (gq_lf u (c / 2) = nI y ∨ gq_rt u (c / 2) = nI y) → (gq_lf u (d / 2) = nI (sv_ng y) ∨ gq_rt u (d / 2) = nI (sv_ng y)) → post 0 := by
          intro y hy hcy hdy
          refine H _ (Or.inr ⟨0, by omega, rfl, fun x => ?_⟩)
          have t1 := isEnd y hy hcy x
          have t2 : V (d / 2) x = (!sv_e V y x && V (d / 2) x) := by
            rw [← sv_e_ng]
            have := sv_ng_lt hy
            rcases hdy with q | q
            · rw [ea'] at q
              rw [hV' x, si_inj (by omega) (by omega) q]
              cases sv_e V (sv_ng y) x <;> rfl
            · rw [eb'] at q
              rw [hV' x, si_inj (by omega) (by omega) q]
              cases sv_e V (sv_ng y) x <;> cases sv_e V a' x <;> rfl
          rw [e0 x, sv_e_par0 (hz1 z) x, sv_e_par0 d0 x]
          cases hy2 : sv_e V y x
          · rw [hy2] at t1; rw [t1]; rfl
          · rw [hy2] at t2; rw [t2, Bool.not_true, Bool.false_and, Bool.and_false]
        have k135 : kk_absorbed_135 post 0 u := br_t rfl (H _ hF)
        refine ⟨vp_in_nI (by omega) (by decide), sd_has (by omega) (fun hh => br_f (by decide) ?_) (fun _ _ => br_t rfl ⟨vp_in_nI (by omega) (by decide), sd_has (by omega) (fun hh => br_f (by decide) ?_) (fun _ _ => br_t rfl k135)⟩)⟩
        · exact br_f (by decide) (clash a (by omega) (Or.inl ea) hh)
        · exact br_f (by decide) (clash b (by omega) (Or.inr eb) hh)
  exact pk_eq (c % 2) 0 (fun z => main 1 (fun q => absurd q (by decide)) (fun _ => z)) (fun z => main 0 (fun _ => z) (fun q => absurd rfl q))
theorem sd_byLaws {post : Int32 → Prop} {u : St1} {V : Nat → Nat → Bool} {P a b : Nat} (h : sc_S V P u) (ha : a < 2 * P) (hb : b < 2 * P) (H : ∀ r, sa_R V P a b r → post r) : wpX_byLaws post u (nI a) (nI b) := by
  have h2 := h.2.1
  have hP := h2.2.1
  have e0 : ∀ x, sv_e V 0 x = false := fun x => by rw [sv_e_par0 rfl]; exact h2.2.2.1 x
  have e1 : ∀ x, sv_e V 1 x = true := fun x => by rw [sv_e_par1 (by decide)]; show (!V 0 x) = true; rw [h2.2.2.1 x]; rfl
  have hng := sv_ng_lt hb
  refine cw_byLaws _ _ _ _ ?_
  rw [si_ng]
  refine pk_eq a 0 (fun z => H _ (Or.inr ⟨0, by omega, rfl, fun x => by rw [z, e0 x]; rfl⟩)) (fun _ => pk_eq b 0 (fun z => H _ (Or.inr ⟨0, by omega, rfl, fun x => by rw [z, e0 x, Bool.and_false]⟩)) (fun _ =>
    pk_eq a (sv_ng b) (fun z => H _ (Or.inr ⟨0, by omega, rfl, fun x => by rw [z, e0 x, sv_e_ng]; cases sv_e V b x <;> rfl⟩)) (fun _ =>
    pk_eq a 1 (fun z => H _ (Or.inr ⟨b, hb, rfl, fun x => by rw [z, e1 x]; rfl⟩)) (fun _ => pk_eq a b (fun z => H _ (Or.inr ⟨b, hb, rfl, fun x => by rw [z, Bool.and_self]⟩)) (fun _ =>
    pk_eq b 1 (fun z => H _ (Or.inr ⟨a, ha, rfl, fun x => by rw [z, e1 x, Bool.and_true]⟩)) (fun _ => ?_))))))
  exact sd_absorbed h ha hb (fun r hr => ⟨fun _ => sd_absorbed h hb ha (fun r' hr' => H r' (sa_R_comm hr')), fun _ => H r hr⟩)
end
section
/-- no two ends are alike -/
def sg_C (V : Nat → Nat → Bool) (P : Nat) : Prop := ∀ e f, e < 2 * P → f < 2 * P → (∀ x, x < 256 → sv_e V e x = sv_e V f x) → e = f
/-- parts P and q are neither equal nor opposite -/
def sw_h (V : Nat → Nat → Bool) (P q : Nat) : Prop := ¬ (∀ x, x < 256 → V P x = V q x) ∧ ¬ (∀ x, x < 256 → V P x = !V q x)
theorem sg_C_congr {V V' : Nat → Nat → Bool} {P : Nat} (h : sg_C V P) (hV : ∀ p, p < P → ∀ x, V' p x = V p x) : sg_C V' P := by
  intro e f he hf hx
  refine h e f he hf (fun x h' => ?_)
  rw [← sv_e_congr hV he, ← sv_e_congr hV hf]
  exact hx x h'
theorem sg_C_le {V : Nat → Nat → Bool} {P Q : Nat} (h : sg_C V P) (hQ : Q ≤ P) : sg_C V Q := fun e f he hf hx => h e f (by omega) (by omega) hx
theorem sw_C {V : Nat → Nat → Bool} {P : Nat} (h : sg_C V P) (hh : ∀ q, q < P → sw_h V P q) : sg_C V (P + 1) := by
  have mix : ∀ e f, e / 2 = P → f / 2 < P → (∀ x, x < 256 → sv_e V e x = sv_e V f x) → False := by
    intro e f he hf hx
    obtain ⟨h1, h2⟩ := hh (f / 2) hf
    by_cases pe : e % 2 = 0
    · by_cases pf : f % 2 = 0
      · refine h1 (fun x h' => ?_)
        have := hx x h'
        rw [sv_e_par0 pe, sv_e_par0 pf, he] at this
        exact this
      · refine h2 (fun x h' => ?_)
        have := hx x h'
        rw [sv_e_par0 pe, sv_e_par1 pf, he] at this
        exact this
    · by_cases pf : f % 2 = 0
      · refine h2 (fun x h' => ?_)
        have := hx x h'
        rw [sv_e_par1 pe, sv_e_par0 pf, he] at this
        rw [← this, Bool.not_not]
      · refine h1 (fun x h' => ?_)
        have := hx x h'
        rw [sv_e_par1 pe, sv_e_par1 pf, he] at this
        rw [← Bool.not_not (V P x), this, Bool.not_not]
  intro e f he hf hx
  by_cases e1 : e / 2 = P
  · by_cases f1 : f / 2 = P
    · have := hx 0 (by decide)
      by_cases pe : e % 2 = 0
      · by_cases pf : f % 2 = 0
        · omega
        · rw [sv_e_par0 pe, sv_e_par1 pf, e1, f1] at this
          cases hv : V P 0 <;> rw [hv] at this <;> exact absurd this (by decide)
      · by_cases pf : f % 2 = 0
        · rw [sv_e_par1 pe, sv_e_par0 pf, e1, f1] at this
          cases hv : V P 0 <;> rw [hv] at this <;> exact absurd this (by decide)
        · omega
    · exact (mix e f e1 (by omega) hx).elim
  · by_cases f1 : f / 2 = P
    · exact (mix f e f1 (by omega) (fun x h' => (hx x h').symm)).elim
    · exact h e f (by omega) (by omega) hx
theorem sk_lk_eq {V : Nat → Nat → Bool} {P p q : Nat} {pa : Nat → Int32} {lk : Nat → Int64} (hP : sk_P pa) (h : sk_L V P pa lk) (hp : p < P) (hq : q < P) (hx : ∀ x, x < 256 → V p x = V q x) : lk p = lk q := by
  refine sk_b_ext (fun k hk => ?_)
  obtain ⟨t, ht, et⟩ := hP k hk
  rw [h p hp k hk, h q hq k hk, et, nI_clamp (by omega)]
  exact hx t ht
theorem sk_lk_ne {V : Nat → Nat → Bool} {P p q : Nat} {pa : Nat → Int32} {lk : Nat → Int64} (hP : sk_P pa) (h : sk_L V P pa lk) (hp : p < P) (hq : q < P) (hx : ∀ x, x < 256 → V p x = !V q x) : lk p = lk q ^^^ (-1) := by
  refine sk_b_ext (fun k hk => ?_)
  obtain ⟨t, ht, et⟩ := hP k hk
  rw [h p hp k hk, sk_b_not _ hk, h q hq k hk, et, nI_clamp (by omega)]
  exact hx t ht
theorem sk_self (x : Int64) : x ≠ x ^^^ (-1) := by
  intro h
  have := sk_b_not x (show 0 < 64 by decide)
  rw [← h] at this
  cases hb : sk_b x 0 <;> rw [hb] at this <;> exact absurd this (by decide)
/-- by their looks -/
theorem sw_look {V : Nat → Nat → Bool} {P q : Nat} {pa : Nat → Int32} {lk : Nat → Int64} (hP : sk_P pa) (h : sk_L V (P + 1) pa lk) (hq : q < P) (hn : sk_nt (lk q) ≠ sk_nt (lk P)) : sw_h V P q := by
  refine ⟨fun hx => hn ?_, fun hx => hn ?_⟩
  · rw [sk_lk_eq hP h (by omega) (by omega) hx]
  · rw [sk_lk_ne hP h (show P < P + 1 by omega) (by omega) hx, sk_nt_not]
theorem fz_qs {u u' : St1} (h : fz_s u' = fz_s u) : fz_q u' = fz_q u := by
  have g : fz_q (fz_s u') = fz_q (fz_s u) := congrArg fz_q h
  exact g
/-- the candidate for q -/
def sw_c (lk : Nat → Int64) (P q : Nat) : Nat := if lk q = lk P then 2 * q else 2 * q + 1
theorem sw_c_half (lk : Nat → Int64) (P q : Nat) : sw_c lk P q / 2 = q := by
  unfold sw_c
  split <;> omega
theorem sw_dif {V : Nat → Nat → Bool} {P q : Nat} {pa : Nat → Int32} {lk : Nat → Int64} (hP : sk_P pa) (h : sk_L V (P + 1) pa lk) (hq : q < P) (hd : ¬ ∀ x, x < 256 → V P x = sv_e V (sw_c lk P q) x) : sw_h V P q := by
  unfold sw_c at hd
  by_cases e : lk q = lk P
  · rw [if_pos e] at hd
    refine ⟨fun hx => hd (fun x h' => by rw [sv_e_even]; exact hx x h'), fun hx => ?_⟩
    have := sk_lk_ne hP h (show P < P + 1 by omega) (show q < P + 1 by omega) hx
    rw [e] at this
    exact sk_self _ this
  · rw [if_neg e] at hd
    exact ⟨fun hx => e (sk_lk_eq hP h (show P < P + 1 by omega) (show q < P + 1 by omega) hx).symm, fun hx => hd (fun x h' => by rw [sv_e_odd]; exact hx x h')⟩
theorem sd_sw28 {post : Int32 → St1 → Prop} {u : St1} {V : Nat → Nat → Bool} {P : Nat} {r0 : Int32} (h : sc_S V (P + 1) u) (hC : sg_C V P)
    (hr : st_prev (fun p => sk_ml (gq_lk u p)) 0 (P + 1) (sk_ml (gq_lk u P)) r0)
    (H0 : ∀ u', fz_q u' = fz_q u → sc_S V (P + 1) u' → sg_C V (P + 1) → post (-1) u')
    (H1 : ∀ u' e, fz_s u' = fz_s u → e < 2 * P → (∀ x, x < 256 → V P x = sv_e V e x) → post (nI e) u') : ∃ n, qq_sweep_28 post (nI P) (sk_nt (gq_lk u P)) n 0 r0 u := by
  obtain ⟨h1, h2, h3, h4, h5, h6, h7⟩ := h
  have hS : sc_S V (P + 1) u := ⟨h1, h2, h3, h4, h5, h6, h7⟩
  have hP : P + 1 ≤ 2560 := h2.2.1
  refine loop_m (fun n (s : Nat × Int32 × Int32 × St1) => qq_sweep_28 post (nI P) (sk_nt (gq_lk u P)) n s.2.1 s.2.2.1 s.2.2.2)
    (fun s => s.1 ≤ P + 1 ∧ fz_s s.2.2.2 = fz_s u ∧ st_prev (fun p => sk_ml (gq_lk u p)) 0 s.1 (sk_ml (gq_lk u P)) s.2.2.1 ∧ (∀ q, s.1 ≤ q → q < P → sk_ml (gq_lk u q) = sk_ml (gq_lk u P) → sw_h V P q) ∧ (s.2.1 = 0 ∨ ∃ x, x < 256 ∧ gq_fa s.2.2.2 = nI x))
    (fun s => s.1) ?_ (P + 1, 0, r0, u) ⟨Nat.le_refl _, rfl, hr, fun q q1 q2 => absurd q2 (Nat.not_lt.mpr (Nat.le_of_succ_le q1)), Or.inl rfl⟩
  rintro n ⟨c, x5, x6, w⟩ ⟨hc, hf, hp, hh, hx5⟩ ih
  have hc' : c ≤ P + 1 := hc
  have hf' : fz_s w = fz_s u := hf
  have hp' : st_prev (fun p => sk_ml (gq_lk u p)) 0 c (sk_ml (gq_lk u P)) x6 := hp
  have hh' : ∀ q, c ≤ q → q < P → sk_ml (gq_lk u q) = sk_ml (gq_lk u P) → sw_h V P q := hh
  have hx5' : x5 = 0 ∨ ∃ x, x < 256 ∧ gq_fa w = nI x := hx5
  show qq_sweep_28 post (nI P) (sk_nt (gq_lk u P)) (n + 1) x5 x6 w
  refine cq_sweep_28 _ _ _ _ _ _ _ ?_
  rw [fs_lk hf', fs_lx hf']
  rcases hp' with ⟨e, hno⟩ | ⟨q, e, _, q2, q3, q4⟩
  · rw [e]
    refine br_t (by decide) ?_
    have C' : sg_C V (P + 1) := by
      refine sw_C hC (fun q hq => ?_)
      by_cases em : sk_ml (gq_lk u q) = sk_ml (gq_lk u P)
      · by_cases ec : c ≤ q
        · exact hh' q ec hq em
        · exact absurd em (hno q (Nat.zero_le q) (by omega))
      · refine sw_look h3 h4 hq (fun z => em ?_)
        rw [← sk_ml_nt (gq_lk u q), z, sk_ml_nt]
    refine ⟨fun _ => H0 w (fz_qs hf') (sc_S_s hS hf') C', fun z => ?_⟩
    rcases hx5' with y | ⟨x, hx, ex⟩
    · exact absurd y z
    · rw [ex]
      exact sd_learn (sc_S_s hS hf') hx (fun u' hq' hS' => H0 u' (hq'.trans (fz_qs hf')) hS' C')
  · have q3' : sk_ml (gq_lk u q) = sk_ml (gq_lk u P) := q3
    rw [e]
    refine br_f (nI_pos (by omega)) ?_
    rw [nI_clamp (by omega), nI_clamp (by omega)]
    have nextp : st_prev (fun p => sk_ml (gq_lk u p)) 0 q (sk_ml (gq_lk u P)) (gq_lx u q) := by
      have := h6.2 q (Nat.zero_le q) (by omega)
      have t : st_prev (fun p => sk_ml (gq_lk u p)) 0 q (sk_ml (gq_lk u q)) (gq_lx u q) := this
      rw [q3'] at t
      exact t
    -- on to the next one of the mark
    have next : ∀ (y5 : Int32) (w' : St1), fz_s w' = fz_s u → (y5 = 0 ∨ ∃ x, x < 256 ∧ gq_fa w' = nI x) → (q < P → sw_h V P q) → qq_sweep_28 post (nI P) (sk_nt (gq_lk u P)) n y5 (gq_lx u q) w' := by
      intro y5 w' hf2 hy hq
      refine ih (q, y5, gq_lx u q, w') ⟨by show q ≤ P + 1; omega, hf2, nextp, fun q' k1 k2 k3 => ?_, hy⟩ q2
      have k1' : q ≤ q' := k1
      by_cases eq : q' = q
      · rw [eq]; exact hq (by omega)
      · by_cases ec : c ≤ q'
        · exact hh' q' ec k2 k3
        · exact absurd k3 (q4 q' (by omega) (by omega))
    refine pk_le P q (fun z => ⟨vp_in_nI (by omega) (by decide), ?_⟩) (fun z => ⟨vp_in_nI (by omega) (by decide), sd_neutral ⟨fun z2 => ⟨vp_in_nI (by omega) (by decide), vp_in_nI (by omega) (by decide), ?_⟩, fun z2 => ⟨vp_in_nI (by omega) (by decide), ?_⟩⟩⟩)
    · rintro _ rfl
      exact next x5 w hf' hx5' (fun y => absurd y (by omega))
    · have hG := h2
      have k114 : ∀ w', fz_s w' = fz_s u → (∃ x, x < 256 ∧ gq_fa w' = nI x) → sw_h V P q → kk_sweep_114 post (qq_sweep_28 post (nI P) (sk_nt (gq_lk u P)) n) (nI P) (sk_nt (gq_lk u P)) (nI q) w' := by
        intro w' hf2 hfa hq
        unfold kk_sweep_114
        rw [nI_clamp (by omega), fs_lx hf2]
        refine ⟨vp_in_nI (by omega) (by decide), ?_⟩
        rintro _ rfl
        exact next 1 w' hf2 (Or.inr hfa) (fun _ => hq)
      have k80 : ∀ z0 : Int32, 2 * nI q + z0 = nI (sw_c (gq_lk u) P q) → kk_sweep_80 post (qq_sweep_28 post (nI P) (sk_nt (gq_lk u P)) n) (nI P) (sk_nt (gq_lk u P)) (nI q) z0 (2 * nI q) w := by
        intro z0 hz
        unfold kk_sweep_80
        rw [hz, si_2, nI_1, ce_search_2]
        rintro _ rfl
        have hh2 := sw_c_half (gq_lk u) P q
        have hcl : sw_c (gq_lk u) P q < 2 * P := by omega
        generalize hcc : sw_c (gq_lk u) P q = cc at hh2 hcl
        rw [si_ng]
        have hGw : ∀ w', fz_s w' = fz_s u → sg_G V (P + 1) (gq_lf w') (gq_rt w') := fun w' hf2 => by rw [fs_lf hf2, fs_rt hf2]; exact hG
        have hgl : sv_ng cc < 2 * P := sv_ng_lt hcl
        refine sd_search (hGw w hf') (by omega) (by omega) (fun w1 hf1 hno1 => br_t rfl ?_) (fun w1 x hf1 hfa hx _ => br_f (by decide) ?_)
        · have hf1' : fz_s w1 = fz_s u := (fz_st hf1).trans hf'
          refine sd_search (hGw w1 hf1') (by omega) (by omega) (fun w2 hf2 hno2 => br_t rfl ?_) (fun w2 x hf2 hfa hx _ => br_f (by decide) ?_)
          · refine H1 w2 cc ((fz_st hf2).trans hf1') hcl (fun x hx => ?_)
            have n1 : ¬ (V P x = true ∧ sv_e V cc x = false) := fun k => hno1 x ⟨hx, by rw [sv_e_even]; exact k.1, by rw [sv_e_ng, k.2]; rfl⟩
            have n2 : ¬ (V P x = false ∧ sv_e V cc x = true) := fun k => hno2 x ⟨hx, by rw [sv_e_odd, k.1]; rfl, k.2⟩
            cases ha : V P x <;> cases hb : sv_e V cc x
            · rfl
            · exact absurd ⟨ha, hb⟩ n2
            · exact absurd ⟨ha, hb⟩ n1
            · rfl
          · refine k114 w2 (hf2.trans hf1') ⟨x, hx.1, hfa⟩ (sw_dif h3 h4 z (fun k => ?_))
            have a1 := hx.2.1
            rw [sv_e_odd, k x hx.1, hcc, hx.2.2] at a1
            exact absurd a1 (by decide)
        · refine k114 w1 (hf1.trans hf') ⟨x, hx.1, hfa⟩ (sw_dif h3 h4 z (fun k => ?_))
          have a1 := hx.2.1
          have a2 := hx.2.2
          rw [sv_e_even, k x hx.1, hcc] at a1
          rw [sv_e_ng, a1] at a2
          exact absurd a2 (by decide)
      refine ⟨fun y => k80 0 ?_, fun y => k80 1 ?_⟩
      · unfold sw_c
        rw [if_pos y, si_2]
        exact nI_add (2 * q) 0
      · unfold sw_c
        rw [if_neg y, si_2]
        exact nI_1 (2 * q)
    · rintro _ rfl
      exact next x5 w hf' hx5' (fun y => sw_look h3 h4 y z2)
theorem sd_sweep {post : Int32 → St1 → Prop} {u : St1} {V : Nat → Nat → Bool} {P : Nat} (h : sc_S V (P + 1) u) (hC : sg_C V P)
    (H0 : ∀ u', fz_q u' = fz_q u → sc_S V (P + 1) u' → sg_C V (P + 1) → post (-1) u')
    (H1 : ∀ u' e, fz_s u' = fz_s u → e < 2 * P → (∀ x, x < 256 → V P x = sv_e V e x) → post (nI e) u') : wpX_sweep post u (nI P) := by
  have hP : P + 1 ≤ 2560 := h.2.1.2.1
  have hm := sk_ml_lt (gq_lk u P)
  refine cw_sweep _ _ _ ?_
  rw [nI_clamp (by omega)]
  refine ⟨vp_in_nI (by omega) (by decide), sd_neutral (sd_markOfLook ?_)⟩
  rw [sk_ml_nt, nI_clamp (by omega)]
  refine ⟨vp_in_nI hm (by decide), ?_⟩
  rintro _ rfl
  exact sd_sw28 h hC (h.2.2.2.2.2.1.1 _ hm) H0 H1
theorem fz_na {u u' : St1} (h : fz_a u' = fz_a u) : fz_n u' = fz_n u := by
  have g : fz_n (fz_a u') = fz_n (fz_a u) := congrArg fz_n h
  exact g
theorem fz_nq {u u' : St1} (h : fz_q u' = fz_q u) : fz_n u' = fz_n u := by
  have g : fz_n (fz_q u') = fz_n (fz_q u) := congrArg fz_n h
  exact g
theorem fz_ns {u u' : St1} (h : fz_s u' = fz_s u) : fz_n u' = fz_n u := by
  have g : fz_n (fz_s u') = fz_n (fz_s u) := congrArg fz_n h
  exact g
theorem fz_nb {u u' : St1} (h : fz_b u' = fz_b u) : fz_n u' = fz_n u := by
  have g : fz_n (fz_b u') = fz_n (fz_b u) := congrArg fz_n h
  exact g
/-- what an AND may do to the state: parts are added, those below P stay -/
def sc_X (V V' : Nat → Nat → Bool) (P P' : Nat) (u u' : St1) : Prop :=
  fz_n u' = fz_n u ∧ P ≤ P' ∧ (∀ p, p < P → ∀ x, V' p x = V p x) ∧ (∀ p, p < P → gq_lf u' p = gq_lf u p ∧ gq_rt u' p = gq_rt u p)
theorem sc_X_refl (V : Nat → Nat → Bool) (P : Nat) (u : St1) : sc_X V V P P u u := ⟨rfl, Nat.le_refl P, fun _ _ _ => rfl, fun _ _ => ⟨rfl, rfl⟩⟩
theorem sc_X_trans {V V' V'' : Nat → Nat → Bool} {P P' P'' : Nat} {u u' u'' : St1} (h : sc_X V V' P P' u u') (g : sc_X V' V'' P' P'' u' u'') : sc_X V V'' P P'' u u'' := by
  obtain ⟨h1, h2, h3, h4⟩ := h
  obtain ⟨g1, g2, g3, g4⟩ := g
  exact ⟨g1.trans h1, by omega, fun p hp x => (g3 p (by omega) x).trans (h3 p hp x), fun p hp => ⟨((g4 p (by omega)).1).trans (h4 p hp).1, ((g4 p (by omega)).2).trans (h4 p hp).2⟩⟩
theorem sc_X_e {V V' : Nat → Nat → Bool} {P P' e : Nat} {u u' : St1} (h : sc_X V V' P P' u u') (he : e < 2 * P) (x : Nat) : sv_e V' e x = sv_e V e x := sv_e_congr h.2.2.1 he x
theorem sd_and {post : Int32 → St1 → Prop} {u : St1} {V : Nat → Nat → Bool} {P a b : Nat} (h : sc_S V P u) (hC : sg_C V P) (ha : a < 2 * P) (hb : b < 2 * P) (hP : P < 2560)
    (H : ∀ u' V' P' e, sc_X V V' P P' u u' → P' ≤ P + 1 → sc_S V' P' u' → sg_C V' P' → e < 2 * P' → (∀ x, x < 256 → sv_e V' e x = (sv_e V a x && sv_e V b x)) → post (nI e) u') : wpX_and post u (nI a) (nI b) := by
  have main : ∀ a b, a < 2 * P → b < 2 * P → (∀ u' V' P' e, sc_X V V' P P' u u' → P' ≤ P + 1 → sc_S V' P' u' → sg_C V' P' → e < 2 * P' → (∀ x, x < 256 → sv_e V' e x = (sv_e V a x && sv_e V b x)) → post (nI e) u') → kk_and_21 post (nI a) (nI b) u := by
    intro a b ha hb H
    have h9 := h.2.1.1
    have hgot : ∀ r, sa_R V P a b r → r ≠ -1 → post r u := by
      intro r hr hne
      rcases hr with z | ⟨e, e1, e2, e3⟩
      · exact absurd z hne
      · rw [e2]
        exact H u V P e (sc_X_refl V P u) (by omega) h hC e1 (fun x _ => e3 x)
    have k47 : ∀ r, sa_R V P a b r → kk_and_47 post (nI a) (nI b) r u := by
      intro r hr
      refine ⟨fun _ => ?_, fun z => hgot r hr z⟩
      refine sd_addPart h ha hb hP (fun u1 hf1 hl1 hS1 => ?_)
      have hC1 : sg_C (sc_V V P a b) P := sg_C_congr hC (fun p hp x => sc_V_lt hp x)
      refine sd_sweep hS1 hC1 (fun u2 hf2 hS2 hC2 => br_t rfl ?_) (fun u2 e hf2 he hv => br_f (si_nm1 (by omega)) ?_)
      · rw [si_2]
        refine H u2 _ (P + 1) (2 * P) ⟨(fz_nq hf2).trans (fz_na hf1), by omega, fun p hp x => sc_V_lt hp x, fun p hp => ?_⟩ (Nat.le_refl _) hS2 hC2 (by omega) (fun x _ => ?_)
        · rw [fq_lf hf2, fq_rt hf2]; exact hl1 p hp
        · rw [sv_e_even, sc_V_eq]
      · rw [ce_backTo_2]
        refine sd_backTo (sc_S_s hS1 hf2) h9 (by omega) (fun u3 hf3 hS3 => ?_)
        refine H u3 _ P e ⟨(fz_nb hf3).trans ((fz_ns hf2).trans (fz_na hf1)), Nat.le_refl P, fun p hp x => sc_V_lt hp x, fun p hp => ?_⟩ (by omega) hS3 hC1 he (fun x hx => ?_)
        · rw [fb_lf hf3, fb_rt hf3, fs_lf hf2, fs_rt hf2]; exact hl1 p hp
        · rw [← hv x hx, sc_V_eq]
    unfold kk_and_21
    exact sd_byLaws h ha hb (fun r hr => ⟨fun z => sd_found h ha hb (fun r' hr' => k47 r' hr'), fun z => k47 r hr⟩)
  refine cw_and _ _ _ _ (pk_le b a (fun z => ?_) (fun z => ?_))
  · refine br_t (nI_le z (by omega)) (main b a hb ha (fun u' V' P' e k1 k2 k3 k4 k5 k6 => H u' V' P' e k1 k2 k3 k4 k5 (fun x hx => ?_)))
    rw [k6 x hx, Bool.and_comm]
  · exact br_f (nI_ge z (by omega)) (main a b ha hb H)
end
section
def fz_k (u : St1) : St1 := (0, gq_pt u, gq_pn u, 0, 0, 0, 0, 0, 0, (fun _ => 0), (fun _ => 0), gq_lf u, gq_rt u, gq_ph u, gq_px u, gq_pa u, gq_lk u, gq_lh u, gq_lx u, (fun _ => 0), (fun _ => 0), (fun _ => 0), (fun _ => 0), (fun _ => 0), (fun _ => 0), (fun _ => 0), (fun _ => 0))
theorem fk_pt {u u' : St1} (h : fz_k u' = fz_k u) : gq_pt u' = gq_pt u := by
  have g : gq_pt (fz_k u') = gq_pt (fz_k u) := congrArg gq_pt h
  exact g
theorem fk_pn {u u' : St1} (h : fz_k u' = fz_k u) : gq_pn u' = gq_pn u := by
  have g : gq_pn (fz_k u') = gq_pn (fz_k u) := congrArg gq_pn h
  exact g
theorem fk_lf {u u' : St1} (h : fz_k u' = fz_k u) : gq_lf u' = gq_lf u := by
  have g : gq_lf (fz_k u') = gq_lf (fz_k u) := congrArg gq_lf h
  exact g
theorem fk_rt {u u' : St1} (h : fz_k u' = fz_k u) : gq_rt u' = gq_rt u := by
  have g : gq_rt (fz_k u') = gq_rt (fz_k u) := congrArg gq_rt h
  exact g
theorem fk_ph {u u' : St1} (h : fz_k u' = fz_k u) : gq_ph u' = gq_ph u := by
  have g : gq_ph (fz_k u') = gq_ph (fz_k u) := congrArg gq_ph h
  exact g
theorem fk_px {u u' : St1} (h : fz_k u' = fz_k u) : gq_px u' = gq_px u := by
  have g : gq_px (fz_k u') = gq_px (fz_k u) := congrArg gq_px h
  exact g
theorem fk_pa {u u' : St1} (h : fz_k u' = fz_k u) : gq_pa u' = gq_pa u := by
  have g : gq_pa (fz_k u') = gq_pa (fz_k u) := congrArg gq_pa h
  exact g
theorem fk_lk {u u' : St1} (h : fz_k u' = fz_k u) : gq_lk u' = gq_lk u := by
  have g : gq_lk (fz_k u') = gq_lk (fz_k u) := congrArg gq_lk h
  exact g
theorem fk_lh {u u' : St1} (h : fz_k u' = fz_k u) : gq_lh u' = gq_lh u := by
  have g : gq_lh (fz_k u') = gq_lh (fz_k u) := congrArg gq_lh h
  exact g
theorem fk_lx {u u' : St1} (h : fz_k u' = fz_k u) : gq_lx u' = gq_lx u := by
  have g : gq_lx (fz_k u') = gq_lx (fz_k u) := congrArg gq_lx h
  exact g
def fz_w (u : St1) : St1 := (gq_cn u, 0, 0, 0, 0, 0, 0, 0, 0, gq_en u, gq_bf u, (fun _ => 0), (fun _ => 0), (fun _ => 0), (fun _ => 0), (fun _ => 0), (fun _ => 0), (fun _ => 0), (fun _ => 0), (fun _ => 0), (fun _ => 0), (fun _ => 0), (fun _ => 0), (fun _ => 0), (fun _ => 0), (fun _ => 0), (fun _ => 0))
theorem fw_cn {u u' : St1} (h : fz_w u' = fz_w u) : gq_cn u' = gq_cn u := by
  have g : gq_cn (fz_w u') = gq_cn (fz_w u) := congrArg gq_cn h
  exact g
theorem fw_en {u u' : St1} (h : fz_w u' = fz_w u) : gq_en u' = gq_en u := by
  have g : gq_en (fz_w u') = gq_en (fz_w u) := congrArg gq_en h
  exact g
theorem fw_bf {u u' : St1} (h : fz_w u' = fz_w u) : gq_bf u' = gq_bf u := by
  have g : gq_bf (fz_w u') = gq_bf (fz_w u) := congrArg gq_bf h
  exact g
theorem cs_fx (u : St1) (s t : Nat → Int32) : sq_fx (sq_fx u s) t = sq_fx u t := by
  obtain ⟨b0, b1, b2, b3, b4, b5, b6, b7, b8, b9, b10, b11, b12, b13, b14, b15, b16, b17, b18, b19, b20, b21, b22, b23, b24, b25, b26⟩ := u
  exact (show sq_fx (sq_fx (b0, b1, b2, b3, b4, b5, b6, b7, b8, b9, b10, b11, b12, b13, b14, b15, b16, b17, b18, b19, b20, b21, b22, b23, b24, b25, b26) s) t = (b0, b1, b2, b3, b4, b5, b6, b7, b8, b9, b10, b11, b12, b13, b14, b15, b16, b17, b18, b19, b20, b21, b22, b23, b24, t, b26) from rfl).trans (show (b0, b1, b2, b3, b4, b5, b6, b7, b8, b9, b10, b11, b12, b13, b14, b15, b16, b17, b18, b19, b20, b21, b22, b23, b24, t, b26) = sq_fx (b0, b1, b2, b3, b4, b5, b6, b7, b8, b9, b10, b11, b12, b13, b14, b15, b16, b17, b18, b19, b20, b21, b22, b23, b24, b25, b26) t from rfl)
theorem ct_fx (u : St1) : sq_fx u (gq_fx u) = u := by
  obtain ⟨b0, b1, b2, b3, b4, b5, b6, b7, b8, b9, b10, b11, b12, b13, b14, b15, b16, b17, b18, b19, b20, b21, b22, b23, b24, b25, b26⟩ := u
  rfl
theorem gs_fx_cn (u : St1) (t : Nat → Int32) : gq_cn (sq_fx u t) = gq_cn u := by
  obtain ⟨b0, b1, b2, b3, b4, b5, b6, b7, b8, b9, b10, b11, b12, b13, b14, b15, b16, b17, b18, b19, b20, b21, b22, b23, b24, b25, b26⟩ := u
  exact (show gq_cn (sq_fx (b0, b1, b2, b3, b4, b5, b6, b7, b8, b9, b10, b11, b12, b13, b14, b15, b16, b17, b18, b19, b20, b21, b22, b23, b24, b25, b26) t) = b0 from rfl).trans (show b0 = gq_cn (b0, b1, b2, b3, b4, b5, b6, b7, b8, b9, b10, b11, b12, b13, b14, b15, b16, b17, b18, b19, b20, b21, b22, b23, b24, b25, b26) from rfl)
theorem gs_fx_pt (u : St1) (t : Nat → Int32) : gq_pt (sq_fx u t) = gq_pt u := by
  obtain ⟨b0, b1, b2, b3, b4, b5, b6, b7, b8, b9, b10, b11, b12, b13, b14, b15, b16, b17, b18, b19, b20, b21, b22, b23, b24, b25, b26⟩ := u
  exact (show gq_pt (sq_fx (b0, b1, b2, b3, b4, b5, b6, b7, b8, b9, b10, b11, b12, b13, b14, b15, b16, b17, b18, b19, b20, b21, b22, b23, b24, b25, b26) t) = b1 from rfl).trans (show b1 = gq_pt (b0, b1, b2, b3, b4, b5, b6, b7, b8, b9, b10, b11, b12, b13, b14, b15, b16, b17, b18, b19, b20, b21, b22, b23, b24, b25, b26) from rfl)
theorem gs_fx_pn (u : St1) (t : Nat → Int32) : gq_pn (sq_fx u t) = gq_pn u := by
  obtain ⟨b0, b1, b2, b3, b4, b5, b6, b7, b8, b9, b10, b11, b12, b13, b14, b15, b16, b17, b18, b19, b20, b21, b22, b23, b24, b25, b26⟩ := u
  exact (show gq_pn (sq_fx (b0, b1, b2, b3, b4, b5, b6, b7, b8, b9, b10, b11, b12, b13, b14, b15, b16, b17, b18, b19, b20, b21, b22, b23, b24, b25, b26) t) = b2 from rfl).trans (show b2 = gq_pn (b0, b1, b2, b3, b4, b5, b6, b7, b8, b9, b10, b11, b12, b13, b14, b15, b16, b17, b18, b19, b20, b21, b22, b23, b24, b25, b26) from rfl)
theorem gs_fx_lc (u : St1) (t : Nat → Int32) : gq_lc (sq_fx u t) = gq_lc u := by
  obtain ⟨b0, b1, b2, b3, b4, b5, b6, b7, b8, b9, b10, b11, b12, b13, b14, b15, b16, b17, b18, b19, b20, b21, b22, b23, b24, b25, b26⟩ := u
  exact (show gq_lc (sq_fx (b0, b1, b2, b3, b4, b5, b6, b7, b8, b9, b10, b11, b12, b13, b14, b15, b16, b17, b18, b19, b20, b21, b22, b23, b24, b25, b26) t) = b3 from rfl).trans (show b3 = gq_lc (b0, b1, b2, b3, b4, b5, b6, b7, b8, b9, b10, b11, b12, b13, b14, b15, b16, b17, b18, b19, b20, b21, b22, b23, b24, b25, b26) from rfl)
theorem gs_fx_cl (u : St1) (t : Nat → Int32) : gq_cl (sq_fx u t) = gq_cl u := by
  obtain ⟨b0, b1, b2, b3, b4, b5, b6, b7, b8, b9, b10, b11, b12, b13, b14, b15, b16, b17, b18, b19, b20, b21, b22, b23, b24, b25, b26⟩ := u
  exact (show gq_cl (sq_fx (b0, b1, b2, b3, b4, b5, b6, b7, b8, b9, b10, b11, b12, b13, b14, b15, b16, b17, b18, b19, b20, b21, b22, b23, b24, b25, b26) t) = b4 from rfl).trans (show b4 = gq_cl (b0, b1, b2, b3, b4, b5, b6, b7, b8, b9, b10, b11, b12, b13, b14, b15, b16, b17, b18, b19, b20, b21, b22, b23, b24, b25, b26) from rfl)
theorem gs_fx_mv (u : St1) (t : Nat → Int32) : gq_mv (sq_fx u t) = gq_mv u := by
  obtain ⟨b0, b1, b2, b3, b4, b5, b6, b7, b8, b9, b10, b11, b12, b13, b14, b15, b16, b17, b18, b19, b20, b21, b22, b23, b24, b25, b26⟩ := u
  exact (show gq_mv (sq_fx (b0, b1, b2, b3, b4, b5, b6, b7, b8, b9, b10, b11, b12, b13, b14, b15, b16, b17, b18, b19, b20, b21, b22, b23, b24, b25, b26) t) = b5 from rfl).trans (show b5 = gq_mv (b0, b1, b2, b3, b4, b5, b6, b7, b8, b9, b10, b11, b12, b13, b14, b15, b16, b17, b18, b19, b20, b21, b22, b23, b24, b25, b26) from rfl)
theorem gs_fx_ts (u : St1) (t : Nat → Int32) : gq_ts (sq_fx u t) = gq_ts u := by
  obtain ⟨b0, b1, b2, b3, b4, b5, b6, b7, b8, b9, b10, b11, b12, b13, b14, b15, b16, b17, b18, b19, b20, b21, b22, b23, b24, b25, b26⟩ := u
  exact (show gq_ts (sq_fx (b0, b1, b2, b3, b4, b5, b6, b7, b8, b9, b10, b11, b12, b13, b14, b15, b16, b17, b18, b19, b20, b21, b22, b23, b24, b25, b26) t) = b6 from rfl).trans (show b6 = gq_ts (b0, b1, b2, b3, b4, b5, b6, b7, b8, b9, b10, b11, b12, b13, b14, b15, b16, b17, b18, b19, b20, b21, b22, b23, b24, b25, b26) from rfl)
theorem gs_fx_lv (u : St1) (t : Nat → Int32) : gq_lv (sq_fx u t) = gq_lv u := by
  obtain ⟨b0, b1, b2, b3, b4, b5, b6, b7, b8, b9, b10, b11, b12, b13, b14, b15, b16, b17, b18, b19, b20, b21, b22, b23, b24, b25, b26⟩ := u
  exact (show gq_lv (sq_fx (b0, b1, b2, b3, b4, b5, b6, b7, b8, b9, b10, b11, b12, b13, b14, b15, b16, b17, b18, b19, b20, b21, b22, b23, b24, b25, b26) t) = b7 from rfl).trans (show b7 = gq_lv (b0, b1, b2, b3, b4, b5, b6, b7, b8, b9, b10, b11, b12, b13, b14, b15, b16, b17, b18, b19, b20, b21, b22, b23, b24, b25, b26) from rfl)
theorem gs_fx_fa (u : St1) (t : Nat → Int32) : gq_fa (sq_fx u t) = gq_fa u := by
  obtain ⟨b0, b1, b2, b3, b4, b5, b6, b7, b8, b9, b10, b11, b12, b13, b14, b15, b16, b17, b18, b19, b20, b21, b22, b23, b24, b25, b26⟩ := u
  exact (show gq_fa (sq_fx (b0, b1, b2, b3, b4, b5, b6, b7, b8, b9, b10, b11, b12, b13, b14, b15, b16, b17, b18, b19, b20, b21, b22, b23, b24, b25, b26) t) = b8 from rfl).trans (show b8 = gq_fa (b0, b1, b2, b3, b4, b5, b6, b7, b8, b9, b10, b11, b12, b13, b14, b15, b16, b17, b18, b19, b20, b21, b22, b23, b24, b25, b26) from rfl)
theorem gs_fx_en (u : St1) (t : Nat → Int32) : gq_en (sq_fx u t) = gq_en u := by
  obtain ⟨b0, b1, b2, b3, b4, b5, b6, b7, b8, b9, b10, b11, b12, b13, b14, b15, b16, b17, b18, b19, b20, b21, b22, b23, b24, b25, b26⟩ := u
  exact (show gq_en (sq_fx (b0, b1, b2, b3, b4, b5, b6, b7, b8, b9, b10, b11, b12, b13, b14, b15, b16, b17, b18, b19, b20, b21, b22, b23, b24, b25, b26) t) = b9 from rfl).trans (show b9 = gq_en (b0, b1, b2, b3, b4, b5, b6, b7, b8, b9, b10, b11, b12, b13, b14, b15, b16, b17, b18, b19, b20, b21, b22, b23, b24, b25, b26) from rfl)
theorem gs_fx_bf (u : St1) (t : Nat → Int32) : gq_bf (sq_fx u t) = gq_bf u := by
  obtain ⟨b0, b1, b2, b3, b4, b5, b6, b7, b8, b9, b10, b11, b12, b13, b14, b15, b16, b17, b18, b19, b20, b21, b22, b23, b24, b25, b26⟩ := u
  exact (show gq_bf (sq_fx (b0, b1, b2, b3, b4, b5, b6, b7, b8, b9, b10, b11, b12, b13, b14, b15, b16, b17, b18, b19, b20, b21, b22, b23, b24, b25, b26) t) = b10 from rfl).trans (show b10 = gq_bf (b0, b1, b2, b3, b4, b5, b6, b7, b8, b9, b10, b11, b12, b13, b14, b15, b16, b17, b18, b19, b20, b21, b22, b23, b24, b25, b26) from rfl)
theorem gs_fx_lf (u : St1) (t : Nat → Int32) : gq_lf (sq_fx u t) = gq_lf u := by
  obtain ⟨b0, b1, b2, b3, b4, b5, b6, b7, b8, b9, b10, b11, b12, b13, b14, b15, b16, b17, b18, b19, b20, b21, b22, b23, b24, b25, b26⟩ := u
  exact (show gq_lf (sq_fx (b0, b1, b2, b3, b4, b5, b6, b7, b8, b9, b10, b11, b12, b13, b14, b15, b16, b17, b18, b19, b20, b21, b22, b23, b24, b25, b26) t) = b11 from rfl).trans (show b11 = gq_lf (b0, b1, b2, b3, b4, b5, b6, b7, b8, b9, b10, b11, b12, b13, b14, b15, b16, b17, b18, b19, b20, b21, b22, b23, b24, b25, b26) from rfl)
theorem gs_fx_rt (u : St1) (t : Nat → Int32) : gq_rt (sq_fx u t) = gq_rt u := by
  obtain ⟨b0, b1, b2, b3, b4, b5, b6, b7, b8, b9, b10, b11, b12, b13, b14, b15, b16, b17, b18, b19, b20, b21, b22, b23, b24, b25, b26⟩ := u
  exact (show gq_rt (sq_fx (b0, b1, b2, b3, b4, b5, b6, b7, b8, b9, b10, b11, b12, b13, b14, b15, b16, b17, b18, b19, b20, b21, b22, b23, b24, b25, b26) t) = b12 from rfl).trans (show b12 = gq_rt (b0, b1, b2, b3, b4, b5, b6, b7, b8, b9, b10, b11, b12, b13, b14, b15, b16, b17, b18, b19, b20, b21, b22, b23, b24, b25, b26) from rfl)
theorem gs_fx_ph (u : St1) (t : Nat → Int32) : gq_ph (sq_fx u t) = gq_ph u := by
  obtain ⟨b0, b1, b2, b3, b4, b5, b6, b7, b8, b9, b10, b11, b12, b13, b14, b15, b16, b17, b18, b19, b20, b21, b22, b23, b24, b25, b26⟩ := u
  exact (show gq_ph (sq_fx (b0, b1, b2, b3, b4, b5, b6, b7, b8, b9, b10, b11, b12, b13, b14, b15, b16, b17, b18, b19, b20, b21, b22, b23, b24, b25, b26) t) = b13 from rfl).trans (show b13 = gq_ph (b0, b1, b2, b3, b4, b5, b6, b7, b8, b9, b10, b11, b12, b13, b14, b15, b16, b17, b18, b19, b20, b21, b22, b23, b24, b25, b26) from rfl)
theorem gs_fx_px (u : St1) (t : Nat → Int32) : gq_px (sq_fx u t) = gq_px u := by
  obtain ⟨b0, b1, b2, b3, b4, b5, b6, b7, b8, b9, b10, b11, b12, b13, b14, b15, b16, b17, b18, b19, b20, b21, b22, b23, b24, b25, b26⟩ := u
  exact (show gq_px (sq_fx (b0, b1, b2, b3, b4, b5, b6, b7, b8, b9, b10, b11, b12, b13, b14, b15, b16, b17, b18, b19, b20, b21, b22, b23, b24, b25, b26) t) = b14 from rfl).trans (show b14 = gq_px (b0, b1, b2, b3, b4, b5, b6, b7, b8, b9, b10, b11, b12, b13, b14, b15, b16, b17, b18, b19, b20, b21, b22, b23, b24, b25, b26) from rfl)
theorem gs_fx_pa (u : St1) (t : Nat → Int32) : gq_pa (sq_fx u t) = gq_pa u := by
  obtain ⟨b0, b1, b2, b3, b4, b5, b6, b7, b8, b9, b10, b11, b12, b13, b14, b15, b16, b17, b18, b19, b20, b21, b22, b23, b24, b25, b26⟩ := u
  exact (show gq_pa (sq_fx (b0, b1, b2, b3, b4, b5, b6, b7, b8, b9, b10, b11, b12, b13, b14, b15, b16, b17, b18, b19, b20, b21, b22, b23, b24, b25, b26) t) = b15 from rfl).trans (show b15 = gq_pa (b0, b1, b2, b3, b4, b5, b6, b7, b8, b9, b10, b11, b12, b13, b14, b15, b16, b17, b18, b19, b20, b21, b22, b23, b24, b25, b26) from rfl)
theorem gs_fx_lk (u : St1) (t : Nat → Int32) : gq_lk (sq_fx u t) = gq_lk u := by
  obtain ⟨b0, b1, b2, b3, b4, b5, b6, b7, b8, b9, b10, b11, b12, b13, b14, b15, b16, b17, b18, b19, b20, b21, b22, b23, b24, b25, b26⟩ := u
  exact (show gq_lk (sq_fx (b0, b1, b2, b3, b4, b5, b6, b7, b8, b9, b10, b11, b12, b13, b14, b15, b16, b17, b18, b19, b20, b21, b22, b23, b24, b25, b26) t) = b16 from rfl).trans (show b16 = gq_lk (b0, b1, b2, b3, b4, b5, b6, b7, b8, b9, b10, b11, b12, b13, b14, b15, b16, b17, b18, b19, b20, b21, b22, b23, b24, b25, b26) from rfl)
theorem gs_fx_lh (u : St1) (t : Nat → Int32) : gq_lh (sq_fx u t) = gq_lh u := by
  obtain ⟨b0, b1, b2, b3, b4, b5, b6, b7, b8, b9, b10, b11, b12, b13, b14, b15, b16, b17, b18, b19, b20, b21, b22, b23, b24, b25, b26⟩ := u
  exact (show gq_lh (sq_fx (b0, b1, b2, b3, b4, b5, b6, b7, b8, b9, b10, b11, b12, b13, b14, b15, b16, b17, b18, b19, b20, b21, b22, b23, b24, b25, b26) t) = b17 from rfl).trans (show b17 = gq_lh (b0, b1, b2, b3, b4, b5, b6, b7, b8, b9, b10, b11, b12, b13, b14, b15, b16, b17, b18, b19, b20, b21, b22, b23, b24, b25, b26) from rfl)
theorem gs_fx_lx (u : St1) (t : Nat → Int32) : gq_lx (sq_fx u t) = gq_lx u := by
  obtain ⟨b0, b1, b2, b3, b4, b5, b6, b7, b8, b9, b10, b11, b12, b13, b14, b15, b16, b17, b18, b19, b20, b21, b22, b23, b24, b25, b26⟩ := u
  exact (show gq_lx (sq_fx (b0, b1, b2, b3, b4, b5, b6, b7, b8, b9, b10, b11, b12, b13, b14, b15, b16, b17, b18, b19, b20, b21, b22, b23, b24, b25, b26) t) = b18 from rfl).trans (show b18 = gq_lx (b0, b1, b2, b3, b4, b5, b6, b7, b8, b9, b10, b11, b12, b13, b14, b15, b16, b17, b18, b19, b20, b21, b22, b23, b24, b25, b26) from rfl)
theorem gs_fx_co (u : St1) (t : Nat → Int32) : gq_co (sq_fx u t) = gq_co u := by
  obtain ⟨b0, b1, b2, b3, b4, b5, b6, b7, b8, b9, b10, b11, b12, b13, b14, b15, b16, b17, b18, b19, b20, b21, b22, b23, b24, b25, b26⟩ := u
  exact (show gq_co (sq_fx (b0, b1, b2, b3, b4, b5, b6, b7, b8, b9, b10, b11, b12, b13, b14, b15, b16, b17, b18, b19, b20, b21, b22, b23, b24, b25, b26) t) = b19 from rfl).trans (show b19 = gq_co (b0, b1, b2, b3, b4, b5, b6, b7, b8, b9, b10, b11, b12, b13, b14, b15, b16, b17, b18, b19, b20, b21, b22, b23, b24, b25, b26) from rfl)
theorem gs_fx_mu (u : St1) (t : Nat → Int32) : gq_mu (sq_fx u t) = gq_mu u := by
  obtain ⟨b0, b1, b2, b3, b4, b5, b6, b7, b8, b9, b10, b11, b12, b13, b14, b15, b16, b17, b18, b19, b20, b21, b22, b23, b24, b25, b26⟩ := u
  exact (show gq_mu (sq_fx (b0, b1, b2, b3, b4, b5, b6, b7, b8, b9, b10, b11, b12, b13, b14, b15, b16, b17, b18, b19, b20, b21, b22, b23, b24, b25, b26) t) = b20 from rfl).trans (show b20 = gq_mu (b0, b1, b2, b3, b4, b5, b6, b7, b8, b9, b10, b11, b12, b13, b14, b15, b16, b17, b18, b19, b20, b21, b22, b23, b24, b25, b26) from rfl)
theorem gs_fx_tr (u : St1) (t : Nat → Int32) : gq_tr (sq_fx u t) = gq_tr u := by
  obtain ⟨b0, b1, b2, b3, b4, b5, b6, b7, b8, b9, b10, b11, b12, b13, b14, b15, b16, b17, b18, b19, b20, b21, b22, b23, b24, b25, b26⟩ := u
  exact (show gq_tr (sq_fx (b0, b1, b2, b3, b4, b5, b6, b7, b8, b9, b10, b11, b12, b13, b14, b15, b16, b17, b18, b19, b20, b21, b22, b23, b24, b25, b26) t) = b21 from rfl).trans (show b21 = gq_tr (b0, b1, b2, b3, b4, b5, b6, b7, b8, b9, b10, b11, b12, b13, b14, b15, b16, b17, b18, b19, b20, b21, b22, b23, b24, b25, b26) from rfl)
theorem gs_fx_lt (u : St1) (t : Nat → Int32) : gq_lt (sq_fx u t) = gq_lt u := by
  obtain ⟨b0, b1, b2, b3, b4, b5, b6, b7, b8, b9, b10, b11, b12, b13, b14, b15, b16, b17, b18, b19, b20, b21, b22, b23, b24, b25, b26⟩ := u
  exact (show gq_lt (sq_fx (b0, b1, b2, b3, b4, b5, b6, b7, b8, b9, b10, b11, b12, b13, b14, b15, b16, b17, b18, b19, b20, b21, b22, b23, b24, b25, b26) t) = b22 from rfl).trans (show b22 = gq_lt (b0, b1, b2, b3, b4, b5, b6, b7, b8, b9, b10, b11, b12, b13, b14, b15, b16, b17, b18, b19, b20, b21, b22, b23, b24, b25, b26) from rfl)
theorem gs_fx_li (u : St1) (t : Nat → Int32) : gq_li (sq_fx u t) = gq_li u := by
  obtain ⟨b0, b1, b2, b3, b4, b5, b6, b7, b8, b9, b10, b11, b12, b13, b14, b15, b16, b17, b18, b19, b20, b21, b22, b23, b24, b25, b26⟩ := u
  exact (show gq_li (sq_fx (b0, b1, b2, b3, b4, b5, b6, b7, b8, b9, b10, b11, b12, b13, b14, b15, b16, b17, b18, b19, b20, b21, b22, b23, b24, b25, b26) t) = b23 from rfl).trans (show b23 = gq_li (b0, b1, b2, b3, b4, b5, b6, b7, b8, b9, b10, b11, b12, b13, b14, b15, b16, b17, b18, b19, b20, b21, b22, b23, b24, b25, b26) from rfl)
theorem gs_fx_lu (u : St1) (t : Nat → Int32) : gq_lu (sq_fx u t) = gq_lu u := by
  obtain ⟨b0, b1, b2, b3, b4, b5, b6, b7, b8, b9, b10, b11, b12, b13, b14, b15, b16, b17, b18, b19, b20, b21, b22, b23, b24, b25, b26⟩ := u
  exact (show gq_lu (sq_fx (b0, b1, b2, b3, b4, b5, b6, b7, b8, b9, b10, b11, b12, b13, b14, b15, b16, b17, b18, b19, b20, b21, b22, b23, b24, b25, b26) t) = b24 from rfl).trans (show b24 = gq_lu (b0, b1, b2, b3, b4, b5, b6, b7, b8, b9, b10, b11, b12, b13, b14, b15, b16, b17, b18, b19, b20, b21, b22, b23, b24, b25, b26) from rfl)
theorem gs_fx_fx (u : St1) (t : Nat → Int32) : gq_fx (sq_fx u t) = t := rfl
theorem gs_fx_nd (u : St1) (t : Nat → Int32) : gq_nd (sq_fx u t) = gq_nd u := by
  obtain ⟨b0, b1, b2, b3, b4, b5, b6, b7, b8, b9, b10, b11, b12, b13, b14, b15, b16, b17, b18, b19, b20, b21, b22, b23, b24, b25, b26⟩ := u
  exact (show gq_nd (sq_fx (b0, b1, b2, b3, b4, b5, b6, b7, b8, b9, b10, b11, b12, b13, b14, b15, b16, b17, b18, b19, b20, b21, b22, b23, b24, b25, b26) t) = b26 from rfl).trans (show b26 = gq_nd (b0, b1, b2, b3, b4, b5, b6, b7, b8, b9, b10, b11, b12, b13, b14, b15, b16, b17, b18, b19, b20, b21, b22, b23, b24, b25, b26) from rfl)
theorem fsk_fx (u : St1) (t : Nat → Int32) : fz_k (sq_fx u t) = fz_k u := by
  obtain ⟨b0, b1, b2, b3, b4, b5, b6, b7, b8, b9, b10, b11, b12, b13, b14, b15, b16, b17, b18, b19, b20, b21, b22, b23, b24, b25, b26⟩ := u
  exact (show fz_k (sq_fx (b0, b1, b2, b3, b4, b5, b6, b7, b8, b9, b10, b11, b12, b13, b14, b15, b16, b17, b18, b19, b20, b21, b22, b23, b24, b25, b26) t) = ((0, b1, b2, 0, 0, 0, 0, 0, 0, (fun _ => 0), (fun _ => 0), b11, b12, b13, b14, b15, b16, b17, b18, (fun _ => 0), (fun _ => 0), (fun _ => 0), (fun _ => 0), (fun _ => 0), (fun _ => 0), (fun _ => 0), (fun _ => 0)) : St1) from rfl).trans (show ((0, b1, b2, 0, 0, 0, 0, 0, 0, (fun _ => 0), (fun _ => 0), b11, b12, b13, b14, b15, b16, b17, b18, (fun _ => 0), (fun _ => 0), (fun _ => 0), (fun _ => 0), (fun _ => 0), (fun _ => 0), (fun _ => 0), (fun _ => 0)) : St1) = fz_k (b0, b1, b2, b3, b4, b5, b6, b7, b8, b9, b10, b11, b12, b13, b14, b15, b16, b17, b18, b19, b20, b21, b22, b23, b24, b25, b26) from rfl)
theorem fsw_fx (u : St1) (t : Nat → Int32) : fz_w (sq_fx u t) = fz_w u := by
  obtain ⟨b0, b1, b2, b3, b4, b5, b6, b7, b8, b9, b10, b11, b12, b13, b14, b15, b16, b17, b18, b19, b20, b21, b22, b23, b24, b25, b26⟩ := u
  exact (show fz_w (sq_fx (b0, b1, b2, b3, b4, b5, b6, b7, b8, b9, b10, b11, b12, b13, b14, b15, b16, b17, b18, b19, b20, b21, b22, b23, b24, b25, b26) t) = ((b0, 0, 0, 0, 0, 0, 0, 0, 0, b9, b10, (fun _ => 0), (fun _ => 0), (fun _ => 0), (fun _ => 0), (fun _ => 0), (fun _ => 0), (fun _ => 0), (fun _ => 0), (fun _ => 0), (fun _ => 0), (fun _ => 0), (fun _ => 0), (fun _ => 0), (fun _ => 0), (fun _ => 0), (fun _ => 0)) : St1) from rfl).trans (show ((b0, 0, 0, 0, 0, 0, 0, 0, 0, b9, b10, (fun _ => 0), (fun _ => 0), (fun _ => 0), (fun _ => 0), (fun _ => 0), (fun _ => 0), (fun _ => 0), (fun _ => 0), (fun _ => 0), (fun _ => 0), (fun _ => 0), (fun _ => 0), (fun _ => 0), (fun _ => 0), (fun _ => 0), (fun _ => 0)) : St1) = fz_w (b0, b1, b2, b3, b4, b5, b6, b7, b8, b9, b10, b11, b12, b13, b14, b15, b16, b17, b18, b19, b20, b21, b22, b23, b24, b25, b26) from rfl)
theorem cs_nd (u : St1) (s t : Nat → Int32) : sq_nd (sq_nd u s) t = sq_nd u t := by
  obtain ⟨b0, b1, b2, b3, b4, b5, b6, b7, b8, b9, b10, b11, b12, b13, b14, b15, b16, b17, b18, b19, b20, b21, b22, b23, b24, b25, b26⟩ := u
  exact (show sq_nd (sq_nd (b0, b1, b2, b3, b4, b5, b6, b7, b8, b9, b10, b11, b12, b13, b14, b15, b16, b17, b18, b19, b20, b21, b22, b23, b24, b25, b26) s) t = (b0, b1, b2, b3, b4, b5, b6, b7, b8, b9, b10, b11, b12, b13, b14, b15, b16, b17, b18, b19, b20, b21, b22, b23, b24, b25, t) from rfl).trans (show (b0, b1, b2, b3, b4, b5, b6, b7, b8, b9, b10, b11, b12, b13, b14, b15, b16, b17, b18, b19, b20, b21, b22, b23, b24, b25, t) = sq_nd (b0, b1, b2, b3, b4, b5, b6, b7, b8, b9, b10, b11, b12, b13, b14, b15, b16, b17, b18, b19, b20, b21, b22, b23, b24, b25, b26) t from rfl)
theorem ct_nd (u : St1) : sq_nd u (gq_nd u) = u := by
  obtain ⟨b0, b1, b2, b3, b4, b5, b6, b7, b8, b9, b10, b11, b12, b13, b14, b15, b16, b17, b18, b19, b20, b21, b22, b23, b24, b25, b26⟩ := u
  rfl
theorem gs_nd_cn (u : St1) (t : Nat → Int32) : gq_cn (sq_nd u t) = gq_cn u := by
  obtain ⟨b0, b1, b2, b3, b4, b5, b6, b7, b8, b9, b10, b11, b12, b13, b14, b15, b16, b17, b18, b19, b20, b21, b22, b23, b24, b25, b26⟩ := u
  exact (show gq_cn (sq_nd (b0, b1, b2, b3, b4, b5, b6, b7, b8, b9, b10, b11, b12, b13, b14, b15, b16, b17, b18, b19, b20, b21, b22, b23, b24, b25, b26) t) = b0 from rfl).trans (show b0 = gq_cn (b0, b1, b2, b3, b4, b5, b6, b7, b8, b9, b10, b11, b12, b13, b14, b15, b16, b17, b18, b19, b20, b21, b22, b23, b24, b25, b26) from rfl)
theorem gs_nd_pt (u : St1) (t : Nat → Int32) : gq_pt (sq_nd u t) = gq_pt u := by
  obtain ⟨b0, b1, b2, b3, b4, b5, b6, b7, b8, b9, b10, b11, b12, b13, b14, b15, b16, b17, b18, b19, b20, b21, b22, b23, b24, b25, b26⟩ := u
  exact (show gq_pt (sq_nd (b0, b1, b2, b3, b4, b5, b6, b7, b8, b9, b10, b11, b12, b13, b14, b15, b16, b17, b18, b19, b20, b21, b22, b23, b24, b25, b26) t) = b1 from rfl).trans (show b1 = gq_pt (b0, b1, b2, b3, b4, b5, b6, b7, b8, b9, b10, b11, b12, b13, b14, b15, b16, b17, b18, b19, b20, b21, b22, b23, b24, b25, b26) from rfl)
theorem gs_nd_pn (u : St1) (t : Nat → Int32) : gq_pn (sq_nd u t) = gq_pn u := by
  obtain ⟨b0, b1, b2, b3, b4, b5, b6, b7, b8, b9, b10, b11, b12, b13, b14, b15, b16, b17, b18, b19, b20, b21, b22, b23, b24, b25, b26⟩ := u
  exact (show gq_pn (sq_nd (b0, b1, b2, b3, b4, b5, b6, b7, b8, b9, b10, b11, b12, b13, b14, b15, b16, b17, b18, b19, b20, b21, b22, b23, b24, b25, b26) t) = b2 from rfl).trans (show b2 = gq_pn (b0, b1, b2, b3, b4, b5, b6, b7, b8, b9, b10, b11, b12, b13, b14, b15, b16, b17, b18, b19, b20, b21, b22, b23, b24, b25, b26) from rfl)
theorem gs_nd_lc (u : St1) (t : Nat → Int32) : gq_lc (sq_nd u t) = gq_lc u := by
  obtain ⟨b0, b1, b2, b3, b4, b5, b6, b7, b8, b9, b10, b11, b12, b13, b14, b15, b16, b17, b18, b19, b20, b21, b22, b23, b24, b25, b26⟩ := u
  exact (show gq_lc (sq_nd (b0, b1, b2, b3, b4, b5, b6, b7, b8, b9, b10, b11, b12, b13, b14, b15, b16, b17, b18, b19, b20, b21, b22, b23, b24, b25, b26) t) = b3 from rfl).trans (show b3 = gq_lc (b0, b1, b2, b3, b4, b5, b6, b7, b8, b9, b10, b11, b12, b13, b14, b15, b16, b17, b18, b19, b20, b21, b22, b23, b24, b25, b26) from rfl)
theorem gs_nd_cl (u : St1) (t : Nat → Int32) : gq_cl (sq_nd u t) = gq_cl u := by
  obtain ⟨b0, b1, b2, b3, b4, b5, b6, b7, b8, b9, b10, b11, b12, b13, b14, b15, b16, b17, b18, b19, b20, b21, b22, b23, b24, b25, b26⟩ := u
  exact (show gq_cl (sq_nd (b0, b1, b2, b3, b4, b5, b6, b7, b8, b9, b10, b11, b12, b13, b14, b15, b16, b17, b18, b19, b20, b21, b22, b23, b24, b25, b26) t) = b4 from rfl).trans (show b4 = gq_cl (b0, b1, b2, b3, b4, b5, b6, b7, b8, b9, b10, b11, b12, b13, b14, b15, b16, b17, b18, b19, b20, b21, b22, b23, b24, b25, b26) from rfl)
theorem gs_nd_mv (u : St1) (t : Nat → Int32) : gq_mv (sq_nd u t) = gq_mv u := by
  obtain ⟨b0, b1, b2, b3, b4, b5, b6, b7, b8, b9, b10, b11, b12, b13, b14, b15, b16, b17, b18, b19, b20, b21, b22, b23, b24, b25, b26⟩ := u
  exact (show gq_mv (sq_nd (b0, b1, b2, b3, b4, b5, b6, b7, b8, b9, b10, b11, b12, b13, b14, b15, b16, b17, b18, b19, b20, b21, b22, b23, b24, b25, b26) t) = b5 from rfl).trans (show b5 = gq_mv (b0, b1, b2, b3, b4, b5, b6, b7, b8, b9, b10, b11, b12, b13, b14, b15, b16, b17, b18, b19, b20, b21, b22, b23, b24, b25, b26) from rfl)
theorem gs_nd_ts (u : St1) (t : Nat → Int32) : gq_ts (sq_nd u t) = gq_ts u := by
  obtain ⟨b0, b1, b2, b3, b4, b5, b6, b7, b8, b9, b10, b11, b12, b13, b14, b15, b16, b17, b18, b19, b20, b21, b22, b23, b24, b25, b26⟩ := u
  exact (show gq_ts (sq_nd (b0, b1, b2, b3, b4, b5, b6, b7, b8, b9, b10, b11, b12, b13, b14, b15, b16, b17, b18, b19, b20, b21, b22, b23, b24, b25, b26) t) = b6 from rfl).trans (show b6 = gq_ts (b0, b1, b2, b3, b4, b5, b6, b7, b8, b9, b10, b11, b12, b13, b14, b15, b16, b17, b18, b19, b20, b21, b22, b23, b24, b25, b26) from rfl)
theorem gs_nd_lv (u : St1) (t : Nat → Int32) : gq_lv (sq_nd u t) = gq_lv u := by
  obtain ⟨b0, b1, b2, b3, b4, b5, b6, b7, b8, b9, b10, b11, b12, b13, b14, b15, b16, b17, b18, b19, b20, b21, b22, b23, b24, b25, b26⟩ := u
  exact (show gq_lv (sq_nd (b0, b1, b2, b3, b4, b5, b6, b7, b8, b9, b10, b11, b12, b13, b14, b15, b16, b17, b18, b19, b20, b21, b22, b23, b24, b25, b26) t) = b7 from rfl).trans (show b7 = gq_lv (b0, b1, b2, b3, b4, b5, b6, b7, b8, b9, b10, b11, b12, b13, b14, b15, b16, b17, b18, b19, b20, b21, b22, b23, b24, b25, b26) from rfl)
theorem gs_nd_fa (u : St1) (t : Nat → Int32) : gq_fa (sq_nd u t) = gq_fa u := by
  obtain ⟨b0, b1, b2, b3, b4, b5, b6, b7, b8, b9, b10, b11, b12, b13, b14, b15, b16, b17, b18, b19, b20, b21, b22, b23, b24, b25, b26⟩ := u
  exact (show gq_fa (sq_nd (b0, b1, b2, b3, b4, b5, b6, b7, b8, b9, b10, b11, b12, b13, b14, b15, b16, b17, b18, b19, b20, b21, b22, b23, b24, b25, b26) t) = b8 from rfl).trans (show b8 = gq_fa (b0, b1, b2, b3, b4, b5, b6, b7, b8, b9, b10, b11, b12, b13, b14, b15, b16, b17, b18, b19, b20, b21, b22, b23, b24, b25, b26) from rfl)
theorem gs_nd_en (u : St1) (t : Nat → Int32) : gq_en (sq_nd u t) = gq_en u := by
  obtain ⟨b0, b1, b2, b3, b4, b5, b6, b7, b8, b9, b10, b11, b12, b13, b14, b15, b16, b17, b18, b19, b20, b21, b22, b23, b24, b25, b26⟩ := u
  exact (show gq_en (sq_nd (b0, b1, b2, b3, b4, b5, b6, b7, b8, b9, b10, b11, b12, b13, b14, b15, b16, b17, b18, b19, b20, b21, b22, b23, b24, b25, b26) t) = b9 from rfl).trans (show b9 = gq_en (b0, b1, b2, b3, b4, b5, b6, b7, b8, b9, b10, b11, b12, b13, b14, b15, b16, b17, b18, b19, b20, b21, b22, b23, b24, b25, b26) from rfl)
theorem gs_nd_bf (u : St1) (t : Nat → Int32) : gq_bf (sq_nd u t) = gq_bf u := by
  obtain ⟨b0, b1, b2, b3, b4, b5, b6, b7, b8, b9, b10, b11, b12, b13, b14, b15, b16, b17, b18, b19, b20, b21, b22, b23, b24, b25, b26⟩ := u
  exact (show gq_bf (sq_nd (b0, b1, b2, b3, b4, b5, b6, b7, b8, b9, b10, b11, b12, b13, b14, b15, b16, b17, b18, b19, b20, b21, b22, b23, b24, b25, b26) t) = b10 from rfl).trans (show b10 = gq_bf (b0, b1, b2, b3, b4, b5, b6, b7, b8, b9, b10, b11, b12, b13, b14, b15, b16, b17, b18, b19, b20, b21, b22, b23, b24, b25, b26) from rfl)
theorem gs_nd_lf (u : St1) (t : Nat → Int32) : gq_lf (sq_nd u t) = gq_lf u := by
  obtain ⟨b0, b1, b2, b3, b4, b5, b6, b7, b8, b9, b10, b11, b12, b13, b14, b15, b16, b17, b18, b19, b20, b21, b22, b23, b24, b25, b26⟩ := u
  exact (show gq_lf (sq_nd (b0, b1, b2, b3, b4, b5, b6, b7, b8, b9, b10, b11, b12, b13, b14, b15, b16, b17, b18, b19, b20, b21, b22, b23, b24, b25, b26) t) = b11 from rfl).trans (show b11 = gq_lf (b0, b1, b2, b3, b4, b5, b6, b7, b8, b9, b10, b11, b12, b13, b14, b15, b16, b17, b18, b19, b20, b21, b22, b23, b24, b25, b26) from rfl)
theorem gs_nd_rt (u : St1) (t : Nat → Int32) : gq_rt (sq_nd u t) = gq_rt u := by
  obtain ⟨b0, b1, b2, b3, b4, b5, b6, b7, b8, b9, b10, b11, b12, b13, b14, b15, b16, b17, b18, b19, b20, b21, b22, b23, b24, b25, b26⟩ := u
  exact (show gq_rt (sq_nd (b0, b1, b2, b3, b4, b5, b6, b7, b8, b9, b10, b11, b12, b13, b14, b15, b16, b17, b18, b19, b20, b21, b22, b23, b24, b25, b26) t) = b12 from rfl).trans (show b12 = gq_rt (b0, b1, b2, b3, b4, b5, b6, b7, b8, b9, b10, b11, b12, b13, b14, b15, b16, b17, b18, b19, b20, b21, b22, b23, b24, b25, b26) from rfl)
theorem gs_nd_ph (u : St1) (t : Nat → Int32) : gq_ph (sq_nd u t) = gq_ph u := by
  obtain ⟨b0, b1, b2, b3, b4, b5, b6, b7, b8, b9, b10, b11, b12, b13, b14, b15, b16, b17, b18, b19, b20, b21, b22, b23, b24, b25, b26⟩ := u
  exact (show gq_ph (sq_nd (b0, b1, b2, b3, b4, b5, b6, b7, b8, b9, b10, b11, b12, b13, b14, b15, b16, b17, b18, b19, b20, b21, b22, b23, b24, b25, b26) t) = b13 from rfl).trans (show b13 = gq_ph (b0, b1, b2, b3, b4, b5, b6, b7, b8, b9, b10, b11, b12, b13, b14, b15, b16, b17, b18, b19, b20, b21, b22, b23, b24, b25, b26) from rfl)
theorem gs_nd_px (u : St1) (t : Nat → Int32) : gq_px (sq_nd u t) = gq_px u := by
  obtain ⟨b0, b1, b2, b3, b4, b5, b6, b7, b8, b9, b10, b11, b12, b13, b14, b15, b16, b17, b18, b19, b20, b21, b22, b23, b24, b25, b26⟩ := u
  exact (show gq_px (sq_nd (b0, b1, b2, b3, b4, b5, b6, b7, b8, b9, b10, b11, b12, b13, b14, b15, b16, b17, b18, b19, b20, b21, b22, b23, b24, b25, b26) t) = b14 from rfl).trans (show b14 = gq_px (b0, b1, b2, b3, b4, b5, b6, b7, b8, b9, b10, b11, b12, b13, b14, b15, b16, b17, b18, b19, b20, b21, b22, b23, b24, b25, b26) from rfl)
theorem gs_nd_pa (u : St1) (t : Nat → Int32) : gq_pa (sq_nd u t) = gq_pa u := by
  obtain ⟨b0, b1, b2, b3, b4, b5, b6, b7, b8, b9, b10, b11, b12, b13, b14, b15, b16, b17, b18, b19, b20, b21, b22, b23, b24, b25, b26⟩ := u
  exact (show gq_pa (sq_nd (b0, b1, b2, b3, b4, b5, b6, b7, b8, b9, b10, b11, b12, b13, b14, b15, b16, b17, b18, b19, b20, b21, b22, b23, b24, b25, b26) t) = b15 from rfl).trans (show b15 = gq_pa (b0, b1, b2, b3, b4, b5, b6, b7, b8, b9, b10, b11, b12, b13, b14, b15, b16, b17, b18, b19, b20, b21, b22, b23, b24, b25, b26) from rfl)
theorem gs_nd_lk (u : St1) (t : Nat → Int32) : gq_lk (sq_nd u t) = gq_lk u := by
  obtain ⟨b0, b1, b2, b3, b4, b5, b6, b7, b8, b9, b10, b11, b12, b13, b14, b15, b16, b17, b18, b19, b20, b21, b22, b23, b24, b25, b26⟩ := u
  exact (show gq_lk (sq_nd (b0, b1, b2, b3, b4, b5, b6, b7, b8, b9, b10, b11, b12, b13, b14, b15, b16, b17, b18, b19, b20, b21, b22, b23, b24, b25, b26) t) = b16 from rfl).trans (show b16 = gq_lk (b0, b1, b2, b3, b4, b5, b6, b7, b8, b9, b10, b11, b12, b13, b14, b15, b16, b17, b18, b19, b20, b21, b22, b23, b24, b25, b26) from rfl)
theorem gs_nd_lh (u : St1) (t : Nat → Int32) : gq_lh (sq_nd u t) = gq_lh u := by
  obtain ⟨b0, b1, b2, b3, b4, b5, b6, b7, b8, b9, b10, b11, b12, b13, b14, b15, b16, b17, b18, b19, b20, b21, b22, b23, b24, b25, b26⟩ := u
  exact (show gq_lh (sq_nd (b0, b1, b2, b3, b4, b5, b6, b7, b8, b9, b10, b11, b12, b13, b14, b15, b16, b17, b18, b19, b20, b21, b22, b23, b24, b25, b26) t) = b17 from rfl).trans (show b17 = gq_lh (b0, b1, b2, b3, b4, b5, b6, b7, b8, b9, b10, b11, b12, b13, b14, b15, b16, b17, b18, b19, b20, b21, b22, b23, b24, b25, b26) from rfl)
theorem gs_nd_lx (u : St1) (t : Nat → Int32) : gq_lx (sq_nd u t) = gq_lx u := by
  obtain ⟨b0, b1, b2, b3, b4, b5, b6, b7, b8, b9, b10, b11, b12, b13, b14, b15, b16, b17, b18, b19, b20, b21, b22, b23, b24, b25, b26⟩ := u
  exact (show gq_lx (sq_nd (b0, b1, b2, b3, b4, b5, b6, b7, b8, b9, b10, b11, b12, b13, b14, b15, b16, b17, b18, b19, b20, b21, b22, b23, b24, b25, b26) t) = b18 from rfl).trans (show b18 = gq_lx (b0, b1, b2, b3, b4, b5, b6, b7, b8, b9, b10, b11, b12, b13, b14, b15, b16, b17, b18, b19, b20, b21, b22, b23, b24, b25, b26) from rfl)
theorem gs_nd_co (u : St1) (t : Nat → Int32) : gq_co (sq_nd u t) = gq_co u := by
  obtain ⟨b0, b1, b2, b3, b4, b5, b6, b7, b8, b9, b10, b11, b12, b13, b14, b15, b16, b17, b18, b19, b20, b21, b22, b23, b24, b25, b26⟩ := u
  exact (show gq_co (sq_nd (b0, b1, b2, b3, b4, b5, b6, b7, b8, b9, b10, b11, b12, b13, b14, b15, b16, b17, b18, b19, b20, b21, b22, b23, b24, b25, b26) t) = b19 from rfl).trans (show b19 = gq_co (b0, b1, b2, b3, b4, b5, b6, b7, b8, b9, b10, b11, b12, b13, b14, b15, b16, b17, b18, b19, b20, b21, b22, b23, b24, b25, b26) from rfl)
theorem gs_nd_mu (u : St1) (t : Nat → Int32) : gq_mu (sq_nd u t) = gq_mu u := by
  obtain ⟨b0, b1, b2, b3, b4, b5, b6, b7, b8, b9, b10, b11, b12, b13, b14, b15, b16, b17, b18, b19, b20, b21, b22, b23, b24, b25, b26⟩ := u
  exact (show gq_mu (sq_nd (b0, b1, b2, b3, b4, b5, b6, b7, b8, b9, b10, b11, b12, b13, b14, b15, b16, b17, b18, b19, b20, b21, b22, b23, b24, b25, b26) t) = b20 from rfl).trans (show b20 = gq_mu (b0, b1, b2, b3, b4, b5, b6, b7, b8, b9, b10, b11, b12, b13, b14, b15, b16, b17, b18, b19, b20, b21, b22, b23, b24, b25, b26) from rfl)
theorem gs_nd_tr (u : St1) (t : Nat → Int32) : gq_tr (sq_nd u t) = gq_tr u := by
  obtain ⟨b0, b1, b2, b3, b4, b5, b6, b7, b8, b9, b10, b11, b12, b13, b14, b15, b16, b17, b18, b19, b20, b21, b22, b23, b24, b25, b26⟩ := u
  exact (show gq_tr (sq_nd (b0, b1, b2, b3, b4, b5, b6, b7, b8, b9, b10, b11, b12, b13, b14, b15, b16, b17, b18, b19, b20, b21, b22, b23, b24, b25, b26) t) = b21 from rfl).trans (show b21 = gq_tr (b0, b1, b2, b3, b4, b5, b6, b7, b8, b9, b10, b11, b12, b13, b14, b15, b16, b17, b18, b19, b20, b21, b22, b23, b24, b25, b26) from rfl)
theorem gs_nd_lt (u : St1) (t : Nat → Int32) : gq_lt (sq_nd u t) = gq_lt u := by
  obtain ⟨b0, b1, b2, b3, b4, b5, b6, b7, b8, b9, b10, b11, b12, b13, b14, b15, b16, b17, b18, b19, b20, b21, b22, b23, b24, b25, b26⟩ := u
  exact (show gq_lt (sq_nd (b0, b1, b2, b3, b4, b5, b6, b7, b8, b9, b10, b11, b12, b13, b14, b15, b16, b17, b18, b19, b20, b21, b22, b23, b24, b25, b26) t) = b22 from rfl).trans (show b22 = gq_lt (b0, b1, b2, b3, b4, b5, b6, b7, b8, b9, b10, b11, b12, b13, b14, b15, b16, b17, b18, b19, b20, b21, b22, b23, b24, b25, b26) from rfl)
theorem gs_nd_li (u : St1) (t : Nat → Int32) : gq_li (sq_nd u t) = gq_li u := by
  obtain ⟨b0, b1, b2, b3, b4, b5, b6, b7, b8, b9, b10, b11, b12, b13, b14, b15, b16, b17, b18, b19, b20, b21, b22, b23, b24, b25, b26⟩ := u
  exact (show gq_li (sq_nd (b0, b1, b2, b3, b4, b5, b6, b7, b8, b9, b10, b11, b12, b13, b14, b15, b16, b17, b18, b19, b20, b21, b22, b23, b24, b25, b26) t) = b23 from rfl).trans (show b23 = gq_li (b0, b1, b2, b3, b4, b5, b6, b7, b8, b9, b10, b11, b12, b13, b14, b15, b16, b17, b18, b19, b20, b21, b22, b23, b24, b25, b26) from rfl)
theorem gs_nd_lu (u : St1) (t : Nat → Int32) : gq_lu (sq_nd u t) = gq_lu u := by
  obtain ⟨b0, b1, b2, b3, b4, b5, b6, b7, b8, b9, b10, b11, b12, b13, b14, b15, b16, b17, b18, b19, b20, b21, b22, b23, b24, b25, b26⟩ := u
  exact (show gq_lu (sq_nd (b0, b1, b2, b3, b4, b5, b6, b7, b8, b9, b10, b11, b12, b13, b14, b15, b16, b17, b18, b19, b20, b21, b22, b23, b24, b25, b26) t) = b24 from rfl).trans (show b24 = gq_lu (b0, b1, b2, b3, b4, b5, b6, b7, b8, b9, b10, b11, b12, b13, b14, b15, b16, b17, b18, b19, b20, b21, b22, b23, b24, b25, b26) from rfl)
theorem gs_nd_fx (u : St1) (t : Nat → Int32) : gq_fx (sq_nd u t) = gq_fx u := by
  obtain ⟨b0, b1, b2, b3, b4, b5, b6, b7, b8, b9, b10, b11, b12, b13, b14, b15, b16, b17, b18, b19, b20, b21, b22, b23, b24, b25, b26⟩ := u
  exact (show gq_fx (sq_nd (b0, b1, b2, b3, b4, b5, b6, b7, b8, b9, b10, b11, b12, b13, b14, b15, b16, b17, b18, b19, b20, b21, b22, b23, b24, b25, b26) t) = b25 from rfl).trans (show b25 = gq_fx (b0, b1, b2, b3, b4, b5, b6, b7, b8, b9, b10, b11, b12, b13, b14, b15, b16, b17, b18, b19, b20, b21, b22, b23, b24, b25, b26) from rfl)
theorem gs_nd_nd (u : St1) (t : Nat → Int32) : gq_nd (sq_nd u t) = t := rfl
theorem fsk_nd (u : St1) (t : Nat → Int32) : fz_k (sq_nd u t) = fz_k u := by
  obtain ⟨b0, b1, b2, b3, b4, b5, b6, b7, b8, b9, b10, b11, b12, b13, b14, b15, b16, b17, b18, b19, b20, b21, b22, b23, b24, b25, b26⟩ := u
  exact (show fz_k (sq_nd (b0, b1, b2, b3, b4, b5, b6, b7, b8, b9, b10, b11, b12, b13, b14, b15, b16, b17, b18, b19, b20, b21, b22, b23, b24, b25, b26) t) = ((0, b1, b2, 0, 0, 0, 0, 0, 0, (fun _ => 0), (fun _ => 0), b11, b12, b13, b14, b15, b16, b17, b18, (fun _ => 0), (fun _ => 0), (fun _ => 0), (fun _ => 0), (fun _ => 0), (fun _ => 0), (fun _ => 0), (fun _ => 0)) : St1) from rfl).trans (show ((0, b1, b2, 0, 0, 0, 0, 0, 0, (fun _ => 0), (fun _ => 0), b11, b12, b13, b14, b15, b16, b17, b18, (fun _ => 0), (fun _ => 0), (fun _ => 0), (fun _ => 0), (fun _ => 0), (fun _ => 0), (fun _ => 0), (fun _ => 0)) : St1) = fz_k (b0, b1, b2, b3, b4, b5, b6, b7, b8, b9, b10, b11, b12, b13, b14, b15, b16, b17, b18, b19, b20, b21, b22, b23, b24, b25, b26) from rfl)
theorem fsw_nd (u : St1) (t : Nat → Int32) : fz_w (sq_nd u t) = fz_w u := by
  obtain ⟨b0, b1, b2, b3, b4, b5, b6, b7, b8, b9, b10, b11, b12, b13, b14, b15, b16, b17, b18, b19, b20, b21, b22, b23, b24, b25, b26⟩ := u
  exact (show fz_w (sq_nd (b0, b1, b2, b3, b4, b5, b6, b7, b8, b9, b10, b11, b12, b13, b14, b15, b16, b17, b18, b19, b20, b21, b22, b23, b24, b25, b26) t) = ((b0, 0, 0, 0, 0, 0, 0, 0, 0, b9, b10, (fun _ => 0), (fun _ => 0), (fun _ => 0), (fun _ => 0), (fun _ => 0), (fun _ => 0), (fun _ => 0), (fun _ => 0), (fun _ => 0), (fun _ => 0), (fun _ => 0), (fun _ => 0), (fun _ => 0), (fun _ => 0), (fun _ => 0), (fun _ => 0)) : St1) from rfl).trans (show ((b0, 0, 0, 0, 0, 0, 0, 0, 0, b9, b10, (fun _ => 0), (fun _ => 0), (fun _ => 0), (fun _ => 0), (fun _ => 0), (fun _ => 0), (fun _ => 0), (fun _ => 0), (fun _ => 0), (fun _ => 0), (fun _ => 0), (fun _ => 0), (fun _ => 0), (fun _ => 0), (fun _ => 0), (fun _ => 0)) : St1) = fz_w (b0, b1, b2, b3, b4, b5, b6, b7, b8, b9, b10, b11, b12, b13, b14, b15, b16, b17, b18, b19, b20, b21, b22, b23, b24, b25, b26) from rfl)
end
section
theorem sc_S_k {V : Nat → Nat → Bool} {P : Nat} {u u' : St1} (h : sc_S V P u) (hf : fz_k u' = fz_k u) : sc_S V P u' := by
  unfold sc_S
  rw [fk_pt hf, fk_lf hf, fk_rt hf, fk_pa hf, fk_lk hf, fk_ph hf, fk_px hf, fk_lh hf, fk_lx hf, fk_pn hf]
  exact h
theorem fz_wn {u u' : St1} (h : fz_n u' = fz_n u) : fz_w u' = fz_w u := by
  have g : fz_w (fz_n u') = fz_w (fz_n u) := congrArg fz_w h
  exact g
theorem sd_mc31 {post : St1 → Prop} {u : St1} {V : Nat → Nat → Bool} {P l : Nat} {nd0 : Nat → Int32} (hlP : l < P) (hG : sg_G V P (gq_lf u) (gq_rt u))
    (H : ∀ nd', (∀ p, nd0 p ≠ 0 → nd' p ≠ 0) → ss_C l nd' (gq_lf u) (gq_rt u) → post (sq_nd u nd')) : ∃ n, qq_markConcerned_31 post n (nI l) (sq_nd u nd0) := by
  have hP := hG.2.1
  refine loop_m (fun n (s : Nat × (Nat → Int32)) => qq_markConcerned_31 post n (nI s.1) (sq_nd u s.2)) (fun s => s.1 ≤ l ∧ (∀ p, nd0 p ≠ 0 → s.2 p ≠ 0) ∧ (∀ p a b, s.1 < p → 9 ≤ p → p ≤ l → s.2 p ≠ 0 → gq_lf u p = nI a → gq_rt u p = nI b → a < 2 * p → b < 2 * p → s.2 (a / 2) ≠ 0 ∧ s.2 (b / 2) ≠ 0)) (fun s => s.1) ?_ (l, nd0) ⟨Nat.le_refl l, fun _ h => h, fun p a b h1 _ h2 => absurd h2 (Nat.not_le.mpr h1)⟩
  rintro n ⟨i, c⟩ ⟨hil, hc, hcl⟩ ih
  have hil' : i ≤ l := hil
  have hc' : ∀ p, nd0 p ≠ 0 → c p ≠ 0 := hc
  have hcl' : ∀ p a b, i < p → 9 ≤ p → p ≤ l → c p ≠ 0 → gq_lf u p = nI a → gq_rt u p = nI b → a < 2 * p → b < 2 * p → c (a / 2) ≠ 0 ∧ c (b / 2) ≠ 0 := hcl
  show qq_markConcerned_31 post (n + 1) (nI i) (sq_nd u c)
  refine cq_markConcerned_31 _ _ _ _ ?_
  rw [nI_clamp (by omega), gs_nd_nd, gs_nd_lf, gs_nd_rt]
  refine pk_lt i 9 (fun z => H c hc' (fun p a b h9 => hcl' p a b (by omega) h9)) (fun z => ⟨vp_in_nI (by omega) (by decide), fun e => ?_, fun e => ?_⟩)
  · rintro _ rfl
    rw [sb_m1 (by omega)]
    refine ih (i - 1, c) ⟨by show i - 1 ≤ l; omega, hc, fun p a b h1 h9 hpl hp => ?_⟩ (by show i - 1 < i; omega)
    have h1' : i - 1 < p := h1
    have : p ≠ i := fun q => hp (by rw [q]; exact e)
    exact hcl' p a b (by omega) h9 hpl hp
  · obtain ⟨a, b, ea, eb, ha, hb, hV⟩ := hG.2.2.2.2 i z (by omega)
    rw [ea, eb, si_half (by omega), si_half (by omega), nI_clamp (by omega), nI_clamp (by omega)]
    refine ⟨vp_in_nI (by omega) (by decide), vp_in_nI (by omega) (by decide), ?_⟩
    rintro _ rfl
    refine ⟨vp_in_nI (by omega) (by decide), vp_in_nI (by omega) (by decide), ?_⟩
    rintro _ rfl _ rfl
    rw [sb_m1 (by omega), cs_nd]
    have mono : ∀ p, c p ≠ 0 → upd (upd c (a / 2) 1) (b / 2) 1 p ≠ 0 := by
      intro p hp
      by_cases h1 : p = b / 2
      · rw [h1, pk_us]; decide
      · rw [pk_un h1]
        by_cases h2 : p = a / 2
        · rw [h2, pk_us]; decide
        · rw [pk_un h2]; exact hp
    refine ih (i - 1, upd (upd c (a / 2) 1) (b / 2) 1) ⟨by show i - 1 ≤ l; omega, fun p hp => mono p (hc' p hp), fun p a' b' h1 h9 hpl hp q1 q2 q3 q4 => ?_⟩ (by show i - 1 < i; omega)
    have h1' : i - 1 < p := h1
    by_cases ep : p = i
    · subst ep
      rw [ea] at q1
      rw [eb] at q2
      have e1 := si_inj (by omega) (by omega) q1
      have e2 := si_inj (by omega) (by omega) q2
      subst e1 e2
      refine ⟨?_, ?_⟩
      · show upd (upd c (a / 2) 1) (b / 2) 1 (a / 2) ≠ 0
        by_cases h2 : a / 2 = b / 2
        · rw [h2, pk_us]; decide
        · rw [pk_un h2, pk_us]; decide
      · show upd (upd c (a / 2) 1) (b / 2) 1 (b / 2) ≠ 0
        rw [pk_us]; decide
    · have hp' : upd (upd c (a / 2) 1) (b / 2) 1 p ≠ 0 := hp
      rw [pk_un (by omega), pk_un (by omega)] at hp'
      obtain ⟨r1, r2⟩ := hcl' p a' b' (by omega) h9 hpl hp' q1 q2 q3 q4
      exact ⟨mono _ r1, mono _ r2⟩
theorem sd_markConcerned {post : St1 → Prop} {u : St1} {V : Nat → Nat → Bool} {P l : Nat} (hlP : l < P) (hG : sg_G V P (gq_lf u) (gq_rt u))
    (H : ∀ nd', nd' l ≠ 0 → ss_C l nd' (gq_lf u) (gq_rt u) → post (sq_nd u nd')) : wpX_markConcerned post u (nI l) := by
  have hP := hG.2.1
  refine cw_markConcerned _ _ _ ?_
  have key : ∃ n, qq_markConcerned_2 post (nI l) n 0 (sq_nd u (gq_nd u)) := by
    refine loop_m (fun n (s : Nat × (Nat → Int32)) => qq_markConcerned_2 post (nI l) n (nI s.1) (sq_nd u s.2)) (fun s => s.1 ≤ l + 1 ∧ (l < s.1 → s.2 l ≠ 0)) (fun s => l + 1 - s.1) ?_ (0, gq_nd u) ⟨Nat.zero_le _, fun h => absurd h (Nat.not_lt_zero _)⟩
    rintro n ⟨i, c⟩ ⟨hi, hc⟩ ih
    have hi' : i ≤ l + 1 := hi
    have hc' : l < i → c l ≠ 0 := hc
    show qq_markConcerned_2 post (nI l) (n + 1) (nI i) (sq_nd u c)
    refine cq_markConcerned_2 _ _ _ _ _ ?_
    rw [gs_nd_nd]
    refine pk_lt l i (fun z => ?_) (fun z => pk_eq i l (fun e => ⟨vp_in_nI (by omega) (by decide), ?_⟩) (fun e => ⟨vp_in_nI (by omega) (by decide), ?_⟩))
    · exact sd_mc31 hlP hG (fun nd' k1 k2 => H nd' (k1 l (hc' z)) k2)
    · rintro _ rfl _ rfl
      rw [nI_1, nI_clamp (by omega), cs_nd]
      refine ih (i + 1, upd c i 1) ⟨by show i + 1 ≤ l + 1; omega, fun _ => ?_⟩ (by show l + 1 - (i + 1) < l + 1 - i; omega)
      show upd c i 1 l ≠ 0
      rw [e, pk_us]; decide
    · rintro _ rfl _ rfl
      rw [nI_1, nI_clamp (by omega), cs_nd]
      refine ih (i + 1, upd c i 0) ⟨by show i + 1 ≤ l + 1; omega, fun q => ?_⟩ (by show l + 1 - (i + 1) < l + 1 - i; omega)
      have q' : l < i + 1 := q
      exact absurd q' (by omega)
  rw [ct_nd] at key
  exact key
/-- x with bit i set to v -/
def sx_set (x i : Nat) (v : Bool) : Nat := sx_num (fun k => if k = i then v else x.testBit k) 8
theorem sx_set_lt (x i : Nat) (v : Bool) : sx_set x i v < 256 := sx_num_lt _ 8
theorem sx_set_bit (x i : Nat) (v : Bool) {k : Nat} (hk : k < 8) : (sx_set x i v).testBit k = if k = i then v else x.testBit k := by
  unfold sx_set
  rw [sx_num_bit, decide_eq_true hk, Bool.true_and]
/-- an end turned as e is -/
def sv_x (f e : Nat) : Nat := if e % 2 = 0 then f else sv_ng f
theorem sv_x_lt {f e P : Nat} (h : f < 2 * P) : sv_x f e < 2 * P := by
  unfold sv_x
  split
  · exact h
  · exact sv_ng_lt h
theorem sv_x_I {f e : Nat} (he : e < 2 ^ 31) : nI f ^^^ (nI e &&& 1) = nI (sv_x f e) := by
  rw [si_odd he]
  unfold sv_x
  rcases Nat.mod_two_eq_zero_or_one e with h | h
  · rw [h, if_pos rfl]; exact si_nx0 f
  · rw [h, if_neg (by decide)]; exact si_ng f
theorem sv_x_e {V W : Nat → Nat → Bool} {f e x y : Nat} (h : sv_e V f x = W (e / 2) y) : sv_e V (sv_x f e) x = sv_e W e y := by
  unfold sv_x
  by_cases z : e % 2 = 0
  · rw [if_pos z, h, sv_e_par0 z]
  · rw [if_neg z, sv_e_ng, h, sv_e_par1 z]
/-- what is kept of part p when input i is fixed -/
def sf_F (V V' : Nat → Nat → Bool) (P' i : Nat) (v : Bool) (fx : Nat → Int32) (p : Nat) : Prop := ∃ f, f < 2 * P' ∧ fx p = nI f ∧ ∀ x, x < 256 → sv_e V' f x = V p (sx_set x i v)
/-- what fixing may do to the state -/
def sc_Y (V V' : Nat → Nat → Bool) (P P' : Nat) (u u' : St1) : Prop :=
  fz_w u' = fz_w u ∧ P ≤ P' ∧ (∀ p, p < P → ∀ x, V' p x = V p x) ∧ (∀ p, p < P → gq_lf u' p = gq_lf u p ∧ gq_rt u' p = gq_rt u p)
theorem sc_Y_refl (V : Nat → Nat → Bool) (P : Nat) (u : St1) : sc_Y V V P P u u := ⟨rfl, Nat.le_refl P, fun _ _ _ => rfl, fun _ _ => ⟨rfl, rfl⟩⟩
theorem sc_Y_trans {V V' V'' : Nat → Nat → Bool} {P P' P'' : Nat} {u u' u'' : St1} (h : sc_Y V V' P P' u u') (g : sc_Y V' V'' P' P'' u' u'') : sc_Y V V'' P P'' u u'' := by
  obtain ⟨h1, h2, h3, h4⟩ := h
  obtain ⟨g1, g2, g3, g4⟩ := g
  exact ⟨g1.trans h1, by omega, fun p hp x => (g3 p (by omega) x).trans (h3 p hp x), fun p hp => ⟨((g4 p (by omega)).1).trans (h4 p hp).1, ((g4 p (by omega)).2).trans (h4 p hp).2⟩⟩
theorem sc_Y_X {V V' : Nat → Nat → Bool} {P P' : Nat} {u u' : St1} (h : sc_X V V' P P' u u') : sc_Y V V' P P' u u' := ⟨fz_wn h.1, h.2.1, h.2.2.1, h.2.2.2⟩
theorem sc_Y_e {V V' : Nat → Nat → Bool} {P P' e : Nat} {u u' : St1} (h : sc_Y V V' P P' u u') (he : e < 2 * P) (x : Nat) : sv_e V' e x = sv_e V e x := sv_e_congr h.2.2.1 he x
theorem sc_Y_fx {V V' : Nat → Nat → Bool} {P P' : Nat} {u u' : St1} (h : sc_Y V V' P P' u u') (f : Nat → Int32) : sc_Y V V' P P' u (sq_fx u' f) := by
  obtain ⟨h1, h2, h3, h4⟩ := h
  refine ⟨(fsw_fx u' f).trans h1, h2, h3, fun p hp => ?_⟩
  rw [gs_fx_lf, gs_fx_rt]
  exact h4 p hp
theorem sf_F_up {V V' V'' : Nat → Nat → Bool} {P' P'' i : Nat} {v : Bool} {fx fx' : Nat → Int32} {p : Nat} {u u' : St1} (h : sf_F V V' P' i v fx p) (hX : sc_Y V' V'' P' P'' u u') (hfx : fx' p = fx p) : sf_F V V'' P'' i v fx' p := by
  obtain ⟨f, f1, f2, f3⟩ := h
  have := hX.2.1
  exact ⟨f, by omega, hfx.trans f2, fun x hx => by rw [sc_Y_e hX f1]; exact f3 x hx⟩
theorem sd_fix62 {post : Int32 → St1 → Prop} {u : St1} {V : Nat → Nat → Bool} {P e i l : Nat} {v : Bool} (hl : l = e / 2) (he : e < 2 * P) (hS : sc_S V P u) (hC : sg_C V P) (hP : P + (l - 8) ≤ 2560)
    (hn : gq_nd u l ≠ 0) (hcl : ss_C l (gq_nd u) (gq_lf u) (gq_rt u)) (hF : ∀ p, p < 9 → sf_F V V P i v (gq_fx u) p)
    (H : ∀ u' V' P' r, sc_Y V V' P P' u u' → P' ≤ P + (l - 8) → sc_S V' P' u' → sg_C V' P' → r < 2 * P' → (∀ x, x < 256 → sv_e V' r x = sv_e V e (sx_set x i v)) → post (nI r) u') :
    ∃ n, qq_fix_62 post (nI e) (nI l) n 9 u := by
  have hP2 : P ≤ 2560 := hS.2.1.2.1
  refine loop_m (fun n (s : Nat × St1) => qq_fix_62 post (nI e) (nI l) n (nI s.1) s.2)
    (fun s => 9 ≤ s.1 ∧ (s.1 ≤ l + 1 ∨ s.1 = 9) ∧ ∃ V' P', sc_Y V V' P P' u s.2 ∧ gq_nd s.2 = gq_nd u ∧ sc_S V' P' s.2 ∧ sg_C V' P' ∧ P' ≤ P + (s.1 - 9) ∧ (∀ p, (p < 9 ∨ (p < s.1 ∧ p ≤ l ∧ gq_nd u p ≠ 0)) → sf_F V V' P' i v (gq_fx s.2) p))
    (fun s => l + 1 - s.1) ?_ (9, u) ⟨Nat.le_refl 9, Or.inr rfl, V, P, sc_Y_refl V P u, rfl, hS, hC, Nat.le_refl P, fun p hp => ?_⟩
  rotate_left 1
  · rcases hp with z | ⟨z, _⟩
    · exact hF p z
    · exact hF p z
  rintro n ⟨j, w⟩ ⟨h9, hj, V', P', hY, hnd, hSw, hCw, hPw, hFw⟩ ih
  have h9' : 9 ≤ j := h9
  have hj' : j ≤ l + 1 ∨ j = 9 := hj
  have hY' : sc_Y V V' P P' u w := hY
  have hnd' : gq_nd w = gq_nd u := hnd
  have hSw' : sc_S V' P' w := hSw
  have hPw' : P' ≤ P + (j - 9) := hPw
  have hFw' : ∀ p, (p < 9 ∨ (p < j ∧ p ≤ l ∧ gq_nd u p ≠ 0)) → sf_F V V' P' i v (gq_fx w) p := hFw
  have hPP := hY'.2.1
  show qq_fix_62 post (nI e) (nI l) (n + 1) (nI j) w
  refine cq_fix_62 _ _ _ _ _ _ ?_
  rw [nI_clamp (by omega), nI_clamp (by omega), hnd']
  refine pk_lt l j (fun z => ⟨vp_in_nI (by omega) (by decide), ?_⟩) (fun z => ⟨vp_in_nI (by omega) (by decide), fun e0 => ?_, fun e0 => ?_⟩)
  · have hl9 : l < 9 ∨ (l < j ∧ l ≤ l ∧ gq_nd u l ≠ 0) := by
      by_cases y : l < 9
      · exact Or.inl y
      · exact Or.inr ⟨z, Nat.le_refl l, hn⟩
    obtain ⟨f, f1, f2, f3⟩ := hFw' l hl9
    rw [f2, sv_x_I (by omega)]
    refine H w V' P' _ hY' (by omega) hSw' hCw (sv_x_lt f1) (fun x hx => sv_x_e ?_)
    rw [← hl]
    exact f3 x hx
  · rintro _ rfl
    rw [nI_1]
    refine ih (j + 1, w) ⟨by show 9 ≤ j + 1; omega, Or.inl (by show j + 1 ≤ l + 1; omega), V', P', hY', hnd', hSw', hCw, by show P' ≤ P + (j + 1 - 9); omega, fun p hp => hFw' p ?_⟩ (by show l + 1 - (j + 1) < l + 1 - j; omega)
    rcases hp with y | ⟨y1, y2, y3⟩
    · exact Or.inl y
    · have y1' : p < j + 1 := y1
      have : p ≠ j := fun q => y3 (by rw [q]; exact e0)
      exact Or.inr ⟨by omega, y2, y3⟩
  · have hjP : j < P := by omega
    obtain ⟨a, b, ea, eb, ha, hb, hV⟩ := hS.2.1.2.2.2.2 j h9' hjP
    obtain ⟨ca, cb⟩ := hcl j a b h9' z e0 ea eb ha hb
    have ea' : gq_lf w j = nI a := ((hY'.2.2.2 j hjP).1).trans ea
    have eb' : gq_rt w j = nI b := ((hY'.2.2.2 j hjP).2).trans eb
    have cas : ∀ q, q < j → gq_nd u q ≠ 0 → sf_F V V' P' i v (gq_fx w) q := by
      intro q hq hnq
      refine hFw' q ?_
      by_cases y : q < 9
      · exact Or.inl y
      · exact Or.inr ⟨hq, by omega, hnq⟩
    obtain ⟨fa, a1, a2, a3⟩ := cas (a / 2) (by omega) ca
    obtain ⟨fb, b1, b2, b3⟩ := cas (b / 2) (by omega) cb
    rw [ea', eb', si_half (by omega), si_half (by omega), nI_clamp (by omega), nI_clamp (by omega), a2, b2, sv_x_I (by omega), sv_x_I (by omega)]
    have va : ∀ x, x < 256 → sv_e V' (sv_x fa a) x = sv_e V a (sx_set x i v) := fun x hx => sv_x_e (a3 x hx)
    have vb : ∀ x, x < 256 → sv_e V' (sv_x fb b) x = sv_e V b (sx_set x i v) := fun x hx => sv_x_e (b3 x hx)
    have la : sv_x fa a < 2 * P' := sv_x_lt a1
    have lb : sv_x fb b < 2 * P' := sv_x_lt b1
    -- the next round, with part j fixed to r
    have next : ∀ w1 V1 P1 r, sc_X V' V1 P' P1 w w1 → P1 ≤ P' + 1 → sc_S V1 P1 w1 → sg_C V1 P1 → r < 2 * P1 → (∀ x, x < 256 → sv_e V1 r x = V j (sx_set x i v)) →
        qq_fix_62 post (nI e) (nI l) n (nI (j + 1)) (sq_fx w1 (upd (gq_fx w1) j (nI r))) := by
      intro w1 V1 P1 r hX hP1 hS1 hC1 hr hvr
      have hY1 := sc_Y_X hX
      refine ih (j + 1, sq_fx w1 (upd (gq_fx w1) j (nI r))) ⟨by show 9 ≤ j + 1; omega, Or.inl (by show j + 1 ≤ l + 1; omega), V1, P1, sc_Y_fx (sc_Y_trans hY' hY1) _, ?_, sc_S_k hS1 (fsk_fx _ _), hC1, by show P1 ≤ P + (j + 1 - 9); omega, fun p hp => ?_⟩ (by show l + 1 - (j + 1) < l + 1 - j; omega)
      · show gq_nd (sq_fx w1 _) = gq_nd u
        rw [gs_fx_nd, fn_nd hX.1]
        exact hnd'
      · show sf_F V V1 P1 i v (gq_fx (sq_fx w1 _)) p
        rw [gs_fx_fx]
        by_cases ep : p = j
        · rw [ep]
          exact ⟨r, hr, pk_us, hvr⟩
        · have old : sf_F V V' P' i v (gq_fx w) p := by
            refine hFw' p ?_
            rcases hp with y | ⟨y1, y2, y3⟩
            · exact Or.inl y
            · have y1' : p < j + 1 := y1
              exact Or.inr ⟨by omega, y2, y3⟩
          refine sf_F_up old hY1 ?_
          rw [pk_un ep, fn_fx hX.1]
    have andc : kk_fix_160 post (qq_fix_62 post (nI e) (nI l) n) (nI e) (nI l) (nI j) (nI (sv_x fa a)) (nI (sv_x fb b)) 0 w := by
      refine br_t rfl (sd_and hSw' hCw la lb (by omega) (fun w1 V1 P1 r hX hP1 hS1 hC1 hr hvr => ⟨vp_in_nI (by omega) (by decide), ?_⟩))
      have hP3 : P1 ≤ 2560 := hS1.2.1.2.1
      rintro _ rfl _ rfl
      rw [nI_1, nI_clamp (by omega), si_short (by omega)]
      exact next w1 V1 P1 r hX hP1 hS1 hC1 hr (fun x hx => by rw [hvr x hx, va x hx, vb x hx, hV])
    refine ⟨vp_in_nI (by omega) (by decide), vp_in_nI (by omega) (by decide), vp_in_nI (by omega) (by decide), ?_⟩
    rintro _ rfl
    refine ⟨vp_in_nI (by omega) (by decide), vp_in_nI (by omega) (by decide), vp_in_nI (by omega) (by decide), ?_⟩
    rintro _ rfl
    have hP3 : P' ≤ 2560 := hSw'.2.1.2.1
    refine ⟨vp_in_nI (by omega) (by decide), pk_eq (sv_x fa a) a (fun q1 => ⟨vp_in_nI (by omega) (by decide), pk_eq (sv_x fb b) b (fun q2 => ?_) (fun _ => andc)⟩) (fun _ => andc)⟩
    refine br_f (by decide) ⟨vp_in_nI (by omega) (by decide), ?_⟩
    rintro _ rfl _ rfl
    rw [nI_1, nI_clamp (by omega), si_2, si_short (by omega)]
    refine next w V' P' (2 * j) (sc_X_refl V' P' w) (by omega) hSw' hCw (by omega) (fun x hx => ?_)
    have g1 := va x hx
    have g2 := vb x hx
    rw [q1] at g1
    rw [q2] at g2
    rw [sv_e_even, hY'.2.2.1 j hjP, hV x, hV (sx_set x i v), ← g1, ← g2, sc_Y_e hY' (by omega), sc_Y_e hY' (by omega)]
/-- what the inputs become -/
def sf_0 (i : Nat) (v : Bool) (p : Nat) : Nat := if p = 0 then 0 else if p = i + 1 then (if v then 1 else 0) else 2 * p
theorem sf_0_F {V : Nat → Nat → Bool} {P i : Nat} {v : Bool} {lf rt fx : Nat → Int32} (hG : sg_G V P lf rt) {p : Nat} (hp : p < 9) (h : fx p = nI (sf_0 i v p)) : sf_F V V P i v fx p := by
  have h9 := hG.1
  refine ⟨sf_0 i v p, ?_, h, fun x hx => ?_⟩
  · unfold sf_0
    split
    · omega
    · split
      · split <;> omega
      · omega
  · unfold sf_0
    by_cases p0 : p = 0
    · rw [if_pos p0, sv_e_par0 rfl, p0, hG.2.2.1, hG.2.2.1]
    · rw [if_neg p0]
      obtain ⟨k, rfl⟩ : ∃ k, p = k + 1 := ⟨p - 1, by omega⟩
      rw [hG.2.2.2.1 k (by omega) (sx_set x i v), sx_set_bit x i v (by omega)]
      by_cases pi : k + 1 = i + 1
      · rw [if_pos pi, if_pos (show k = i by omega)]
        cases v
        · show sv_e V 0 x = false
          rw [sv_e_par0 rfl]; exact hG.2.2.1 x
        · show sv_e V 1 x = true
          rw [sv_e_par1 (by decide)]
          show (!V 0 x) = true
          rw [hG.2.2.1 x]; rfl
      · rw [if_neg pi, if_neg (show ¬ k = i by omega), sv_e_even, hG.2.2.2.1 k (by omega) x]
theorem sv_b_short (b : Bool) : (sv_b b).toInt16.toInt32 = sv_b b := by cases b <;> decide
theorem sd_fix {post : Int32 → St1 → Prop} {u : St1} {V : Nat → Nat → Bool} {P e i : Nat} {v : Bool} (hS : sc_S V P u) (hC : sg_C V P) (he : e < 2 * P) (hi : i < 8) (hP : P + (e / 2 - 8) ≤ 2560)
    (H : ∀ u' V' P' r, sc_Y V V' P P' u u' → P' ≤ P + (e / 2 - 8) → sc_S V' P' u' → sg_C V' P' → r < 2 * P' → (∀ x, x < 256 → sv_e V' r x = sv_e V e (sx_set x i v)) → post (nI r) u') :
    wpX_fix post u (nI e) (nI i) (sv_b v) := by
  have hP2 : P ≤ 2560 := hS.2.1.2.1
  have hG := hS.2.1
  refine cw_fix _ _ _ _ _ ?_
  rw [si_half (by omega)]
  rintro _ rfl _ rfl
  refine pk_loop (fun n j (s : Nat → Int32) => qq_fix_15 post (nI e) (nI i) (sv_b v) (nI (e / 2)) n (nI j) (sq_fx u s)) (fun j s => ∀ p, p < j → s p = nI (sf_0 i v p)) 9 1 (upd (gq_fx u) 0 0) (by decide) ?_ ?_ ?_
  · intro p hp
    rw [show p = 0 by omega, pk_us]
    rfl
  · intro n s hs
    refine cq_fix_15 _ _ _ _ _ _ _ _ (br_t (by decide) ?_)
    have hG' : sg_G V P (gq_lf (sq_fx u s)) (gq_rt (sq_fx u s)) := by rw [gs_fx_lf, gs_fx_rt]; exact hG
    refine sd_markConcerned (by omega) hG' (fun nd' k1 k2 => ?_)
    rw [gs_fx_lf, gs_fx_rt] at k2
    refine sd_fix62 (V := V) (P := P) (i := i) (v := v) rfl he (sc_S_k hS ((fsk_nd _ _).trans (fsk_fx _ _))) hC hP ?_ ?_ (fun p hp => ?_) (fun u' V' P' r hY => H u' V' P' r ⟨?_, hY.2.1, hY.2.2.1, fun p hp => ?_⟩)
    · rw [gs_nd_nd]; exact k1
    · rw [gs_nd_nd, gs_nd_lf, gs_nd_rt, gs_fx_lf, gs_fx_rt]; exact k2
    · rw [gs_nd_fx, gs_fx_fx]
      exact sf_0_F hG hp (hs p hp)
    · exact hY.1.trans ((fsw_nd _ _).trans (fsw_fx _ _))
    · have := hY.2.2.2 p hp
      rw [gs_nd_lf, gs_nd_rt, gs_fx_lf, gs_fx_rt] at this
      exact this
  · intro n j s hj hs ih
    refine cq_fix_15 _ _ _ _ _ _ _ _ (br_f (nI_ge (b := 9) hj (by decide)) ?_)
    rw [nI_1, gs_fx_fx]
    have hj0 : ∀ r, sf_0 i v j = r → ∀ p, p < j + 1 → upd s j (nI r) p = nI (sf_0 i v p) := by
      intro r hr p hp
      by_cases ep : p = j
      · rw [ep, pk_us, hr]
      · rw [pk_un ep]; exact hs p (by omega)
    by_cases j0 : j = 0
    · -- the loop begins at 1
      refine pk_eq j (i + 1) (fun z => absurd z (by omega)) (fun z => ⟨vp_in_nI (by omega) (by decide), ?_⟩)
      rintro _ rfl _ rfl
      rw [nI_1, nI_clamp (by omega), si_2, si_short (by omega), cs_fx]
      refine ih _ (hj0 _ ?_)
      unfold sf_0
      rw [if_pos j0, j0]
    · refine pk_eq j (i + 1) (fun z => ⟨vp_in_nI (by omega) (by decide), ?_⟩) (fun z => ⟨vp_in_nI (by omega) (by decide), ?_⟩)
      · rintro _ rfl _ rfl
        rw [nI_1, nI_clamp (by omega), sv_b_short, cs_fx]
        have : sv_b v = nI (if v then 1 else 0) := by cases v <;> rfl
        refine ih (upd s j (sv_b v)) ?_
        rw [this]
        refine hj0 _ ?_
        unfold sf_0
        rw [if_neg j0, if_pos z]
      · rintro _ rfl _ rfl
        rw [nI_1, nI_clamp (by omega), si_2, si_short (by omega), cs_fx]
        refine ih _ (hj0 _ ?_)
        unfold sf_0
        rw [if_neg j0, if_neg z]
end
section
theorem cs_mu (u : St1) (s t : Nat → Int32) : sq_mu (sq_mu u s) t = sq_mu u t := by
  obtain ⟨b0, b1, b2, b3, b4, b5, b6, b7, b8, b9, b10, b11, b12, b13, b14, b15, b16, b17, b18, b19, b20, b21, b22, b23, b24, b25, b26⟩ := u
  exact (show sq_mu (sq_mu (b0, b1, b2, b3, b4, b5, b6, b7, b8, b9, b10, b11, b12, b13, b14, b15, b16, b17, b18, b19, b20, b21, b22, b23, b24, b25, b26) s) t = (b0, b1, b2, b3, b4, b5, b6, b7, b8, b9, b10, b11, b12, b13, b14, b15, b16, b17, b18, b19, t, b21, b22, b23, b24, b25, b26) from rfl).trans (show (b0, b1, b2, b3, b4, b5, b6, b7, b8, b9, b10, b11, b12, b13, b14, b15, b16, b17, b18, b19, t, b21, b22, b23, b24, b25, b26) = sq_mu (b0, b1, b2, b3, b4, b5, b6, b7, b8, b9, b10, b11, b12, b13, b14, b15, b16, b17, b18, b19, b20, b21, b22, b23, b24, b25, b26) t from rfl)
theorem ct_mu (u : St1) : sq_mu u (gq_mu u) = u := by
  obtain ⟨b0, b1, b2, b3, b4, b5, b6, b7, b8, b9, b10, b11, b12, b13, b14, b15, b16, b17, b18, b19, b20, b21, b22, b23, b24, b25, b26⟩ := u
  rfl
theorem gs_mu_cn (u : St1) (t : Nat → Int32) : gq_cn (sq_mu u t) = gq_cn u := by
  obtain ⟨b0, b1, b2, b3, b4, b5, b6, b7, b8, b9, b10, b11, b12, b13, b14, b15, b16, b17, b18, b19, b20, b21, b22, b23, b24, b25, b26⟩ := u
  exact (show gq_cn (sq_mu (b0, b1, b2, b3, b4, b5, b6, b7, b8, b9, b10, b11, b12, b13, b14, b15, b16, b17, b18, b19, b20, b21, b22, b23, b24, b25, b26) t) = b0 from rfl).trans (show b0 = gq_cn (b0, b1, b2, b3, b4, b5, b6, b7, b8, b9, b10, b11, b12, b13, b14, b15, b16, b17, b18, b19, b20, b21, b22, b23, b24, b25, b26) from rfl)
theorem gs_mu_pt (u : St1) (t : Nat → Int32) : gq_pt (sq_mu u t) = gq_pt u := by
  obtain ⟨b0, b1, b2, b3, b4, b5, b6, b7, b8, b9, b10, b11, b12, b13, b14, b15, b16, b17, b18, b19, b20, b21, b22, b23, b24, b25, b26⟩ := u
  exact (show gq_pt (sq_mu (b0, b1, b2, b3, b4, b5, b6, b7, b8, b9, b10, b11, b12, b13, b14, b15, b16, b17, b18, b19, b20, b21, b22, b23, b24, b25, b26) t) = b1 from rfl).trans (show b1 = gq_pt (b0, b1, b2, b3, b4, b5, b6, b7, b8, b9, b10, b11, b12, b13, b14, b15, b16, b17, b18, b19, b20, b21, b22, b23, b24, b25, b26) from rfl)
theorem gs_mu_pn (u : St1) (t : Nat → Int32) : gq_pn (sq_mu u t) = gq_pn u := by
  obtain ⟨b0, b1, b2, b3, b4, b5, b6, b7, b8, b9, b10, b11, b12, b13, b14, b15, b16, b17, b18, b19, b20, b21, b22, b23, b24, b25, b26⟩ := u
  exact (show gq_pn (sq_mu (b0, b1, b2, b3, b4, b5, b6, b7, b8, b9, b10, b11, b12, b13, b14, b15, b16, b17, b18, b19, b20, b21, b22, b23, b24, b25, b26) t) = b2 from rfl).trans (show b2 = gq_pn (b0, b1, b2, b3, b4, b5, b6, b7, b8, b9, b10, b11, b12, b13, b14, b15, b16, b17, b18, b19, b20, b21, b22, b23, b24, b25, b26) from rfl)
theorem gs_mu_lc (u : St1) (t : Nat → Int32) : gq_lc (sq_mu u t) = gq_lc u := by
  obtain ⟨b0, b1, b2, b3, b4, b5, b6, b7, b8, b9, b10, b11, b12, b13, b14, b15, b16, b17, b18, b19, b20, b21, b22, b23, b24, b25, b26⟩ := u
  exact (show gq_lc (sq_mu (b0, b1, b2, b3, b4, b5, b6, b7, b8, b9, b10, b11, b12, b13, b14, b15, b16, b17, b18, b19, b20, b21, b22, b23, b24, b25, b26) t) = b3 from rfl).trans (show b3 = gq_lc (b0, b1, b2, b3, b4, b5, b6, b7, b8, b9, b10, b11, b12, b13, b14, b15, b16, b17, b18, b19, b20, b21, b22, b23, b24, b25, b26) from rfl)
theorem gs_mu_cl (u : St1) (t : Nat → Int32) : gq_cl (sq_mu u t) = gq_cl u := by
  obtain ⟨b0, b1, b2, b3, b4, b5, b6, b7, b8, b9, b10, b11, b12, b13, b14, b15, b16, b17, b18, b19, b20, b21, b22, b23, b24, b25, b26⟩ := u
  exact (show gq_cl (sq_mu (b0, b1, b2, b3, b4, b5, b6, b7, b8, b9, b10, b11, b12, b13, b14, b15, b16, b17, b18, b19, b20, b21, b22, b23, b24, b25, b26) t) = b4 from rfl).trans (show b4 = gq_cl (b0, b1, b2, b3, b4, b5, b6, b7, b8, b9, b10, b11, b12, b13, b14, b15, b16, b17, b18, b19, b20, b21, b22, b23, b24, b25, b26) from rfl)
theorem gs_mu_mv (u : St1) (t : Nat → Int32) : gq_mv (sq_mu u t) = gq_mv u := by
  obtain ⟨b0, b1, b2, b3, b4, b5, b6, b7, b8, b9, b10, b11, b12, b13, b14, b15, b16, b17, b18, b19, b20, b21, b22, b23, b24, b25, b26⟩ := u
  exact (show gq_mv (sq_mu (b0, b1, b2, b3, b4, b5, b6, b7, b8, b9, b10, b11, b12, b13, b14, b15, b16, b17, b18, b19, b20, b21, b22, b23, b24, b25, b26) t) = b5 from rfl).trans (show b5 = gq_mv (b0, b1, b2, b3, b4, b5, b6, b7, b8, b9, b10, b11, b12, b13, b14, b15, b16, b17, b18, b19, b20, b21, b22, b23, b24, b25, b26) from rfl)
theorem gs_mu_ts (u : St1) (t : Nat → Int32) : gq_ts (sq_mu u t) = gq_ts u := by
  obtain ⟨b0, b1, b2, b3, b4, b5, b6, b7, b8, b9, b10, b11, b12, b13, b14, b15, b16, b17, b18, b19, b20, b21, b22, b23, b24, b25, b26⟩ := u
  exact (show gq_ts (sq_mu (b0, b1, b2, b3, b4, b5, b6, b7, b8, b9, b10, b11, b12, b13, b14, b15, b16, b17, b18, b19, b20, b21, b22, b23, b24, b25, b26) t) = b6 from rfl).trans (show b6 = gq_ts (b0, b1, b2, b3, b4, b5, b6, b7, b8, b9, b10, b11, b12, b13, b14, b15, b16, b17, b18, b19, b20, b21, b22, b23, b24, b25, b26) from rfl)
theorem gs_mu_lv (u : St1) (t : Nat → Int32) : gq_lv (sq_mu u t) = gq_lv u := by
  obtain ⟨b0, b1, b2, b3, b4, b5, b6, b7, b8, b9, b10, b11, b12, b13, b14, b15, b16, b17, b18, b19, b20, b21, b22, b23, b24, b25, b26⟩ := u
  exact (show gq_lv (sq_mu (b0, b1, b2, b3, b4, b5, b6, b7, b8, b9, b10, b11, b12, b13, b14, b15, b16, b17, b18, b19, b20, b21, b22, b23, b24, b25, b26) t) = b7 from rfl).trans (show b7 = gq_lv (b0, b1, b2, b3, b4, b5, b6, b7, b8, b9, b10, b11, b12, b13, b14, b15, b16, b17, b18, b19, b20, b21, b22, b23, b24, b25, b26) from rfl)
theorem gs_mu_fa (u : St1) (t : Nat → Int32) : gq_fa (sq_mu u t) = gq_fa u := by
  obtain ⟨b0, b1, b2, b3, b4, b5, b6, b7, b8, b9, b10, b11, b12, b13, b14, b15, b16, b17, b18, b19, b20, b21, b22, b23, b24, b25, b26⟩ := u
  exact (show gq_fa (sq_mu (b0, b1, b2, b3, b4, b5, b6, b7, b8, b9, b10, b11, b12, b13, b14, b15, b16, b17, b18, b19, b20, b21, b22, b23, b24, b25, b26) t) = b8 from rfl).trans (show b8 = gq_fa (b0, b1, b2, b3, b4, b5, b6, b7, b8, b9, b10, b11, b12, b13, b14, b15, b16, b17, b18, b19, b20, b21, b22, b23, b24, b25, b26) from rfl)
theorem gs_mu_en (u : St1) (t : Nat → Int32) : gq_en (sq_mu u t) = gq_en u := by
  obtain ⟨b0, b1, b2, b3, b4, b5, b6, b7, b8, b9, b10, b11, b12, b13, b14, b15, b16, b17, b18, b19, b20, b21, b22, b23, b24, b25, b26⟩ := u
  exact (show gq_en (sq_mu (b0, b1, b2, b3, b4, b5, b6, b7, b8, b9, b10, b11, b12, b13, b14, b15, b16, b17, b18, b19, b20, b21, b22, b23, b24, b25, b26) t) = b9 from rfl).trans (show b9 = gq_en (b0, b1, b2, b3, b4, b5, b6, b7, b8, b9, b10, b11, b12, b13, b14, b15, b16, b17, b18, b19, b20, b21, b22, b23, b24, b25, b26) from rfl)
theorem gs_mu_bf (u : St1) (t : Nat → Int32) : gq_bf (sq_mu u t) = gq_bf u := by
  obtain ⟨b0, b1, b2, b3, b4, b5, b6, b7, b8, b9, b10, b11, b12, b13, b14, b15, b16, b17, b18, b19, b20, b21, b22, b23, b24, b25, b26⟩ := u
  exact (show gq_bf (sq_mu (b0, b1, b2, b3, b4, b5, b6, b7, b8, b9, b10, b11, b12, b13, b14, b15, b16, b17, b18, b19, b20, b21, b22, b23, b24, b25, b26) t) = b10 from rfl).trans (show b10 = gq_bf (b0, b1, b2, b3, b4, b5, b6, b7, b8, b9, b10, b11, b12, b13, b14, b15, b16, b17, b18, b19, b20, b21, b22, b23, b24, b25, b26) from rfl)
theorem gs_mu_lf (u : St1) (t : Nat → Int32) : gq_lf (sq_mu u t) = gq_lf u := by
  obtain ⟨b0, b1, b2, b3, b4, b5, b6, b7, b8, b9, b10, b11, b12, b13, b14, b15, b16, b17, b18, b19, b20, b21, b22, b23, b24, b25, b26⟩ := u
  exact (show gq_lf (sq_mu (b0, b1, b2, b3, b4, b5, b6, b7, b8, b9, b10, b11, b12, b13, b14, b15, b16, b17, b18, b19, b20, b21, b22, b23, b24, b25, b26) t) = b11 from rfl).trans (show b11 = gq_lf (b0, b1, b2, b3, b4, b5, b6, b7, b8, b9, b10, b11, b12, b13, b14, b15, b16, b17, b18, b19, b20, b21, b22, b23, b24, b25, b26) from rfl)
theorem gs_mu_rt (u : St1) (t : Nat → Int32) : gq_rt (sq_mu u t) = gq_rt u := by
  obtain ⟨b0, b1, b2, b3, b4, b5, b6, b7, b8, b9, b10, b11, b12, b13, b14, b15, b16, b17, b18, b19, b20, b21, b22, b23, b24, b25, b26⟩ := u
  exact (show gq_rt (sq_mu (b0, b1, b2, b3, b4, b5, b6, b7, b8, b9, b10, b11, b12, b13, b14, b15, b16, b17, b18, b19, b20, b21, b22, b23, b24, b25, b26) t) = b12 from rfl).trans (show b12 = gq_rt (b0, b1, b2, b3, b4, b5, b6, b7, b8, b9, b10, b11, b12, b13, b14, b15, b16, b17, b18, b19, b20, b21, b22, b23, b24, b25, b26) from rfl)
theorem gs_mu_ph (u : St1) (t : Nat → Int32) : gq_ph (sq_mu u t) = gq_ph u := by
  obtain ⟨b0, b1, b2, b3, b4, b5, b6, b7, b8, b9, b10, b11, b12, b13, b14, b15, b16, b17, b18, b19, b20, b21, b22, b23, b24, b25, b26⟩ := u
  exact (show gq_ph (sq_mu (b0, b1, b2, b3, b4, b5, b6, b7, b8, b9, b10, b11, b12, b13, b14, b15, b16, b17, b18, b19, b20, b21, b22, b23, b24, b25, b26) t) = b13 from rfl).trans (show b13 = gq_ph (b0, b1, b2, b3, b4, b5, b6, b7, b8, b9, b10, b11, b12, b13, b14, b15, b16, b17, b18, b19, b20, b21, b22, b23, b24, b25, b26) from rfl)
theorem gs_mu_px (u : St1) (t : Nat → Int32) : gq_px (sq_mu u t) = gq_px u := by
  obtain ⟨b0, b1, b2, b3, b4, b5, b6, b7, b8, b9, b10, b11, b12, b13, b14, b15, b16, b17, b18, b19, b20, b21, b22, b23, b24, b25, b26⟩ := u
  exact (show gq_px (sq_mu (b0, b1, b2, b3, b4, b5, b6, b7, b8, b9, b10, b11, b12, b13, b14, b15, b16, b17, b18, b19, b20, b21, b22, b23, b24, b25, b26) t) = b14 from rfl).trans (show b14 = gq_px (b0, b1, b2, b3, b4, b5, b6, b7, b8, b9, b10, b11, b12, b13, b14, b15, b16, b17, b18, b19, b20, b21, b22, b23, b24, b25, b26) from rfl)
theorem gs_mu_pa (u : St1) (t : Nat → Int32) : gq_pa (sq_mu u t) = gq_pa u := by
  obtain ⟨b0, b1, b2, b3, b4, b5, b6, b7, b8, b9, b10, b11, b12, b13, b14, b15, b16, b17, b18, b19, b20, b21, b22, b23, b24, b25, b26⟩ := u
  exact (show gq_pa (sq_mu (b0, b1, b2, b3, b4, b5, b6, b7, b8, b9, b10, b11, b12, b13, b14, b15, b16, b17, b18, b19, b20, b21, b22, b23, b24, b25, b26) t) = b15 from rfl).trans (show b15 = gq_pa (b0, b1, b2, b3, b4, b5, b6, b7, b8, b9, b10, b11, b12, b13, b14, b15, b16, b17, b18, b19, b20, b21, b22, b23, b24, b25, b26) from rfl)
theorem gs_mu_lk (u : St1) (t : Nat → Int32) : gq_lk (sq_mu u t) = gq_lk u := by
  obtain ⟨b0, b1, b2, b3, b4, b5, b6, b7, b8, b9, b10, b11, b12, b13, b14, b15, b16, b17, b18, b19, b20, b21, b22, b23, b24, b25, b26⟩ := u
  exact (show gq_lk (sq_mu (b0, b1, b2, b3, b4, b5, b6, b7, b8, b9, b10, b11, b12, b13, b14, b15, b16, b17, b18, b19, b20, b21, b22, b23, b24, b25, b26) t) = b16 from rfl).trans (show b16 = gq_lk (b0, b1, b2, b3, b4, b5, b6, b7, b8, b9, b10, b11, b12, b13, b14, b15, b16, b17, b18, b19, b20, b21, b22, b23, b24, b25, b26) from rfl)
theorem gs_mu_lh (u : St1) (t : Nat → Int32) : gq_lh (sq_mu u t) = gq_lh u := by
  obtain ⟨b0, b1, b2, b3, b4, b5, b6, b7, b8, b9, b10, b11, b12, b13, b14, b15, b16, b17, b18, b19, b20, b21, b22, b23, b24, b25, b26⟩ := u
  exact (show gq_lh (sq_mu (b0, b1, b2, b3, b4, b5, b6, b7, b8, b9, b10, b11, b12, b13, b14, b15, b16, b17, b18, b19, b20, b21, b22, b23, b24, b25, b26) t) = b17 from rfl).trans (show b17 = gq_lh (b0, b1, b2, b3, b4, b5, b6, b7, b8, b9, b10, b11, b12, b13, b14, b15, b16, b17, b18, b19, b20, b21, b22, b23, b24, b25, b26) from rfl)
theorem gs_mu_lx (u : St1) (t : Nat → Int32) : gq_lx (sq_mu u t) = gq_lx u := by
  obtain ⟨b0, b1, b2, b3, b4, b5, b6, b7, b8, b9, b10, b11, b12, b13, b14, b15, b16, b17, b18, b19, b20, b21, b22, b23, b24, b25, b26⟩ := u
  exact (show gq_lx (sq_mu (b0, b1, b2, b3, b4, b5, b6, b7, b8, b9, b10, b11, b12, b13, b14, b15, b16, b17, b18, b19, b20, b21, b22, b23, b24, b25, b26) t) = b18 from rfl).trans (show b18 = gq_lx (b0, b1, b2, b3, b4, b5, b6, b7, b8, b9, b10, b11, b12, b13, b14, b15, b16, b17, b18, b19, b20, b21, b22, b23, b24, b25, b26) from rfl)
theorem gs_mu_co (u : St1) (t : Nat → Int32) : gq_co (sq_mu u t) = gq_co u := by
  obtain ⟨b0, b1, b2, b3, b4, b5, b6, b7, b8, b9, b10, b11, b12, b13, b14, b15, b16, b17, b18, b19, b20, b21, b22, b23, b24, b25, b26⟩ := u
  exact (show gq_co (sq_mu (b0, b1, b2, b3, b4, b5, b6, b7, b8, b9, b10, b11, b12, b13, b14, b15, b16, b17, b18, b19, b20, b21, b22, b23, b24, b25, b26) t) = b19 from rfl).trans (show b19 = gq_co (b0, b1, b2, b3, b4, b5, b6, b7, b8, b9, b10, b11, b12, b13, b14, b15, b16, b17, b18, b19, b20, b21, b22, b23, b24, b25, b26) from rfl)
theorem gs_mu_mu (u : St1) (t : Nat → Int32) : gq_mu (sq_mu u t) = t := rfl
theorem gs_mu_tr (u : St1) (t : Nat → Int32) : gq_tr (sq_mu u t) = gq_tr u := by
  obtain ⟨b0, b1, b2, b3, b4, b5, b6, b7, b8, b9, b10, b11, b12, b13, b14, b15, b16, b17, b18, b19, b20, b21, b22, b23, b24, b25, b26⟩ := u
  exact (show gq_tr (sq_mu (b0, b1, b2, b3, b4, b5, b6, b7, b8, b9, b10, b11, b12, b13, b14, b15, b16, b17, b18, b19, b20, b21, b22, b23, b24, b25, b26) t) = b21 from rfl).trans (show b21 = gq_tr (b0, b1, b2, b3, b4, b5, b6, b7, b8, b9, b10, b11, b12, b13, b14, b15, b16, b17, b18, b19, b20, b21, b22, b23, b24, b25, b26) from rfl)
theorem gs_mu_lt (u : St1) (t : Nat → Int32) : gq_lt (sq_mu u t) = gq_lt u := by
  obtain ⟨b0, b1, b2, b3, b4, b5, b6, b7, b8, b9, b10, b11, b12, b13, b14, b15, b16, b17, b18, b19, b20, b21, b22, b23, b24, b25, b26⟩ := u
  exact (show gq_lt (sq_mu (b0, b1, b2, b3, b4, b5, b6, b7, b8, b9, b10, b11, b12, b13, b14, b15, b16, b17, b18, b19, b20, b21, b22, b23, b24, b25, b26) t) = b22 from rfl).trans (show b22 = gq_lt (b0, b1, b2, b3, b4, b5, b6, b7, b8, b9, b10, b11, b12, b13, b14, b15, b16, b17, b18, b19, b20, b21, b22, b23, b24, b25, b26) from rfl)
theorem gs_mu_li (u : St1) (t : Nat → Int32) : gq_li (sq_mu u t) = gq_li u := by
  obtain ⟨b0, b1, b2, b3, b4, b5, b6, b7, b8, b9, b10, b11, b12, b13, b14, b15, b16, b17, b18, b19, b20, b21, b22, b23, b24, b25, b26⟩ := u
  exact (show gq_li (sq_mu (b0, b1, b2, b3, b4, b5, b6, b7, b8, b9, b10, b11, b12, b13, b14, b15, b16, b17, b18, b19, b20, b21, b22, b23, b24, b25, b26) t) = b23 from rfl).trans (show b23 = gq_li (b0, b1, b2, b3, b4, b5, b6, b7, b8, b9, b10, b11, b12, b13, b14, b15, b16, b17, b18, b19, b20, b21, b22, b23, b24, b25, b26) from rfl)
theorem gs_mu_lu (u : St1) (t : Nat → Int32) : gq_lu (sq_mu u t) = gq_lu u := by
  obtain ⟨b0, b1, b2, b3, b4, b5, b6, b7, b8, b9, b10, b11, b12, b13, b14, b15, b16, b17, b18, b19, b20, b21, b22, b23, b24, b25, b26⟩ := u
  exact (show gq_lu (sq_mu (b0, b1, b2, b3, b4, b5, b6, b7, b8, b9, b10, b11, b12, b13, b14, b15, b16, b17, b18, b19, b20, b21, b22, b23, b24, b25, b26) t) = b24 from rfl).trans (show b24 = gq_lu (b0, b1, b2, b3, b4, b5, b6, b7, b8, b9, b10, b11, b12, b13, b14, b15, b16, b17, b18, b19, b20, b21, b22, b23, b24, b25, b26) from rfl)
theorem gs_mu_fx (u : St1) (t : Nat → Int32) : gq_fx (sq_mu u t) = gq_fx u := by
  obtain ⟨b0, b1, b2, b3, b4, b5, b6, b7, b8, b9, b10, b11, b12, b13, b14, b15, b16, b17, b18, b19, b20, b21, b22, b23, b24, b25, b26⟩ := u
  exact (show gq_fx (sq_mu (b0, b1, b2, b3, b4, b5, b6, b7, b8, b9, b10, b11, b12, b13, b14, b15, b16, b17, b18, b19, b20, b21, b22, b23, b24, b25, b26) t) = b25 from rfl).trans (show b25 = gq_fx (b0, b1, b2, b3, b4, b5, b6, b7, b8, b9, b10, b11, b12, b13, b14, b15, b16, b17, b18, b19, b20, b21, b22, b23, b24, b25, b26) from rfl)
theorem gs_mu_nd (u : St1) (t : Nat → Int32) : gq_nd (sq_mu u t) = gq_nd u := by
  obtain ⟨b0, b1, b2, b3, b4, b5, b6, b7, b8, b9, b10, b11, b12, b13, b14, b15, b16, b17, b18, b19, b20, b21, b22, b23, b24, b25, b26⟩ := u
  exact (show gq_nd (sq_mu (b0, b1, b2, b3, b4, b5, b6, b7, b8, b9, b10, b11, b12, b13, b14, b15, b16, b17, b18, b19, b20, b21, b22, b23, b24, b25, b26) t) = b26 from rfl).trans (show b26 = gq_nd (b0, b1, b2, b3, b4, b5, b6, b7, b8, b9, b10, b11, b12, b13, b14, b15, b16, b17, b18, b19, b20, b21, b22, b23, b24, b25, b26) from rfl)
theorem fss_mu (u : St1) (t : Nat → Int32) : fz_s (sq_mu u t) = fz_s u := by
  obtain ⟨b0, b1, b2, b3, b4, b5, b6, b7, b8, b9, b10, b11, b12, b13, b14, b15, b16, b17, b18, b19, b20, b21, b22, b23, b24, b25, b26⟩ := u
  exact (show fz_s (sq_mu (b0, b1, b2, b3, b4, b5, b6, b7, b8, b9, b10, b11, b12, b13, b14, b15, b16, b17, b18, b19, b20, b21, b22, b23, b24, b25, b26) t) = ((b0, b1, b2, 0, 0, 0, 0, 0, 0, b9, b10, b11, b12, b13, b14, b15, b16, b17, b18, (fun _ => 0), (fun _ => 0), (fun _ => 0), (fun _ => 0), (fun _ => 0), (fun _ => 0), b25, b26) : St1) from rfl).trans (show ((b0, b1, b2, 0, 0, 0, 0, 0, 0, b9, b10, b11, b12, b13, b14, b15, b16, b17, b18, (fun _ => 0), (fun _ => 0), (fun _ => 0), (fun _ => 0), (fun _ => 0), (fun _ => 0), b25, b26) : St1) = fz_s (b0, b1, b2, b3, b4, b5, b6, b7, b8, b9, b10, b11, b12, b13, b14, b15, b16, b17, b18, b19, b20, b21, b22, b23, b24, b25, b26) from rfl)
end
section
/-- v is what g is for all that agree with x from bit f on, or open -/
def sw_T (f x : Nat) (v : Int32) (g : Nat → Bool) : Prop := (v = -1 ∧ f ≠ 0) ∨ ∃ b, v = sv_b b ∧ ∀ y, (∀ k, f ≤ k → k < 8 → y.testBit k = x.testBit k) → g y = b
theorem sw_T_e {V : Nat → Nat → Bool} {mu : Nat → Int32} {f x e : Nat} (he : e < 2 ^ 31) (h : sw_T f x (mu (e / 2)) (V (e / 2))) : sw_T f x (sm_e mu e) (sv_e V e) := by
  rcases h with ⟨h1, h2⟩ | ⟨b, h1, h2⟩
  · exact Or.inl ⟨sm_e_open h1, h2⟩
  · refine Or.inr ⟨_, sm_e_b he h1, fun y hy => ?_⟩
    unfold sv_e
    rw [h2 y hy]
theorem fz_sc {u u' : St1} (h : fz_c u' = fz_c u) : fz_s u' = fz_s u := fz_st (fz_tc h)
theorem sd_wo53 {post : Int32 → St1 → Prop} {u : St1} {V : Nat → Nat → Bool} {P e f x l : Nat} {m0 : Nat → Int32} (hG : sg_G V P (gq_lf u) (gq_rt u)) (he : e < 2 * P) (hlc : gq_lc u = nI l) (hl : l < P) (hel : e / 2 ≤ l)
    (hce : gq_co u (e / 2) ≠ 0) (hcl : ss_C l (gq_co u) (gq_lf u) (gq_rt u)) (hm : ∀ p, p < 9 → p ≤ l → sw_T f x (m0 p) (V p))
    (H : ∀ m' r, sw_T f x r (sv_e V e) → post r (sq_mu u m')) : ∃ n, qq_workOut_53 post (nI e) n 9 (sq_mu u m0) := by
  have hP := hG.2.1
  refine loop_m (fun n (s : Nat × (Nat → Int32)) => qq_workOut_53 post (nI e) n (nI s.1) (sq_mu u s.2)) (fun s => 9 ≤ s.1 ∧ s.1 < 2562 ∧ ∀ p, p ≤ l → (p < 9 ∨ (p < s.1 ∧ gq_co u p ≠ 0)) → sw_T f x (s.2 p) (V p)) (fun s => l + 1 - s.1) ?_ (9, m0) ⟨Nat.le_refl 9, by show 9 < 2562; decide, fun p hp h => ?_⟩
  rotate_left 1
  · rcases h with z | ⟨z, _⟩
    · exact hm p z hp
    · exact hm p z hp
  rintro n ⟨j, m⟩ ⟨h9, hj2, hT⟩ ih
  have h9' : 9 ≤ j := h9
  have hj2' : j < 2562 := hj2
  have hT' : ∀ p, p ≤ l → (p < 9 ∨ (p < j ∧ gq_co u p ≠ 0)) → sw_T f x (m p) (V p) := hT
  show qq_workOut_53 post (nI e) (n + 1) (nI j) (sq_mu u m)
  refine cq_workOut_53 _ _ _ _ _ ?_
  rw [gs_mu_lc, gs_mu_co, gs_mu_lf, gs_mu_rt, hlc, nI_clamp (by omega)]
  have cas : ∀ q, q ≤ l → q < j → gq_co u q ≠ 0 → sw_T f x (m q) (V q) := by
    intro q hql hq hc
    exact hT' q hql (Or.inr ⟨hq, hc⟩)
  refine pk_lt l j (fun z => ?_) (fun z => ⟨vp_in_nI (by omega) (by decide), fun e0 => ?_, fun e0 => ?_⟩)
  · refine sd_mustEnd (by omega) ?_
    rw [gs_mu_mu]
    exact H m _ (sw_T_e (by omega) (cas (e / 2) hel (by omega) hce))
  · rintro _ rfl
    rw [nI_1]
    refine ih (j + 1, m) ⟨by show 9 ≤ j + 1; omega, by show j + 1 < 2562; omega, fun p hp h => hT' p hp ?_⟩ (by show l + 1 - (j + 1) < l + 1 - j; omega)
    rcases h with y | ⟨y1, y2⟩
    · exact Or.inl y
    · have y1' : p < j + 1 := y1
      have : p ≠ j := fun q => y2 (by rw [q]; exact e0)
      exact Or.inr ⟨by omega, y2⟩
  · obtain ⟨a, b, ea, eb, ha, hb, hV⟩ := hG.2.2.2.2 j h9' (by omega)
    obtain ⟨ca, cb⟩ := hcl j a b h9' z e0 ea eb ha hb
    have Ta := sw_T_e (V := V) (by omega) (cas (a / 2) (by omega) (by omega) ca)
    have Tb := sw_T_e (V := V) (by omega) (cas (b / 2) (by omega) (by omega) cb)
    rw [ea, eb]
    have next : ∀ v : Int32, sw_T f x v (V j) → qq_workOut_53 post (nI e) n (nI (j + 1)) (sq_mu u (upd m j v)) := by
      intro v hv
      refine ih (j + 1, upd m j v) ⟨by show 9 ≤ j + 1; omega, by show j + 1 < 2562; omega, fun p hp h => ?_⟩ (by show l + 1 - (j + 1) < l + 1 - j; omega)
      show sw_T f x (upd m j v p) (V p)
      by_cases ep : p = j
      · rw [ep, pk_us]; exact hv
      · rw [pk_un ep]
        refine hT' p hp ?_
        rcases h with y | ⟨y1, y2⟩
        · exact Or.inl y
        · have y1' : p < j + 1 := y1
          exact Or.inr ⟨by omega, y2⟩
    refine ⟨vp_in_nI (by omega) (by decide), sd_mustEnd (by omega) ⟨vp_in_nI (by omega) (by decide), sd_mustEnd (by omega) ?_⟩⟩
    rw [gs_mu_mu]
    generalize sm_e m a = ra at Ta
    generalize sm_e m b = rb at Tb
    have k0 : (ra = 0 ∨ rb = 0) → kk_workOut_113 post (qq_workOut_53 post (nI e) n) (nI e) (nI j) ra rb 1 (sq_mu u m) := by
      intro h0
      refine br_f (by decide) ⟨vp_in_nI (by omega) (by decide), ?_⟩
      rintro _ rfl _ rfl
      rw [nI_1, nI_clamp (by omega), gs_mu_mu, cs_mu, show (0 : Int32).toInt8.toInt32 = sv_b false by decide]
      refine next _ (Or.inr ⟨false, rfl, fun y hy => ?_⟩)
      rw [hV y]
      rcases h0 with h0 | h0
      · rcases Ta with ⟨t1, _⟩ | ⟨b', t1, t2⟩
        · rw [h0] at t1; exact absurd t1 (by decide)
        · rw [h0] at t1
          have : b' = false := (sv_b_0 b').mp t1.symm
          rw [t2 y hy, this]; rfl
      · rcases Tb with ⟨t1, _⟩ | ⟨b', t1, t2⟩
        · rw [h0] at t1; exact absurd t1 (by decide)
        · rw [h0] at t1
          have : b' = false := (sv_b_0 b').mp t1.symm
          rw [t2 y hy, this, Bool.and_false]
    refine ⟨fun z1 => k0 (Or.inl z1), fun z1 => ⟨fun z2 => k0 (Or.inr z2), fun z2 => ?_⟩⟩
    have one : ∀ {r : Int32} {g : Nat → Bool}, sw_T f x r g → r ≠ 0 → r ≠ 1 → f ≠ 0 := by
      intro r g hr n0 n1
      rcases hr with ⟨_, t⟩ | ⟨b', t1, _⟩
      · exact t
      · cases b'
        · exact absurd t1 n0
        · exact absurd t1 n1
    refine br_t rfl ⟨fun q1 => ⟨fun q2 => ⟨vp_in_nI (by omega) (by decide), ?_⟩, fun q2 => ⟨vp_in_nI (by omega) (by decide), ?_⟩⟩, fun q1 => ⟨vp_in_nI (by omega) (by decide), ?_⟩⟩
    · rintro _ rfl _ rfl
      rw [nI_1, nI_clamp (by omega), gs_mu_mu, cs_mu, show (1 : Int32).toInt8.toInt32 = sv_b true by decide]
      refine next _ (Or.inr ⟨true, rfl, fun y hy => ?_⟩)
      rw [hV y]
      rcases Ta with ⟨t1, _⟩ | ⟨b', t1, t2⟩
      · rw [q1] at t1; exact absurd t1 (by decide)
      · rcases Tb with ⟨s1, _⟩ | ⟨b2, s1, s2⟩
        · rw [q2] at s1; exact absurd s1 (by decide)
        · rw [q1] at t1
          rw [q2] at s1
          rw [t2 y hy, s2 y hy, (sv_b_1 b').mp t1.symm, (sv_b_1 b2).mp s1.symm]; rfl
    · rintro _ rfl _ rfl
      rw [nI_1, nI_clamp (by omega), gs_mu_mu, cs_mu, show ((-1 : Int32)).toInt8.toInt32 = -1 by decide]
      exact next _ (Or.inl ⟨rfl, one Tb z2 q2⟩)
    · rintro _ rfl _ rfl
      rw [nI_1, nI_clamp (by omega), gs_mu_mu, cs_mu, show ((-1 : Int32)).toInt8.toInt32 = -1 by decide]
      exact next _ (Or.inl ⟨rfl, one Ta z1 q1⟩)
theorem si_bitb {x k : Nat} (hx : x < 256) (hk : k < 8) : ((nI x >>> (nI k &&& 31)) &&& 1).toInt8.toInt32 = sv_b (x.testBit k) := by
  rw [si_bit (by omega) (by omega), Nat.testBit_eq_decide_div_mod_eq]
  rcases Nat.mod_two_eq_zero_or_one (x / 2 ^ k) with h | h <;> rw [h] <;> decide
theorem sd_workOut {post : Int32 → St1 → Prop} {u : St1} {V : Nat → Nat → Bool} {P e x f : Nat} (hG : sg_G V P (gq_lf u) (gq_rt u)) (he : e < 2 * P) (hx : x < 256) (hf : f ≤ 8)
    (H : ∀ u' r, fz_s u' = fz_s u → sw_T f x r (sv_e V e) → post r u') : wpX_workOut post u (nI e) (nI x) (nI f) := by
  have hP := hG.2.1
  refine cw_workOut _ _ _ _ _ (sd_concern hG he he (fun u1 l hf1 lc lP ol _ _ _ _ mu0 mu1 co1 _ hC => ?_))
  have hG1 : sg_G V P (gq_lf u1) (gq_rt u1) := by rw [fc_lf hf1, fc_rt hf1]; exact hG
  have key : ∃ n, qq_workOut_9 post (nI e) (nI x) n (nI f) (sq_mu u1 (gq_mu u1)) := by
    refine loop_m (fun n (s : Nat × (Nat → Int32)) => qq_workOut_9 post (nI e) (nI x) n (nI s.1) (sq_mu u1 s.2)) (fun s => f ≤ s.1 ∧ s.1 ≤ 8 ∧ s.2 0 = 0 ∧ ∀ i, i < 8 → i + 1 ≤ l → (f ≤ i → i < s.1 → s.2 (i + 1) = sv_b (x.testBit i)) ∧ (i < f → s.2 (i + 1) = -1)) (fun s => 8 - s.1) ?_ (f, gq_mu u1) ⟨Nat.le_refl f, hf, mu0, fun i i1 i2 => ⟨fun q1 q2 => absurd q2 (Nat.not_lt.mpr q1), fun _ => mu1 (i + 1) (by omega) i2⟩⟩
    rintro n ⟨k, m⟩ ⟨hk1, hk2, hm0, hm⟩ ih
    have hk1' : f ≤ k := hk1
    have hk2' : k ≤ 8 := hk2
    have hm0' : m 0 = 0 := hm0
    have hm' : ∀ i, i < 8 → i + 1 ≤ l → (f ≤ i → i < k → m (i + 1) = sv_b (x.testBit i)) ∧ (i < f → m (i + 1) = -1) := hm
    show qq_workOut_9 post (nI e) (nI x) (n + 1) (nI k) (sq_mu u1 m)
    refine cq_workOut_9 _ _ _ _ _ _ ?_
    have go : (∀ i, i < 8 → i + 1 ≤ l → i < k) → ∃ n, qq_workOut_53 post (nI e) n 9 (sq_mu u1 m) := by
      intro hall
      refine sd_wo53 (f := f) (x := x) hG1 he lc lP ol co1 hC (fun p hp hpl => ?_) (fun m' r hr => H _ r ?_ hr)
      · rcases Nat.eq_zero_or_pos p with z | z
        · rw [z, hm0']
          exact Or.inr ⟨false, rfl, fun y _ => hG.2.2.1 y⟩
        · obtain ⟨i, rfl⟩ : ∃ i, p = i + 1 := ⟨p - 1, by omega⟩
          obtain ⟨c1, c2⟩ := hm' i (by omega) hpl
          by_cases hif : f ≤ i
          · rw [c1 hif (hall i (by omega) hpl)]
            exact Or.inr ⟨_, rfl, fun y hy => by rw [hG.2.2.2.1 i (by omega) y]; exact hy i hif (by omega)⟩
          · rw [c2 (by omega)]
            exact Or.inl ⟨rfl, by omega⟩
      · exact (fss_mu u1 m').trans (fz_sc hf1)
    rw [gs_mu_lc, gs_mu_mu, lc, nI_1]
    refine pk_le 8 k (fun z => go (fun i i1 _ => by omega)) (fun z => pk_lt l (k + 1) (fun z2 => go (fun i _ i2 => by omega)) (fun z2 => ⟨vp_in_nI (by omega) (by decide), ?_⟩))
    rintro _ rfl _ rfl
    rw [nI_clamp (by omega), si_bitb hx (by omega), cs_mu]
    refine ih (k + 1, upd m (k + 1) (sv_b (x.testBit k))) ⟨by show f ≤ k + 1; omega, by show k + 1 ≤ 8; omega, ?_, fun i i1 i2 => ⟨fun q1 q2 => ?_, fun q1 => ?_⟩⟩ (by show 8 - (k + 1) < 8 - k; omega)
    · show upd m (k + 1) (sv_b (x.testBit k)) 0 = 0
      rw [pk_un (by omega)]; exact hm0'
    · show upd m (k + 1) (sv_b (x.testBit k)) (i + 1) = _
      have q2' : i < k + 1 := q2
      by_cases ei : i = k
      · rw [ei, pk_us]
      · rw [pk_un (by omega)]; exact (hm' i i1 i2).1 q1 (by omega)
    · show upd m (k + 1) (sv_b (x.testBit k)) (i + 1) = _
      rw [pk_un (by omega)]; exact (hm' i i1 i2).2 q1
  rw [ct_mu] at key
  exact key
/-! counting -/
def sn_cnt (g : Nat → Bool) : Nat → Nat
  | 0 => 0
  | n + 1 => sn_cnt g n + (if g n then 1 else 0)
theorem sn_cnt_le (g : Nat → Bool) : ∀ n, sn_cnt g n ≤ n := by
  intro n
  induction n with
  | zero => exact Nat.le_refl 0
  | succ n ih =>
    show sn_cnt g n + (if g n then 1 else 0) ≤ n + 1
    split <;> omega
theorem sn_cnt_block {g : Nat → Bool} {x : Nat} {b : Bool} : ∀ n, (∀ y, x ≤ y → y < x + n → g y = b) → sn_cnt g (x + n) = sn_cnt g x + (if b then n else 0) := by
  intro n
  induction n with
  | zero => intro _; split <;> rfl
  | succ n ih =>
    intro h
    have e := ih (fun y h1 h2 => h y h1 (by omega))
    show sn_cnt g (x + n) + (if g (x + n) then 1 else 0) = _
    rw [e, h (x + n) (by omega) (by omega)]
    cases b
    · rfl
    · rfl
/-- the next block's size -/
def sn_nf : Nat → Nat → Nat → Nat
  | 0, _, f => f
  | n + 1, x, f => if f < 8 ∧ x / 2 ^ f % 2 = 0 then sn_nf n x (f + 1) else f
def sn_Z (x f : Nat) : Nat := (if 0 < f ∨ x.testBit 0 then 0 else 1) + (if 1 < f ∨ x.testBit 1 then 0 else 1) + (if 2 < f ∨ x.testBit 2 then 0 else 1) + (if 3 < f ∨ x.testBit 3 then 0 else 1) + (if 4 < f ∨ x.testBit 4 then 0 else 1) + (if 5 < f ∨ x.testBit 5 then 0 else 1) + (if 6 < f ∨ x.testBit 6 then 0 else 1) + (if 7 < f ∨ x.testBit 7 then 0 else 1)
def sn_phi (x f : Nat) : Nat := 2 * (256 - x) - 1 - sn_Z x f
def sn_al (x f : Nat) : Bool := decide (f ≤ 8) && decide (x % 2 ^ f = 0) && decide (x + 2 ^ f ≤ 256)
def sn_c1 (x f : Nat) : Bool := !decide (x + 2 ^ f < 256) || (sn_al (x + 2 ^ f) (sn_nf (8 - f) (x + 2 ^ f) f) && decide (sn_phi (x + 2 ^ f) (sn_nf (8 - f) (x + 2 ^ f) f) + 1 ≤ sn_phi x f))
def sn_c2 (x f : Nat) : Bool := !decide (1 ≤ f) || (sn_al x (f - 1) && decide (sn_phi x (f - 1) + 1 ≤ sn_phi x f))
theorem sn_tab1 : ∀ x, x < 256 → ∀ f, f < 9 → (!sn_al x f || sn_c1 x f) = true := by decide +kernel
theorem sn_tab2 : ∀ x, x < 256 → ∀ f, f < 9 → (!sn_al x f || sn_c2 x f) = true := by decide +kernel
theorem sn_imp {a b : Bool} (h : (!a || b) = true) (ha : a = true) : b = true := by
  rw [ha] at h
  exact h
theorem sn_al_iff {x f : Nat} : sn_al x f = true ↔ f ≤ 8 ∧ x % 2 ^ f = 0 ∧ x + 2 ^ f ≤ 256 := by
  unfold sn_al
  constructor
  · intro h
    obtain ⟨h1, h3⟩ := Bool.and_eq_true_iff.mp h
    obtain ⟨h1, h2⟩ := Bool.and_eq_true_iff.mp h1
    exact ⟨of_decide_eq_true h1, of_decide_eq_true h2, of_decide_eq_true h3⟩
  · rintro ⟨h1, h2, h3⟩
    rw [decide_eq_true h1, decide_eq_true h2, decide_eq_true h3]; rfl
theorem sn_leaf {x f : Nat} (h : sn_al x f = true) (hx : x + 2 ^ f < 256) : sn_al (x + 2 ^ f) (sn_nf (8 - f) (x + 2 ^ f) f) = true ∧ sn_phi (x + 2 ^ f) (sn_nf (8 - f) (x + 2 ^ f) f) + 1 ≤ sn_phi x f := by
  have hf := (sn_al_iff.mp h).1
  have : 0 < 2 ^ f := Nat.two_pow_pos f
  have h1 := sn_imp (sn_tab1 x (by omega) f (by omega)) h
  unfold sn_c1 at h1
  obtain ⟨h2, h3⟩ := Bool.and_eq_true_iff.mp (sn_imp h1 (decide_eq_true hx))
  exact ⟨h2, of_decide_eq_true h3⟩
theorem sn_split {x f : Nat} (h : sn_al x f = true) (hf1 : 1 ≤ f) : sn_al x (f - 1) = true ∧ sn_phi x (f - 1) + 1 ≤ sn_phi x f := by
  obtain ⟨hf, _, hx⟩ := sn_al_iff.mp h
  have : 0 < 2 ^ f := Nat.two_pow_pos f
  have h1 := sn_imp (sn_tab2 x (by omega) f (by omega)) h
  unfold sn_c2 at h1
  obtain ⟨h2, h3⟩ := Bool.and_eq_true_iff.mp (sn_imp h1 (decide_eq_true hf1))
  exact ⟨h2, of_decide_eq_true h3⟩
end
section
/-- the wires -/
def sw_W (P n : Nat) (E Bf : Nat → Nat) (u : St1) : Prop := gq_cn u = nI n ∧ 8 ≤ n ∧ n ≤ 40 ∧ P ≤ 9 + 6 * (n - 8) ∧
  (∀ w, w < n → gq_en u w = nI (E w) ∧ E w < 2 * P ∧ gq_bf u w = nI (Bf w) ∧ 9 ≤ Bf w ∧ Bf w ≤ P ∧ Bf w ≤ 9 + 6 * (w - 8)) ∧
  (∀ w' w, w' < w → w < n → E w' < 2 * Bf w ∧ Bf w' ≤ Bf w)
/-- a good state -/
def sw_G (V : Nat → Nat → Bool) (P n : Nat) (E Bf : Nat → Nat) (u : St1) : Prop := sc_S V P u ∧ sg_C V P ∧ sw_W P n E Bf u
theorem fz_ws {u u' : St1} (h : fz_s u' = fz_s u) : fz_w u' = fz_w u := fz_wn (fz_ns h)
theorem sw_W_w {P n : Nat} {E Bf : Nat → Nat} {u u' : St1} (h : sw_W P n E Bf u) (hf : fz_w u' = fz_w u) : sw_W P n E Bf u' := by
  unfold sw_W
  rw [fw_cn hf, fw_en hf, fw_bf hf]
  exact h
theorem sw_G_s {V : Nat → Nat → Bool} {P n : Nat} {E Bf : Nat → Nat} {u u' : St1} (h : sw_G V P n E Bf u) (hf : fz_s u' = fz_s u) : sw_G V P n E Bf u' := ⟨sc_S_s h.1 hf, h.2.1, sw_W_w h.2.2 (fz_ws hf)⟩
theorem sd_isWire {post : Int32 → Prop} {u : St1} {V : Nat → Nat → Bool} {P n : Nat} {E Bf : Nat → Nat} {w : Nat} (h : sw_G V P n E Bf u) (hw : w < n) (H : post 1) : wpX_isWire post u (nI w) := by
  have h40 := h.2.2.2.2.1
  refine cw_isWire _ _ _ (br_f (nI_pos (by omega)) ?_)
  rw [h.2.2.1]
  exact br_f (nI_ge hw (by omega)) H
theorem sd_wires {post : Int32 → Prop} {u : St1} {V : Nat → Nat → Bool} {P n : Nat} {E Bf : Nat → Nat} (h : sw_G V P n E Bf u) (H : post (nI n)) : wpX_wires post u := by
  refine cw_wires _ _ ?_
  rw [h.2.2.1]
  exact H
theorem sd_c78 {post : Int32 → St1 → Prop} {J : Int32 → Int32 → Int32 → Int32 → St1 → Prop} {x1 x2 x5 : Int32} {u : St1} {x : Nat} (hx : x ≤ 256) : ∀ k f, f + k = 8 → J x2 (nI x) (nI (sn_nf k x f)) (x5 + 1) u → qq_count_78 post J x1 x2 (nI x) x5 (k + 1) (nI f) u := by
  intro k
  induction k with
  | zero =>
    intro f hf H
    have e : f = 8 := by omega
    subst e
    refine cq_count_78 _ _ _ _ _ _ _ _ _ (br_t (by decide) ?_)
    rintro _ rfl
    exact H
  | succ k ih =>
    intro f hf H
    have hf8 : f < 8 := by omega
    refine cq_count_78 _ _ _ _ _ _ _ _ _ (br_f (nI_ge (b := 8) hf8 (by decide)) ?_)
    rw [si_bit (by omega) (by omega)]
    have e : sn_nf (k + 1) x f = if f < 8 ∧ x / 2 ^ f % 2 = 0 then sn_nf k x (f + 1) else f := rfl
    rw [e] at H
    refine pk_eq (x / 2 ^ f % 2) 0 (fun z => ?_) (fun z => ?_)
    · rintro _ rfl
      rw [nI_1]
      rw [if_pos ⟨hf8, z⟩] at H
      exact ih (f + 1) (by omega) H
    · rintro _ rfl
      rw [if_neg (fun q => z q.2)] at H
      exact H
theorem si_shl {f : Nat} (b : Bool) (hf : f ≤ 8) : sv_b b <<< (nI f &&& 31) = nI (if b then 2 ^ f else 0) := by
  have h2 : 2 ^ f ≤ 2 ^ 8 := Nat.pow_le_pow_right (by decide) hf
  cases b
  · have := pk_shlN (n := 0) (nI f &&& 31) f (si_sl f (by omega)) (by omega)
    rw [Nat.zero_mul] at this
    exact this
  · have := pk_shlN (n := 1) (nI f &&& 31) f (si_sl f (by omega)) (by omega)
    rw [Nat.one_mul] at this
    exact this
theorem sn_agree {x y f : Nat} (h : x % 2 ^ f = 0) (h1 : x ≤ y) (h2 : y < x + 2 ^ f) : ∀ k, f ≤ k → k < 8 → y.testBit k = x.testBit k := by
  intro k hk _
  have e : y / 2 ^ f = x / 2 ^ f := by
    have hp : 0 < 2 ^ f := Nat.two_pow_pos f
    have hx : 2 ^ f * (x / 2 ^ f) = x := Nat.mul_div_cancel' (Nat.dvd_of_mod_eq_zero h)
    refine Nat.div_eq_of_lt_le ?_ ?_
    · rw [Nat.mul_comm]; omega
    · rw [Nat.succ_mul, Nat.mul_comm]; omega
  have t1 := Nat.testBit_div_two_pow (n := f) y (k - f)
  have t2 := Nat.testBit_div_two_pow (n := f) x (k - f)
  rw [show k - f + f = k by omega] at t1 t2
  rw [← t1, ← t2, e]
theorem sd_count {post : Int32 → St1 → Prop} {u : St1} {V : Nat → Nat → Bool} {P n : Nat} {E Bf : Nat → Nat} {w : Nat} (h : sw_G V P n E Bf u) (hw : w < n)
    (H : ∀ u', sw_G V P n E Bf u' → post (nI (sn_cnt (sv_e V (E w)) 256)) u') : wpX_count post u (nI w) := by
  have h40 := h.2.2.2.2.1
  refine cw_count _ _ _ (sd_isWire h hw (br_f (by decide) ?_))
  refine loop_m (fun m (s : Nat × Nat × Nat × St1) => qq_count_21 post (nI w) m (nI (sn_cnt (sv_e V (E w)) s.1)) (nI s.1) (nI s.2.1) (nI s.2.2.1) s.2.2.2)
    (fun s => fz_s s.2.2.2 = fz_s u ∧ s.2.2.1 ≤ 512 ∧ (s.1 = 256 ∨ (s.1 < 256 ∧ sn_al s.1 s.2.1 = true ∧ s.2.2.1 + sn_phi s.1 s.2.1 ≤ 511))) (fun s => 1024 - s.2.2.1) ?_ (0, 8, 0, u) ⟨rfl, by show 0 ≤ 512; omega, Or.inr ⟨by show 0 < 256; omega, by show sn_al 0 8 = true; decide, by show 0 + sn_phi 0 8 ≤ 511; decide⟩⟩
  rintro m ⟨x, f, r, z⟩ ⟨hf, hr, hx⟩ ih
  have hf' : fz_s z = fz_s u := hf
  have hr' : r ≤ 512 := hr
  have hx' : x = 256 ∨ (x < 256 ∧ sn_al x f = true ∧ r + sn_phi x f ≤ 511) := hx
  show qq_count_21 post (nI w) (m + 1) (nI (sn_cnt (sv_e V (E w)) x)) (nI x) (nI f) (nI r) z
  refine cq_count_21 _ _ _ _ _ _ _ _ (br_f (nI_ge (b := 1024) (by omega) (by decide)) ?_)
  have hz := sw_G_s h hf'
  rcases hx' with e | ⟨hx1, hal, hph⟩
  · rw [e]
    exact br_t (by decide) (H z hz)
  · refine br_f (nI_nlt (a := 255) (by omega) (by decide)) ⟨vp_in_nI (by omega) (by decide), ?_⟩
    obtain ⟨e1, e2, _⟩ := hz.2.2.2.2.2.2.1 w hw
    obtain ⟨hf8, hmod, hle⟩ := sn_al_iff.mp hal
    rw [nI_clamp (by omega), e1]
    refine sd_workOut hz.1.2.1 e2 hx1 hf8 (fun z1 v hf1 hv => ?_)
    have hf2 : fz_s z1 = fz_s u := hf1.trans hf'
    rcases hv with ⟨v1, v2⟩ | ⟨b, v1, v2⟩
    · rw [v1]
      refine br_t rfl ?_
      rintro _ rfl _ rfl
      rw [nI_1, sb_m1 (by omega)]
      obtain ⟨s1, s2⟩ := sn_split hal (by omega)
      exact ih (x, f - 1, r + 1, z1) ⟨hf2, by show r + 1 ≤ 512; omega, Or.inr ⟨hx1, s1, by show r + 1 + sn_phi x (f - 1) ≤ 511; omega⟩⟩ (by show 1024 - (r + 1) < 1024 - r; omega)
    · rw [v1]
      refine br_f (sv_b_ne b) ?_
      rw [si_shl b hf8, show ((1 : Int32) <<< (nI f &&& 31)) = nI (2 ^ f) from si_shl true hf8, nI_add, nI_add]
      rintro _ rfl _ rfl
      have blk := sn_cnt_block (g := sv_e V (E w)) (x := x) (b := b) (2 ^ f) (fun y h1 h2 => v2 y (sn_agree hmod h1 h2))
      rw [← blk]
      refine ⟨8 - f + 1, sd_c78 (by omega) (8 - f) f (by omega) ?_⟩
      rw [nI_1]
      refine ih (x + 2 ^ f, sn_nf (8 - f) (x + 2 ^ f) f, r + 1, z1) ⟨hf2, by show r + 1 ≤ 512; omega, ?_⟩ (by show 1024 - (r + 1) < 1024 - r; omega)
      by_cases e : x + 2 ^ f = 256
      · exact Or.inl e
      · have lt : x + 2 ^ f < 256 := by omega
        obtain ⟨s1, s2⟩ := sn_leaf hal lt
        exact Or.inr ⟨lt, s1, by show r + 1 + sn_phi (x + 2 ^ f) (sn_nf (8 - f) (x + 2 ^ f) f) ≤ 511; omega⟩
theorem sd_value {post : Int32 → St1 → Prop} {u : St1} {V : Nat → Nat → Bool} {P n : Nat} {E Bf : Nat → Nat} {w x : Nat} (h : sw_G V P n E Bf u) (hw : w < n) (hx : x < 256)
    (H : ∀ u', sw_G V P n E Bf u' → post (sv_b (sv_e V (E w) x)) u') : wpX_value post u (nI w) (nI x) := by
  have h40 := h.2.2.2.2.1
  obtain ⟨e1, e2, _⟩ := h.2.2.2.2.2.2.1 w hw
  refine cw_value _ _ _ _ (sd_isWire h hw (br_f (by decide) (br_f (nI_pos (by omega)) (br_f (nI_nlt (a := 255) (by omega) (by decide)) ⟨vp_in_nI (by omega) (by decide), ?_⟩))))
  rw [nI_clamp (by omega), e1]
  refine sd_workOut (f := 0) h.1.2.1 e2 hx (by decide) (fun u' r hf hv => ?_)
  rcases hv with ⟨_, v2⟩ | ⟨b, v1, v2⟩
  · exact absurd rfl v2
  · rw [v1, ← v2 x (fun _ _ _ => rfl)]
    exact H u' (sw_G_s h hf)
/-- the first wire of the same end -/
def sn_fst (E : Nat → Nat) (w : Nat) : Nat → Nat
  | 0 => w
  | k + 1 => if E (w - (k + 1)) = E w then w - (k + 1) else sn_fst E w k
theorem sn_fst_ok (E : Nat → Nat) (w : Nat) : ∀ k, k ≤ w → (∀ b, b < w - k → E b ≠ E w) → sn_fst E w k ≤ w ∧ E (sn_fst E w k) = E w ∧ ∀ b, b < sn_fst E w k → E b ≠ E w := by
  intro k
  induction k with
  | zero => intro _ h; exact ⟨Nat.le_refl w, rfl, fun b hb => h b hb⟩
  | succ k ih =>
    intro hk h
    show (if E (w - (k + 1)) = E w then w - (k + 1) else sn_fst E w k) ≤ w ∧ _
    by_cases e : E (w - (k + 1)) = E w
    · have es : sn_fst E w (k + 1) = w - (k + 1) := if_pos e
      rw [es, if_pos e]
      exact ⟨by omega, e, h⟩
    · have es : sn_fst E w (k + 1) = sn_fst E w k := if_neg e
      rw [es, if_neg e]
      refine ih (by omega) (fun b hb => ?_)
      by_cases eb : b = w - (k + 1)
      · rw [eb]; exact e
      · exact h b (by omega)
def sn_1 (E : Nat → Nat) (w : Nat) : Nat := sn_fst E w w
theorem sn_1_ok (E : Nat → Nat) (w : Nat) : sn_1 E w ≤ w ∧ E (sn_1 E w) = E w ∧ ∀ b, b < sn_1 E w → E b ≠ E w := sn_fst_ok E w w (Nat.le_refl w) (fun b hb => absurd hb (by omega))
theorem sd_first {post : Int32 → Prop} {u : St1} {V : Nat → Nat → Bool} {P n : Nat} {E Bf : Nat → Nat} {w : Nat} (h : sw_G V P n E Bf u) (hw : w < n) (H : post (nI (sn_1 E w))) : wpX_first post u (nI w) := by
  have h40 := h.2.2.2.2.1
  have hP : P ≤ 2560 := h.1.2.1.2.1
  obtain ⟨f1, f2, f3⟩ := sn_1_ok E w
  refine cw_first _ _ _ (sd_isWire h hw (br_f (by decide) ?_))
  have ee : ∀ b, b < n → gq_en u b = nI (E b) ∧ E b < 2 * P := fun b hb => ⟨(h.2.2.2.2.2.2.1 b hb).1, (h.2.2.2.2.2.2.1 b hb).2.1⟩
  refine pk_loop (σ := Unit) (fun m i _ => qq_first_12 post (nI w) m (nI i) u) (fun _ _ => True) (sn_1 E w) 0 () (Nat.zero_le _) trivial ?_ ?_
  · intro m _ _
    refine cq_first_12 _ _ _ _ _ ?_
    rw [nI_clamp (by omega), nI_clamp (by omega), (ee _ (by omega)).1, (ee w hw).1, f2]
    exact ⟨vp_in_nI (by omega) (by decide), vp_in_nI (by omega) (by decide), br_t rfl H⟩
  · intro m i _ hi _ ih
    refine cq_first_12 _ _ _ _ _ ?_
    have e1 := (ee i (by omega)).2
    have e2 := (ee w hw).2
    rw [nI_clamp (by omega), nI_clamp (by omega), (ee i (by omega)).1, (ee w hw).1]
    refine ⟨vp_in_nI (by omega) (by decide), vp_in_nI (by omega) (by decide), br_f (fun q => f3 i hi (si_inj (by omega) (by omega) q)) ?_⟩
    rintro _ rfl
    rw [nI_1]
    exact ih () trivial
section
variable {u : St1} {V : Nat → Nat → Bool} {P n : Nat} {E Bf : Nat → Nat} {a b : Nat}
theorem sw_E (h : sw_G V P n E Bf u) {w : Nat} (hw : w < n) : gq_en u w = nI (E w) ∧ E w < 2 * P ∧ P ≤ 2560 ∧ n ≤ 40 := ⟨(h.2.2.2.2.2.2.1 w hw).1, (h.2.2.2.2.2.2.1 w hw).2.1, h.1.2.1.2.1, h.2.2.2.2.1⟩
theorem sd_equal {post : Int32 → Prop} (h : sw_G V P n E Bf u) (ha : a < n) (hb : b < n) (H1 : E a = E b → post 1) (H0 : E a ≠ E b → post 0) : wpX_equal post u (nI a) (nI b) := by
  obtain ⟨a1, a2, hP, h40⟩ := sw_E h ha
  obtain ⟨b1, b2, _, _⟩ := sw_E h hb
  refine cw_equal _ _ _ _ (sd_isWire h ha (br_f (by decide) (sd_isWire h hb (br_f (by decide) ?_))))
  rw [nI_clamp (by omega), nI_clamp (by omega), a1, b1]
  exact ⟨vp_in_nI (by omega) (by decide), vp_in_nI (by omega) (by decide), pk_eq (E a) (E b) H1 H0⟩
theorem sd_opposite {post : Int32 → Prop} (h : sw_G V P n E Bf u) (ha : a < n) (hb : b < n) (H1 : E a = sv_ng (E b) → post 1) (H0 : E a ≠ sv_ng (E b) → post 0) : wpX_opposite post u (nI a) (nI b) := by
  obtain ⟨a1, a2, hP, h40⟩ := sw_E h ha
  obtain ⟨b1, b2, _, _⟩ := sw_E h hb
  have := sv_ng_lt b2
  refine cw_opposite _ _ _ _ (sd_isWire h ha (br_f (by decide) (sd_isWire h hb (br_f (by decide) ?_))))
  rw [nI_clamp (by omega), nI_clamp (by omega), a1, b1, si_ng]
  exact ⟨vp_in_nI (by omega) (by decide), vp_in_nI (by omega) (by decide), pk_eq (E a) (sv_ng (E b)) H1 H0⟩
theorem sd_constant {post : Int32 → Prop} (h : sw_G V P n E Bf u) (ha : a < n) (H1 : E a ≤ 1 → post (nI (E a))) (H0 : 1 < E a → post (-3)) : wpX_constant post u (nI a) := by
  obtain ⟨a1, a2, hP, h40⟩ := sw_E h ha
  refine cw_constant _ _ _ (sd_isWire h ha (br_f (by decide) ⟨vp_in_nI (by omega) (by decide), ?_⟩))
  rw [nI_clamp (by omega), a1]
  exact pk_lt 1 (E a) H0 (fun z => ⟨vp_in_nI (by omega) (by decide), H1 z⟩)
theorem sd_implies {post : Int32 → St1 → Prop} (h : sw_G V P n E Bf u) (ha : a < n) (hb : b < n)
    (H1 : ∀ u', sw_G V P n E Bf u' → (∀ x, x < 256 → sv_e V (E a) x = true → sv_e V (E b) x = true) → post 1 u')
    (H0 : ∀ u', sw_G V P n E Bf u' → (∃ x, x < 256 ∧ sv_e V (E a) x = true ∧ sv_e V (E b) x = false) → post 0 u') : wpX_implies post u (nI a) (nI b) := by
  obtain ⟨a1, a2, hP, h40⟩ := sw_E h ha
  obtain ⟨b1, b2, _, _⟩ := sw_E h hb
  refine cw_implies _ _ _ _ (sd_isWire h ha (br_f (by decide) (sd_isWire h hb (br_f (by decide) ⟨vp_in_nI (by omega) (by decide), vp_in_nI (by omega) (by decide), ?_⟩))))
  rw [nI_clamp (by omega), nI_clamp (by omega), a1, b1, si_ng]
  refine sd_search h.1.2.1 a2 (sv_ng_lt b2) (fun u' hf hno => br_t rfl (H1 u' (sw_G_s h (fz_st hf)) (fun x hx ht => ?_))) (fun u' x hf _ hx _ => br_f (by decide) (H0 u' (sw_G_s h hf) ⟨x, hx.1, hx.2.1, ?_⟩))
  · cases hz : sv_e V (E b) x
    · exact absurd ⟨hx, ht, by rw [sv_e_ng, hz]; rfl⟩ (hno x)
    · rfl
  · have := hx.2.2
    rw [sv_e_ng] at this
    cases hz : sv_e V (E b) x
    · rfl
    · rw [hz] at this; exact absurd this (by decide)
theorem sd_witness {post : Int32 → St1 → Prop} (h : sw_G V P n E Bf u) (ha : a < n)
    (H1 : ∀ u' x, sw_G V P n E Bf u' → x < 256 → sv_e V (E a) x = true → (∀ y, y < x → sv_e V (E a) y = false) → post (nI x) u')
    (H0 : ∀ u', sw_G V P n E Bf u' → (∀ x, x < 256 → sv_e V (E a) x = false) → post (-3) u') : wpX_witness post u (nI a) := by
  obtain ⟨a1, a2, hP, h40⟩ := sw_E h ha
  have h9 := h.1.2.1.1
  have e1 : ∀ x, sv_e V 1 x = true := fun x => by
    rw [sv_e_par1 (by decide)]
    show (!V 0 x) = true
    rw [h.1.2.1.2.2.1 x]; rfl
  refine cw_witness _ _ _ (sd_isWire h ha (br_f (by decide) ⟨vp_in_nI (by omega) (by decide), ?_⟩))
  rw [nI_clamp (by omega), a1]
  refine sd_search (o2 := 1) h.1.2.1 a2 (by omega) (fun u' hf hno => br_t rfl (H0 u' (sw_G_s h (fz_st hf)) (fun x hx => ?_))) (fun u' x hf hfa hx hl => br_f (by decide) ?_)
  · cases hz : sv_e V (E a) x
    · rfl
    · exact absurd ⟨hx, hz, e1 x⟩ (hno x)
  · rw [hfa]
    refine H1 u' x (sw_G_s h hf) hx.1 hx.2.1 (fun y hy => ?_)
    cases hz : sv_e V (E a) y
    · rfl
    · have := hl y ⟨by have := hx.1; omega, hz, e1 y⟩
      omega
theorem sd_differ {post : Int32 → St1 → Prop} (h : sw_G V P n E Bf u) (ha : a < n) (hb : b < n)
    (H1 : ∀ u' x, sw_G V P n E Bf u' → x < 256 → sv_e V (E a) x ≠ sv_e V (E b) x → post (nI x) u')
    (H0 : ∀ u', sw_G V P n E Bf u' → (∀ x, x < 256 → sv_e V (E a) x = sv_e V (E b) x) → post (-3) u') : wpX_differ post u (nI a) (nI b) := by
  obtain ⟨a1, a2, hP, h40⟩ := sw_E h ha
  obtain ⟨b1, b2, _, _⟩ := sw_E h hb
  -- the second search, with the first one's answer c (256: none)
  have second : ∀ c u1, sw_G V P n E Bf u1 → (c = 256 ∧ (∀ x, x < 256 → sv_e V (E a) x = true → sv_e V (E b) x = true) ∨ (c < 256 ∧ sv_e V (E a) c ≠ sv_e V (E b) c)) → kk_differ_49 post (nI a) (nI b) (nI c) u1 := by
    intro c u1 g1 hc
    obtain ⟨a1', _, _, _⟩ := sw_E g1 ha
    obtain ⟨b1', _, _, _⟩ := sw_E g1 hb
    refine ⟨vp_in_nI (by omega) (by decide), vp_in_nI (by omega) (by decide), ?_⟩
    rw [nI_clamp (by omega), nI_clamp (by omega), a1', b1', si_ng]
    have k95 : ∀ d u2, sw_G V P n E Bf u2 → d < 256 → sv_e V (E a) d ≠ sv_e V (E b) d → kk_differ_95 post (nI d) u2 := fun d u2 g2 hd hne => br_f (nI_nlt (a := 255) (by omega) (by decide)) (H1 u2 d g2 hd hne)
    refine sd_search g1.1.2.1 (sv_ng_lt a2) b2 (fun u2 hf hno => br_t rfl ?_) (fun u2 x hf hfa hx _ => br_f (by decide) ?_)
    · have g2 := sw_G_s g1 (fz_st hf)
      have none2 : ∀ x, x < 256 → sv_e V (E b) x = true → sv_e V (E a) x = true := by
        intro x hx ht
        cases hz : sv_e V (E a) x
        · exact absurd ⟨hx, by rw [sv_e_ng, hz]; rfl, ht⟩ (hno x)
        · rfl
      rcases hc with ⟨e, hi⟩ | ⟨hlt, hne⟩
      · rw [e]
        refine br_t (by decide) (br_t (by decide) (H0 u2 g2 (fun x hx => ?_)))
        cases hz : sv_e V (E a) x <;> cases hy : sv_e V (E b) x
        · rfl
        · have := none2 x hx hy
          rw [hz] at this; exact absurd this (by decide)
        · have := hi x hx hz
          rw [hy] at this; exact absurd this (by decide)
        · rfl
      · exact br_t (nI_le (b := 256) (by omega) (by decide)) (k95 c u2 g2 hlt hne)
    · have g2 := sw_G_s g1 hf
      rw [hfa]
      have hne : sv_e V (E a) x ≠ sv_e V (E b) x := by
        have t1 := hx.2.1
        rw [sv_e_ng] at t1
        rw [hx.2.2]
        cases hz : sv_e V (E a) x
        · decide
        · rw [hz] at t1; exact absurd t1 (by decide)
      have hx1 := hx.1
      have hc2 : c ≤ 256 := by
        rcases hc with ⟨e, _⟩ | ⟨e, _⟩ <;> omega
      refine pk_le c x (fun z => ?_) (fun z => k95 x u2 g2 hx.1 hne)
      rcases hc with ⟨e, _⟩ | ⟨hlt, hne'⟩
      · omega
      · exact k95 c u2 g2 hlt hne'
  refine cw_differ _ _ _ _ (sd_isWire h ha (br_f (by decide) (sd_isWire h hb (br_f (by decide) ⟨vp_in_nI (by omega) (by decide), vp_in_nI (by omega) (by decide), ?_⟩))))
  rw [nI_clamp (by omega), nI_clamp (by omega), a1, b1, si_ng]
  refine sd_search h.1.2.1 a2 (sv_ng_lt b2) (fun u1 hf hno => br_t rfl (second 256 u1 (sw_G_s h (fz_st hf)) (Or.inl ⟨rfl, fun x hx ht => ?_⟩))) (fun u1 x hf hfa hx _ => br_f (by decide) ?_)
  · cases hz : sv_e V (E b) x
    · exact absurd ⟨hx, ht, by rw [sv_e_ng, hz]; rfl⟩ (hno x)
    · rfl
  · rw [hfa]
    refine second x u1 (sw_G_s h hf) (Or.inr ⟨hx.1, ?_⟩)
    have t1 := hx.2.2
    rw [sv_e_ng] at t1
    rw [hx.2.1]
    cases hz : sv_e V (E b) x
    · decide
    · rw [hz] at t1; exact absurd t1 (by decide)
end
end
section
theorem sg_G_congr {V V' : Nat → Nat → Bool} {P : Nat} {lf rt : Nat → Int32} (h : sg_G V' P lf rt) (hV : ∀ p, p < P → ∀ x, V' p x = V p x) : sg_G V P lf rt := by
  obtain ⟨h1, h2, h3, h4, h5⟩ := h
  refine ⟨h1, h2, fun x => by rw [← hV 0 (by omega)]; exact h3 x, fun i hi x => by rw [← hV (i + 1) (by omega)]; exact h4 i hi x, fun p hp hpP => ?_⟩
  obtain ⟨a, b, k1, k2, k3, k4, k5⟩ := h5 p hp hpP
  exact ⟨a, b, k1, k2, k3, k4, fun x => by rw [← hV p hpP, k5 x, sv_e_congr hV (by omega), sv_e_congr hV (by omega)]⟩
theorem sc_S_congr {V V' : Nat → Nat → Bool} {P : Nat} {u : St1} (h : sc_S V' P u) (hV : ∀ p, p < P → ∀ x, V' p x = V p x) : sc_S V P u := by
  obtain ⟨h1, h2, h3, h4, h5⟩ := h
  exact ⟨h1, sg_G_congr h2 hV, h3, fun p hp k hk => by rw [← hV p hp]; exact h4 p hp k hk, h5⟩
/-- a state with parts for a while -/
def sw_M (V : Nat → Nat → Bool) (P n : Nat) (E Bf : Nat → Nat) (V' : Nat → Nat → Bool) (P' : Nat) (u : St1) : Prop := sc_S V' P' u ∧ sg_C V' P' ∧ P ≤ P' ∧ (∀ p, p < P → ∀ x, V' p x = V p x) ∧ sw_W P n E Bf u
theorem fz_wb {u u' : St1} (h : fz_b u' = fz_b u) : fz_w u' = fz_w u := fz_wn (fz_nb h)
section
variable {V : Nat → Nat → Bool} {P n : Nat} {E Bf : Nat → Nat}
theorem sw_M_s {V' : Nat → Nat → Bool} {P' : Nat} {u u' : St1} (h : sw_M V P n E Bf V' P' u) (hf : fz_s u' = fz_s u) : sw_M V P n E Bf V' P' u' := ⟨sc_S_s h.1 hf, h.2.1, h.2.2.1, h.2.2.2.1, sw_W_w h.2.2.2.2 (fz_ws hf)⟩
theorem sw_M_of {u : St1} (h : sw_G V P n E Bf u) : sw_M V P n E Bf V P u := ⟨h.1, h.2.1, Nat.le_refl P, fun _ _ _ => rfl, h.2.2⟩
theorem sd_fixT {post : Int32 → St1 → Prop} {u : St1} {V1 : Nat → Nat → Bool} {P1 e i : Nat} {v : Bool} (h : sw_M V P n E Bf V1 P1 u) (he : e < 2 * P1) (hi : i < 8) (hP : P1 + (e / 2 - 8) ≤ 2560)
    (H : ∀ u' V' P' r, sw_M V P n E Bf V' P' u' → P1 ≤ P' → P' ≤ P1 + (e / 2 - 8) → (∀ p, p < P1 → ∀ x, V' p x = V1 p x) → r < 2 * P' → (∀ x, x < 256 → sv_e V' r x = sv_e V1 e (sx_set x i v)) → post (nI r) u') :
    wpX_fix post u (nI e) (nI i) (sv_b v) := by
  obtain ⟨h1, h2, h3, h4, h5⟩ := h
  refine sd_fix h1 h2 he hi hP (fun u' V' P' r hY hP' hS hC hr hv => H u' V' P' r ⟨hS, hC, ?_, fun p hp x => ?_, sw_W_w h5 hY.1⟩ hY.2.1 hP' hY.2.2.1 hr hv)
  · have := hY.2.1; omega
  · rw [hY.2.2.1 p (by omega) x]; exact h4 p hp x
theorem sd_backT {post : St1 → Prop} {u : St1} {V1 : Nat → Nat → Bool} {P1 : Nat} (h : sw_M V P n E Bf V1 P1 u) (h9 : 9 ≤ P) (H : ∀ u', sw_G V P n E Bf u' → post u') : wpX_backTo post u (nI P) := by
  obtain ⟨h1, h2, h3, h4, h5⟩ := h
  exact sd_backTo h1 h9 h3 (fun u' hf hS => H u' ⟨sc_S_congr hS h4, sg_C_congr (sg_C_le h2 h3) (fun p hp x => (h4 p hp x).symm), sw_W_w h5 (fz_wb hf)⟩)
theorem sd_cof {K : Int32 → Int32 → St1 → Prop} {u : St1} {a i : Nat} (h : sw_G V P n E Bf u) (ha : a < n) (hi : i < 8)
    (HK : ∀ lo hh V2 P2 u2, sw_M V P n E Bf V2 P2 u2 → lo < 2 * P2 → hh < 2 * P2 → (∀ x, x < 256 → sv_e V2 lo x = sv_e V (E a) (sx_set x i false)) → (∀ x, x < 256 → sv_e V2 hh x = sv_e V (E a) (sx_set x i true)) → K (nI lo) (nI hh) u2) :
    wpX_fix (fun r5 u1 => vp_in (nI a) 40 ∧ wpX_fix (fun r70 u2 => K r5 r70 u2) u1 (gq_en u1 (nI a).toNatClampNeg) (nI i) 1) u (gq_en u (nI a).toNatClampNeg) (nI i) 0 := by
  obtain ⟨a1, a2, hP, h40⟩ := sw_E h ha
  have hPn := h.2.2.2.2.2.1
  have h8 := h.2.2.2.1
  rw [nI_clamp (by omega), a1]
  refine sd_fixT (v := false) (sw_M_of h) a2 hi (by omega) (fun u1 V1 P1 lo hM1 q1 q2 q3 q4 q5 => ⟨vp_in_nI (by omega) (by decide), ?_⟩)
  have e1 : gq_en u1 a = nI (E a) := (hM1.2.2.2.2.2.2.2.2.1 a ha).1
  rw [e1]
  refine sd_fixT (v := true) hM1 (by omega) hi (by omega) (fun u2 V2 P2 hh hM2 r1 r2 r3 r4 r5 => ?_)
  refine HK lo hh V2 P2 u2 hM2 (by omega) r4 (fun x hx => ?_) (fun x hx => ?_)
  · rw [sv_e_congr r3 q4]; exact q5 x hx
  · rw [r5 x hx, sv_e_congr q3 a2]
/-- does the end depend on the input -/
def sn_dep (V : Nat → Nat → Bool) (e i : Nat) : Bool := !(List.range 256).all (fun x => sv_e V e (sx_set x i false) == sv_e V e (sx_set x i true))
theorem sn_dep_iff {V : Nat → Nat → Bool} {e i : Nat} : sn_dep V e i = false ↔ ∀ x, x < 256 → sv_e V e (sx_set x i false) = sv_e V e (sx_set x i true) := by
  unfold sn_dep
  rw [Bool.not_eq_false', List.all_eq_true]
  constructor
  · intro h x hx
    exact beq_iff_eq.mp (h x (List.mem_range.mpr hx))
  · intro h x hx
    exact beq_iff_eq.mpr (h x (List.mem_range.mp hx))
theorem sn_dep_lo {V2 : Nat → Nat → Bool} {P2 e i lo hh : Nat} (hC : sg_C V2 P2) (hl : lo < 2 * P2) (hh2 : hh < 2 * P2) (v1 : ∀ x, x < 256 → sv_e V2 lo x = sv_e V e (sx_set x i false)) (v2 : ∀ x, x < 256 → sv_e V2 hh x = sv_e V e (sx_set x i true)) : lo = hh ↔ sn_dep V e i = false := by
  rw [sn_dep_iff]
  constructor
  · intro h x hx
    rw [← v1 x hx, ← v2 x hx, h]
  · intro h
    refine hC lo hh hl hh2 (fun x hx => ?_)
    rw [v1 x hx, v2 x hx]
    exact h x hx
theorem sd_depends {post : Int32 → St1 → Prop} {u : St1} {a : Nat} (h : sw_G V P n E Bf u) (ha : a < n) (H : ∀ u', sw_G V P n E Bf u' → post (nI (sx_num (sn_dep V (E a)) 8)) u') : wpX_depends post u (nI a) := by
  have h40 := h.2.2.2.2.1
  have h9 := h.1.2.1.1
  refine cw_depends _ _ _ (sd_isWire h ha (br_f (by decide) ?_))
  refine pk_loop (fun m i (w : St1) => qq_depends_14 post (nI a) m (nI (sx_num (sn_dep V (E a)) i)) (nI i) w) (fun _ w => sw_G V P n E Bf w) 8 0 u (by decide) h ?_ ?_
  · intro m w hw
    exact cq_depends_14 _ _ _ _ _ _ (br_t (by decide) (H w hw))
  · intro m i w hi hw ih
    refine cq_depends_14 _ _ _ _ _ _ (br_f (nI_ge (b := 8) hi (by decide)) ⟨vp_in_nI (by omega) (by decide), ?_⟩)
    have hlt := sx_num_lt (sn_dep V (E a)) i
    have hlt2 : 2 ^ i < 256 := Nat.lt_of_lt_of_le (Nat.pow_lt_pow_right (by decide) hi) (by decide)
    refine sd_cof hw ha hi (fun lo hh V2 P2 u2 hM l1 l2 v1 v2 => ?_)
    have hP2 : P2 ≤ 2560 := hM.1.2.1.2.1
    have D := sn_dep_lo hM.2.1 l1 l2 v1 v2
    rw [hw.1.1]
    have k69 : ∀ z0 : Int32, nI (sx_num (sn_dep V (E a)) i) ||| z0 = nI (sx_num (sn_dep V (E a)) (i + 1)) → kk_depends_69 post (qq_depends_14 post (nI a) m) (nI a) (nI i) (nI P) z0 (nI (sx_num (sn_dep V (E a)) i)) u2 := by
      intro z0 hz
      unfold kk_depends_69
      rw [hz, nI_1]
      rintro _ rfl
      refine sd_backT hM h9 (fun u' hu' => ?_)
      rintro _ rfl
      exact ih u' hu'
    have es : sx_num (sn_dep V (E a)) (i + 1) = sx_num (sn_dep V (E a)) i + (if sn_dep V (E a) i then 2 ^ i else 0) := rfl
    refine pk_eq lo hh (fun z => k69 0 ?_) (fun z => k69 _ ?_)
    · rw [es, D.mp z]
      exact si_or0 _ (by omega)
    · have : sn_dep V (E a) i = true := by
        cases hd : sn_dep V (E a) i
        · exact absurd (D.mpr hd) z
        · rfl
      rw [es, this, si_p2 i hi]
      exact si_orp i hi _ hlt
theorem sd_isInput {post : Int32 → Prop} {i : Nat} (hi : i < 8) (H : post 1) : wpX_isInput post () (nI i) := br_f (nI_pos (by omega)) (br_f (nI_ge (b := 8) hi (by decide)) H)
theorem sd_follows {post : Int32 → St1 → Prop} {u : St1} {a i : Nat} (h : sw_G V P n E Bf u) (ha : a < n) (hi : i < 8) (H : ∀ u' r, sw_G V P n E Bf u' → (r = 0 ↔ sn_dep V (E a) i = false) → post r u') : wpX_follows post u (nI a) (nI i) := by
  have h40 := h.2.2.2.2.1
  have h9 := h.1.2.1.1
  refine cw_follows _ _ _ _ (sd_isWire h ha (br_f (by decide) (sd_isInput hi (br_f (by decide) ⟨vp_in_nI (by omega) (by decide), ?_⟩))))
  refine sd_cof h ha hi (fun lo hh V2 P2 u2 hM l1 l2 v1 v2 => ?_)
  have hP2 : P2 ≤ 2560 := hM.1.2.1.2.1
  have D := sn_dep_lo hM.2.1 l1 l2 v1 v2
  rw [h.1.1]
  have k98 : ∀ (r : Int32) w, sw_M V P n E Bf V2 P2 w → (r = 0 ↔ sn_dep V (E a) i = false) → kk_follows_98 post (nI P) r w := fun r w hMw hr => sd_backT hMw h9 (fun u' hu' => H u' r hu' hr)
  refine pk_eq lo hh (fun z => k98 0 u2 hM ⟨fun _ => D.mp z, fun _ => rfl⟩) (fun z => ?_)
  have nd : ∀ r : Int32, r ≠ 0 → (r = 0 ↔ sn_dep V (E a) i = false) := fun r hr => ⟨fun q => absurd q hr, fun q => absurd (D.mpr q) z⟩
  rw [si_ng]
  have g1 := sv_ng_lt l1
  have g2 := sv_ng_lt l2
  have k79 : ∀ (z0 : Int32) w, sw_M V P n E Bf V2 P2 w → (z0 = 1 ∨ (z0 = 0 ∧ ∀ x, ¬ sl_S V2 hh (sv_ng lo) x)) → kk_follows_79 post (nI P) (nI lo) (nI hh) z0 w := by
    intro z0 w hMw hz
    unfold kk_follows_79
    rw [si_ng]
    refine sd_search hMw.1.2.1 l1 g2 (fun w1 hf hno => br_t rfl ?_) (fun w1 x hf _ hx _ => br_f (by decide) ?_)
    · have hM1 := sw_M_s hMw (fz_st hf)
      rcases hz with q | ⟨q, hno2⟩
      · rw [q]; exact k98 _ w1 hM1 (nd _ (by decide))
      · refine absurd (hM.2.1 lo hh l1 l2 (fun x hx => ?_)) z
        cases ha1 : sv_e V2 lo x <;> cases hb1 : sv_e V2 hh x
        · rfl
        · exact absurd ⟨hx, hb1, by rw [sv_e_ng, ha1]; rfl⟩ (hno2 x)
        · exact absurd ⟨hx, ha1, by rw [sv_e_ng, hb1]; rfl⟩ (hno x)
        · rfl
    · have hM1 := sw_M_s hMw hf
      rcases hz with q | ⟨q, _⟩
      · rw [q]; exact k98 _ w1 hM1 (nd _ (by decide))
      · rw [q]; exact k98 _ w1 hM1 (nd _ (by decide))
  exact sd_search hM.1.2.1 l2 g1 (fun w hf hno => br_t rfl (k79 0 w (sw_M_s hM (fz_st hf)) (Or.inr ⟨rfl, hno⟩))) (fun w x hf _ _ _ => br_f (by decide) (k79 1 w (sw_M_s hM hf) (Or.inl rfl)))
/-- may the inputs i and j be exchanged -/
def sn_sym (V : Nat → Nat → Bool) (e i j : Nat) : Prop := ∀ x, x < 256 → sv_e V e (sx_set (sx_set x j true) i false) = sv_e V e (sx_set (sx_set x j false) i true)
theorem sd_symmetric {post : Int32 → St1 → Prop} {u : St1} {a i j : Nat} (h : sw_G V P n E Bf u) (ha : a < n) (hi : i < 8) (hj : j < 8)
    (H1 : ∀ u', sw_G V P n E Bf u' → (i = j ∨ sn_sym V (E a) i j) → post 1 u') (H0 : ∀ u', sw_G V P n E Bf u' → i ≠ j → ¬ sn_sym V (E a) i j → post 0 u') : wpX_symmetric post u (nI a) (nI i) (nI j) := by
  obtain ⟨a1, a2, hP, h40⟩ := sw_E h ha
  have hPn := h.2.2.2.2.2.1
  have h8 := h.2.2.2.1
  have h9 := h.1.2.1.1
  refine cw_symmetric _ _ _ _ _ (sd_isWire h ha (br_f (by decide) (sd_isInput hi (br_f (by decide) (sd_isInput hj (br_f (by decide) (pk_eq i j (fun z => H1 u h (Or.inl z)) (fun z => ⟨vp_in_nI (by omega) (by decide), ?_⟩))))))))
  rw [nI_clamp (by omega), a1, h.1.1]
  refine sd_fixT (v := false) (sw_M_of h) a2 hi (by omega) (fun u1 V1 P1 e1 hM1 q1 q2 q3 q4 q5 => ?_)
  refine sd_fixT (v := true) hM1 q4 hj (by omega) (fun u2 V2 P2 e2 hM2 r1 r2 r3 r4 r5 => ⟨vp_in_nI (by omega) (by decide), ?_⟩)
  have en2 : gq_en u2 a = nI (E a) := (hM2.2.2.2.2.2.2.2.2.1 a ha).1
  rw [en2]
  have b2 : E a < 2 * P2 := by omega
  refine sd_fixT (v := true) hM2 b2 hi (by omega) (fun u3 V3 P3 e3 hM3 s1 s2 s3 s4 s5 => ?_)
  refine sd_fixT (v := false) hM3 s4 hj (by omega) (fun u4 V4 P4 e4 hM4 t1 t2 t3 t4 t5 => ?_)
  have f1 : ∀ x, x < 256 → sv_e V4 e2 x = sv_e V (E a) (sx_set (sx_set x j true) i false) := by
    intro x hx
    rw [sv_e_congr t3 (show e2 < 2 * P3 by omega), sv_e_congr s3 r4, r5 x hx, q5 _ (sx_set_lt x j true)]
  have f2 : ∀ x, x < 256 → sv_e V4 e4 x = sv_e V (E a) (sx_set (sx_set x j false) i true) := by
    intro x hx
    rw [t5 x hx, s5 _ (sx_set_lt x j false), sv_e_congr r3 (show E a < 2 * P1 by omega), sv_e_congr q3 a2]
  have hP4 : P4 ≤ 2560 := hM4.1.2.1.2.1
  refine sd_backT hM4 h9 (fun u' hu' => pk_eq e2 e4 (fun w => H1 u' hu' (Or.inr (fun x hx => ?_))) (fun w => H0 u' hu' z (fun hs => w ?_)))
  · rw [← f1 x hx, ← f2 x hx, w]
  · refine hM4.2.1 e2 e4 (by omega) t4 (fun x hx => ?_)
    rw [f1 x hx, f2 x hx]
    exact hs x hx
/-- how many wires are the first of their end -/
def sn_grp (E : Nat → Nat) (n : Nat) : Nat := sn_cnt (fun w => decide (sn_1 E w = w)) n
theorem sd_groups {post : Int32 → Prop} {u : St1} (h : sw_G V P n E Bf u) (H : post (nI (sn_grp E n))) : wpX_groups post u := by
  have h40 := h.2.2.2.2.1
  refine cw_groups _ _ ?_
  refine pk_loop (σ := Unit) (fun m i _ => qq_groups_4 post m (nI (sn_grp E i)) (nI i) u) (fun _ _ => True) n 0 () (Nat.zero_le n) trivial ?_ ?_
  · intro m _ _
    refine cq_groups_4 _ _ _ _ _ ?_
    rw [h.2.2.1]
    exact br_t (nI_le (Nat.le_refl n) (by omega)) H
  · intro m i _ hi _ ih
    refine cq_groups_4 _ _ _ _ _ ?_
    rw [h.2.2.1]
    refine br_f (nI_ge hi (by omega)) (sd_first h hi ?_)
    have hf := (sn_1_ok E i).1
    have es : sn_grp E (i + 1) = sn_grp E i + (if decide (sn_1 E i = i) then 1 else 0) := rfl
    have ih' := ih () trivial
    refine pk_eq (sn_1 E i) i (fun z => ?_) (fun z => ?_)
    · rintro _ rfl _ rfl
      rw [nI_1, nI_1]
      rw [es, if_pos (decide_eq_true z)] at ih'
      exact ih'
    · rintro _ rfl _ rfl
      rw [nI_1, show nI (sn_grp E i) + 0 = nI (sn_grp E i) from nI_add (sn_grp E i) 0]
      rw [es, if_neg (fun q => z (of_decide_eq_true q))] at ih'
      exact ih'
end
end
section
theorem cs_bf (u : St1) (s t : Nat → Int32) : sq_bf (sq_bf u s) t = sq_bf u t := by
  obtain ⟨b0, b1, b2, b3, b4, b5, b6, b7, b8, b9, b10, b11, b12, b13, b14, b15, b16, b17, b18, b19, b20, b21, b22, b23, b24, b25, b26⟩ := u
  exact (show sq_bf (sq_bf (b0, b1, b2, b3, b4, b5, b6, b7, b8, b9, b10, b11, b12, b13, b14, b15, b16, b17, b18, b19, b20, b21, b22, b23, b24, b25, b26) s) t = (b0, b1, b2, b3, b4, b5, b6, b7, b8, b9, t, b11, b12, b13, b14, b15, b16, b17, b18, b19, b20, b21, b22, b23, b24, b25, b26) from rfl).trans (show (b0, b1, b2, b3, b4, b5, b6, b7, b8, b9, t, b11, b12, b13, b14, b15, b16, b17, b18, b19, b20, b21, b22, b23, b24, b25, b26) = sq_bf (b0, b1, b2, b3, b4, b5, b6, b7, b8, b9, b10, b11, b12, b13, b14, b15, b16, b17, b18, b19, b20, b21, b22, b23, b24, b25, b26) t from rfl)
theorem ct_bf (u : St1) : sq_bf u (gq_bf u) = u := by
  obtain ⟨b0, b1, b2, b3, b4, b5, b6, b7, b8, b9, b10, b11, b12, b13, b14, b15, b16, b17, b18, b19, b20, b21, b22, b23, b24, b25, b26⟩ := u
  rfl
theorem gs_bf_cn (u : St1) (t : Nat → Int32) : gq_cn (sq_bf u t) = gq_cn u := by
  obtain ⟨b0, b1, b2, b3, b4, b5, b6, b7, b8, b9, b10, b11, b12, b13, b14, b15, b16, b17, b18, b19, b20, b21, b22, b23, b24, b25, b26⟩ := u
  exact (show gq_cn (sq_bf (b0, b1, b2, b3, b4, b5, b6, b7, b8, b9, b10, b11, b12, b13, b14, b15, b16, b17, b18, b19, b20, b21, b22, b23, b24, b25, b26) t) = b0 from rfl).trans (show b0 = gq_cn (b0, b1, b2, b3, b4, b5, b6, b7, b8, b9, b10, b11, b12, b13, b14, b15, b16, b17, b18, b19, b20, b21, b22, b23, b24, b25, b26) from rfl)
theorem gs_bf_pt (u : St1) (t : Nat → Int32) : gq_pt (sq_bf u t) = gq_pt u := by
  obtain ⟨b0, b1, b2, b3, b4, b5, b6, b7, b8, b9, b10, b11, b12, b13, b14, b15, b16, b17, b18, b19, b20, b21, b22, b23, b24, b25, b26⟩ := u
  exact (show gq_pt (sq_bf (b0, b1, b2, b3, b4, b5, b6, b7, b8, b9, b10, b11, b12, b13, b14, b15, b16, b17, b18, b19, b20, b21, b22, b23, b24, b25, b26) t) = b1 from rfl).trans (show b1 = gq_pt (b0, b1, b2, b3, b4, b5, b6, b7, b8, b9, b10, b11, b12, b13, b14, b15, b16, b17, b18, b19, b20, b21, b22, b23, b24, b25, b26) from rfl)
theorem gs_bf_pn (u : St1) (t : Nat → Int32) : gq_pn (sq_bf u t) = gq_pn u := by
  obtain ⟨b0, b1, b2, b3, b4, b5, b6, b7, b8, b9, b10, b11, b12, b13, b14, b15, b16, b17, b18, b19, b20, b21, b22, b23, b24, b25, b26⟩ := u
  exact (show gq_pn (sq_bf (b0, b1, b2, b3, b4, b5, b6, b7, b8, b9, b10, b11, b12, b13, b14, b15, b16, b17, b18, b19, b20, b21, b22, b23, b24, b25, b26) t) = b2 from rfl).trans (show b2 = gq_pn (b0, b1, b2, b3, b4, b5, b6, b7, b8, b9, b10, b11, b12, b13, b14, b15, b16, b17, b18, b19, b20, b21, b22, b23, b24, b25, b26) from rfl)
theorem gs_bf_lc (u : St1) (t : Nat → Int32) : gq_lc (sq_bf u t) = gq_lc u := by
  obtain ⟨b0, b1, b2, b3, b4, b5, b6, b7, b8, b9, b10, b11, b12, b13, b14, b15, b16, b17, b18, b19, b20, b21, b22, b23, b24, b25, b26⟩ := u
  exact (show gq_lc (sq_bf (b0, b1, b2, b3, b4, b5, b6, b7, b8, b9, b10, b11, b12, b13, b14, b15, b16, b17, b18, b19, b20, b21, b22, b23, b24, b25, b26) t) = b3 from rfl).trans (show b3 = gq_lc (b0, b1, b2, b3, b4, b5, b6, b7, b8, b9, b10, b11, b12, b13, b14, b15, b16, b17, b18, b19, b20, b21, b22, b23, b24, b25, b26) from rfl)
theorem gs_bf_cl (u : St1) (t : Nat → Int32) : gq_cl (sq_bf u t) = gq_cl u := by
  obtain ⟨b0, b1, b2, b3, b4, b5, b6, b7, b8, b9, b10, b11, b12, b13, b14, b15, b16, b17, b18, b19, b20, b21, b22, b23, b24, b25, b26⟩ := u
  exact (show gq_cl (sq_bf (b0, b1, b2, b3, b4, b5, b6, b7, b8, b9, b10, b11, b12, b13, b14, b15, b16, b17, b18, b19, b20, b21, b22, b23, b24, b25, b26) t) = b4 from rfl).trans (show b4 = gq_cl (b0, b1, b2, b3, b4, b5, b6, b7, b8, b9, b10, b11, b12, b13, b14, b15, b16, b17, b18, b19, b20, b21, b22, b23, b24, b25, b26) from rfl)
theorem gs_bf_mv (u : St1) (t : Nat → Int32) : gq_mv (sq_bf u t) = gq_mv u := by
  obtain ⟨b0, b1, b2, b3, b4, b5, b6, b7, b8, b9, b10, b11, b12, b13, b14, b15, b16, b17, b18, b19, b20, b21, b22, b23, b24, b25, b26⟩ := u
  exact (show gq_mv (sq_bf (b0, b1, b2, b3, b4, b5, b6, b7, b8, b9, b10, b11, b12, b13, b14, b15, b16, b17, b18, b19, b20, b21, b22, b23, b24, b25, b26) t) = b5 from rfl).trans (show b5 = gq_mv (b0, b1, b2, b3, b4, b5, b6, b7, b8, b9, b10, b11, b12, b13, b14, b15, b16, b17, b18, b19, b20, b21, b22, b23, b24, b25, b26) from rfl)
theorem gs_bf_ts (u : St1) (t : Nat → Int32) : gq_ts (sq_bf u t) = gq_ts u := by
  obtain ⟨b0, b1, b2, b3, b4, b5, b6, b7, b8, b9, b10, b11, b12, b13, b14, b15, b16, b17, b18, b19, b20, b21, b22, b23, b24, b25, b26⟩ := u
  exact (show gq_ts (sq_bf (b0, b1, b2, b3, b4, b5, b6, b7, b8, b9, b10, b11, b12, b13, b14, b15, b16, b17, b18, b19, b20, b21, b22, b23, b24, b25, b26) t) = b6 from rfl).trans (show b6 = gq_ts (b0, b1, b2, b3, b4, b5, b6, b7, b8, b9, b10, b11, b12, b13, b14, b15, b16, b17, b18, b19, b20, b21, b22, b23, b24, b25, b26) from rfl)
theorem gs_bf_lv (u : St1) (t : Nat → Int32) : gq_lv (sq_bf u t) = gq_lv u := by
  obtain ⟨b0, b1, b2, b3, b4, b5, b6, b7, b8, b9, b10, b11, b12, b13, b14, b15, b16, b17, b18, b19, b20, b21, b22, b23, b24, b25, b26⟩ := u
  exact (show gq_lv (sq_bf (b0, b1, b2, b3, b4, b5, b6, b7, b8, b9, b10, b11, b12, b13, b14, b15, b16, b17, b18, b19, b20, b21, b22, b23, b24, b25, b26) t) = b7 from rfl).trans (show b7 = gq_lv (b0, b1, b2, b3, b4, b5, b6, b7, b8, b9, b10, b11, b12, b13, b14, b15, b16, b17, b18, b19, b20, b21, b22, b23, b24, b25, b26) from rfl)
theorem gs_bf_fa (u : St1) (t : Nat → Int32) : gq_fa (sq_bf u t) = gq_fa u := by
  obtain ⟨b0, b1, b2, b3, b4, b5, b6, b7, b8, b9, b10, b11, b12, b13, b14, b15, b16, b17, b18, b19, b20, b21, b22, b23, b24, b25, b26⟩ := u
  exact (show gq_fa (sq_bf (b0, b1, b2, b3, b4, b5, b6, b7, b8, b9, b10, b11, b12, b13, b14, b15, b16, b17, b18, b19, b20, b21, b22, b23, b24, b25, b26) t) = b8 from rfl).trans (show b8 = gq_fa (b0, b1, b2, b3, b4, b5, b6, b7, b8, b9, b10, b11, b12, b13, b14, b15, b16, b17, b18, b19, b20, b21, b22, b23, b24, b25, b26) from rfl)
theorem gs_bf_en (u : St1) (t : Nat → Int32) : gq_en (sq_bf u t) = gq_en u := by
  obtain ⟨b0, b1, b2, b3, b4, b5, b6, b7, b8, b9, b10, b11, b12, b13, b14, b15, b16, b17, b18, b19, b20, b21, b22, b23, b24, b25, b26⟩ := u
  exact (show gq_en (sq_bf (b0, b1, b2, b3, b4, b5, b6, b7, b8, b9, b10, b11, b12, b13, b14, b15, b16, b17, b18, b19, b20, b21, b22, b23, b24, b25, b26) t) = b9 from rfl).trans (show b9 = gq_en (b0, b1, b2, b3, b4, b5, b6, b7, b8, b9, b10, b11, b12, b13, b14, b15, b16, b17, b18, b19, b20, b21, b22, b23, b24, b25, b26) from rfl)
theorem gs_bf_bf (u : St1) (t : Nat → Int32) : gq_bf (sq_bf u t) = t := rfl
theorem gs_bf_lf (u : St1) (t : Nat → Int32) : gq_lf (sq_bf u t) = gq_lf u := by
  obtain ⟨b0, b1, b2, b3, b4, b5, b6, b7, b8, b9, b10, b11, b12, b13, b14, b15, b16, b17, b18, b19, b20, b21, b22, b23, b24, b25, b26⟩ := u
  exact (show gq_lf (sq_bf (b0, b1, b2, b3, b4, b5, b6, b7, b8, b9, b10, b11, b12, b13, b14, b15, b16, b17, b18, b19, b20, b21, b22, b23, b24, b25, b26) t) = b11 from rfl).trans (show b11 = gq_lf (b0, b1, b2, b3, b4, b5, b6, b7, b8, b9, b10, b11, b12, b13, b14, b15, b16, b17, b18, b19, b20, b21, b22, b23, b24, b25, b26) from rfl)
theorem gs_bf_rt (u : St1) (t : Nat → Int32) : gq_rt (sq_bf u t) = gq_rt u := by
  obtain ⟨b0, b1, b2, b3, b4, b5, b6, b7, b8, b9, b10, b11, b12, b13, b14, b15, b16, b17, b18, b19, b20, b21, b22, b23, b24, b25, b26⟩ := u
  exact (show gq_rt (sq_bf (b0, b1, b2, b3, b4, b5, b6, b7, b8, b9, b10, b11, b12, b13, b14, b15, b16, b17, b18, b19, b20, b21, b22, b23, b24, b25, b26) t) = b12 from rfl).trans (show b12 = gq_rt (b0, b1, b2, b3, b4, b5, b6, b7, b8, b9, b10, b11, b12, b13, b14, b15, b16, b17, b18, b19, b20, b21, b22, b23, b24, b25, b26) from rfl)
theorem gs_bf_ph (u : St1) (t : Nat → Int32) : gq_ph (sq_bf u t) = gq_ph u := by
  obtain ⟨b0, b1, b2, b3, b4, b5, b6, b7, b8, b9, b10, b11, b12, b13, b14, b15, b16, b17, b18, b19, b20, b21, b22, b23, b24, b25, b26⟩ := u
  exact (show gq_ph (sq_bf (b0, b1, b2, b3, b4, b5, b6, b7, b8, b9, b10, b11, b12, b13, b14, b15, b16, b17, b18, b19, b20, b21, b22, b23, b24, b25, b26) t) = b13 from rfl).trans (show b13 = gq_ph (b0, b1, b2, b3, b4, b5, b6, b7, b8, b9, b10, b11, b12, b13, b14, b15, b16, b17, b18, b19, b20, b21, b22, b23, b24, b25, b26) from rfl)
theorem gs_bf_px (u : St1) (t : Nat → Int32) : gq_px (sq_bf u t) = gq_px u := by
  obtain ⟨b0, b1, b2, b3, b4, b5, b6, b7, b8, b9, b10, b11, b12, b13, b14, b15, b16, b17, b18, b19, b20, b21, b22, b23, b24, b25, b26⟩ := u
  exact (show gq_px (sq_bf (b0, b1, b2, b3, b4, b5, b6, b7, b8, b9, b10, b11, b12, b13, b14, b15, b16, b17, b18, b19, b20, b21, b22, b23, b24, b25, b26) t) = b14 from rfl).trans (show b14 = gq_px (b0, b1, b2, b3, b4, b5, b6, b7, b8, b9, b10, b11, b12, b13, b14, b15, b16, b17, b18, b19, b20, b21, b22, b23, b24, b25, b26) from rfl)
theorem gs_bf_pa (u : St1) (t : Nat → Int32) : gq_pa (sq_bf u t) = gq_pa u := by
  obtain ⟨b0, b1, b2, b3, b4, b5, b6, b7, b8, b9, b10, b11, b12, b13, b14, b15, b16, b17, b18, b19, b20, b21, b22, b23, b24, b25, b26⟩ := u
  exact (show gq_pa (sq_bf (b0, b1, b2, b3, b4, b5, b6, b7, b8, b9, b10, b11, b12, b13, b14, b15, b16, b17, b18, b19, b20, b21, b22, b23, b24, b25, b26) t) = b15 from rfl).trans (show b15 = gq_pa (b0, b1, b2, b3, b4, b5, b6, b7, b8, b9, b10, b11, b12, b13, b14, b15, b16, b17, b18, b19, b20, b21, b22, b23, b24, b25, b26) from rfl)
theorem gs_bf_lk (u : St1) (t : Nat → Int32) : gq_lk (sq_bf u t) = gq_lk u := by
  obtain ⟨b0, b1, b2, b3, b4, b5, b6, b7, b8, b9, b10, b11, b12, b13, b14, b15, b16, b17, b18, b19, b20, b21, b22, b23, b24, b25, b26⟩ := u
  exact (show gq_lk (sq_bf (b0, b1, b2, b3, b4, b5, b6, b7, b8, b9, b10, b11, b12, b13, b14, b15, b16, b17, b18, b19, b20, b21, b22, b23, b24, b25, b26) t) = b16 from rfl).trans (show b16 = gq_lk (b0, b1, b2, b3, b4, b5, b6, b7, b8, b9, b10, b11, b12, b13, b14, b15, b16, b17, b18, b19, b20, b21, b22, b23, b24, b25, b26) from rfl)
theorem gs_bf_lh (u : St1) (t : Nat → Int32) : gq_lh (sq_bf u t) = gq_lh u := by
  obtain ⟨b0, b1, b2, b3, b4, b5, b6, b7, b8, b9, b10, b11, b12, b13, b14, b15, b16, b17, b18, b19, b20, b21, b22, b23, b24, b25, b26⟩ := u
  exact (show gq_lh (sq_bf (b0, b1, b2, b3, b4, b5, b6, b7, b8, b9, b10, b11, b12, b13, b14, b15, b16, b17, b18, b19, b20, b21, b22, b23, b24, b25, b26) t) = b17 from rfl).trans (show b17 = gq_lh (b0, b1, b2, b3, b4, b5, b6, b7, b8, b9, b10, b11, b12, b13, b14, b15, b16, b17, b18, b19, b20, b21, b22, b23, b24, b25, b26) from rfl)
theorem gs_bf_lx (u : St1) (t : Nat → Int32) : gq_lx (sq_bf u t) = gq_lx u := by
  obtain ⟨b0, b1, b2, b3, b4, b5, b6, b7, b8, b9, b10, b11, b12, b13, b14, b15, b16, b17, b18, b19, b20, b21, b22, b23, b24, b25, b26⟩ := u
  exact (show gq_lx (sq_bf (b0, b1, b2, b3, b4, b5, b6, b7, b8, b9, b10, b11, b12, b13, b14, b15, b16, b17, b18, b19, b20, b21, b22, b23, b24, b25, b26) t) = b18 from rfl).trans (show b18 = gq_lx (b0, b1, b2, b3, b4, b5, b6, b7, b8, b9, b10, b11, b12, b13, b14, b15, b16, b17, b18, b19, b20, b21, b22, b23, b24, b25, b26) from rfl)
theorem gs_bf_co (u : St1) (t : Nat → Int32) : gq_co (sq_bf u t) = gq_co u := by
  obtain ⟨b0, b1, b2, b3, b4, b5, b6, b7, b8, b9, b10, b11, b12, b13, b14, b15, b16, b17, b18, b19, b20, b21, b22, b23, b24, b25, b26⟩ := u
  exact (show gq_co (sq_bf (b0, b1, b2, b3, b4, b5, b6, b7, b8, b9, b10, b11, b12, b13, b14, b15, b16, b17, b18, b19, b20, b21, b22, b23, b24, b25, b26) t) = b19 from rfl).trans (show b19 = gq_co (b0, b1, b2, b3, b4, b5, b6, b7, b8, b9, b10, b11, b12, b13, b14, b15, b16, b17, b18, b19, b20, b21, b22, b23, b24, b25, b26) from rfl)
theorem gs_bf_mu (u : St1) (t : Nat → Int32) : gq_mu (sq_bf u t) = gq_mu u := by
  obtain ⟨b0, b1, b2, b3, b4, b5, b6, b7, b8, b9, b10, b11, b12, b13, b14, b15, b16, b17, b18, b19, b20, b21, b22, b23, b24, b25, b26⟩ := u
  exact (show gq_mu (sq_bf (b0, b1, b2, b3, b4, b5, b6, b7, b8, b9, b10, b11, b12, b13, b14, b15, b16, b17, b18, b19, b20, b21, b22, b23, b24, b25, b26) t) = b20 from rfl).trans (show b20 = gq_mu (b0, b1, b2, b3, b4, b5, b6, b7, b8, b9, b10, b11, b12, b13, b14, b15, b16, b17, b18, b19, b20, b21, b22, b23, b24, b25, b26) from rfl)
theorem gs_bf_tr (u : St1) (t : Nat → Int32) : gq_tr (sq_bf u t) = gq_tr u := by
  obtain ⟨b0, b1, b2, b3, b4, b5, b6, b7, b8, b9, b10, b11, b12, b13, b14, b15, b16, b17, b18, b19, b20, b21, b22, b23, b24, b25, b26⟩ := u
  exact (show gq_tr (sq_bf (b0, b1, b2, b3, b4, b5, b6, b7, b8, b9, b10, b11, b12, b13, b14, b15, b16, b17, b18, b19, b20, b21, b22, b23, b24, b25, b26) t) = b21 from rfl).trans (show b21 = gq_tr (b0, b1, b2, b3, b4, b5, b6, b7, b8, b9, b10, b11, b12, b13, b14, b15, b16, b17, b18, b19, b20, b21, b22, b23, b24, b25, b26) from rfl)
theorem gs_bf_lt (u : St1) (t : Nat → Int32) : gq_lt (sq_bf u t) = gq_lt u := by
  obtain ⟨b0, b1, b2, b3, b4, b5, b6, b7, b8, b9, b10, b11, b12, b13, b14, b15, b16, b17, b18, b19, b20, b21, b22, b23, b24, b25, b26⟩ := u
  exact (show gq_lt (sq_bf (b0, b1, b2, b3, b4, b5, b6, b7, b8, b9, b10, b11, b12, b13, b14, b15, b16, b17, b18, b19, b20, b21, b22, b23, b24, b25, b26) t) = b22 from rfl).trans (show b22 = gq_lt (b0, b1, b2, b3, b4, b5, b6, b7, b8, b9, b10, b11, b12, b13, b14, b15, b16, b17, b18, b19, b20, b21, b22, b23, b24, b25, b26) from rfl)
theorem gs_bf_li (u : St1) (t : Nat → Int32) : gq_li (sq_bf u t) = gq_li u := by
  obtain ⟨b0, b1, b2, b3, b4, b5, b6, b7, b8, b9, b10, b11, b12, b13, b14, b15, b16, b17, b18, b19, b20, b21, b22, b23, b24, b25, b26⟩ := u
  exact (show gq_li (sq_bf (b0, b1, b2, b3, b4, b5, b6, b7, b8, b9, b10, b11, b12, b13, b14, b15, b16, b17, b18, b19, b20, b21, b22, b23, b24, b25, b26) t) = b23 from rfl).trans (show b23 = gq_li (b0, b1, b2, b3, b4, b5, b6, b7, b8, b9, b10, b11, b12, b13, b14, b15, b16, b17, b18, b19, b20, b21, b22, b23, b24, b25, b26) from rfl)
theorem gs_bf_lu (u : St1) (t : Nat → Int32) : gq_lu (sq_bf u t) = gq_lu u := by
  obtain ⟨b0, b1, b2, b3, b4, b5, b6, b7, b8, b9, b10, b11, b12, b13, b14, b15, b16, b17, b18, b19, b20, b21, b22, b23, b24, b25, b26⟩ := u
  exact (show gq_lu (sq_bf (b0, b1, b2, b3, b4, b5, b6, b7, b8, b9, b10, b11, b12, b13, b14, b15, b16, b17, b18, b19, b20, b21, b22, b23, b24, b25, b26) t) = b24 from rfl).trans (show b24 = gq_lu (b0, b1, b2, b3, b4, b5, b6, b7, b8, b9, b10, b11, b12, b13, b14, b15, b16, b17, b18, b19, b20, b21, b22, b23, b24, b25, b26) from rfl)
theorem gs_bf_fx (u : St1) (t : Nat → Int32) : gq_fx (sq_bf u t) = gq_fx u := by
  obtain ⟨b0, b1, b2, b3, b4, b5, b6, b7, b8, b9, b10, b11, b12, b13, b14, b15, b16, b17, b18, b19, b20, b21, b22, b23, b24, b25, b26⟩ := u
  exact (show gq_fx (sq_bf (b0, b1, b2, b3, b4, b5, b6, b7, b8, b9, b10, b11, b12, b13, b14, b15, b16, b17, b18, b19, b20, b21, b22, b23, b24, b25, b26) t) = b25 from rfl).trans (show b25 = gq_fx (b0, b1, b2, b3, b4, b5, b6, b7, b8, b9, b10, b11, b12, b13, b14, b15, b16, b17, b18, b19, b20, b21, b22, b23, b24, b25, b26) from rfl)
theorem gs_bf_nd (u : St1) (t : Nat → Int32) : gq_nd (sq_bf u t) = gq_nd u := by
  obtain ⟨b0, b1, b2, b3, b4, b5, b6, b7, b8, b9, b10, b11, b12, b13, b14, b15, b16, b17, b18, b19, b20, b21, b22, b23, b24, b25, b26⟩ := u
  exact (show gq_nd (sq_bf (b0, b1, b2, b3, b4, b5, b6, b7, b8, b9, b10, b11, b12, b13, b14, b15, b16, b17, b18, b19, b20, b21, b22, b23, b24, b25, b26) t) = b26 from rfl).trans (show b26 = gq_nd (b0, b1, b2, b3, b4, b5, b6, b7, b8, b9, b10, b11, b12, b13, b14, b15, b16, b17, b18, b19, b20, b21, b22, b23, b24, b25, b26) from rfl)
theorem fsk_bf (u : St1) (t : Nat → Int32) : fz_k (sq_bf u t) = fz_k u := by
  obtain ⟨b0, b1, b2, b3, b4, b5, b6, b7, b8, b9, b10, b11, b12, b13, b14, b15, b16, b17, b18, b19, b20, b21, b22, b23, b24, b25, b26⟩ := u
  exact (show fz_k (sq_bf (b0, b1, b2, b3, b4, b5, b6, b7, b8, b9, b10, b11, b12, b13, b14, b15, b16, b17, b18, b19, b20, b21, b22, b23, b24, b25, b26) t) = ((0, b1, b2, 0, 0, 0, 0, 0, 0, (fun _ => 0), (fun _ => 0), b11, b12, b13, b14, b15, b16, b17, b18, (fun _ => 0), (fun _ => 0), (fun _ => 0), (fun _ => 0), (fun _ => 0), (fun _ => 0), (fun _ => 0), (fun _ => 0)) : St1) from rfl).trans (show ((0, b1, b2, 0, 0, 0, 0, 0, 0, (fun _ => 0), (fun _ => 0), b11, b12, b13, b14, b15, b16, b17, b18, (fun _ => 0), (fun _ => 0), (fun _ => 0), (fun _ => 0), (fun _ => 0), (fun _ => 0), (fun _ => 0), (fun _ => 0)) : St1) = fz_k (b0, b1, b2, b3, b4, b5, b6, b7, b8, b9, b10, b11, b12, b13, b14, b15, b16, b17, b18, b19, b20, b21, b22, b23, b24, b25, b26) from rfl)
end
section
/-- what is asked behind a gate of at most k ANDs -/
def sc_T (k : Nat) (V : Nat → Nat → Bool) (P : Nat) (u : St1) (post : Int32 → St1 → Prop) : Prop := ∀ u' V' P' e, sc_X V V' P P' u u' → P' ≤ P + k → sc_S V' P' u' → sg_C V' P' → e < 2 * P' → post (nI e) u'
section
variable {V : Nat → Nat → Bool} {P a b c : Nat} {u : St1} {post : Int32 → St1 → Prop}
theorem sd_and2 (hS : sc_S V P u) (hC : sg_C V P) (ha : a < 2 * P) (hb : b < 2 * P) (hP : P + 1 ≤ 2560) (H : sc_T 1 V P u post) : wpX_and_2 post u (nI a) (nI b) := by
  rw [ce_and_2]
  exact sd_and hS hC ha hb (by omega) (fun u' V' P' e h1 h2 h3 h4 h5 _ => H u' V' P' e h1 h2 h3 h4 h5)
theorem sd_or (hS : sc_S V P u) (hC : sg_C V P) (ha : a < 2 * P) (hb : b < 2 * P) (hP : P + 1 ≤ 2560) (H : sc_T 1 V P u post) : wpX_or post u (nI a) (nI b) := by
  refine cw_or _ _ _ _ ?_
  rw [si_ng, si_ng]
  refine sd_and2 hS hC (sv_ng_lt ha) (sv_ng_lt hb) hP (fun u' V' P' e h1 h2 h3 h4 h5 => ?_)
  rw [si_ng]
  exact H u' V' P' _ h1 h2 h3 h4 (sv_ng_lt h5)
theorem sd_xor (hS : sc_S V P u) (hC : sg_C V P) (ha : a < 2 * P) (hb : b < 2 * P) (hP : P + 3 ≤ 2560) (H : sc_T 3 V P u post) : wpX_xor post u (nI a) (nI b) := by
  refine cw_xor _ _ _ _ ?_
  rw [si_ng, si_ng]
  have na := sv_ng_lt ha
  refine sd_and2 hS hC ha (sv_ng_lt hb) (by omega) (fun u1 V1 P1 e1 h1 h2 h3 h4 h5 => ?_)
  have p1 := h1.2.1
  refine sd_and2 h3 h4 (by omega) (by omega) (by omega) (fun u2 V2 P2 e2 k1 k2 k3 k4 k5 => ?_)
  have p2 := k1.2.1
  refine sd_or k3 k4 (by omega) k5 (by omega) (fun u3 V3 P3 e3 l1 l2 l3 l4 l5 => ?_)
  exact H u3 V3 P3 e3 (sc_X_trans h1 (sc_X_trans k1 l1)) (by omega) l3 l4 l5
theorem sd_choose (hS : sc_S V P u) (hC : sg_C V P) (ha : a < 2 * P) (hb : b < 2 * P) (hc : c < 2 * P) (hP : P + 3 ≤ 2560) (H : sc_T 3 V P u post) : wpX_choose post u (nI a) (nI b) (nI c) := by
  refine cw_choose _ _ _ _ _ ?_
  rw [si_ng]
  have na := sv_ng_lt ha
  refine sd_and2 hS hC ha hb (by omega) (fun u1 V1 P1 e1 h1 h2 h3 h4 h5 => ?_)
  have p1 := h1.2.1
  refine sd_and2 h3 h4 (by omega) (by omega) (by omega) (fun u2 V2 P2 e2 k1 k2 k3 k4 k5 => ?_)
  have p2 := k1.2.1
  refine sd_or k3 k4 (by omega) k5 (by omega) (fun u3 V3 P3 e3 l1 l2 l3 l4 l5 => ?_)
  exact H u3 V3 P3 e3 (sc_X_trans h1 (sc_X_trans k1 l1)) (by omega) l3 l4 l5
theorem sd_majority (hS : sc_S V P u) (hC : sg_C V P) (ha : a < 2 * P) (hb : b < 2 * P) (hc : c < 2 * P) (hP : P + 4 ≤ 2560) (H : sc_T 4 V P u post) : wpX_majority post u (nI a) (nI b) (nI c) := by
  refine cw_majority _ _ _ _ _ ?_
  refine sd_and2 hS hC ha hb (by omega) (fun u1 V1 P1 e1 h1 h2 h3 h4 h5 => ?_)
  have p1 := h1.2.1
  refine sd_or h3 h4 (by omega) (by omega) (by omega) (fun u2 V2 P2 e2 k1 k2 k3 k4 k5 => ?_)
  have p2 := k1.2.1
  refine sd_and2 k3 k4 k5 (by omega) (by omega) (fun u3 V3 P3 e3 l1 l2 l3 l4 l5 => ?_)
  have p3 := l1.2.1
  refine sd_or l3 l4 (by omega) l5 (by omega) (fun u4 V4 P4 e4 m1 m2 m3 m4 m5 => ?_)
  exact H u4 V4 P4 e4 (sc_X_trans h1 (sc_X_trans k1 (sc_X_trans l1 m1))) (by omega) m3 m4 m5
theorem sc_T_le {k k' : Nat} (hk : k ≤ k') (H : sc_T k' V P u post) : sc_T k V P u post := fun u' V' P' e h1 h2 h3 h4 h5 => H u' V' P' e h1 (by omega) h3 h4 h5
theorem sc_T_ng {k : Nat} (H : sc_T k V P u post) : sc_T k V P u (fun r u' => post (r ^^^ 1) u') := fun u' V' P' e h1 h2 h3 h4 h5 => by
  show post (nI e ^^^ 1) u'
  rw [si_ng]
  exact H u' V' P' _ h1 h2 h3 h4 (sv_ng_lt h5)
theorem sd_endFor {k : Nat} (hk : k < 10) (hS : sc_S V P u) (hC : sg_C V P) (ha : a < 2 * P) (hb : b < 2 * P) (hc : c < 2 * P) (hP : P + 6 ≤ 2560) (H : sc_T 6 V P u post) : wpX_endFor post u (nI k) (nI a) (nI b) (nI c) := by
  refine cw_endFor _ _ _ _ _ _ (br_f (nI_pos (by omega)) ?_)
  have x2 : wpX_xor (fun r u3 => wpX_xor (fun r' u4 => post r' u4) u3 r (nI c)) u (nI a) (nI b) := by
    refine sd_xor hS hC ha hb (by omega) (fun u1 V1 P1 e1 h1 h2 h3 h4 h5 => ?_)
    have p1 := h1.2.1
    refine sd_xor h3 h4 h5 (by omega) (by omega) (fun u2 V2 P2 e2 k1 k2 k3 k4 k5 => ?_)
    exact H u2 V2 P2 e2 (sc_X_trans h1 k1) (by omega) k3 k4 k5
  refine pk_lt 8 k (fun z => x2) (fun z => pk_eq k 0 (fun _ => ?_) (fun z0 => pk_eq k 1 (fun _ => ?_) (fun z1 => pk_eq k 2 (fun _ => ?_) (fun z2 => pk_eq k 3 (fun _ => ?_) (fun z3 => pk_eq k 4 (fun _ => ?_) (fun z4 => pk_eq k 5 (fun _ => ?_) (fun z5 => pk_eq k 6 (fun _ => ?_) (fun z6 => pk_eq k 7 (fun _ => ?_) (fun z7 => pk_eq k 8 (fun _ => ?_) (fun _ => trivial))))))))))
  · exact sd_and2 hS hC ha hb (by omega) (sc_T_le (by omega) H)
  · exact sd_or hS hC ha hb (by omega) (sc_T_le (by omega) H)
  · exact sd_xor hS hC ha hb (by omega) (sc_T_le (by omega) H)
  · exact sd_and2 hS hC ha hb (by omega) (sc_T_ng (sc_T_le (by omega) H))
  · exact sd_or hS hC ha hb (by omega) (sc_T_ng (sc_T_le (by omega) H))
  · exact sd_xor hS hC ha hb (by omega) (sc_T_ng (sc_T_le (by omega) H))
  · rw [si_ng]
    exact sd_and2 hS hC ha (sv_ng_lt hb) (by omega) (sc_T_ng (sc_T_le (by omega) H))
  · exact sd_choose hS hC ha hb hc (by omega) (sc_T_le (by omega) H)
  · exact sd_majority hS hC ha hb hc (by omega) (sc_T_le (by omega) H)
end
theorem gs_ce_en (u : St1) (c : Int32) (e : Nat → Int32) : gq_en (sq_cn_en u c e) = e := rfl
theorem gs_ce_cn (u : St1) (c : Int32) (e : Nat → Int32) : gq_cn (sq_cn_en u c e) = c := rfl
theorem gs_ce_bf (u : St1) (c : Int32) (e : Nat → Int32) : gq_bf (sq_cn_en u c e) = gq_bf u := rfl
theorem fsk_ce (u : St1) (c : Int32) (e : Nat → Int32) : fz_k (sq_cn_en u c e) = fz_k u := rfl
theorem fsk_cn (u : St1) (c : Int32) : fz_k (sq_cn u c) = fz_k u := rfl
theorem gs_cn_en (u : St1) (c : Int32) : gq_en (sq_cn u c) = gq_en u := rfl
theorem gs_cn_bf (u : St1) (c : Int32) : gq_bf (sq_cn u c) = gq_bf u := rfl
theorem gs_cn_cn (u : St1) (c : Int32) : gq_cn (sq_cn u c) = c := rfl
section
variable {V : Nat → Nat → Bool} {P n : Nat} {E Bf : Nat → Nat} {u : St1}
theorem sw_G_congr {V' : Nat → Nat → Bool} {E' Bf' : Nat → Nat} (h : sw_G V' P n E' Bf' u) (hV : ∀ p, p < P → ∀ x, V' p x = V p x) (hE : ∀ w, w < n → E' w = E w ∧ Bf' w = Bf w) : sw_G V P n E Bf u := by
  obtain ⟨h1, h2, h3, h4, h5, h6, h7, h8⟩ := h
  refine ⟨sc_S_congr h1 hV, sg_C_congr h2 (fun p hp x => (hV p hp x).symm), h3, h4, h5, h6, fun w hw => ?_, fun w' w hw' hw => ?_⟩
  · rw [← (hE w hw).1, ← (hE w hw).2]; exact h7 w hw
  · rw [← (hE w' (by omega)).1, ← (hE w' (by omega)).2, ← (hE w hw).2]; exact h8 w' w hw' hw
theorem sd_g72 {post : Int32 → St1 → Prop} {k a b c : Nat} (h : sw_G V P n E Bf u) (hk : k < 10) (ha : a < n) (hb : b < n) (hc : c < 2 * P) (hn : n < 40)
    (H : ∀ u' V' P' e, P ≤ P' → (∀ p, p < P → ∀ x, V' p x = V p x) → sw_G V' P' (n + 1) (fun w => if w = n then e else E w) (fun w => if w = n then P else Bf w) u' → post (nI n) u') : kk_gate_72 post (nI k) (nI a) (nI b) (nI c) u := by
  obtain ⟨a1, a2, hP, h40⟩ := sw_E h ha
  obtain ⟨b1, b2, _, _⟩ := sw_E h hb
  obtain ⟨hS, hC, w1, w2, w3, w4, w5, w6⟩ := h
  have hn0 : gq_cn u = nI n := w1
  unfold kk_gate_72
  rw [hn0, hS.1, nI_clamp (by omega), nI_clamp (by omega), nI_clamp (by omega), a1, b1, si_short (by omega)]
  refine ⟨vp_in_nI (by omega) (by decide), fun bf' ebf => ⟨vp_in_nI (by omega) (by decide), vp_in_nI (by omega) (by decide), ?_⟩⟩
  have hS0 : sc_S V P (sq_bf u bf') := sc_S_k hS (fsk_bf u bf')
  refine sd_endFor hk hS0 hC a2 b2 hc (by omega) (fun u1 V1 P1 e hX hP1 hS1 hC1 he => ⟨vp_in_nI (by omega) (by decide), fun en' een f' ef => ?_⟩)
  have hP2 : P1 ≤ 2560 := hS1.2.1.2.1
  have cn1 : gq_cn u1 = nI n := by rw [fn_cn hX.1, gs_bf_cn]; exact hn0
  have en1 : gq_en u1 = gq_en u := by rw [fn_en hX.1, gs_bf_en]
  have bf1 : gq_bf u1 = bf' := by rw [fn_bf hX.1, gs_bf_bf]
  rw [cn1, nI_1] at ef
  rw [en1, si_short (by omega)] at een
  rw [show f' - 1 = nI n by rw [ef]; exact nI_pred n]
  have pp := hX.2.1
  refine H _ V1 P1 e pp hX.2.2.1 ⟨sc_S_k hS1 (fsk_ce u1 f' en'), hC1, ?_⟩
  refine ⟨by rw [gs_ce_cn]; exact ef, by omega, by omega, by omega, fun w hw => ?_, fun w' w hw' hw => ?_⟩
  · rw [gs_ce_en, gs_ce_bf, bf1, een, ebf]
    by_cases ew : w = n
    · subst ew
      rw [pk_us, pk_us]
      show nI e = nI (if w = w then e else E w) ∧ (if w = w then e else E w) < 2 * P1 ∧ nI P = nI (if w = w then P else Bf w) ∧ 9 ≤ (if w = w then P else Bf w) ∧ (if w = w then P else Bf w) ≤ P1 ∧ (if w = w then P else Bf w) ≤ 9 + 6 * (w - 8)
      rw [if_pos rfl, if_pos rfl]
      exact ⟨rfl, he, rfl, hS.2.1.1, pp, w4⟩
    · rw [pk_un ew, pk_un ew]
      show gq_en u w = nI (if w = n then e else E w) ∧ (if w = n then e else E w) < 2 * P1 ∧ gq_bf u w = nI (if w = n then P else Bf w) ∧ 9 ≤ (if w = n then P else Bf w) ∧ (if w = n then P else Bf w) ≤ P1 ∧ (if w = n then P else Bf w) ≤ 9 + 6 * (w - 8)
      rw [if_neg ew, if_neg ew]
      obtain ⟨k1, k2, k3, k4, k5, k6⟩ := w5 w (by omega)
      exact ⟨k1, by omega, k3, k4, by omega, k6⟩
  · show (if w' = n then e else E w') < 2 * (if w = n then P else Bf w) ∧ (if w' = n then P else Bf w') ≤ (if w = n then P else Bf w)
    rw [if_neg (show ¬ w' = n by omega), if_neg (show ¬ w' = n by omega)]
    by_cases ew : w = n
    · rw [if_pos ew]
      obtain ⟨k1, k2, k3, k4, k5, k6⟩ := w5 w' (by omega)
      exact ⟨k2, k5⟩
    · rw [if_neg ew]
      exact w6 w' w hw' (by omega)
theorem sd_gate {post : Int32 → St1 → Prop} {k a b c : Nat} (h : sw_G V P n E Bf u) (hk : k < 10) (ha : a < n) (hb : b < n) (hc : c < n) (HF : n = 40 → post (-2) u)
    (H : n < 40 → ∀ u' V' P' e, P ≤ P' → (∀ p, p < P → ∀ x, V' p x = V p x) → sw_G V' P' (n + 1) (fun w => if w = n then e else E w) (fun w => if w = n then P else Bf w) u' → post (nI n) u') : wpX_gate post u (nI k) (nI a) (nI b) (nI c) := by
  obtain ⟨c1, c2, hP, h40⟩ := sw_E h hc
  have h9 := h.1.2.1.1
  have k43 : kk_gate_43 post (nI k) (nI a) (nI b) (nI c) u := by
    unfold kk_gate_43
    rw [show gq_cn u = nI n from h.2.2.1]
    refine pk_lt n 40 (fun z => pk_lt k 7 (fun _ => ?_) (fun _ => ⟨vp_in_nI (by omega) (by decide), ?_⟩)) (fun z => HF (by omega))
    · exact sd_g72 (c := 0) h hk ha hb (by omega) z (H z)
    · rw [nI_clamp (by omega), c1]
      exact sd_g72 h hk ha hb c2 z (H z)
  refine cw_gate _ _ _ _ _ _ (br_f (nI_pos (by omega)) (br_f (nI_nlt (a := 9) (by omega) (by decide)) (sd_isWire h ha (br_f (by decide) (sd_isWire h hb (br_f (by decide) (pk_lt k 7 (fun _ => k43) (fun _ => sd_isWire h hc (br_f (by decide) k43)))))))))
theorem sd_drop {post : Int32 → St1 → Prop} (h : sw_G V P n E Bf u) (H8 : n = 8 → post (-1) u) (H : 8 < n → ∀ u', sw_G V (Bf (n - 1)) (n - 1) E Bf u' → post (nI (n - 1)) u') : wpX_drop post u := by
  obtain ⟨hS, hC, w1, w2, w3, w4, w5, w6⟩ := h
  refine cw_drop _ _ ?_
  rw [w1]
  refine pk_eq n 8 H8 (fun z => ?_)
  obtain ⟨m, rfl⟩ : ∃ m, n = m + 1 := ⟨n - 1, by omega⟩
  intro f2 ef2
  rw [nI_pred] at ef2
  obtain ⟨k1, k2, k3, k4, k5, k6⟩ := w5 m (by omega)
  rw [ef2, nI_clamp (by omega), k3, ← ef2]
  refine ⟨by rw [ef2]; exact vp_in_nI (by omega) (by decide), ?_⟩
  refine sd_backTo (sc_S_k hS (fsk_cn u f2)) k4 k5 (fun u1 hf1 hS1 => ?_)
  have cn1 : gq_cn u1 = nI m := by rw [fb_cn hf1, gs_cn_cn]; exact ef2
  rw [cn1]
  refine H (by omega) u1 ⟨hS1, sg_C_le hC k5, cn1, by omega, by omega, k6, fun w hw => ?_, fun w' w hw' hw => w6 w' w hw' (by omega)⟩
  rw [fb_en hf1, fb_bf hf1, gs_cn_en, gs_cn_bf]
  obtain ⟨l1, l2, l3, l4, l5, l6⟩ := w5 w (by omega)
  obtain ⟨o1, o2⟩ := w6 w m hw (by omega)
  exact ⟨l1, o1, l3, l4, o2, l6⟩
end
end
section
def sz_u (pt : Int32) (en bf ph pa : Nat → Int32) (lk : Nat → Int64) (lh lx : Nat → Int32) : St1 :=
  (8, pt, 0, 0, 0, 0, 0, 0, 0, en, bf, (fun _ => 0), (fun _ => 0), ph, (fun _ => 0), pa, lk, lh, lx, (fun _ => 0), (fun _ => 0), (fun _ => 0), (fun _ => 0), (fun _ => 0), (fun _ => 0), (fun _ => 0), (fun _ => 0))
/-- the values of the inputs -/
def sz_V (p x : Nat) : Bool := if p = 0 then false else x.testBit (p - 1)
theorem sz_C0 : ∀ e, e < 18 → ∀ f, f < 18 → (e == f || !([0, 1, 2, 4, 8, 16, 32, 64, 128].all (fun x => sv_e sz_V e x == sv_e sz_V f x))) = true := by decide +kernel
theorem sz_C : sg_C sz_V 9 := by
  intro e f he hf hx
  have h := sz_C0 e he f hf
  rcases Bool.or_eq_true_iff.mp h with z | z
  · exact beq_iff_eq.mp z
  · exfalso
    have : [0, 1, 2, 4, 8, 16, 32, 64, 128].all (fun x => sv_e sz_V e x == sv_e sz_V f x) = true := by
      rw [List.all_eq_true]
      intro x hm
      refine beq_iff_eq.mpr (hx x ?_)
      simp only [List.mem_cons, List.not_mem_nil, or_false] at hm
      omega
    rw [this] at z
    exact absurd z (by decide)
theorem sz_G (lf rt : Nat → Int32) : sg_G sz_V 9 lf rt := ⟨Nat.le_refl 9, by decide, fun _ => rfl, fun i _ x => by
  show (if i + 1 = 0 then false else x.testBit (i + 1 - 1)) = x.testBit i
  rw [if_neg (by omega)]
  rfl, fun p h1 h2 => absurd h2 (by omega)⟩
theorem sd_init {post : St1 → Prop} (H : ∀ u, sw_G sz_V 9 8 (fun w => 2 * (w + 1)) (fun _ => 9) u → post u) : wpX_init post 18 27819 (0, 0, 0, 0, 0, 0, 0, 0, 0) := by
  have fin : ∀ en bf ph pa lk lh lx, (∀ w, w < 8 → en w = nI (2 * (w + 1)) ∧ bf w = nI 9) → (∀ m, m < 1024 → ph m = -1) → sk_P pa → sk_L sz_V 9 pa lk → st_ok (fun p => sk_ml (lk p)) 0 9 lh lx → post (sz_u 9 en bf ph pa lk lh lx) := by
    intro en bf ph pa lk lh lx h1 h2 h3 h4 h5
    refine H _ ⟨⟨rfl, sz_G _ _, h3, h4, st_0 h2, h5, 0, by decide, rfl⟩, sz_C, rfl, Nat.le_refl 8, by decide, by decide, fun w hw => ⟨(h1 w hw).1, ?_, (h1 w hw).2, Nat.le_refl 9, Nat.le_refl 9, by show 9 ≤ 9 + 6 * (w - 8); omega⟩, fun w' w hw' hw => ⟨?_, Nat.le_refl 9⟩⟩
    · show 2 * (w + 1) < 2 * 9
      omega
    · show 2 * (w' + 1) < 2 * 9
      omega
  have l242 : ∀ ph pa lk lh lx, (∀ m, m < 1024 → ph m = -1) → sk_P pa → sk_L sz_V 9 pa lk → st_ok (fun p => sk_ml (lk p)) 0 9 lh lx → ∃ n, qq_init_242 post 18 27819 18 27819 n 0 (sz_u 9 (fun _ => 0) (fun _ => 0) ph pa lk lh lx) := by
    intro ph pa lk lh lx h2 h3 h4 h5
    refine pk_loop (fun n i (s : (Nat → Int32) × (Nat → Int32)) => qq_init_242 post 18 27819 18 27819 n (nI i) (sz_u 9 s.1 s.2 ph pa lk lh lx)) (fun i s => ∀ w, w < i → s.1 w = nI (2 * (w + 1)) ∧ s.2 w = nI 9) 8 0 ((fun _ => 0), (fun _ => 0)) (by decide) (fun w hw => absurd hw (Nat.not_lt_zero w)) ?_ ?_
    · intro n s hs
      exact cq_init_242 _ _ _ _ _ _ _ _ (br_t (by decide) (fin s.1 s.2 ph pa lk lh lx hs h2 h3 h4 h5))
    · rintro n i ⟨en, bf⟩ hi hs ih
      have hs' : ∀ w, w < i → en w = nI (2 * (w + 1)) ∧ bf w = nI 9 := hs
      refine cq_init_242 _ _ _ _ _ _ _ _ (br_f (nI_ge (b := 8) hi (by decide)) ⟨vp_in_nI (by omega) (by decide), fun en' een => ⟨vp_in_nI (by omega) (by decide), fun bf' ebf => ?_⟩⟩)
      have een' : en' = upd en (nI i).toNatClampNeg ((2 * (nI i + 1)).toInt16.toInt32) := een
      have ebf' : bf' = upd bf (nI i).toNatClampNeg 9 := ebf
      rw [nI_clamp (by omega), nI_1, si_2, si_short (by omega)] at een'
      rw [nI_clamp (by omega)] at ebf'
      rintro _ rfl
      rw [nI_1]
      refine ih (en', bf') (fun w hw => ?_)
      show en' w = nI (2 * (w + 1)) ∧ bf' w = nI 9
      rw [een', ebf']
      by_cases e : w = i
      · rw [e, pk_us, pk_us]; exact ⟨rfl, rfl⟩
      · rw [pk_un e, pk_un e]; exact hs' w (by omega)
  have l199 : ∀ ph lh, (∀ m, m < 1024 → ph m = -1) → ∃ n, qq_init_199 post 18 27819 18 27819 n 0 0 (sz_u 0 (fun _ => 0) (fun _ => 0) ph (fun _ => 0) (fun _ => 0) lh (fun _ => 0)) := by
    intro ph lh h2
    refine pk_loop (fun n i (s : Int32 × (Nat → Int32)) => qq_init_199 post 18 27819 18 27819 n s.1 (nI i) (sz_u 0 (fun _ => 0) (fun _ => 0) ph s.2 (fun _ => 0) lh (fun _ => 0))) (fun i s => ∀ k, k < i → ∃ t, t < 256 ∧ s.2 k = nI t) 64 0 (0, (fun _ => 0)) (by decide) (fun k hk => absurd hk (Nat.not_lt_zero k)) ?_ ?_
    · rintro n ⟨x, pa⟩ hs
      have hs' : sk_P pa := hs
      refine cq_init_199 _ _ _ _ _ _ _ _ _ (br_t (by decide) ?_)
      refine sd_lookAgain (u := sq_pt (sz_u 0 (fun _ => 0) (fun _ => 0) ph pa (fun _ => 0) lh (fun _ => 0)) 9) (V := sz_V) (P := 9) rfl (sz_G _ _) hs' (fun lk' lh' lx' k1 k2 => ?_)
      have k1' : sk_L sz_V 9 pa lk' := k1
      exact l242 ph pa lk' lh' lx' h2 hs' k1' k2
    · rintro n i ⟨x, pa⟩ hi hs ih
      have hs' : ∀ k, k < i → ∃ t, t < 256 ∧ pa k = nI t := hs
      refine cq_init_199 _ _ _ _ _ _ _ _ _ (br_f (nI_ge (b := 64) hi (by decide)) (fun x' ex => ⟨vp_in_nI (by omega) (by decide), fun pa' epa => ?_⟩))
      obtain ⟨t, ht, et⟩ := pk_andE ((x * 5) + 77) (m := 255) 8 (by decide)
      have ex' : x' = nI t := ex.trans et
      have epa' : pa' = upd pa (nI i).toNatClampNeg (x'.toInt16.toInt32) := epa
      rw [nI_clamp (by omega), ex', si_short (by omega)] at epa'
      rintro _ rfl
      rw [nI_1]
      refine ih (x', pa') (fun k hk => ?_)
      show ∃ t, t < 256 ∧ pa' k = nI t
      rw [epa']
      by_cases e : k = i
      · exact ⟨t, ht, by rw [e, pk_us]⟩
      · rw [pk_un e]; exact hs' k (by omega)
  have l168 : ∃ n, qq_init_168 post 18 27819 18 27819 n 0 (sz_u 0 (fun _ => 0) (fun _ => 0) (fun _ => 0) (fun _ => 0) (fun _ => 0) (fun _ => 0) (fun _ => 0)) := by
    refine pk_loop (fun n i (s : (Nat → Int32) × (Nat → Int32)) => qq_init_168 post 18 27819 18 27819 n (nI i) (sz_u 0 (fun _ => 0) (fun _ => 0) s.1 (fun _ => 0) (fun _ => 0) s.2 (fun _ => 0))) (fun i s => ∀ m, m < i → s.1 m = -1) 1024 0 ((fun _ => 0), (fun _ => 0)) (by decide) (fun m hm => absurd hm (Nat.not_lt_zero m)) ?_ ?_
    · intro n s hs
      exact cq_init_168 _ _ _ _ _ _ _ _ (br_t (by decide) (l199 s.1 s.2 hs))
    · rintro n i ⟨ph, lh⟩ hi hs ih
      have hs' : ∀ m, m < i → ph m = -1 := hs
      refine cq_init_168 _ _ _ _ _ _ _ _ (br_f (nI_ge (b := 1024) hi (by decide)) ⟨vp_in_nI (by omega) (by decide), fun ph' eph => ⟨vp_in_nI (by omega) (by decide), fun lh' elh => ?_⟩⟩)
      have eph' : ph' = upd ph (nI i).toNatClampNeg (-1) := eph
      rw [nI_clamp (by omega)] at eph'
      rintro _ rfl
      rw [nI_1]
      refine ih (ph', lh') (fun m hm => ?_)
      show ph' m = -1
      rw [eph']
      by_cases e : m = i
      · rw [e, pk_us]
      · rw [pk_un e]; exact hs' m (by omega)
  refine ⟨by decide, by decide, by decide, by decide, by decide, by decide, by decide, by decide, by decide, by decide, by decide, by decide, by decide, by decide, by decide, by decide, by decide, by decide, by decide, by decide, by decide, by decide, by decide, by decide, by decide, by decide, by decide, by decide, by decide, by decide, by decide, by decide, by decide, by decide, by decide, by decide, ?_⟩
  exact l168
end
section
theorem sn_1_eq {E : Nat → Nat} {a b : Nat} : sn_1 E a = sn_1 E b ↔ E a = E b := by
  obtain ⟨a1, a2, a3⟩ := sn_1_ok E a
  obtain ⟨b1, b2, b3⟩ := sn_1_ok E b
  constructor
  · intro h
    rw [← a2, h, b2]
  · intro h
    rcases Nat.lt_trichotomy (sn_1 E a) (sn_1 E b) with z | z | z
    · exact absurd (a2.trans h) (b3 _ z)
    · exact z
    · exact absurd (b2.trans h.symm) (a3 _ z)
theorem sn_cnt_not (g : Nat → Bool) : ∀ n, sn_cnt (fun y => !g y) n + sn_cnt g n = n := by
  intro n
  induction n with
  | zero => rfl
  | succ n ih =>
    show sn_cnt (fun y => !g y) n + (if !g n then 1 else 0) + (sn_cnt g n + (if g n then 1 else 0)) = n + 1
    cases g n
    · show sn_cnt (fun y => !g y) n + 1 + (sn_cnt g n + 0) = n + 1
      omega
    · show sn_cnt (fun y => !g y) n + 0 + (sn_cnt g n + 1) = n + 1
      omega
theorem sn_cnt_congr {f g : Nat → Bool} : ∀ n, (∀ x, x < n → f x = g x) → sn_cnt f n = sn_cnt g n := by
  intro n
  induction n with
  | zero => intro _; rfl
  | succ n ih =>
    intro h
    show sn_cnt f n + (if f n then 1 else 0) = sn_cnt g n + (if g n then 1 else 0)
    rw [ih (fun x hx => h x (by omega)), h n (by omega)]
theorem sn_cnt_full {g : Nat → Bool} : ∀ n, sn_cnt g n = n ↔ ∀ x, x < n → g x = true := by
  intro n
  induction n with
  | zero => exact ⟨fun _ x hx => absurd hx (Nat.not_lt_zero x), fun _ => rfl⟩
  | succ n ih =>
    have le := sn_cnt_le g n
    constructor
    · intro h
      have h' : sn_cnt g n + (if g n then 1 else 0) = n + 1 := h
      cases hg : g n
      · rw [hg] at h'
        have : sn_cnt g n + 0 = n + 1 := h'
        omega
      · rw [hg] at h'
        have e : sn_cnt g n + 1 = n + 1 := h'
        intro x hx
        by_cases ex : x = n
        · rw [ex]; exact hg
        · exact ih.mp (by omega) x (by omega)
    · intro h
      show sn_cnt g n + (if g n then 1 else 0) = n + 1
      rw [h n (by omega), ih.mpr (fun x hx => h x (by omega))]
      rfl
section
variable {V : Nat → Nat → Bool} {P n : Nat} {E Bf : Nat → Nat} {u : St1} {post : Int32 → St1 → Prop} {a b : Nat}
theorem sw_same (h : sw_G V P n E Bf u) (ha : a < n) (hb : b < n) : (∀ x, x < 256 → sv_e V (E a) x = sv_e V (E b) x) ↔ E a = E b :=
  ⟨fun hx => h.2.1 _ _ (sw_E h ha).2.1 (sw_E h hb).2.1 hx, fun e x _ => by rw [e]⟩
theorem sd_p129 {x4 : Int32} (h : sw_G V P n E Bf u) (ha : a < n) (hb : b < n) (hx : x4 = -3 ∨ ∃ x, x4 = nI x ∧ x < 256 ∧ sv_e V (E a) x ≠ sv_e V (E b) x) (H : ∀ u', sw_G V P n E Bf u' → post 1 u') : kk_pair_129L post (nI a) (nI b) x4 u := by
  unfold kk_pair_129L
  rcases hx with e | ⟨x, e, hx, hne⟩
  · rw [e]
    exact br_t (by decide) (H u h)
  · rw [e]
    refine br_f (nI_pos (by omega)) (sd_value h ha hx (fun u1 h1 => sd_value h1 hb hx (fun u2 h2 => br_f (fun q => hne (sv_b_inj q)) (H u2 h2))))
theorem sd_p109 {x4 : Int32} (h : sw_G V P n E Bf u) (ha : a < n) (hb : b < n) (hx : x4 = -3 ∨ ∃ x, x4 = nI x ∧ x < 256 ∧ sv_e V (E a) x ≠ sv_e V (E b) x) (H : ∀ u', sw_G V P n E Bf u' → post 1 u') :
    kk_pair_109L post (nI a) (nI b) x4 (nI (sn_cnt (sv_e V (E a)) 256)) (nI (sn_cnt (sv_e V (E b)) 256)) u := by
  have k := sd_p129 h ha hb hx H
  refine sd_opposite h ha hb (fun e => br_f (by decide) (br_t ?_ k)) (fun _ => br_t rfl k)
  have e2 : sn_cnt (sv_e V (E a)) 256 = sn_cnt (fun y => !sv_e V (E b) y) 256 := sn_cnt_congr 256 (fun x _ => by rw [e, sv_e_ng])
  rw [nI_add, e2, sn_cnt_not]
  rfl
theorem sd_p52 {r1 x4 z0 : Int32} (h : sw_G V P n E Bf u) (ha : a < n) (hb : b < n)
    (hx : (E a = E b ∧ x4 = -3 ∧ r1 = 1 ∧ z0 = 1) ∨ (E a ≠ E b ∧ r1 = 0 ∧ z0 = 0 ∧ ∃ x, x4 = nI x ∧ x < 256 ∧ sv_e V (E a) x ≠ sv_e V (E b) x)) (H : ∀ u', sw_G V P n E Bf u' → post 1 u') :
    kk_pair_52L post (nI a) (nI b) r1 x4 (nI (sn_cnt (sv_e V (E a)) 256)) (nI (sn_cnt (sv_e V (E b)) 256)) z0 u := by
  have f1 := (sn_1_ok E a).1
  have f2 := (sn_1_ok E b).1
  have h40 := (sw_E h ha).2.2.2
  rcases hx with ⟨e, e4, e1, e0⟩ | ⟨e, e1, e0, x, e4, hx, hne⟩
  · rw [e1, e0]
    refine br_t e4 (br_t rfl (sd_first h ha (sd_first h hb (br_t (by rw [sn_1_eq.mpr e]) ?_))))
    exact br_t rfl (br_t rfl (br_f (by decide) (br_t (by rw [e]) (sd_p109 h ha hb (Or.inl e4) H))))
  · rw [e1, e0]
    refine br_f (fun q => by rw [e4] at q; exact absurd q (fun q' => by
      have := nI_pos (show x < 2 ^ 31 by omega)
      rw [q'] at this
      exact this (by decide))) (br_t rfl (sd_first h ha (sd_first h hb (br_f (fun q => e (sn_1_eq.mp (si_inj (by omega) (by omega) q))) ?_))))
    exact br_t rfl (br_t rfl (br_t rfl (sd_p109 h ha hb (Or.inr ⟨x, e4, hx, hne⟩) H)))
theorem sd_pair (h : sw_G V P n E Bf u) (ha : a < n) (hb : b < n) (H : ∀ u', sw_G V P n E Bf u' → post 1 u') : wpL_pair post u (nI a) (nI b) := by
  refine cw_Lpair _ _ _ _ ?_
  have S := sw_same h ha hb
  -- behind equal and differ: the three further calls
  have tail : ∀ r1 r2 u1, sw_G V P n E Bf u1 → ((E a = E b ∧ r2 = -3 ∧ r1 = 1) ∨ (E a ≠ E b ∧ r1 = 0 ∧ ∃ x, r2 = nI x ∧ x < 256 ∧ sv_e V (E a) x ≠ sv_e V (E b) x)) →
      wpX_count (fun r_66 u2 => wpX_count (fun r_130 u3 => wpX_implies (fun r_194 u4 => (r_194 = 0 → kk_pair_51L post (nI a) (nI b) r1 r2 r_66 r_130 u4) ∧ (¬ r_194 = 0 → wpX_implies (fun r_401 u5 => (r_401 = 0 → kk_pair_51L post (nI a) (nI b) r1 r2 r_66 r_130 u5) ∧ (¬ r_401 = 0 → kk_pair_52L post (nI a) (nI b) r1 r2 r_66 r_130 1 u5)) u4 (nI b) (nI a))) u3 (nI a) (nI b)) u2 (nI b)) u1 (nI a) := by
    intro r1 r2 u1 h1 hr
    refine sd_count h1 ha (fun u2 h2 => sd_count h2 hb (fun u3 h3 => ?_))
    have no : (∃ x, x < 256 ∧ sv_e V (E a) x ≠ sv_e V (E b) x) → ∀ w, sw_G V P n E Bf w → kk_pair_51L post (nI a) (nI b) r1 r2 (nI (sn_cnt (sv_e V (E a)) 256)) (nI (sn_cnt (sv_e V (E b)) 256)) w := by
      rintro ⟨x, hx, hne⟩ w hw
      refine sd_p52 hw ha hb ?_ H
      rcases hr with ⟨e, _, _⟩ | ⟨e, e1, ex⟩
      · exact absurd (S.mpr e x hx) hne
      · exact Or.inr ⟨e, e1, rfl, ex⟩
    refine sd_implies h3 ha hb (fun u4 h4 hi => br_f (by decide) ?_) (fun u4 h4 hi => br_t rfl (no ?_ u4 h4))
    · refine sd_implies h4 hb ha (fun u5 h5 hj => br_f (by decide) ?_) (fun u5 h5 hj => br_t rfl (no ?_ u5 h5))
      · have e : E a = E b := S.mp (fun x hx => by
          cases hA : sv_e V (E a) x <;> cases hB : sv_e V (E b) x
          · rfl
          · rw [hj x hx hB] at hA; exact absurd hA (by decide)
          · rw [hi x hx hA] at hB; exact absurd hB (by decide)
          · rfl)
        refine sd_p52 h5 ha hb ?_ H
        rcases hr with ⟨e', e2, e1⟩ | ⟨e', _⟩
        · exact Or.inl ⟨e, e2, e1, rfl⟩
        · exact absurd e e'
      · obtain ⟨x, hx, k1, k2⟩ := hj
        exact ⟨x, hx, by rw [k1, k2]; decide⟩
    · obtain ⟨x, hx, k1, k2⟩ := hi
      exact ⟨x, hx, by rw [k1, k2]; decide⟩
  refine sd_equal h ha hb (fun e => ?_) (fun e => ?_)
  · refine sd_differ h ha hb (fun u1 x h1 hx hne => absurd (S.mpr e x hx) hne) (fun u1 h1 _ => ?_)
    exact tail 1 (-3) u1 h1 (Or.inl ⟨e, rfl, rfl⟩)
  · refine sd_differ h ha hb (fun u1 x h1 hx hne => ?_) (fun u1 h1 hs => absurd (S.mp hs) e)
    exact tail 0 (nI x) u1 h1 (Or.inr ⟨e, rfl, x, rfl, hx, hne⟩)
theorem sx_set_comm {x i j : Nat} {p q : Bool} (h : i ≠ j) : sx_set (sx_set x i p) j q = sx_set (sx_set x j q) i p := by
  refine Nat.eq_of_testBit_eq (fun k => ?_)
  by_cases hk : k < 8
  · rw [sx_set_bit _ _ _ hk, sx_set_bit _ _ _ hk, sx_set_bit _ _ _ hk, sx_set_bit _ _ _ hk]
    by_cases e1 : k = i
    · by_cases e2 : k = j
      · exact absurd (e1.symm.trans e2) h
      · rw [if_pos e1, if_neg e2, if_pos e1]
    · rw [if_neg e1, if_neg e1]
  · have b1 : (2 : Nat) ^ 8 ≤ 2 ^ k := Nat.pow_le_pow_right (by decide) (by omega)
    rw [Nat.testBit_lt_two_pow (Nat.lt_of_lt_of_le (sx_set_lt _ j q) b1), Nat.testBit_lt_two_pow (Nat.lt_of_lt_of_le (sx_set_lt _ i p) b1)]
theorem sn_sym_comm {e i j : Nat} (h : i ≠ j) (hs : sn_sym V e i j) : sn_sym V e j i := by
  intro x hx
  rw [sx_set_comm (p := true) (q := false) h, sx_set_comm (p := false) (q := true) h]
  exact (hs x hx).symm
end
end
section
section
variable {V : Nat → Nat → Bool} {P n : Nat} {E Bf : Nat → Nat} {u : St1} {post : Int32 → St1 → Prop} {a i j : Nat}
theorem sw_const1 (h : sw_G V P n E Bf u) (ha : a < n) : E a = 1 ↔ sn_cnt (sv_e V (E a)) 256 = 256 := by
  have h9 := h.1.2.1.1
  have e1 : ∀ x, sv_e V 1 x = true := fun x => by
    rw [sv_e_par1 (by decide)]
    show (!V 0 x) = true
    rw [h.1.2.1.2.2.1 x]; rfl
  rw [sn_cnt_full]
  constructor
  · intro e x _
    rw [e]; exact e1 x
  · intro hx
    exact h.2.1 _ _ (sw_E h ha).2.1 (by omega) (fun x hx' => by rw [hx x hx', e1 x])
theorem sw_const0 (h : sw_G V P n E Bf u) (ha : a < n) : E a = 0 ↔ ∀ x, x < 256 → sv_e V (E a) x = false := by
  have h9 := h.1.2.1.1
  have e0 : ∀ x, sv_e V 0 x = false := fun x => by
    rw [sv_e_par0 rfl]
    exact h.1.2.1.2.2.1 x
  constructor
  · intro e x _
    rw [e]; exact e0 x
  · intro hx
    exact h.2.1 _ _ (sw_E h ha).2.1 (by omega) (fun x hx' => by rw [hx x hx', e0 x])
theorem sd_w199 (h : sw_G V P n E Bf u) (ha : a < n) (hi : i < 8) (hj : j < 8) (z : Int32) (H : ∀ u', sw_G V P n E Bf u' → post 1 u') : kk_wire_199L post (nI a) (nI i) (nI j) z z u := by
  refine br_t rfl ?_
  have third : ∀ u2, sw_G V P n E Bf u2 → wpX_symmetric (fun r_331 u3 => (r_331 = 0 → post 0 u3) ∧ (¬ r_331 = 0 → post 1 u3)) u2 (nI a) (nI i) (nI i) := fun u2 h2 =>
    sd_symmetric h2 ha hi hi (fun u3 h3 _ => br_f (by decide) (H u3 h3)) (fun u3 h3 hne _ => absurd rfl hne)
  refine sd_symmetric h ha hi hj (fun u1 h1 hs => ?_) (fun u1 h1 hne hs => ?_)
  · refine sd_symmetric h1 ha hj hi (fun u2 h2 _ => br_t rfl (third u2 h2)) (fun u2 h2 hne hs2 => ?_)
    rcases hs with e | s
    · exact absurd e.symm hne
    · exact absurd (sn_sym_comm (fun q => hne q.symm) s) hs2
  · refine sd_symmetric h1 ha hj hi (fun u2 h2 hs2 => ?_) (fun u2 h2 _ _ => br_t rfl (third u2 h2))
    rcases hs2 with e | s
    · exact absurd e.symm hne
    · exact absurd (sn_sym_comm (fun q => hne q.symm) s) hs
/-- what the witness is -/
def sn_wit (V : Nat → Nat → Bool) (e : Nat) (r : Int32) : Prop := (r = -3 ∧ ∀ x, x < 256 → sv_e V e x = false) ∨ ∃ x, r = nI x ∧ x < 256 ∧ sv_e V e x = true ∧ ∀ y, y < x → sv_e V e y = false
theorem sd_wend {x5 x6 : Int32} (h : sw_G V P n E Bf u) (ha : a < n) (hi : i < 8) (hj : j < 8) (h5 : (E a ≤ 1 ∧ x5 = nI (E a)) ∨ (1 < E a ∧ x5 = -3)) (h6 : sn_wit V (E a) x6) (H : ∀ u', sw_G V P n E Bf u' → post 1 u') :
    (x5 = 1 → kk_wire_161L post (nI a) (nI i) (nI j) (nI (sn_cnt (sv_e V (E a)) 256)) x5 x6 1 u) ∧ (¬ x5 = 1 → kk_wire_161L post (nI a) (nI i) (nI j) (nI (sn_cnt (sv_e V (E a)) 256)) x5 x6 0 u) := by
  have le := sn_cnt_le (sv_e V (E a)) 256
  have c1 : x5 = 1 ↔ E a = 1 := by
    rcases h5 with ⟨k, e⟩ | ⟨k, e⟩
    · rw [e]
      exact ⟨fun q => si_inj (b := 1) (by omega) (by decide) q, fun q => by rw [q]; rfl⟩
    · rw [e]
      exact ⟨fun q => absurd q (by decide), fun q => by omega⟩
  have c0 : x5 = 0 ↔ E a = 0 := by
    rcases h5 with ⟨k, e⟩ | ⟨k, e⟩
    · rw [e]
      exact ⟨fun q => si_inj (b := 0) (by omega) (by decide) q, fun q => by rw [q]; rfl⟩
    · rw [e]
      exact ⟨fun q => absurd q (by decide), fun q => by omega⟩
  have w3 : x6 = -3 ↔ E a = 0 := by
    rw [sw_const0 h ha]
    rcases h6 with ⟨e, k⟩ | ⟨x, e, hx, k, _⟩
    · exact ⟨fun _ => k, fun _ => e⟩
    · refine ⟨fun q => ?_, fun q => ?_⟩
      · rw [e] at q
        have := nI_pos (show x < 2 ^ 31 by omega)
        rw [q] at this
        exact absurd (by decide) this
      · rw [q x hx] at k; exact absurd k (by decide)
  have k187 : (x5 = 0 → kk_wire_187L post (nI a) (nI i) (nI j) x6 1 u) ∧ (¬ x5 = 0 → kk_wire_187L post (nI a) (nI i) (nI j) x6 0 u) := by
    refine ⟨fun q => ?_, fun q => ?_⟩
    · exact br_t (w3.mpr (c0.mp q)) (sd_w199 h ha hi hj 1 H)
    · exact br_f (fun q2 => q (c0.mpr (w3.mp q2))) (sd_w199 h ha hi hj 0 H)
  have c256 : nI (sn_cnt (sv_e V (E a)) 256) = 256 ↔ E a = 1 := by
    rw [sw_const1 h ha]
    exact ⟨fun q => si_inj (b := 256) (by omega) (by decide) q, fun q => by rw [q]; rfl⟩
  refine ⟨fun q => ?_, fun q => ?_⟩
  · exact br_t (c256.mpr (c1.mp q)) (br_t rfl k187)
  · exact br_f (fun q2 => q (c1.mpr (c256.mp q2))) (br_t rfl k187)
theorem sd_w101 {x5 x6 : Int32} (h : sw_G V P n E Bf u) (ha : a < n) (hi : i < 8) (hj : j < 8) (h5 : (E a ≤ 1 ∧ x5 = nI (E a)) ∨ (1 < E a ∧ x5 = -3)) (h6 : sn_wit V (E a) x6) (H : ∀ u', sw_G V P n E Bf u' → post 1 u') :
    ∃ m, qq_wire_101L post (nI a) (nI i) (nI j) (nI (sn_cnt (sv_e V (E a)) 256)) x5 x6 (nI (sx_num (sn_dep V (E a)) 8)) m 0 u := by
  refine pk_loop (fun m k (w : St1) => qq_wire_101L post (nI a) (nI i) (nI j) (nI (sn_cnt (sv_e V (E a)) 256)) x5 x6 (nI (sx_num (sn_dep V (E a)) 8)) m (nI k) w) (fun _ w => sw_G V P n E Bf w) 8 0 u (by decide) h ?_ ?_
  · intro m w hw
    exact cq_wire_101L _ _ _ _ _ _ _ _ _ _ _ (br_t (by decide) (sd_wend hw ha hi hj h5 h6 H))
  · intro m k w hk hw ih
    refine cq_wire_101L _ _ _ _ _ _ _ _ _ _ _ (br_f (nI_ge (b := 8) hk (by decide)) ?_)
    have hlt : sx_num (sn_dep V (E a)) 8 < 256 := sx_num_lt _ 8
    have hb := sx_num_bit (sn_dep V (E a)) 8 k
    rw [decide_eq_true hk, Bool.true_and, Nat.testBit_eq_decide_div_mod_eq] at hb
    rw [si_bit (by omega) (by omega)]
    have k124 : ∀ z0 : Int32, z0 = sv_b (sn_dep V (E a) k) → kk_wire_124L post (qq_wire_101L post (nI a) (nI i) (nI j) (nI (sn_cnt (sv_e V (E a)) 256)) x5 x6 (nI (sx_num (sn_dep V (E a)) 8)) m) (nI a) (nI i) (nI j) (nI (sn_cnt (sv_e V (E a)) 256)) x5 x6 (nI (sx_num (sn_dep V (E a)) 8)) (nI k) z0 w := by
      intro z0 hz
      unfold kk_wire_124L
      refine sd_follows hw ha hk (fun w1 r h1 hr => ⟨fun q => br_t ?_ ?_, fun q => br_t ?_ ?_⟩)
      · rw [hz, hr.mp q]; rfl
      · rintro _ rfl
        rw [nI_1]
        exact ih w1 h1
      · have : sn_dep V (E a) k = true := by
          cases hd : sn_dep V (E a) k
          · exact absurd (hr.mpr hd) q
          · rfl
        rw [hz, this]; rfl
      · rintro _ rfl
        rw [nI_1]
        exact ih w1 h1
    refine pk_eq (sx_num (sn_dep V (E a)) 8 / 2 ^ k % 2) 1 (fun z => k124 1 ?_) (fun z => k124 0 ?_)
    · rw [← hb, decide_eq_true z]; rfl
    · rw [← hb, decide_eq_false z]; rfl
theorem sd_w31 {x5 x6 : Int32} (h : sw_G V P n E Bf u) (ha : a < n) (hi : i < 8) (hj : j < 8) (h5 : (E a ≤ 1 ∧ x5 = nI (E a)) ∨ (1 < E a ∧ x5 = -3)) (h6 : sn_wit V (E a) x6) (H : ∀ u', sw_G V P n E Bf u' → post 1 u') :
    ∃ m, qq_wire_31L post (nI a) (nI i) (nI j) (nI (sn_cnt (sv_e V (E a)) 256)) x5 x6 (nI (sx_num (sn_dep V (E a)) 8)) m 0 u := by
  refine pk_loop (fun m k (w : St1) => qq_wire_31L post (nI a) (nI i) (nI j) (nI (sn_cnt (sv_e V (E a)) 256)) x5 x6 (nI (sx_num (sn_dep V (E a)) 8)) m (nI k) w) (fun _ w => sw_G V P n E Bf w) 256 0 u (by decide) h ?_ ?_
  · intro m w hw
    exact cq_wire_31L _ _ _ _ _ _ _ _ _ _ _ (br_t (by decide) (sd_w101 hw ha hi hj h5 h6 H))
  · intro m y w hy hw ih
    refine cq_wire_31L _ _ _ _ _ _ _ _ _ _ _ (br_f (nI_ge (b := 256) hy (by decide)) ?_)
    have k77 : ∀ w1 (r : Int32), sw_G V P n E Bf w1 → (nI y = x6 → r = 1) → kk_wire_77L post (qq_wire_31L post (nI a) (nI i) (nI j) (nI (sn_cnt (sv_e V (E a)) 256)) x5 x6 (nI (sx_num (sn_dep V (E a)) 8)) m) (nI a) (nI i) (nI j) (nI (sn_cnt (sv_e V (E a)) 256)) x5 x6 (nI (sx_num (sn_dep V (E a)) 8)) (nI y) r w1 := by
      intro w1 r h1 hr
      refine ⟨fun q => br_t (hr q) ?_, fun q => ?_⟩
      · rintro _ rfl
        rw [nI_1]
        exact ih w1 h1
      · rintro _ rfl
        rw [nI_1]
        exact ih w1 h1
    have k56 : ∀ z0 : Int32, (z0 ≠ 0 → sv_e V (E a) y = false) → (nI y = x6 → sv_e V (E a) y = true) → kk_wire_56L post (qq_wire_31L post (nI a) (nI i) (nI j) (nI (sn_cnt (sv_e V (E a)) 256)) x5 x6 (nI (sx_num (sn_dep V (E a)) 8)) m) (nI a) (nI i) (nI j) (nI (sn_cnt (sv_e V (E a)) 256)) x5 x6 (nI (sx_num (sn_dep V (E a)) 8)) (nI y) z0 w := by
      intro z0 hz hq
      unfold kk_wire_56L
      refine sd_value hw ha hy (fun w1 h1 => ?_)
      have kk := k77 w1 (sv_b (sv_e V (E a) y)) h1 (fun q => (sv_b_1 _).mpr (hq q))
      exact ⟨fun _ => kk, fun q => br_t ((sv_b_0 _).mpr (hz q)) kk⟩
    rcases h6 with ⟨e, k⟩ | ⟨x, e, hx, k1, k2⟩
    · rw [e] at k56 ⊢
      refine br_t (by decide) (k56 1 (fun _ => k y hy) (fun q => ?_))
      have := nI_pos (show y < 2 ^ 31 by omega)
      rw [q] at this
      exact absurd (by decide) this
    · rw [e] at k56 ⊢
      refine br_f (nI_pos (by omega)) (pk_le x y (fun z => k56 0 (fun q => absurd rfl q) (fun q => ?_)) (fun z => k56 1 (fun _ => k2 y z) (fun q => ?_)))
      · rw [si_inj (by omega) (by omega) q]; exact k1
      · exact absurd (si_inj (by omega) (by omega) q) (by omega)
theorem sd_wire (h : sw_G V P n E Bf u) (ha : a < n) (hi : i < 8) (hj : j < 8) (H : ∀ u', sw_G V P n E Bf u' → post 1 u') : wpL_wire post u (nI a) (nI i) (nI j) := by
  refine cw_Lwire _ _ _ _ _ (sd_count h ha (fun u1 h1 => ?_))
  have tail : ∀ x5 : Int32, ((E a ≤ 1 ∧ x5 = nI (E a)) ∨ (1 < E a ∧ x5 = -3)) → wpX_witness (fun r_66 u2 => wpX_depends (fun r_130 u3 => ∃ fu31 : Nat, qq_wire_31L post (nI a) (nI i) (nI j) (nI (sn_cnt (sv_e V (E a)) 256)) x5 r_66 r_130 fu31 0 u3) u2 (nI a)) u1 (nI a) := by
    intro x5 h5
    refine sd_witness h1 ha (fun u2 x h2 hx k1 k2 => sd_depends h2 ha (fun u3 h3 => ?_)) (fun u2 h2 k => sd_depends h2 ha (fun u3 h3 => ?_))
    · exact sd_w31 h3 ha hi hj h5 (Or.inr ⟨x, rfl, hx, k1, k2⟩) H
    · exact sd_w31 h3 ha hi hj h5 (Or.inl ⟨rfl, k⟩) H
  exact sd_constant h1 ha (fun z => tail _ (Or.inl ⟨z, rfl⟩)) (fun z => tail _ (Or.inr ⟨z, rfl⟩))
theorem sd_Lgroups {post : Int32 → Prop} (h : sw_G V P n E Bf u) (H : post 1) : wpL_groups post u := by
  have h40 := h.2.2.2.2.1
  refine cw_Lgroups _ _ (sd_wires h ?_)
  refine pk_loop (σ := Unit) (fun m k _ => qq_groups_9L post (nI n) m (nI (sn_grp E k)) (nI k) u) (fun _ _ => True) n 0 () (Nat.zero_le n) trivial ?_ ?_
  · intro m _ _
    exact cq_groups_9L _ _ _ _ _ _ (br_t (nI_le (Nat.le_refl n) (by omega)) (sd_groups h (br_t rfl H)))
  · intro m k _ hk _ ih
    refine cq_groups_9L _ _ _ _ _ _ (br_f (nI_ge hk (by omega)) (sd_first h hk ?_))
    have hf := (sn_1_ok E k).1
    have es : sn_grp E (k + 1) = sn_grp E k + (if decide (sn_1 E k = k) then 1 else 0) := rfl
    have ih' := ih () trivial
    refine pk_eq (sn_1 E k) k (fun z => ?_) (fun z => ?_)
    · rintro _ rfl _ rfl
      rw [nI_1, nI_1]
      rw [es, if_pos (decide_eq_true z)] at ih'
      exact ih'
    · rintro _ rfl
      rw [nI_1]
      rw [es, if_neg (fun q => z (of_decide_eq_true q))] at ih'
      exact ih'
theorem sd_cag {k b c : Nat} (h : sw_G V P n E Bf u) (hk : k < 10) (ha : a < n) (hb : b < n) (hc : c < n) (H : ∀ u' V' P' n' E' Bf', sw_G V' P' n' E' Bf' u' → post 1 u') : wpL_comesAndGoes post u (nI k) (nI a) (nI b) (nI c) := by
  have h40 := h.2.2.2.2.1
  have h8 := h.2.2.2.1
  refine cw_LcomesAndGoes _ _ _ _ _ _ (sd_wires h (sd_groups h (sd_first h ha (sd_count h hb (fun u1 h1 => sd_depends h1 hc (fun u2 h2 => ?_))))))
  refine sd_gate h2 hk ha hb hc (fun e => br_f (by decide) (br_t (by rw [e]; rfl) (br_t rfl (H u2 _ _ _ _ _ h2)))) (fun hn u3 V' P' e hPP hV h3 => br_t (nI_pos' (by omega)) ?_)
  refine sd_drop h3 (fun q => absurd q (by omega)) (fun _ u4 h4 => ?_)
  have h4' : sw_G V P n E Bf u4 := by
    have e1 : (fun w => if w = n then P else Bf w) (n + 1 - 1) = P := if_pos (by omega)
    have e2 : n + 1 - 1 = n := by omega
    rw [e2] at h4
    have e3 : (fun w => if w = n then P else Bf w) n = P := if_pos rfl
    have h5 : sw_G V' ((fun w => if w = n then P else Bf w) n) n (fun w => if w = n then e else E w) (fun w => if w = n then P else Bf w) u4 := h4
    rw [e3] at h5
    exact sw_G_congr h5 hV (fun w hw => ⟨if_neg (by omega), if_neg (by omega)⟩)
  refine br_t rfl (br_t (by rw [show n + 1 - 1 = n by omega]) (sd_groups h4' (br_t rfl (sd_first h4' ha (br_t rfl (sd_count h4' hb (fun u5 h5 => br_t rfl (sd_depends h5 hc (fun u6 h6 => br_t rfl ?_)))))))))
  refine cw_value _ _ _ _ (cw_isWire _ _ _ (br_f (nI_pos (by omega)) ?_))
  rw [h6.2.2.1]
  exact br_t (nI_le (Nat.le_refl n) (by omega)) (br_t rfl (br_t rfl (H u6 _ _ _ _ _ h6)))
end
end
section
/-- a good state, whatever its picture -/
def sw_A (u : St1) : Prop := ∃ V P n E Bf, sw_G V P n E Bf u
theorem si_rem {t n : Nat} (ht : t < 2 ^ 31) (h0 : 0 < n) (hn : n < 2 ^ 31) : nI t - nI t / nI n * nI n = nI (t % n) := pk_rem ht h0 hn
theorem sd_l113 {post : Int32 → Prop} {L : Nat} {xs : Nat → Int32} {J : Int32 → St1 → Prop} {x2 x3 : Int32} {a b c kc ks : Nat} {u : St1} (h : sw_A u) (ha : a < 64) (hb : b < 64) (hc : c < 64) (HJ : ∀ u', sw_A u' → J (x2 + 1) u') :
    kk_law_113L post L xs J x2 x3 (nI a) (nI b) (nI c) kc ks u := by
  obtain ⟨V, P, n, E, Bf, h⟩ := h
  have h40 := h.2.2.2.2.1
  have h8 := h.2.2.2.1
  unfold kk_law_113L
  refine sd_wires h ?_
  rw [si_rem (by omega) (by omega) (by omega), si_rem (by omega) (by omega) (by omega), si_rem (by omega) (by omega) (by omega)]
  have ma : a % n < n := Nat.mod_lt _ (by omega)
  have mb : b % n < n := Nat.mod_lt _ (by omega)
  have mc : c % n < n := Nat.mod_lt _ (by omega)
  have n0 : ¬ nI n = 0 := nI_ne0 (by omega) (by omega)
  obtain ⟨i, hi, ei⟩ := pk_andE x3 (m := 7) 3 (by decide)
  obtain ⟨j, hj, ej⟩ := pk_andE (x3 >>> ((3 : Int32) &&& 31)) (m := 7) 3 (by decide)
  obtain ⟨t, ht, et⟩ := pk_andE (x3 >>> ((2 : Int32) &&& 31)) (m := 15) 4 (by decide)
  have pred : nI n - 1 = nI (n - 1) := by
    have := nI_pred (n - 1)
    rw [show n - 1 + 1 = n by omega] at this
    exact this
  rw [ei, ej, et, pred]
  have e10 : nI t - nI t / 10 * 10 = nI (t % 10) := si_rem (n := 10) (by omega) (by decide) (by decide)
  rw [e10]
  refine ⟨n0, sd_pair h (by omega) ma (fun u1 h1 => br_f (by decide) ⟨n0, n0, sd_pair h1 mb mc (fun u2 h2 => br_f (by decide) (sd_wire h2 (by omega) hi hj (fun u3 h3 => br_f (by decide) (sd_Lgroups h3 (br_f (by decide) ⟨by decide, n0, n0, n0, ?_⟩)))))⟩)⟩
  refine sd_cag h3 (Nat.mod_lt _ (by decide)) ma mb mc (fun u4 V' P' n' E' Bf' h4 => br_f (by decide) ?_)
  rintro _ rfl
  exact HJ u4 ⟨V', P', n', E', Bf', h4⟩
theorem sd_law {L : Nat} {xs : Nat → Int32} (hL : L ≤ 260) {kc ks : Nat} {u : St1} (h : sw_A u) : ∃ f, qq_law_10L (fun r => r = 1) L xs kc ks f 0 u := by
  refine pk_loop (fun f k (w : St1) => qq_law_10L (fun r => r = 1) L xs kc ks f (nI k) w) (fun _ w => sw_A w) L 0 u (Nat.zero_le L) h ?_ ?_
  · intro f w _
    exact cq_law_10L _ _ _ _ _ _ _ _ (br_t (nI_le (Nat.le_refl L) (by omega)) rfl)
  · intro f k w hk hw ih
    obtain ⟨V, P, n, E, Bf, h⟩ := hw
    have h40 := h.2.2.2.2.1
    have h8 := h.2.2.2.1
    have n0 : ¬ nI n = 0 := nI_ne0 (by omega) (by omega)
    refine cq_law_10L _ _ _ _ _ _ _ _ (br_f (nI_ge hk (by omega)) ⟨vp_in_nI hk (by omega), fun x3 _ => sd_wires h ⟨n0, fun x5 e5 => ⟨n0, fun x6 e6 => ⟨n0, fun x7 e7 => ⟨vp_in_nI hk (by omega), ?_⟩⟩⟩⟩⟩)
    obtain ⟨a, ha, ea⟩ := pk_andE (x3 >>> ((4 : Int32) &&& 31)) (m := 63) 6 (by decide)
    obtain ⟨b, hb, eb⟩ := pk_andE (x3 >>> ((10 : Int32) &&& 31)) (m := 63) 6 (by decide)
    obtain ⟨c, hc, ec⟩ := pk_andE (x3 >>> ((16 : Int32) &&& 31)) (m := 63) 6 (by decide)
    rw [ea, si_rem (by omega) (by omega) (by omega)] at e5
    rw [eb, si_rem (by omega) (by omega) (by omega)] at e6
    rw [ec, si_rem (by omega) (by omega) (by omega)] at e7
    rw [e5, e6, e7]
    have ma : a % n < n := Nat.mod_lt _ (by omega)
    have mb : b % n < n := Nat.mod_lt _ (by omega)
    have mc : c % n < n := Nat.mod_lt _ (by omega)
    have pred : nI n - 1 = nI (n - 1) := by
      have := nI_pred (n - 1)
      rw [show n - 1 + 1 = n by omega] at this
      exact this
    have go : ∀ u1, sw_A u1 → kk_law_113L (fun r => r = 1) L xs (qq_law_10L (fun r => r = 1) L xs kc ks f) (nI k) x3 (nI (a % n)) (nI (b % n)) (nI (c % n)) kc ks u1 := by
      intro u1 h1
      refine sd_l113 h1 (by omega) (by omega) (by omega) (fun u' h' => ?_)
      rw [nI_1]
      exact ih u' h'
    obtain ⟨t, ht, et⟩ := pk_andE x3 (m := 15) 4 (by decide)
    have e10 : nI t - nI t / 10 * 10 = nI (t % 10) := si_rem (n := 10) (by omega) (by decide) (by decide)
    have k97 : ∀ a', a' < n → kk_law_97L (fun r => r = 1) L xs (qq_law_10L (fun r => r = 1) L xs kc ks f) (nI k) x3 (nI (a % n)) (nI (b % n)) (nI (c % n)) (nI a') (nI (t % 10)) kc ks w := by
      intro a' ha'
      unfold kk_law_97L
      exact sd_gate h (Nat.mod_lt _ (by decide)) ha' mb mc (fun _ => go w ⟨V, P, n, E, Bf, h⟩) (fun _ u' V' P' e _ _ h' => go u' ⟨V', P', _, _, _, h'⟩)
    rw [et, e10, pred]
    refine ⟨fun _ => ?_, fun _ => ⟨by decide, fun _ => k97 (n - 1) (by omega), fun _ => k97 (a % n) ma⟩⟩
    exact sd_drop h (fun _ => go w ⟨V, P, n, E, Bf, h⟩) (fun _ u' h' => go u' ⟨_, _, _, _, _, h'⟩)
theorem i_vc (xs : Nat → Int32) (L : Nat) (hL : L ≤ 260) : wpL_law (fun r => r = 1) L xs := by
  refine ⟨18, 27819, by decide, by decide, sd_init (fun u hu => ?_)⟩
  have key : ∃ f, qq_law_10L (fun r => r = 1) L xs (1 + 18) (27 + 27819) f 0 u := sd_law hL ⟨_, _, _, _, _, hu⟩
  exact key
end
