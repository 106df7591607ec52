section
/-! the map side: small facts; sort, combine, spill of a buffer of one pair; a record; a split -/
theorem mr_u {f : Nat → Int32} {k k' : Nat} {x x' : Int32} (hk : k = k') (hx : x = x') : upd f k x = upd f k' x' := by rw [hk, hx]
theorem mr_g {f : Nat → Int32} {k k' : Nat} {x : Int32} (h : f k' = x) (hk : k = k') : f k = x := by rw [hk, h]
theorem mr_gi {f : Nat → Int32} {k k' : Nat} {x : Int32} {N : Nat} (h : f k' = x) (hk : k = k') (hv : vp_in x N) : vp_in (f k) N := by rw [hk, h]; exact hv
theorem mr_nar {x y : Int32} (h : x = y) (hy : y.toInt8.toInt32 = y) : vp_nar .byte x = y := by rw [h, vp_nar_byte, hy]
theorem mr_rem1 {x y : Int32} (h : x = y) (hy : y - y / 1 * 1 = 0) : x - x / 1 * 1 = 0 := by rw [h, hy]
theorem mr_remM {x y z : Int32} (h : x = y) (hy : y - y / 16 * 16 = z) : x - x / 16 * 16 = z := by rw [h, hy]
/-- what a record's value becomes -/
def mr_val (re v : Int32) : Int32 := if re = 3 then 1 else v
section
variable {post : St2 → Prop} {pc bs mo fa ofs lo hi re bu mp sc se oe : Int32} {a1 a2 a3 a4 a5 a6 a7 a8 a9 a10 a11 a12 a13 a14 a15 : Nat → Int32}
theorem mr_sort (H : post (pc, bs, mo, fa, ofs, lo, hi, re, 1, mp, sc, se, oe, a1, a2, a3, a4, a5, a6, a7, a8, a9, a10, a11, a12, a13, a14, a15)) : wpX_sortBuffer post (pc, bs, mo, fa, ofs, lo, hi, re, 1, mp, sc, se, oe, a1, a2, a3, a4, a5, a6, a7, a8, a9, a10, a11, a12, a13, a14, a15) := ⟨1, br_t (by decide) H⟩
theorem mr_comb (H : post (pc, bs, mo, fa, ofs, lo, hi, re, 1, mp, sc, se, oe, a1, a2, a3, a4, a5, a6, a7, a8, a9, a10, a11, a12, a13, a14, a15)) : wpX_combineBuffer post (pc, bs, mo, fa, ofs, lo, hi, re, 1, mp, sc, se, oe, a1, a2, a3, a4, a5, a6, a7, a8, a9, a10, a11, a12, a13, a14, a15) := ⟨1, br_t (by decide) (nm_r (e' := 1) (by decide) H)⟩
theorem mr_sp20_0 {x : Int32} (h6 : a6 0 = 5) (h7 : a7 0 = x) (H : post (1, bs, mo, fa, ofs, lo, hi, re, 0, mp, 1, 1, oe, a1, a2, a3, a4, a5, a6, a7, upd a8 0 5, upd a9 0 x, upd (upd (upd (upd (upd a10 0 0) 1 1) 2 1) 3 1) 4 1, a11, a12, a13, a14, a15)) :
    ∃ fu, wX_spill_20 post 1 bs mo fa ofs lo hi re 1 mp 0 oe fu 0 0 0 a1 a2 a3 a4 a5 a6 a7 a8 a9 a10 a11 a12 a13 a14 a15 := by
  refine ⟨5, br_f (by decide) ⟨vp_in_iff.mpr (by decide), nm_r (e' := upd a10 0 0) (mr_u (by decide) (by decide)) ⟨2, ?_⟩⟩⟩
  refine br_f (by decide) ⟨vp_in_iff.mpr (by decide), by decide, br_t (mr_rem1 (mr_g h6 (by decide)) (by decide)) ⟨vp_in_iff.mpr (by decide), vp_in_iff.mpr (by decide), nm_r (e' := upd a8 0 5) (mr_u (by decide) (mr_nar (mr_g h6 (by decide)) (by decide))) ?_⟩⟩
  refine ⟨vp_in_iff.mpr (by decide), vp_in_iff.mpr (by decide), nm_r (e' := upd a9 0 x) (mr_u (by decide) (mr_g h7 (by decide))) (nm_r (e' := 1) (by decide) (nm_r (e' := 1) (by decide) ?_))⟩
  refine br_t (by decide) (nm_r (e' := 1) (by decide) ?_)
  refine br_f (by decide) ⟨vp_in_iff.mpr (by decide), nm_r (e' := upd (upd a10 0 0) 1 1) (mr_u (by decide) (by decide)) ⟨1, br_t (by decide) (nm_r (e' := 2) (by decide) ?_)⟩⟩
  refine br_f (by decide) ⟨vp_in_iff.mpr (by decide), nm_r (e' := upd (upd (upd a10 0 0) 1 1) 2 1) (mr_u (by decide) (by decide)) ⟨1, br_t (by decide) (nm_r (e' := 3) (by decide) ?_)⟩⟩
  refine br_f (by decide) ⟨vp_in_iff.mpr (by decide), nm_r (e' := upd (upd (upd (upd a10 0 0) 1 1) 2 1) 3 1) (mr_u (by decide) (by decide)) ⟨1, br_t (by decide) (nm_r (e' := 4) (by decide) ?_)⟩⟩
  exact br_t (by decide) ⟨vp_in_iff.mpr (by decide), nm_r (mr_u (by decide) (by decide)) (nm_r (e' := 1) (by decide) H)⟩
theorem mr_spill_0 {x : Int32} (h6 : a6 0 = 5) (h7 : a7 0 = x) (H : post (1, bs, mo, fa, ofs, lo, hi, re, 0, mp, 1, 1, oe, a1, a2, a3, a4, a5, a6, a7, upd a8 0 5, upd a9 0 x, upd (upd (upd (upd (upd a10 0 0) 1 1) 2 1) 3 1) 4 1, a11, a12, a13, a14, a15)) :
    wpX_spill post (1, bs, mo, fa, ofs, lo, hi, re, 1, mp, 0, 0, oe, a1, a2, a3, a4, a5, a6, a7, a8, a9, a10, a11, a12, a13, a14, a15) := by
  unfold wpX_spill
  refine mr_sort (br_c (fun _ => ?_) (fun _ => mr_comb ?_))
  · exact mr_sp20_0 h6 h7 H
  · exact mr_sp20_0 h6 h7 H
theorem mr_sp20_1 {x : Int32} (h6 : a6 0 = 5) (h7 : a7 0 = x) (H : post (1, bs, mo, fa, ofs, lo, hi, re, 0, mp, 2, 2, oe, a1, a2, a3, a4, a5, a6, a7, upd a8 1 5, upd a9 1 x, upd (upd (upd (upd (upd a10 5 1) 6 2) 7 2) 8 2) 9 2, a11, a12, a13, a14, a15)) :
    ∃ fu, wX_spill_20 post 1 bs mo fa ofs lo hi re 1 mp 1 oe fu 0 0 1 a1 a2 a3 a4 a5 a6 a7 a8 a9 a10 a11 a12 a13 a14 a15 := by
  refine ⟨5, br_f (by decide) ⟨vp_in_iff.mpr (by decide), nm_r (e' := upd a10 5 1) (mr_u (by decide) (by decide)) ⟨2, ?_⟩⟩⟩
  refine br_f (by decide) ⟨vp_in_iff.mpr (by decide), by decide, br_t (mr_rem1 (mr_g h6 (by decide)) (by decide)) ⟨vp_in_iff.mpr (by decide), vp_in_iff.mpr (by decide), nm_r (e' := upd a8 1 5) (mr_u (by decide) (mr_nar (mr_g h6 (by decide)) (by decide))) ?_⟩⟩
  refine ⟨vp_in_iff.mpr (by decide), vp_in_iff.mpr (by decide), nm_r (e' := upd a9 1 x) (mr_u (by decide) (mr_g h7 (by decide))) (nm_r (e' := 2) (by decide) (nm_r (e' := 1) (by decide) ?_))⟩
  refine br_t (by decide) (nm_r (e' := 1) (by decide) ?_)
  refine br_f (by decide) ⟨vp_in_iff.mpr (by decide), nm_r (e' := upd (upd a10 5 1) 6 2) (mr_u (by decide) (by decide)) ⟨1, br_t (by decide) (nm_r (e' := 2) (by decide) ?_)⟩⟩
  refine br_f (by decide) ⟨vp_in_iff.mpr (by decide), nm_r (e' := upd (upd (upd a10 5 1) 6 2) 7 2) (mr_u (by decide) (by decide)) ⟨1, br_t (by decide) (nm_r (e' := 3) (by decide) ?_)⟩⟩
  refine br_f (by decide) ⟨vp_in_iff.mpr (by decide), nm_r (e' := upd (upd (upd (upd a10 5 1) 6 2) 7 2) 8 2) (mr_u (by decide) (by decide)) ⟨1, br_t (by decide) (nm_r (e' := 4) (by decide) ?_)⟩⟩
  exact br_t (by decide) ⟨vp_in_iff.mpr (by decide), nm_r (mr_u (by decide) (by decide)) (nm_r (e' := 2) (by decide) H)⟩
theorem mr_spill_1 {x : Int32} (h6 : a6 0 = 5) (h7 : a7 0 = x) (H : post (1, bs, mo, fa, ofs, lo, hi, re, 0, mp, 2, 2, oe, a1, a2, a3, a4, a5, a6, a7, upd a8 1 5, upd a9 1 x, upd (upd (upd (upd (upd a10 5 1) 6 2) 7 2) 8 2) 9 2, a11, a12, a13, a14, a15)) :
    wpX_spill post (1, bs, mo, fa, ofs, lo, hi, re, 1, mp, 1, 1, oe, a1, a2, a3, a4, a5, a6, a7, a8, a9, a10, a11, a12, a13, a14, a15) := by
  unfold wpX_spill
  refine mr_sort (br_c (fun _ => ?_) (fun _ => mr_comb ?_))
  · exact mr_sp20_1 h6 h7 H
  · exact mr_sp20_1 h6 h7 H
theorem mr_val_eq {z0 : Int32} (H : wX_mapRecord_114 post (mr_val re z0) 0 pc bs mo 1 0 lo hi re 0 mp sc se oe a1 a2 a3 a4 a5 (upd a6 0 5) a7 a8 a9 a10 a11 a12 a13 a14 a15) : wX_mapRecord_72 post z0 5 pc bs mo 1 0 lo hi re 0 mp sc se oe a1 a2 a3 a4 a5 a6 a7 a8 a9 a10 a11 a12 a13 a14 a15 := by
  refine ⟨vp_in_iff.mpr (by decide), nm_r (e' := upd a6 0 5) (mr_u (by decide) (by decide)) (br_c (fun h => ?_) (fun h => ?_))⟩
  · rw [mr_val, if_pos h] at H
    exact H
  · rw [mr_val, if_neg h] at H
    rw [Int32.one_mul, Int32.add_zero]
    exact H
theorem mr_recIn_1 {v : Int32} (h2 : a2 16 = -11) (h3 : a3 16 = v) (l : ¬ v < lo) (h : v ≤ hi) (H : post (pc, 2, 16, 1, 0, lo, hi, re, 1, mp + 1, sc, se, oe, a1, a2, a3, a4, a5, upd a6 0 5, upd a7 0 (mr_val re v), a8, a9, a10, a11, a12, a13, a14, a15)) :
    wpX_mapRecord post (pc, 2, 16, 1, 0, lo, hi, re, 0, mp, sc, se, oe, a1, a2, a3, a4, a5, a6, a7, a8, a9, a10, a11, a12, a13, a14, a15) (16 * 1 + 0) := by
  refine ⟨vp_in_iff.mpr (by decide), nm_r (e' := v) (mr_g h3 (by decide)) (br_f l (br_t h (nm_e ⟨vp_in_iff.mpr (by decide), by decide, nm_r (e' := -11) (mr_remM (mr_g h2 (by decide)) (by decide)) ?_⟩)))⟩
  have K : wX_mapRecord_57 post v 5 pc 2 16 1 0 lo hi re 0 (mp + 1) sc se oe a1 a2 a3 a4 a5 a6 a7 a8 a9 a10 a11 a12 a13 a14 a15 :=
    br_f (by decide) (mr_val_eq ⟨vp_in_iff.mpr (by decide), nm_r (mr_u (by decide) rfl) (nm_r (e' := 1) (by decide) H)⟩)
  first
    | exact br_t (by decide) K
    | exact br_f (by decide) (nm_r (e' := 5) (by decide) K)
theorem mr_recOut_1 {v : Int32} (h3 : a3 16 = v) (o : v < lo ∨ ¬ v ≤ hi) (H : post (pc, bs, mo, fa, ofs, lo, hi, re, bu, mp, sc, se, oe, a1, a2, a3, a4, a5, a6, a7, a8, a9, a10, a11, a12, a13, a14, a15)) :
    wpX_mapRecord post (pc, bs, mo, fa, ofs, lo, hi, re, bu, mp, sc, se, oe, a1, a2, a3, a4, a5, a6, a7, a8, a9, a10, a11, a12, a13, a14, a15) (16 * 1 + 0) := by
  refine ⟨vp_in_iff.mpr (by decide), nm_r (e' := v) (mr_g h3 (by decide)) (br_c (fun _ => H) (fun l => ?_))⟩
  rcases o with o | o
  · exact absurd o l
  · exact br_f o H
theorem mr_splitOut_1 {v : Int32} (h1 : a1 1 = 1) (h3 : a3 16 = v) (h4 : a4 1 = 0) (o : v < lo ∨ ¬ v ≤ hi) (H : post (pc, bs, mo, fa, ofs, lo, hi, re, 0, mp, sc, se, oe, a1, a2, a3, a4, a5, a6, a7, a8, a9, a10, a11, a12, a13, a14, a15)) : wpX_mapSplit post (pc, bs, mo, fa, ofs, lo, hi, re, bu, mp, sc, se, oe, a1, a2, a3, a4, a5, a6, a7, a8, a9, a10, a11, a12, a13, a14, a15) 1 := by
  refine ⟨vp_in_iff.mpr (by decide), nm_r (e' := 0) (mr_g h4 (by decide)) ⟨2, br_f (by decide) (br_t (by decide) ⟨vp_in_iff.mpr (by decide), nm_r (e' := 1) (mr_g h1 (by decide)) ⟨2, ?_⟩⟩)⟩⟩
  refine br_f (by decide) (mr_recOut_1 h3 o (nm_r (e' := 1) (by decide) ?_))
  exact br_t (by decide) (br_t (by decide) (nm_r (e' := -1) (by decide) (br_t (by decide) H)))
theorem mr_recIn_2 {v : Int32} (h2 : a2 32 = 5) (h3 : a3 32 = v) (l : ¬ v < lo) (h : v ≤ hi) (H : post (pc, 2, 16, 1, 0, lo, hi, re, 1, mp + 1, sc, se, oe, a1, a2, a3, a4, a5, upd a6 0 5, upd a7 0 (mr_val re v), a8, a9, a10, a11, a12, a13, a14, a15)) :
    wpX_mapRecord post (pc, 2, 16, 1, 0, lo, hi, re, 0, mp, sc, se, oe, a1, a2, a3, a4, a5, a6, a7, a8, a9, a10, a11, a12, a13, a14, a15) (16 * 2 + 0) := by
  refine ⟨vp_in_iff.mpr (by decide), nm_r (e' := v) (mr_g h3 (by decide)) (br_f l (br_t h (nm_e ⟨vp_in_iff.mpr (by decide), by decide, nm_r (e' := 5) (mr_remM (mr_g h2 (by decide)) (by decide)) ?_⟩)))⟩
  have K : wX_mapRecord_57 post v 5 pc 2 16 1 0 lo hi re 0 (mp + 1) sc se oe a1 a2 a3 a4 a5 a6 a7 a8 a9 a10 a11 a12 a13 a14 a15 :=
    br_f (by decide) (mr_val_eq ⟨vp_in_iff.mpr (by decide), nm_r (mr_u (by decide) rfl) (nm_r (e' := 1) (by decide) H)⟩)
  first
    | exact br_t (by decide) K
    | exact br_f (by decide) (nm_r (e' := 5) (by decide) K)
theorem mr_recOut_2 {v : Int32} (h3 : a3 32 = v) (o : v < lo ∨ ¬ v ≤ hi) (H : post (pc, bs, mo, fa, ofs, lo, hi, re, bu, mp, sc, se, oe, a1, a2, a3, a4, a5, a6, a7, a8, a9, a10, a11, a12, a13, a14, a15)) :
    wpX_mapRecord post (pc, bs, mo, fa, ofs, lo, hi, re, bu, mp, sc, se, oe, a1, a2, a3, a4, a5, a6, a7, a8, a9, a10, a11, a12, a13, a14, a15) (16 * 2 + 0) := by
  refine ⟨vp_in_iff.mpr (by decide), nm_r (e' := v) (mr_g h3 (by decide)) (br_c (fun _ => H) (fun l => ?_))⟩
  rcases o with o | o
  · exact absurd o l
  · exact br_f o H
theorem mr_splitOut_2 {v : Int32} (h1 : a1 2 = 1) (h3 : a3 32 = v) (h4 : a4 2 = 0) (o : v < lo ∨ ¬ v ≤ hi) (H : post (pc, bs, mo, fa, ofs, lo, hi, re, 0, mp, sc, se, oe, a1, a2, a3, a4, a5, a6, a7, a8, a9, a10, a11, a12, a13, a14, a15)) : wpX_mapSplit post (pc, bs, mo, fa, ofs, lo, hi, re, bu, mp, sc, se, oe, a1, a2, a3, a4, a5, a6, a7, a8, a9, a10, a11, a12, a13, a14, a15) 2 := by
  refine ⟨vp_in_iff.mpr (by decide), nm_r (e' := 0) (mr_g h4 (by decide)) ⟨2, br_f (by decide) (br_t (by decide) ⟨vp_in_iff.mpr (by decide), nm_r (e' := 1) (mr_g h1 (by decide)) ⟨2, ?_⟩⟩)⟩⟩
  refine br_f (by decide) (mr_recOut_2 h3 o (nm_r (e' := 1) (by decide) ?_))
  exact br_t (by decide) (br_t (by decide) (nm_r (e' := -1) (by decide) (br_t (by decide) H)))
theorem mr_splitIn_1_0 {v : Int32} (h1 : a1 1 = 1) (h2 : a2 16 = -11) (h3 : a3 16 = v) (h4 : a4 1 = 0) (l : ¬ v < lo) (h : v ≤ hi)
    (H : post (1, 2, 16, 1, 0, lo, hi, re, 0, mp + 1, 1, 1, oe, a1, a2, a3, a4, a5, upd a6 0 5, upd a7 0 (mr_val re v), upd a8 0 5, upd a9 0 (mr_val re v), upd (upd (upd (upd (upd a10 0 0) 1 1) 2 1) 3 1) 4 1, a11, a12, a13, a14, a15)) :
    wpX_mapSplit post (1, 2, 16, 1, 0, lo, hi, re, bu, mp, 0, 0, oe, a1, a2, a3, a4, a5, a6, a7, a8, a9, a10, a11, a12, a13, a14, a15) 1 := by
  refine ⟨vp_in_iff.mpr (by decide), nm_r (e' := 0) (mr_g h4 (by decide)) ⟨2, br_f (by decide) (br_t (by decide) ⟨vp_in_iff.mpr (by decide), nm_r (e' := 1) (mr_g h1 (by decide)) ⟨2, ?_⟩⟩)⟩⟩
  refine br_f (by decide) (mr_recIn_1 h2 h3 l h (nm_r (e' := 1) (by decide) ?_))
  refine br_t (by decide) (br_f (by decide) (mr_spill_0 (x := mr_val re v) pk_us pk_us ?_))
  exact nm_r (e' := -1) (by decide) (br_t (by decide) H)
theorem mr_splitIn_2_0 {v : Int32} (h1 : a1 2 = 1) (h2 : a2 32 = 5) (h3 : a3 32 = v) (h4 : a4 2 = 0) (l : ¬ v < lo) (h : v ≤ hi)
    (H : post (1, 2, 16, 1, 0, lo, hi, re, 0, mp + 1, 1, 1, oe, a1, a2, a3, a4, a5, upd a6 0 5, upd a7 0 (mr_val re v), upd a8 0 5, upd a9 0 (mr_val re v), upd (upd (upd (upd (upd a10 0 0) 1 1) 2 1) 3 1) 4 1, a11, a12, a13, a14, a15)) :
    wpX_mapSplit post (1, 2, 16, 1, 0, lo, hi, re, bu, mp, 0, 0, oe, a1, a2, a3, a4, a5, a6, a7, a8, a9, a10, a11, a12, a13, a14, a15) 2 := by
  refine ⟨vp_in_iff.mpr (by decide), nm_r (e' := 0) (mr_g h4 (by decide)) ⟨2, br_f (by decide) (br_t (by decide) ⟨vp_in_iff.mpr (by decide), nm_r (e' := 1) (mr_g h1 (by decide)) ⟨2, ?_⟩⟩)⟩⟩
  refine br_f (by decide) (mr_recIn_2 h2 h3 l h (nm_r (e' := 1) (by decide) ?_))
  refine br_t (by decide) (br_f (by decide) (mr_spill_0 (x := mr_val re v) pk_us pk_us ?_))
  exact nm_r (e' := -1) (by decide) (br_t (by decide) H)
theorem mr_splitIn_2_1 {v : Int32} (h1 : a1 2 = 1) (h2 : a2 32 = 5) (h3 : a3 32 = v) (h4 : a4 2 = 0) (l : ¬ v < lo) (h : v ≤ hi)
    (H : post (1, 2, 16, 1, 0, lo, hi, re, 0, mp + 1, 2, 2, oe, a1, a2, a3, a4, a5, upd a6 0 5, upd a7 0 (mr_val re v), upd a8 1 5, upd a9 1 (mr_val re v), upd (upd (upd (upd (upd a10 5 1) 6 2) 7 2) 8 2) 9 2, a11, a12, a13, a14, a15)) :
    wpX_mapSplit post (1, 2, 16, 1, 0, lo, hi, re, bu, mp, 1, 1, oe, a1, a2, a3, a4, a5, a6, a7, a8, a9, a10, a11, a12, a13, a14, a15) 2 := by
  refine ⟨vp_in_iff.mpr (by decide), nm_r (e' := 0) (mr_g h4 (by decide)) ⟨2, br_f (by decide) (br_t (by decide) ⟨vp_in_iff.mpr (by decide), nm_r (e' := 1) (mr_g h1 (by decide)) ⟨2, ?_⟩⟩)⟩⟩
  refine br_f (by decide) (mr_recIn_2 h2 h3 l h (nm_r (e' := 1) (by decide) ?_))
  refine br_t (by decide) (br_f (by decide) (mr_spill_1 (x := mr_val re v) pk_us pk_us ?_))
  exact nm_r (e' := -1) (by decide) (br_t (by decide) H)
theorem mr_split_0 (h1 : a1 0 = 0) (h4 : a4 0 = 0) (H : post (pc, bs, mo, fa, ofs, lo, hi, re, 0, mp, sc, se, oe, a1, a2, a3, a4, a5, a6, a7, a8, a9, a10, a11, a12, a13, a14, a15)) : wpX_mapSplit post (pc, bs, mo, fa, ofs, lo, hi, re, bu, mp, sc, se, oe, a1, a2, a3, a4, a5, a6, a7, a8, a9, a10, a11, a12, a13, a14, a15) 0 := by
  refine ⟨vp_in_iff.mpr (by decide), nm_r (e' := 0) (mr_g h4 (by decide)) ⟨2, br_f (by decide) (br_t (by decide) ⟨vp_in_iff.mpr (by decide), nm_r (e' := 0) (mr_g h1 (by decide)) ⟨1, ?_⟩⟩)⟩⟩
  exact br_t (by decide) (br_t (by decide) (nm_r (e' := -1) (by decide) (br_t (by decide) H)))
theorem mr_split_3 (h1 : a1 3 = 0) (h4 : a4 3 = 0) (H : post (pc, bs, mo, fa, ofs, lo, hi, re, 0, mp, sc, se, oe, a1, a2, a3, a4, a5, a6, a7, a8, a9, a10, a11, a12, a13, a14, a15)) : wpX_mapSplit post (pc, bs, mo, fa, ofs, lo, hi, re, bu, mp, sc, se, oe, a1, a2, a3, a4, a5, a6, a7, a8, a9, a10, a11, a12, a13, a14, a15) 3 := by
  refine ⟨vp_in_iff.mpr (by decide), nm_r (e' := 0) (mr_g h4 (by decide)) ⟨2, br_f (by decide) (br_t (by decide) ⟨vp_in_iff.mpr (by decide), nm_r (e' := 0) (mr_g h1 (by decide)) ⟨1, ?_⟩⟩)⟩⟩
  exact br_t (by decide) (br_t (by decide) (nm_r (e' := -1) (by decide) (br_t (by decide) H)))
end
end
section
/-! the reduce side: one group at most, of the key 5; tries that fail are taken back -/
theorem mr_nle {x y x' y' : Int32} (hx : x = x') (hy : y = y') (h : ¬ x' ≤ y') : ¬ x ≤ y := by rw [hx, hy]; exact h
theorem mr_le {x y x' y' : Int32} (hx : x = x') (hy : y = y') (h : x' ≤ y') : x ≤ y := by rw [hx, hy]; exact h
theorem mr_ne {x y x' y' : Int32} (hx : x = x') (hy : y = y') (h : ¬ x' = y') : ¬ x = y := by rw [hx, hy]; exact h
theorem mr_ee {x y x' y' : Int32} (hx : x = x') (hy : y = y') (h : x' = y') : x = y := by rw [hx, hy]; exact h
theorem mr_gg {f g : Nat → Int32} {k k' j : Nat} {x y : Int32} (hg : g k' = y) (hk : k = k') (hj : y.toNatClampNeg = j) (hf : f j = x) : f (g k).toNatClampNeg = x := by rw [hk, hg, hj, hf]
theorem mr_inc {f : Nat → Int32} {k k' : Nat} {x y : Int32} (h : f k' = x) (hk : k = k') (hy : (x + 1).toInt8.toInt32 = y) : (f k + 1).toInt8.toInt32 = y := by rw [hk, h, hy]
/-- two values of one key, combined -/
def mr_cb (re a b : Int32) : Int32 := if re = 1 then (if a ≤ b then b else a) else if re = 2 then (if b ≤ a then b else a) else a + b
/-- a group's result so far, and one value more -/
def mr_st (re x t w : Int32) : Int32 := if re = 4 then 31 * x + w else if t = 0 then w else mr_cb re x w
def mr_i0 (re : Int32) : Int32 := if re = 4 then 7 else 0
def mr_r1 (re w : Int32) : Int32 := mr_st re (mr_i0 re) 0 w
def mr_r2 (re w w' : Int32) : Int32 := mr_st re (mr_r1 re w) 1 w'
section
variable {pc bs mo fa ofs lo hi re bu mp sc se oe : Int32} {a1 a2 a3 a4 a5 a6 a7 a8 a9 a10 a11 a12 a13 a14 a15 : Nat → Int32}
theorem mr_combined {post : Int32 → Prop} {x w : Int32} (H : post (mr_cb re x w)) : wpX_combined post (pc, bs, mo, fa, ofs, lo, hi, re, bu, mp, sc, se, oe, a1, a2, a3, a4, a5, a6, a7, a8, a9, a10, a11, a12, a13, a14, a15) x w := by
  refine br_c (fun h1 => br_c (fun h => ?_) (fun h => ?_)) (fun h1 => br_c (fun h2 => br_c (fun h => ?_) (fun h => ?_)) (fun h2 => ?_))
  · rw [mr_cb, if_pos h1, if_pos h] at H; exact H
  · rw [mr_cb, if_pos h1, if_neg h] at H; exact H
  · rw [mr_cb, if_neg h1, if_pos h2, if_pos h] at H; exact H
  · rw [mr_cb, if_neg h1, if_pos h2, if_neg h] at H; exact H
  · rw [mr_cb, if_neg h1, if_neg h2] at H; exact H
theorem mr_g29_0 {post : St2 → Prop} {J20 : Int32 → Int32 → Int32 → (Nat → Int32) → (Nat → Int32) → (Nat → Int32) → (Nat → Int32) → (Nat → Int32) → (Nat → Int32) → (Nat → Int32) → (Nat → Int32) → (Nat → Int32) → (Nat → Int32) → (Nat → Int32) → (Nat → Int32) → (Nat → Int32) → (Nat → Int32) → (Nat → Int32) → Prop} {x2 x3 w : Int32}
    (h8 : a8 0 = 5) (h9 : a9 0 = w) (h11 : a11 0 = 0) (h12 : a12 0 = 1) (H : J20 (mr_st re x2 x3 w) 1 1 a1 a2 a3 a4 a5 a6 a7 a8 a9 a10 (upd a11 0 1) a12 a13 a14 a15) :
    wX_reduceGroup_29 post J20 5 0 pc bs mo fa ofs lo hi re bu mp sc se oe 2 x2 x3 a1 a2 a3 a4 a5 a6 a7 a8 a9 a10 a11 a12 a13 a14 a15 := by
  have K : ∀ r, r = mr_st re x2 x3 w → wX_reduceGroup_112 post J20 (wX_reduceGroup_29 post J20 5 0 pc bs mo fa ofs lo hi re bu mp sc se oe 1) 5 r 0 pc bs mo fa ofs lo hi re bu mp sc se oe a1 a2 a3 a4 a5 a6 a7 a8 a9 a10 a11 a12 a13 a14 a15 := by
    intro r hr
    subst hr
    refine ⟨vp_in_iff.mpr (by decide), vp_in_iff.mpr (by decide), nm_r (e' := upd a11 0 1) (mr_u (by decide) (mr_inc h11 (by decide) (by decide))) ?_⟩
    exact ⟨vp_in_iff.mpr (by decide), vp_in_iff.mpr (by decide), br_t (mr_le (mr_g h12 (by decide)) (mr_g (k' := 0) pk_us (by decide)) (by decide)) (nm_r (e' := 1) (by decide) H)⟩
  refine ⟨vp_in_iff.mpr (by decide), vp_in_iff.mpr (by decide), br_f (mr_nle (mr_g h12 (by decide)) (mr_g h11 (by decide)) (by decide)) ⟨vp_in_iff.mpr (by decide), mr_gi h11 (by decide) (vp_in_iff.mpr (by decide)), br_t (mr_gg h11 (by decide) (j := 0) (by decide) h8) ⟨vp_in_iff.mpr (by decide), mr_gi h11 (by decide) (vp_in_iff.mpr (by decide)), nm_r (e' := w) (mr_gg h11 (by decide) (j := 0) (by decide) h9) ?_⟩⟩⟩
  refine br_c (fun h4 => nm_e (K _ ?_)) (fun h4 => br_c (fun h3 => K _ ?_) (fun h3 => mr_combined (K _ ?_)))
  · rw [mr_st, if_pos h4]
  · rw [mr_st, if_neg h4, if_pos h3]
  · rw [mr_st, if_neg h4, if_neg h3]
theorem mr_g29_1 {post : St2 → Prop} {J20 : Int32 → Int32 → Int32 → (Nat → Int32) → (Nat → Int32) → (Nat → Int32) → (Nat → Int32) → (Nat → Int32) → (Nat → Int32) → (Nat → Int32) → (Nat → Int32) → (Nat → Int32) → (Nat → Int32) → (Nat → Int32) → (Nat → Int32) → (Nat → Int32) → (Nat → Int32) → (Nat → Int32) → Prop} {x2 x3 w : Int32}
    (h8 : a8 1 = 5) (h9 : a9 1 = w) (h11 : a11 1 = 1) (h12 : a12 1 = 2) (H : J20 (mr_st re x2 x3 w) 1 2 a1 a2 a3 a4 a5 a6 a7 a8 a9 a10 (upd a11 1 2) a12 a13 a14 a15) :
    wX_reduceGroup_29 post J20 5 1 pc bs mo fa ofs lo hi re bu mp sc se oe 2 x2 x3 a1 a2 a3 a4 a5 a6 a7 a8 a9 a10 a11 a12 a13 a14 a15 := by
  have K : ∀ r, r = mr_st re x2 x3 w → wX_reduceGroup_112 post J20 (wX_reduceGroup_29 post J20 5 1 pc bs mo fa ofs lo hi re bu mp sc se oe 1) 5 r 1 pc bs mo fa ofs lo hi re bu mp sc se oe a1 a2 a3 a4 a5 a6 a7 a8 a9 a10 a11 a12 a13 a14 a15 := by
    intro r hr
    subst hr
    refine ⟨vp_in_iff.mpr (by decide), vp_in_iff.mpr (by decide), nm_r (e' := upd a11 1 2) (mr_u (by decide) (mr_inc h11 (by decide) (by decide))) ?_⟩
    exact ⟨vp_in_iff.mpr (by decide), vp_in_iff.mpr (by decide), br_t (mr_le (mr_g h12 (by decide)) (mr_g (k' := 1) pk_us (by decide)) (by decide)) (nm_r (e' := 2) (by decide) H)⟩
  refine ⟨vp_in_iff.mpr (by decide), vp_in_iff.mpr (by decide), br_f (mr_nle (mr_g h12 (by decide)) (mr_g h11 (by decide)) (by decide)) ⟨vp_in_iff.mpr (by decide), mr_gi h11 (by decide) (vp_in_iff.mpr (by decide)), br_t (mr_gg h11 (by decide) (j := 1) (by decide) h8) ⟨vp_in_iff.mpr (by decide), mr_gi h11 (by decide) (vp_in_iff.mpr (by decide)), nm_r (e' := w) (mr_gg h11 (by decide) (j := 1) (by decide) h9) ?_⟩⟩⟩
  refine br_c (fun h4 => nm_e (K _ ?_)) (fun h4 => br_c (fun h3 => K _ ?_) (fun h3 => mr_combined (K _ ?_)))
  · rw [mr_st, if_pos h4]
  · rw [mr_st, if_neg h4, if_pos h3]
  · rw [mr_st, if_neg h4, if_neg h3]
theorem mr_g20e_1 {post : St2 → Prop} {x2 x3 : Int32} (H : post (pc, bs, mo, fa, ofs, lo, hi, re, bu, mp, 1, se, 1, a1, a2, a3, a4, a5, a6, a7, a8, a9, a10, a11, a12, a13, upd a14 0 5, upd a15 0 x2)) : wX_reduceGroup_20 post 5 pc bs mo fa ofs lo hi re bu mp 1 se 0 1 x2 x3 1 a1 a2 a3 a4 a5 a6 a7 a8 a9 a10 a11 a12 a13 a14 a15 :=
  br_t (by decide) ⟨vp_in_iff.mpr (by decide), nm_r (e' := upd a14 0 5) (mr_u (by decide) (by decide)) ⟨vp_in_iff.mpr (by decide), nm_r (e' := upd a15 0 x2) (mr_u (by decide) rfl) (nm_r (e' := 1) (by decide) H)⟩⟩
theorem mr_g20e_2 {post : St2 → Prop} {x2 x3 : Int32} (H : post (pc, bs, mo, fa, ofs, lo, hi, re, bu, mp, 2, se, 1, a1, a2, a3, a4, a5, a6, a7, a8, a9, a10, a11, a12, a13, upd a14 0 5, upd a15 0 x2)) : wX_reduceGroup_20 post 5 pc bs mo fa ofs lo hi re bu mp 2 se 0 1 x2 x3 2 a1 a2 a3 a4 a5 a6 a7 a8 a9 a10 a11 a12 a13 a14 a15 :=
  br_t (by decide) ⟨vp_in_iff.mpr (by decide), nm_r (e' := upd a14 0 5) (mr_u (by decide) (by decide)) ⟨vp_in_iff.mpr (by decide), nm_r (e' := upd a15 0 x2) (mr_u (by decide) rfl) (nm_r (e' := 1) (by decide) H)⟩⟩
theorem mr_g20_1 {post : St2 → Prop} {x2 w : Int32} (h8 : a8 0 = 5) (h9 : a9 0 = w) (h11 : a11 0 = 0) (h12 : a12 0 = 1)
    (H : post (pc, bs, mo, fa, ofs, lo, hi, re, bu, mp, 1, se, 1, a1, a2, a3, a4, a5, a6, a7, a8, a9, a10, upd a11 0 1, a12, a13, upd a14 0 5, upd a15 0 (mr_st re x2 0 w))) : wX_reduceGroup_20 post 5 pc bs mo fa ofs lo hi re bu mp 1 se 0 2 x2 0 0 a1 a2 a3 a4 a5 a6 a7 a8 a9 a10 a11 a12 a13 a14 a15 :=
  br_f (by decide) ⟨2, mr_g29_0 h8 h9 h11 h12 (mr_g20e_1 H)⟩
theorem mr_g20_2 {post : St2 → Prop} {x2 w w' : Int32} (h8 : a8 0 = 5) (h9 : a9 0 = w) (h11 : a11 0 = 0) (h12 : a12 0 = 1) (k8 : a8 1 = 5) (k9 : a9 1 = w') (k11 : a11 1 = 1) (k12 : a12 1 = 2)
    (H : post (pc, bs, mo, fa, ofs, lo, hi, re, bu, mp, 2, se, 1, a1, a2, a3, a4, a5, a6, a7, a8, a9, a10, upd (upd a11 0 1) 1 2, a12, a13, upd a14 0 5, upd a15 0 (mr_st re (mr_st re x2 0 w) 1 w'))) : wX_reduceGroup_20 post 5 pc bs mo fa ofs lo hi re bu mp 2 se 0 3 x2 0 0 a1 a2 a3 a4 a5 a6 a7 a8 a9 a10 a11 a12 a13 a14 a15 := by
  have k11' : upd a11 0 1 1 = 1 := by rw [pk_un (by decide), k11]
  exact br_f (by decide) ⟨2, mr_g29_0 h8 h9 h11 h12 (br_f (by decide) ⟨2, mr_g29_1 k8 k9 k11' k12 (mr_g20e_2 H)⟩)⟩
theorem mr_grp_1 {post : St2 → Prop} {w : Int32} (h8 : a8 0 = 5) (h9 : a9 0 = w) (h11 : a11 0 = 0) (h12 : a12 0 = 1)
    (H : post (pc, bs, mo, fa, ofs, lo, hi, re, bu, mp, 1, se, 1, a1, a2, a3, a4, a5, a6, a7, a8, a9, a10, upd a11 0 1, a12, a13, upd a14 0 5, upd a15 0 (mr_r1 re w))) : wpX_reduceGroup post (pc, bs, mo, fa, ofs, lo, hi, re, bu, mp, 1, se, 0, a1, a2, a3, a4, a5, a6, a7, a8, a9, a10, a11, a12, a13, a14, a15) 5 := by
  rw [mr_r1, mr_i0] at H
  refine br_c (fun h => ⟨2, mr_g20_1 h8 h9 h11 h12 ?_⟩) (fun h => ⟨2, mr_g20_1 h8 h9 h11 h12 ?_⟩)
  · rw [if_pos h] at H; exact H
  · rw [if_neg h] at H; exact H
theorem mr_grp_2 {post : St2 → Prop} {w w' : Int32} (h8 : a8 0 = 5) (h9 : a9 0 = w) (h11 : a11 0 = 0) (h12 : a12 0 = 1) (k8 : a8 1 = 5) (k9 : a9 1 = w') (k11 : a11 1 = 1) (k12 : a12 1 = 2)
    (H : post (pc, bs, mo, fa, ofs, lo, hi, re, bu, mp, 2, se, 1, a1, a2, a3, a4, a5, a6, a7, a8, a9, a10, upd (upd a11 0 1) 1 2, a12, a13, upd a14 0 5, upd a15 0 (mr_r2 re w w'))) : wpX_reduceGroup post (pc, bs, mo, fa, ofs, lo, hi, re, bu, mp, 2, se, 0, a1, a2, a3, a4, a5, a6, a7, a8, a9, a10, a11, a12, a13, a14, a15) 5 := by
  rw [mr_r2, mr_r1, mr_i0] at H
  refine br_c (fun h => ⟨3, mr_g20_2 h8 h9 h11 h12 k8 k9 k11 k12 ?_⟩) (fun h => ⟨3, mr_g20_2 h8 h9 h11 h12 k8 k9 k11 k12 ?_⟩)
  · rw [if_pos h] at H; exact H
  · rw [if_neg h] at H; exact H
/-! openSpills and leastHead -/
theorem mr_open_0 {post : St2 → Prop} (H : post (pc, bs, mo, fa, ofs, lo, hi, re, bu, mp, 0, se, oe, a1, a2, a3, a4, a5, a6, a7, a8, a9, a10, a11, a12, a13, a14, a15)) : wpX_openSpills post (pc, bs, mo, fa, ofs, lo, hi, re, bu, mp, 0, se, oe, a1, a2, a3, a4, a5, a6, a7, a8, a9, a10, a11, a12, a13, a14, a15) 0 := ⟨1, br_t (by decide) H⟩
theorem mr_open_1 {post : St2 → Prop} (h10 : a10 0 = 0) (g10 : a10 1 = 1) (H : post (pc, bs, mo, fa, ofs, lo, hi, re, bu, mp, 1, se, oe, a1, a2, a3, a4, a5, a6, a7, a8, a9, a10, upd a11 0 0, upd a12 0 1, a13, a14, a15)) : wpX_openSpills post (pc, bs, mo, fa, ofs, lo, hi, re, bu, mp, 1, se, oe, a1, a2, a3, a4, a5, a6, a7, a8, a9, a10, a11, a12, a13, a14, a15) 0 :=
  ⟨2, br_f (by decide) ⟨vp_in_iff.mpr (by decide), vp_in_iff.mpr (by decide), nm_r (e' := upd a11 0 0) (mr_u (by decide) (mr_nar (mr_g h10 (by decide)) (by decide))) ⟨vp_in_iff.mpr (by decide), vp_in_iff.mpr (by decide), nm_r (e' := upd a12 0 1) (mr_u (by decide) (mr_nar (mr_g g10 (by decide)) (by decide))) (nm_r (e' := 1) (by decide) (br_t (by decide) H))⟩⟩⟩
theorem mr_open_2 {post : St2 → Prop} (h10 : a10 0 = 0) (g10 : a10 1 = 1) (k10 : a10 5 = 1) (m10 : a10 6 = 2) (H : post (pc, bs, mo, fa, ofs, lo, hi, re, bu, mp, 2, se, oe, a1, a2, a3, a4, a5, a6, a7, a8, a9, a10, upd (upd a11 0 0) 1 1, upd (upd a12 0 1) 1 2, a13, a14, a15)) : wpX_openSpills post (pc, bs, mo, fa, ofs, lo, hi, re, bu, mp, 2, se, oe, a1, a2, a3, a4, a5, a6, a7, a8, a9, a10, a11, a12, a13, a14, a15) 0 := by
  refine ⟨3, br_f (by decide) ⟨vp_in_iff.mpr (by decide), vp_in_iff.mpr (by decide), nm_r (e' := upd a11 0 0) (mr_u (by decide) (mr_nar (mr_g h10 (by decide)) (by decide))) ⟨vp_in_iff.mpr (by decide), vp_in_iff.mpr (by decide), nm_r (e' := upd a12 0 1) (mr_u (by decide) (mr_nar (mr_g g10 (by decide)) (by decide))) (nm_r (e' := 1) (by decide) ?_)⟩⟩⟩
  exact br_f (by decide) ⟨vp_in_iff.mpr (by decide), vp_in_iff.mpr (by decide), nm_r (e' := upd (upd a11 0 0) 1 1) (mr_u (by decide) (mr_nar (mr_g k10 (by decide)) (by decide))) ⟨vp_in_iff.mpr (by decide), vp_in_iff.mpr (by decide), nm_r (e' := upd (upd a12 0 1) 1 2) (mr_u (by decide) (mr_nar (mr_g m10 (by decide)) (by decide))) (nm_r (e' := 2) (by decide) (br_t (by decide) H))⟩⟩
theorem mr_lh_0 {post : Int32 → Prop} (H : post (-1)) : wpX_leastHead post (pc, bs, mo, fa, ofs, lo, hi, re, bu, mp, 0, se, oe, a1, a2, a3, a4, a5, a6, a7, a8, a9, a10, a11, a12, a13, a14, a15) := ⟨1, br_t (by decide) H⟩
theorem mr_lhE_1 {post : Int32 → Prop} (h11 : a11 0 = 1) (h12 : a12 0 = 1) (H : post (-1)) : wpX_leastHead post (pc, bs, mo, fa, ofs, lo, hi, re, bu, mp, 1, se, oe, a1, a2, a3, a4, a5, a6, a7, a8, a9, a10, a11, a12, a13, a14, a15) :=
  ⟨2, br_f (by decide) ⟨vp_in_iff.mpr (by decide), vp_in_iff.mpr (by decide), br_t (mr_ee (mr_g h11 (by decide)) (mr_g h12 (by decide)) (by decide)) (nm_r (e' := 1) (by decide) (br_t (by decide) H))⟩⟩
theorem mr_lhE_2 {post : Int32 → Prop} (h11 : a11 0 = 1) (h12 : a12 0 = 1) (k11 : a11 1 = 2) (k12 : a12 1 = 2) (H : post (-1)) : wpX_leastHead post (pc, bs, mo, fa, ofs, lo, hi, re, bu, mp, 2, se, oe, a1, a2, a3, a4, a5, a6, a7, a8, a9, a10, a11, a12, a13, a14, a15) := by
  refine ⟨3, br_f (by decide) ⟨vp_in_iff.mpr (by decide), vp_in_iff.mpr (by decide), br_t (mr_ee (mr_g h11 (by decide)) (mr_g h12 (by decide)) (by decide)) (nm_r (e' := 1) (by decide) ?_)⟩⟩
  exact br_f (by decide) ⟨vp_in_iff.mpr (by decide), vp_in_iff.mpr (by decide), br_t (mr_ee (mr_g k11 (by decide)) (mr_g k12 (by decide)) (by decide)) (nm_r (e' := 2) (by decide) (br_t (by decide) H))⟩
theorem mr_lhF_1 {post : Int32 → Prop} (h8 : a8 0 = 5) (h11 : a11 0 = 0) (h12 : a12 0 = 1) (H : post 5) : wpX_leastHead post (pc, bs, mo, fa, ofs, lo, hi, re, bu, mp, 1, se, oe, a1, a2, a3, a4, a5, a6, a7, a8, a9, a10, a11, a12, a13, a14, a15) :=
  ⟨2, br_f (by decide) ⟨vp_in_iff.mpr (by decide), vp_in_iff.mpr (by decide), br_f (mr_ne (mr_g h11 (by decide)) (mr_g h12 (by decide)) (by decide)) ⟨vp_in_iff.mpr (by decide), mr_gi h11 (by decide) (vp_in_iff.mpr (by decide)), nm_r (e' := 5) (mr_gg h11 (by decide) (j := 0) (by decide) h8) (br_t (by decide) (nm_r (e' := 1) (by decide) (br_t (by decide) H)))⟩⟩⟩
theorem mr_lhF_2 {post : Int32 → Prop} (h8 : a8 0 = 5) (h11 : a11 0 = 0) (h12 : a12 0 = 1) (k8 : a8 1 = 5) (k11 : a11 1 = 1) (k12 : a12 1 = 2) (H : post 5) : wpX_leastHead post (pc, bs, mo, fa, ofs, lo, hi, re, bu, mp, 2, se, oe, a1, a2, a3, a4, a5, a6, a7, a8, a9, a10, a11, a12, a13, a14, a15) := by
  refine ⟨3, br_f (by decide) ⟨vp_in_iff.mpr (by decide), vp_in_iff.mpr (by decide), br_f (mr_ne (mr_g h11 (by decide)) (mr_g h12 (by decide)) (by decide)) ⟨vp_in_iff.mpr (by decide), mr_gi h11 (by decide) (vp_in_iff.mpr (by decide)), nm_r (e' := 5) (mr_gg h11 (by decide) (j := 0) (by decide) h8) (br_t (by decide) (nm_r (e' := 1) (by decide) ?_))⟩⟩⟩
  exact br_f (by decide) ⟨vp_in_iff.mpr (by decide), vp_in_iff.mpr (by decide), br_f (mr_ne (mr_g k11 (by decide)) (mr_g k12 (by decide)) (by decide)) ⟨vp_in_iff.mpr (by decide), mr_gi k11 (by decide) (vp_in_iff.mpr (by decide)), nm_r (e' := 5) (mr_gg k11 (by decide) (j := 1) (by decide) k8) (br_f (by decide) (br_t (by decide) (nm_r (e' := 2) (by decide) (br_t (by decide) H))))⟩⟩
/-! one try -/
theorem mr_att_0 {post : St2 → Prop} {k : Nat} {x3 : Int32} (hx : ¬ x3 < 0) (H : wX_reducePart_12 post 0 0 k (x3 + (-1)) pc bs mo fa ofs lo hi re bu mp 0 se 0 a1 a2 a3 a4 a5 a6 a7 a8 a9 a10 a11 a12 a13 a14 a15) : wX_reducePart_12 post 0 0 (k + 1) x3 pc bs mo fa ofs lo hi re bu mp 0 se oe a1 a2 a3 a4 a5 a6 a7 a8 a9 a10 a11 a12 a13 a14 a15 :=
  br_f hx (mr_open_0 (mr_lh_0 ⟨1, br_t (by decide) (nm_e H)⟩))
theorem mr_att_1 {post : St2 → Prop} {k : Nat} {x3 w : Int32} (hx : ¬ x3 < 0) (h8 : a8 0 = 5) (h9 : a9 0 = w) (h10 : a10 0 = 0) (g10 : a10 1 = 1)
    (H : ∀ b11 b12 b14 b15 : Nat → Int32, b14 0 = 5 → b15 0 = mr_r1 re w → wX_reducePart_12 post 0 0 k (x3 + (-1)) pc bs mo fa ofs lo hi re bu mp 1 se 1 a1 a2 a3 a4 a5 a6 a7 a8 a9 a10 b11 b12 a13 b14 b15) : wX_reducePart_12 post 0 0 (k + 1) x3 pc bs mo fa ofs lo hi re bu mp 1 se oe a1 a2 a3 a4 a5 a6 a7 a8 a9 a10 a11 a12 a13 a14 a15 := by
  refine br_f hx (mr_open_1 h10 g10 (mr_lhF_1 h8 pk_us pk_us ⟨2, br_f (by decide) (br_f (by decide) (mr_grp_1 h8 h9 pk_us pk_us (br_c (fun _ => ?_) (fun _ => ?_))))⟩))
  · exact mr_lhE_1 pk_us pk_us (br_t (by decide) (nm_e (H _ _ _ _ pk_us pk_us)))
  · exact mr_lhE_1 pk_us pk_us (br_t (by decide) (nm_e (H _ _ _ _ pk_us pk_us)))
theorem mr_att_2 {post : St2 → Prop} {k : Nat} {x3 w w' : Int32} (hx : ¬ x3 < 0) (h8 : a8 0 = 5) (h9 : a9 0 = w) (k8 : a8 1 = 5) (k9 : a9 1 = w') (h10 : a10 0 = 0) (g10 : a10 1 = 1) (k10 : a10 5 = 1) (m10 : a10 6 = 2)
    (H : ∀ b11 b12 b14 b15 : Nat → Int32, b14 0 = 5 → b15 0 = mr_r2 re w w' → wX_reducePart_12 post 0 0 k (x3 + (-1)) pc bs mo fa ofs lo hi re bu mp 2 se 1 a1 a2 a3 a4 a5 a6 a7 a8 a9 a10 b11 b12 a13 b14 b15) : wX_reducePart_12 post 0 0 (k + 1) x3 pc bs mo fa ofs lo hi re bu mp 2 se oe a1 a2 a3 a4 a5 a6 a7 a8 a9 a10 a11 a12 a13 a14 a15 := by
  have u0 : ∀ (f : Nat → Int32) (x y : Int32), upd (upd f 0 x) 1 y 0 = x := fun f x y => by rw [pk_un (by decide), pk_us]
  refine br_f hx (mr_open_2 h10 g10 k10 m10 (mr_lhF_2 h8 (u0 _ _ _) (u0 _ _ _) k8 pk_us pk_us ⟨2, br_f (by decide) (br_f (by decide) (mr_grp_2 h8 h9 (u0 _ _ _) (u0 _ _ _) k8 k9 pk_us pk_us (br_c (fun _ => ?_) (fun _ => ?_))))⟩))
  · exact mr_lhE_2 (u0 _ _ _) (u0 _ _ _) pk_us pk_us (br_t (by decide) (nm_e (H _ _ _ _ pk_us pk_us)))
  · exact mr_lhE_2 (u0 _ _ _) (u0 _ _ _) pk_us pk_us (br_t (by decide) (nm_e (H _ _ _ _ pk_us pk_us)))
/-! all tries -/
theorem mr_loop_0 {post : St2 → Prop} (H : post (pc, bs, mo, fa, ofs, lo, hi, re, bu, mp, 0, se, 0, a1, a2, a3, a4, a5, a6, a7, a8, a9, a10, a11, a12, a13, a14, a15)) : ∀ k, k ≤ 3 → ∀ oe : Int32, wX_reducePart_12 post 0 0 (k + 2) (nI k) pc bs mo fa ofs lo hi re bu mp 0 se oe a1 a2 a3 a4 a5 a6 a7 a8 a9 a10 a11 a12 a13 a14 a15 := by
  intro k
  induction k with
  | zero => exact fun _ oe => mr_att_0 (by decide) (br_t (by decide) H)
  | succ k ih =>
    intro hk oe
    refine mr_att_0 (nI_pos (by omega)) ?_
    rw [pk_m1]
    exact ih (by omega) 0
theorem mr_loop_1 {post : St2 → Prop} {w : Int32} (h8 : a8 0 = 5) (h9 : a9 0 = w) (h10 : a10 0 = 0) (g10 : a10 1 = 1)
    (H : ∀ b11 b12 b14 b15 : Nat → Int32, b14 0 = 5 → b15 0 = mr_r1 re w → post (pc, bs, mo, fa, ofs, lo, hi, re, bu, mp, 1, se, 1, a1, a2, a3, a4, a5, a6, a7, a8, a9, a10, b11, b12, a13, b14, b15)) :
    ∀ k, k ≤ 3 → ∀ (oe : Int32) (a11 a12 a14 a15 : Nat → Int32), wX_reducePart_12 post 0 0 (k + 2) (nI k) pc bs mo fa ofs lo hi re bu mp 1 se oe a1 a2 a3 a4 a5 a6 a7 a8 a9 a10 a11 a12 a13 a14 a15 := by
  intro k
  induction k with
  | zero => exact fun _ oe a11 a12 a14 a15 => mr_att_1 (by decide) h8 h9 h10 g10 (fun b11 b12 b14 b15 e e' => br_t (by decide) (H b11 b12 b14 b15 e e'))
  | succ k ih =>
    intro hk oe a11 a12 a14 a15
    refine mr_att_1 (nI_pos (by omega)) h8 h9 h10 g10 (fun b11 b12 b14 b15 e e' => ?_)
    rw [pk_m1]
    exact ih (by omega) 1 b11 b12 b14 b15
theorem mr_loop_2 {post : St2 → Prop} {w w' : Int32} (h8 : a8 0 = 5) (h9 : a9 0 = w) (k8 : a8 1 = 5) (k9 : a9 1 = w') (h10 : a10 0 = 0) (g10 : a10 1 = 1) (k10 : a10 5 = 1) (m10 : a10 6 = 2)
    (H : ∀ b11 b12 b14 b15 : Nat → Int32, b14 0 = 5 → b15 0 = mr_r2 re w w' → post (pc, bs, mo, fa, ofs, lo, hi, re, bu, mp, 2, se, 1, a1, a2, a3, a4, a5, a6, a7, a8, a9, a10, b11, b12, a13, b14, b15)) :
    ∀ k, k ≤ 3 → ∀ (oe : Int32) (a11 a12 a14 a15 : Nat → Int32), wX_reducePart_12 post 0 0 (k + 2) (nI k) pc bs mo fa ofs lo hi re bu mp 2 se oe a1 a2 a3 a4 a5 a6 a7 a8 a9 a10 a11 a12 a13 a14 a15 := by
  intro k
  induction k with
  | zero => exact fun _ oe a11 a12 a14 a15 => mr_att_2 (by decide) h8 h9 k8 k9 h10 g10 k10 m10 (fun b11 b12 b14 b15 e e' => br_t (by decide) (H b11 b12 b14 b15 e e'))
  | succ k ih =>
    intro hk oe a11 a12 a14 a15
    refine mr_att_2 (nI_pos (by omega)) h8 h9 k8 k9 h10 g10 k10 m10 (fun b11 b12 b14 b15 e e' => ?_)
    rw [pk_m1]
    exact ih (by omega) 1 b11 b12 b14 b15
end
end
section
/-! a whole run -/
theorem mr_sum {f g : Nat → Int32} {i i' : Nat} {x y z : Int32} (hi : i = i') (hf : f i' = 0) (hg : g i' = y) (hs : x + (0 + y) = z) : x + (f i + g i) = z := by rw [hi, hf, hg, hs]
/-- what the records and the failures to come hold ahead of a run -/
def mr_pre (v w : Int32) (k : Nat) (a1 a2 a3 a4 a5 : Nat → Int32) : Prop :=
  (a1 0 = 0 ∧ a1 1 = 1 ∧ a1 2 = 1 ∧ a1 3 = 0) ∧ (a2 16 = -11 ∧ a2 32 = 5) ∧ (a3 16 = v ∧ a3 32 = w) ∧ (a4 0 = 0 ∧ a4 1 = 0 ∧ a4 2 = 0 ∧ a4 3 = 0) ∧ (a5 0 = nI k ∧ a5 1 = 0 ∧ a5 2 = 0 ∧ a5 3 = 0)
/-- what stands behind a run: e keys in part 0, n pairs mapped, the result r -/
def mr_fin (e n r pc mp oe : Int32) (a13 a14 a15 : Nat → Int32) : Prop :=
  pc = 1 ∧ mp = n ∧ oe = e ∧ a13 0 = 0 ∧ (a13 1 = e ∧ a13 2 = e ∧ a13 3 = e ∧ a13 4 = e) ∧ (e = 1 → a14 0 = 5 ∧ a15 0 = r)
def mr_out (lo hi v : Int32) : Prop := v < lo ∨ ¬ v ≤ hi
def mr_inn (lo hi v : Int32) : Prop := ¬ v < lo ∧ v ≤ hi
section
variable {pc bs mo fa ofs lo hi re bu mp sc se oe : Int32} {a1 a2 a3 a4 a5 a6 a7 a8 a9 a10 a11 a12 a13 a14 a15 : Nat → Int32}
theorem mr_ftc {post : Int32 → Prop} {v w : Int32} {k : Nat} (hp : mr_pre v w k a1 a2 a3 a4 a5) (H : post (nI k)) : wpX_failuresToCome post (pc, bs, mo, fa, ofs, lo, hi, re, bu, mp, sc, se, oe, a1, a2, a3, a4, a5, a6, a7, a8, a9, a10, a11, a12, a13, a14, a15) := by
  obtain ⟨_, _, _, ⟨h0, h1, h2, h3⟩, g0, g1, g2, g3⟩ := hp
  refine ⟨5, br_f (by decide) ⟨vp_in_iff.mpr (by decide), vp_in_iff.mpr (by decide), nm_r (e' := nI k) (mr_sum (by decide) h0 g0 (by rw [Int32.zero_add, Int32.zero_add])) (nm_r (e' := 1) (by decide) ?_)⟩⟩
  refine br_f (by decide) ⟨vp_in_iff.mpr (by decide), vp_in_iff.mpr (by decide), nm_r (e' := nI k) (mr_sum (by decide) h1 g1 (by rw [Int32.zero_add, Int32.add_zero])) (nm_r (e' := 2) (by decide) ?_)⟩
  refine br_f (by decide) ⟨vp_in_iff.mpr (by decide), vp_in_iff.mpr (by decide), nm_r (e' := nI k) (mr_sum (by decide) h2 g2 (by rw [Int32.zero_add, Int32.add_zero])) (nm_r (e' := 3) (by decide) ?_)⟩
  refine br_f (by decide) ⟨vp_in_iff.mpr (by decide), vp_in_iff.mpr (by decide), nm_r (e' := nI k) (mr_sum (by decide) h3 g3 (by rw [Int32.zero_add, Int32.add_zero])) (nm_r (e' := 4) (by decide) ?_)⟩
  exact br_t (by decide) H
theorem mr_rpart_0 {post : St2 → Prop} {k : Nat} (hk : k ≤ 3) (h5 : a5 0 = nI k) (H : post (pc, bs, mo, fa, ofs, lo, hi, re, bu, mp, 0, se, 0, a1, a2, a3, a4, a5, a6, a7, a8, a9, a10, a11, a12, a13, a14, a15)) : wpX_reducePart post (pc, bs, mo, fa, ofs, lo, hi, re, bu, mp, 0, se, 0, a1, a2, a3, a4, a5, a6, a7, a8, a9, a10, a11, a12, a13, a14, a15) 0 :=
  ⟨vp_in_iff.mpr (by decide), nm_r (e' := nI k) (mr_g h5 (by decide)) ⟨k + 2, mr_loop_0 H k hk 0⟩⟩
theorem mr_rpart_1 {post : St2 → Prop} {k : Nat} {w : Int32} (hk : k ≤ 3) (h5 : a5 0 = nI k) (h8 : a8 0 = 5) (h9 : a9 0 = w) (h10 : a10 0 = 0) (g10 : a10 1 = 1)
    (H : ∀ b11 b12 b14 b15 : Nat → Int32, b14 0 = 5 → b15 0 = mr_r1 re w → post (pc, bs, mo, fa, ofs, lo, hi, re, bu, mp, 1, se, 1, a1, a2, a3, a4, a5, a6, a7, a8, a9, a10, b11, b12, a13, b14, b15)) : wpX_reducePart post (pc, bs, mo, fa, ofs, lo, hi, re, bu, mp, 1, se, 0, a1, a2, a3, a4, a5, a6, a7, a8, a9, a10, a11, a12, a13, a14, a15) 0 :=
  ⟨vp_in_iff.mpr (by decide), nm_r (e' := nI k) (mr_g h5 (by decide)) ⟨k + 2, mr_loop_1 h8 h9 h10 g10 H k hk 0 a11 a12 a14 a15⟩⟩
theorem mr_rpart_2 {post : St2 → Prop} {k : Nat} {w w' : Int32} (hk : k ≤ 3) (h5 : a5 0 = nI k) (h8 : a8 0 = 5) (h9 : a9 0 = w) (k8 : a8 1 = 5) (k9 : a9 1 = w') (h10 : a10 0 = 0) (g10 : a10 1 = 1) (k10 : a10 5 = 1) (m10 : a10 6 = 2)
    (H : ∀ b11 b12 b14 b15 : Nat → Int32, b14 0 = 5 → b15 0 = mr_r2 re w w' → post (pc, bs, mo, fa, ofs, lo, hi, re, bu, mp, 2, se, 1, a1, a2, a3, a4, a5, a6, a7, a8, a9, a10, b11, b12, a13, b14, b15)) : wpX_reducePart post (pc, bs, mo, fa, ofs, lo, hi, re, bu, mp, 2, se, 0, a1, a2, a3, a4, a5, a6, a7, a8, a9, a10, a11, a12, a13, a14, a15) 0 :=
  ⟨vp_in_iff.mpr (by decide), nm_r (e' := nI k) (mr_g h5 (by decide)) ⟨k + 2, mr_loop_2 h8 h9 k8 k9 h10 g10 k10 m10 H k hk 0 a11 a12 a14 a15⟩⟩
theorem mr_104_0 {post : Int32 → St2 → Prop} (H : ∀ b4 b5 : Nat → Int32, post 0 (1, bs, mo, fa, ofs, lo, hi, re, bu, mp, sc, se, 0, a1, a2, a3, b4, b5, a6, a7, a8, a9, a10, a11, a12, upd (upd (upd (upd a13 1 0) 2 0) 3 0) 4 0, a14, a15)) :
    wX_run_104 post (wX_run_71 post 0 4) 0 0 1 bs mo fa ofs lo hi re bu mp sc se 0 a1 a2 a3 a4 a5 a6 a7 a8 a9 a10 a11 a12 a13 a14 a15 := by
  refine ⟨vp_in_iff.mpr (by decide), nm_e ⟨vp_in_iff.mpr (by decide), nm_e (nm_r (e' := 1) (by decide) ?_)⟩⟩
  refine br_f (by decide) ⟨vp_in_iff.mpr (by decide), nm_r (e' := upd a13 1 0) (mr_u (by decide) (by decide)) (br_t rfl (br_t (by decide) ⟨vp_in_iff.mpr (by decide), nm_e ⟨vp_in_iff.mpr (by decide), nm_e (nm_r (e' := 2) (by decide) ?_)⟩⟩))⟩
  refine br_f (by decide) ⟨vp_in_iff.mpr (by decide), nm_r (e' := upd (upd a13 1 0) 2 0) (mr_u (by decide) (by decide)) (br_t rfl (br_t (by decide) ⟨vp_in_iff.mpr (by decide), nm_e ⟨vp_in_iff.mpr (by decide), nm_e (nm_r (e' := 3) (by decide) ?_)⟩⟩))⟩
  refine br_f (by decide) ⟨vp_in_iff.mpr (by decide), nm_r (e' := upd (upd (upd a13 1 0) 2 0) 3 0) (mr_u (by decide) (by decide)) (br_t rfl (br_t (by decide) ⟨vp_in_iff.mpr (by decide), nm_e ⟨vp_in_iff.mpr (by decide), nm_e (nm_r (e' := 4) (by decide) ?_)⟩⟩))⟩
  exact br_t (by decide) (nm_r (e' := upd (upd (upd (upd a13 1 0) 2 0) 3 0) 4 0) (mr_u (by decide) (by decide)) (br_t rfl (H _ _)))
theorem mr_104_1 {post : Int32 → St2 → Prop} (H : ∀ b4 b5 : Nat → Int32, post 1 (1, bs, mo, fa, ofs, lo, hi, re, bu, mp, sc, se, 1, a1, a2, a3, b4, b5, a6, a7, a8, a9, a10, a11, a12, upd (upd (upd (upd a13 1 1) 2 1) 3 1) 4 1, a14, a15)) :
    wX_run_104 post (wX_run_71 post 0 4) 0 0 1 bs mo fa ofs lo hi re bu mp sc se 1 a1 a2 a3 a4 a5 a6 a7 a8 a9 a10 a11 a12 a13 a14 a15 := by
  refine ⟨vp_in_iff.mpr (by decide), nm_e ⟨vp_in_iff.mpr (by decide), nm_e (nm_r (e' := 1) (by decide) ?_)⟩⟩
  refine br_f (by decide) ⟨vp_in_iff.mpr (by decide), nm_r (e' := upd a13 1 1) (mr_u (by decide) (by decide)) (br_t rfl (br_t (by decide) ⟨vp_in_iff.mpr (by decide), nm_e ⟨vp_in_iff.mpr (by decide), nm_e (nm_r (e' := 2) (by decide) ?_)⟩⟩))⟩
  refine br_f (by decide) ⟨vp_in_iff.mpr (by decide), nm_r (e' := upd (upd a13 1 1) 2 1) (mr_u (by decide) (by decide)) (br_t rfl (br_t (by decide) ⟨vp_in_iff.mpr (by decide), nm_e ⟨vp_in_iff.mpr (by decide), nm_e (nm_r (e' := 3) (by decide) ?_)⟩⟩))⟩
  refine br_f (by decide) ⟨vp_in_iff.mpr (by decide), nm_r (e' := upd (upd (upd a13 1 1) 2 1) 3 1) (mr_u (by decide) (by decide)) (br_t rfl (br_t (by decide) ⟨vp_in_iff.mpr (by decide), nm_e ⟨vp_in_iff.mpr (by decide), nm_e (nm_r (e' := 4) (by decide) ?_)⟩⟩))⟩
  exact br_t (by decide) (nm_r (e' := upd (upd (upd (upd a13 1 1) 2 1) 3 1) 4 1) (mr_u (by decide) (by decide)) (br_t rfl (H _ _)))
theorem mr_71_0 {post : Int32 → St2 → Prop} {k : Nat} {r : Int32} (hk : k ≤ 3) (h5 : a5 0 = nI k)
    (H : ∀ (pc oe : Int32) (a4 a5 a11 a12 a13 a14 a15 : Nat → Int32), mr_fin 0 mp r pc mp oe a13 a14 a15 → post 0 (pc, bs, mo, fa, ofs, lo, hi, re, bu, mp, 0, se, oe, a1, a2, a3, a4, a5, a6, a7, a8, a9, a10, a11, a12, a13, a14, a15)) : ∃ fu, wX_run_71 post 0 fu 0 1 bs mo fa ofs lo hi re bu mp 0 se 0 a1 a2 a3 a4 a5 a6 a7 a8 a9 a10 a11 a12 a13 a14 a15 :=
  ⟨5, br_f (by decide) ⟨vp_in_iff.mpr (by decide), nm_r (e' := upd a13 0 0) (mr_u (by decide) (by decide)) (br_t rfl (br_f (by decide) (mr_rpart_0 hk h5 (mr_104_0 (fun _ _ => H _ _ _ _ _ _ _ _ _ ⟨rfl, rfl, rfl, rfl, ⟨rfl, rfl, rfl, rfl⟩, fun z => absurd z (by decide)⟩)))))⟩⟩
theorem mr_71_1 {post : Int32 → St2 → Prop} {k : Nat} {w : Int32} (hk : k ≤ 3) (h5 : a5 0 = nI k) (h8 : a8 0 = 5) (h9 : a9 0 = w) (h10 : a10 0 = 0) (g10 : a10 1 = 1)
    (H : ∀ (pc oe : Int32) (a4 a5 a11 a12 a13 a14 a15 : Nat → Int32), mr_fin 1 mp (mr_r1 re w) pc mp oe a13 a14 a15 → post 1 (pc, bs, mo, fa, ofs, lo, hi, re, bu, mp, 1, se, oe, a1, a2, a3, a4, a5, a6, a7, a8, a9, a10, a11, a12, a13, a14, a15)) : ∃ fu, wX_run_71 post 0 fu 0 1 bs mo fa ofs lo hi re bu mp 1 se 0 a1 a2 a3 a4 a5 a6 a7 a8 a9 a10 a11 a12 a13 a14 a15 :=
  ⟨5, br_f (by decide) ⟨vp_in_iff.mpr (by decide), nm_r (e' := upd a13 0 0) (mr_u (by decide) (by decide)) (br_t rfl (br_f (by decide) (mr_rpart_1 hk h5 h8 h9 h10 g10 (fun b11 b12 b14 b15 e e' => mr_104_1 (fun _ _ => H _ _ _ _ _ _ _ _ _ ⟨rfl, rfl, rfl, rfl, ⟨rfl, rfl, rfl, rfl⟩, fun _ => ⟨e, e'⟩⟩)))))⟩⟩
theorem mr_71_2 {post : Int32 → St2 → Prop} {k : Nat} {w w' : Int32} (hk : k ≤ 3) (h5 : a5 0 = nI k) (h8 : a8 0 = 5) (h9 : a9 0 = w) (k8 : a8 1 = 5) (k9 : a9 1 = w') (h10 : a10 0 = 0) (g10 : a10 1 = 1) (k10 : a10 5 = 1) (m10 : a10 6 = 2)
    (H : ∀ (pc oe : Int32) (a4 a5 a11 a12 a13 a14 a15 : Nat → Int32), mr_fin 1 mp (mr_r2 re w w') pc mp oe a13 a14 a15 → post 1 (pc, bs, mo, fa, ofs, lo, hi, re, bu, mp, 2, se, oe, a1, a2, a3, a4, a5, a6, a7, a8, a9, a10, a11, a12, a13, a14, a15)) : ∃ fu, wX_run_71 post 0 fu 0 1 bs mo fa ofs lo hi re bu mp 2 se 0 a1 a2 a3 a4 a5 a6 a7 a8 a9 a10 a11 a12 a13 a14 a15 :=
  ⟨5, br_f (by decide) ⟨vp_in_iff.mpr (by decide), nm_r (e' := upd a13 0 0) (mr_u (by decide) (by decide)) (br_t rfl (br_f (by decide) (mr_rpart_2 hk h5 h8 h9 k8 k9 h10 g10 k10 m10 (fun b11 b12 b14 b15 e e' => mr_104_1 (fun _ _ => H _ _ _ _ _ _ _ _ _ ⟨rfl, rfl, rfl, rfl, ⟨rfl, rfl, rfl, rfl⟩, fun _ => ⟨e, e'⟩⟩)))))⟩⟩
theorem mr_runH {post : Int32 → St2 → Prop} {v w red : Int32} {k : Nat} (hk : k ≤ 3) (hp : mr_pre v w k a1 a2 a3 a4 a5) (h0 : ¬ red < 0) (h4 : red ≤ 4)
    (H : ∃ fu, wX_run_48 post 0 fu 0 pc bs mo fa ofs lo hi red bu 0 0 0 oe a1 a2 a3 a4 a5 a6 a7 a8 a9 a10 a11 a12 a13 a14 a15) : wpX_run post (pc, bs, mo, fa, ofs, lo, hi, re, bu, mp, sc, se, oe, a1, a2, a3, a4, a5, a6, a7, a8, a9, a10, a11, a12, a13, a14, a15) red :=
  br_f h0 (br_t h4 (mr_ftc hp (br_t (nI_le (b := 6) (by omega) (by decide)) H)))
theorem mr_runB {post : Int32 → St2 → Prop} {red : Int32} (hb : red < 0 ∨ ¬ red ≤ 4) (H : post (-1) (pc, bs, mo, fa, ofs, lo, hi, re, bu, mp, sc, se, oe, a1, a2, a3, a4, a5, a6, a7, a8, a9, a10, a11, a12, a13, a14, a15)) : wpX_run post (pc, bs, mo, fa, ofs, lo, hi, re, bu, mp, sc, se, oe, a1, a2, a3, a4, a5, a6, a7, a8, a9, a10, a11, a12, a13, a14, a15) red :=
  br_c (fun _ => H) (fun l => hb.elim (fun z => absurd z l) (fun z => br_f z H))
theorem mr_run_ff {post : Int32 → St2 → Prop} {v w red r : Int32} {k : Nat} (hk : k ≤ 3) (hp : mr_pre v w k a1 a2 a3 a4 a5) (h0 : ¬ red < 0) (h4 : red ≤ 4) (hv : mr_out lo hi v) (hw : mr_out lo hi w)
    (H : ∀ {pc bs mo fa ofs lo hi re bu mp sc se oe : Int32} {a1 a2 a3 a4 a5 a6 a7 a8 a9 a10 a11 a12 a13 a14 a15 : Nat → Int32}, mr_fin 0 0 r pc mp oe a13 a14 a15 → post 0 (pc, bs, mo, fa, ofs, lo, hi, re, bu, mp, sc, se, oe, a1, a2, a3, a4, a5, a6, a7, a8, a9, a10, a11, a12, a13, a14, a15)) : wpX_run post (1, 2, 16, 1, 0, lo, hi, re, bu, mp, sc, se, oe, a1, a2, a3, a4, a5, a6, a7, a8, a9, a10, a11, a12, a13, a14, a15) red := by
  refine mr_runH hk hp h0 h4 ⟨5, ?_⟩
  obtain ⟨⟨p0, p1, p2, p3⟩, ⟨q1, q2⟩, ⟨s1, s2⟩, ⟨t0, t1, t2, t3⟩, u0, u1, u2, u3⟩ := hp
  refine br_f (by decide) (mr_split_0 p0 t0 (nm_r (e' := 1) (by decide) ?_))
  refine br_f (by decide) (mr_splitOut_1 p1 s1 t1 hv (nm_r (e' := 2) (by decide) ?_))
  refine br_f (by decide) (mr_splitOut_2 p2 s2 t2 hw (nm_r (e' := 3) (by decide) ?_))
  refine br_f (by decide) (mr_split_3 p3 t3 (nm_r (e' := 4) (by decide) ?_))
  exact br_t (by decide) (mr_71_0 hk u0 (fun _ _ _ _ _ _ _ _ _ hf => H hf))
theorem mr_run_tf {post : Int32 → St2 → Prop} {v w red : Int32} {k : Nat} (hk : k ≤ 3) (hp : mr_pre v w k a1 a2 a3 a4 a5) (h0 : ¬ red < 0) (h4 : red ≤ 4) (hv : mr_inn lo hi v) (hw : mr_out lo hi w)
    (H : ∀ {pc bs mo fa ofs lo hi re bu mp sc se oe : Int32} {a1 a2 a3 a4 a5 a6 a7 a8 a9 a10 a11 a12 a13 a14 a15 : Nat → Int32}, mr_fin 1 1 (mr_r1 red (mr_val red v)) pc mp oe a13 a14 a15 → post 1 (pc, bs, mo, fa, ofs, lo, hi, re, bu, mp, sc, se, oe, a1, a2, a3, a4, a5, a6, a7, a8, a9, a10, a11, a12, a13, a14, a15)) : wpX_run post (1, 2, 16, 1, 0, lo, hi, re, bu, mp, sc, se, oe, a1, a2, a3, a4, a5, a6, a7, a8, a9, a10, a11, a12, a13, a14, a15) red := by
  refine mr_runH hk hp h0 h4 ⟨5, ?_⟩
  obtain ⟨⟨p0, p1, p2, p3⟩, ⟨q1, q2⟩, ⟨s1, s2⟩, ⟨t0, t1, t2, t3⟩, u0, u1, u2, u3⟩ := hp
  refine br_f (by decide) (mr_split_0 p0 t0 (nm_r (e' := 1) (by decide) ?_))
  refine br_f (by decide) (mr_splitIn_1_0 p1 q1 s1 t1 hv.1 hv.2 (nm_r (e' := 2) (by decide) ?_))
  refine br_f (by decide) (mr_splitOut_2 p2 s2 t2 hw (nm_r (e' := 3) (by decide) ?_))
  refine br_f (by decide) (mr_split_3 p3 t3 (nm_r (e' := 4) (by decide) ?_))
  exact br_t (by decide) (mr_71_1 hk u0 rfl rfl rfl rfl (fun _ _ _ _ _ _ _ _ _ hf => H hf))
theorem mr_run_ft {post : Int32 → St2 → Prop} {v w red : Int32} {k : Nat} (hk : k ≤ 3) (hp : mr_pre v w k a1 a2 a3 a4 a5) (h0 : ¬ red < 0) (h4 : red ≤ 4) (hv : mr_out lo hi v) (hw : mr_inn lo hi w)
    (H : ∀ {pc bs mo fa ofs lo hi re bu mp sc se oe : Int32} {a1 a2 a3 a4 a5 a6 a7 a8 a9 a10 a11 a12 a13 a14 a15 : Nat → Int32}, mr_fin 1 1 (mr_r1 red (mr_val red w)) pc mp oe a13 a14 a15 → post 1 (pc, bs, mo, fa, ofs, lo, hi, re, bu, mp, sc, se, oe, a1, a2, a3, a4, a5, a6, a7, a8, a9, a10, a11, a12, a13, a14, a15)) : wpX_run post (1, 2, 16, 1, 0, lo, hi, re, bu, mp, sc, se, oe, a1, a2, a3, a4, a5, a6, a7, a8, a9, a10, a11, a12, a13, a14, a15) red := by
  refine mr_runH hk hp h0 h4 ⟨5, ?_⟩
  obtain ⟨⟨p0, p1, p2, p3⟩, ⟨q1, q2⟩, ⟨s1, s2⟩, ⟨t0, t1, t2, t3⟩, u0, u1, u2, u3⟩ := hp
  refine br_f (by decide) (mr_split_0 p0 t0 (nm_r (e' := 1) (by decide) ?_))
  refine br_f (by decide) (mr_splitOut_1 p1 s1 t1 hv (nm_r (e' := 2) (by decide) ?_))
  refine br_f (by decide) (mr_splitIn_2_0 p2 q2 s2 t2 hw.1 hw.2 (nm_r (e' := 3) (by decide) ?_))
  refine br_f (by decide) (mr_split_3 p3 t3 (nm_r (e' := 4) (by decide) ?_))
  exact br_t (by decide) (mr_71_1 hk u0 rfl rfl rfl rfl (fun _ _ _ _ _ _ _ _ _ hf => H hf))
theorem mr_run_tt {post : Int32 → St2 → Prop} {v w red : Int32} {k : Nat} (hk : k ≤ 3) (hp : mr_pre v w k a1 a2 a3 a4 a5) (h0 : ¬ red < 0) (h4 : red ≤ 4) (hv : mr_inn lo hi v) (hw : mr_inn lo hi w)
    (H : ∀ {pc bs mo fa ofs lo hi re bu mp sc se oe : Int32} {a1 a2 a3 a4 a5 a6 a7 a8 a9 a10 a11 a12 a13 a14 a15 : Nat → Int32}, mr_fin 1 2 (mr_r2 red (mr_val red v) (mr_val red w)) pc mp oe a13 a14 a15 → post 1 (pc, bs, mo, fa, ofs, lo, hi, re, bu, mp, sc, se, oe, a1, a2, a3, a4, a5, a6, a7, a8, a9, a10, a11, a12, a13, a14, a15)) : wpX_run post (1, 2, 16, 1, 0, lo, hi, re, bu, mp, sc, se, oe, a1, a2, a3, a4, a5, a6, a7, a8, a9, a10, a11, a12, a13, a14, a15) red := by
  refine mr_runH hk hp h0 h4 ⟨5, ?_⟩
  obtain ⟨⟨p0, p1, p2, p3⟩, ⟨q1, q2⟩, ⟨s1, s2⟩, ⟨t0, t1, t2, t3⟩, u0, u1, u2, u3⟩ := hp
  refine br_f (by decide) (mr_split_0 p0 t0 (nm_r (e' := 1) (by decide) ?_))
  refine br_f (by decide) (mr_splitIn_1_0 p1 q1 s1 t1 hv.1 hv.2 (nm_r (e' := 2) (by decide) ?_))
  refine br_f (by decide) (mr_splitIn_2_1 p2 q2 s2 t2 hw.1 hw.2 (nm_r (e' := 3) (by decide) ?_))
  refine br_f (by decide) (mr_split_3 p3 t3 (nm_r (e' := 4) (by decide) ?_))
  exact br_t (by decide) (mr_71_2 hk u0 rfl rfl rfl rfl rfl rfl rfl rfl (fun _ _ _ _ _ _ _ _ _ hf => H hf))
end
end
section
/-! the answers behind a run, the law's tail -/
section
variable {pc bs mo fa ofs lo hi re bu mp sc se oe : Int32} {a1 a2 a3 a4 a5 a6 a7 a8 a9 a10 a11 a12 a13 a14 a15 : Nat → Int32}
theorem mr_sub {f : Nat → Int32} {i i' j j' : Nat} {x y z : Int32} (hi : i = i') (hx : f i' = x) (hj : j = j') (hy : f j' = y) (hz : x - y = z) : f i - f j = z := by rw [hi, hx, hj, hy, hz]
theorem mr_res_0 {post : Int32 → Prop} (h0 : a13 0 = 0) (h1 : a13 1 = 0) (H : post 0) : wpX_isResult post (1, bs, mo, fa, ofs, lo, hi, re, bu, mp, sc, se, oe, a1, a2, a3, a4, a5, a6, a7, a8, a9, a10, a11, a12, a13, a14, a15) 0 0 :=
  br_f (by decide) (br_f (by decide) (br_t (by decide) ⟨vp_in_iff.mpr (by decide), vp_in_iff.mpr (by decide), br_t (mr_le (mr_sub (by decide) h1 (by decide) h0 (z := 0) (by decide)) rfl (by decide)) H⟩))
theorem mr_res_1 {post : Int32 → Prop} (h0 : a13 0 = 0) (h1 : a13 1 = 1) (H : post 1) : wpX_isResult post (1, bs, mo, fa, ofs, lo, hi, re, bu, mp, sc, se, oe, a1, a2, a3, a4, a5, a6, a7, a8, a9, a10, a11, a12, a13, a14, a15) 0 0 :=
  br_f (by decide) (br_f (by decide) (br_t (by decide) ⟨vp_in_iff.mpr (by decide), vp_in_iff.mpr (by decide), br_f (mr_nle (mr_sub (by decide) h1 (by decide) h0 (z := 1) (by decide)) rfl (by decide)) H⟩))
theorem mr_i00 {f : Nat → Int32} {i : Nat} (hi : i = 0) (h : f 0 = 0) : f i + 0 = 0 := by rw [hi, h]; decide
theorem mr_p00 {f g : Nat → Int32} {i : Nat} {x : Int32} (hi : i = 0) (h : f 0 = 0) (hg : g 0 = x) : g (f i + 0).toNatClampNeg = x := by rw [mr_i00 hi h]; exact hg
theorem mr_v00 {f : Nat → Int32} {i : Nat} (hi : i = 0) (h : f 0 = 0) : vp_in (f i + 0) 16 := by rw [mr_i00 hi h]; exact vp_in_iff.mpr (by decide)
theorem mr_key_0 {post : Int32 → Prop} (h0 : a13 0 = 0) (h1 : a13 1 = 0) (H : post (-1)) : wpX_keyAt post (1, bs, mo, fa, ofs, lo, hi, re, bu, mp, sc, se, oe, a1, a2, a3, a4, a5, a6, a7, a8, a9, a10, a11, a12, a13, a14, a15) 0 0 := by
  unfold wpX_keyAt
  exact mr_res_0 h0 h1 (br_t rfl H)
theorem mr_key_1 {post : Int32 → Prop} {x : Int32} (h0 : a13 0 = 0) (h1 : a13 1 = 1) (hx : a14 0 = x) (H : post x) : wpX_keyAt post (1, bs, mo, fa, ofs, lo, hi, re, bu, mp, sc, se, oe, a1, a2, a3, a4, a5, a6, a7, a8, a9, a10, a11, a12, a13, a14, a15) 0 0 := by
  unfold wpX_keyAt
  exact mr_res_1 h0 h1 (br_f (by decide) ⟨vp_in_iff.mpr (by decide), mr_v00 (by decide) h0, ek_v (P := post) (mr_p00 (by decide) h0 hx) H⟩)
theorem mr_value_0 {post : Int32 → Prop} (h0 : a13 0 = 0) (h1 : a13 1 = 0) (H : post 0) : wpX_valueAt post (1, bs, mo, fa, ofs, lo, hi, re, bu, mp, sc, se, oe, a1, a2, a3, a4, a5, a6, a7, a8, a9, a10, a11, a12, a13, a14, a15) 0 0 := by
  unfold wpX_valueAt
  exact mr_res_0 h0 h1 (br_t rfl H)
theorem mr_value_1 {post : Int32 → Prop} {x : Int32} (h0 : a13 0 = 0) (h1 : a13 1 = 1) (hx : a15 0 = x) (H : post x) : wpX_valueAt post (1, bs, mo, fa, ofs, lo, hi, re, bu, mp, sc, se, oe, a1, a2, a3, a4, a5, a6, a7, a8, a9, a10, a11, a12, a13, a14, a15) 0 0 := by
  unfold wpX_valueAt
  exact mr_res_1 h0 h1 (br_f (by decide) ⟨vp_in_iff.mpr (by decide), mr_v00 (by decide) h0, ek_v (P := post) (mr_p00 (by decide) h0 hx) H⟩)
theorem mr_sub2 {f : Nat → Int32} {i i' : Nat} {x y z : Int32} (hi : i = i') (hx : f i' = x) (hz : x - y = z) : f i - y = z := by rw [hi, hx, hz]
theorem mr_fbT_0 {post : Int32 → St2 → Prop} (h1 : a13 1 = 0) (h2 : a13 2 = 0) (h3 : a13 3 = 0) (h4 : a13 4 = 0) (H : ∀ b1 : Nat → Int32, b1 2 = 0 → post oe (pc, bs, mo, fa, ofs, lo, hi, re, bu, mp, sc, se, oe, b1, a2, a3, a4, a5, a6, a7, a8, a9, a10, a11, a12, a13, a14, a15)) : wX_feedBack_2 post pc bs mo fa ofs lo hi re bu mp sc se oe 4 1 a1 a2 a3 a4 a5 a6 a7 a8 a9 a10 a11 a12 a13 a14 a15 := by
  refine br_f (by decide) ⟨vp_in_iff.mpr (by decide), nm_r (e' := 0) (mr_g h1 (by decide)) ⟨vp_in_iff.mpr (by decide), nm_r (e' := 0) (mr_sub2 (by decide) h2 (by decide)) ⟨vp_in_iff.mpr (by decide), nm_r (e' := upd a1 1 0) (mr_u (by decide) (by decide)) ⟨1, br_t (by decide) (nm_r (e' := 2) (by decide) ?_)⟩⟩⟩⟩
  refine br_f (by decide) ⟨vp_in_iff.mpr (by decide), nm_r (e' := 0) (mr_g h2 (by decide)) ⟨vp_in_iff.mpr (by decide), nm_r (e' := 0) (mr_sub2 (by decide) h3 (by decide)) ⟨vp_in_iff.mpr (by decide), nm_r (e' := upd (upd a1 1 0) 2 0) (mr_u (by decide) (by decide)) ⟨1, br_t (by decide) (nm_r (e' := 3) (by decide) ?_)⟩⟩⟩⟩
  refine br_f (by decide) ⟨vp_in_iff.mpr (by decide), nm_r (e' := 0) (mr_g h3 (by decide)) ⟨vp_in_iff.mpr (by decide), nm_r (e' := 0) (mr_sub2 (by decide) h4 (by decide)) ⟨vp_in_iff.mpr (by decide), nm_r (e' := upd (upd (upd a1 1 0) 2 0) 3 0) (mr_u (by decide) (by decide)) ⟨1, br_t (by decide) (nm_r (e' := 4) (by decide) ?_)⟩⟩⟩⟩
  exact br_t (by decide) (H _ rfl)
theorem mr_fbT_1 {post : Int32 → St2 → Prop} (h1 : a13 1 = 1) (h2 : a13 2 = 1) (h3 : a13 3 = 1) (h4 : a13 4 = 1) (H : ∀ b1 : Nat → Int32, b1 2 = 0 → post oe (pc, bs, mo, fa, ofs, lo, hi, re, bu, mp, sc, se, oe, b1, a2, a3, a4, a5, a6, a7, a8, a9, a10, a11, a12, a13, a14, a15)) : wX_feedBack_2 post pc bs mo fa ofs lo hi re bu mp sc se oe 4 1 a1 a2 a3 a4 a5 a6 a7 a8 a9 a10 a11 a12 a13 a14 a15 := by
  refine br_f (by decide) ⟨vp_in_iff.mpr (by decide), nm_r (e' := 1) (mr_g h1 (by decide)) ⟨vp_in_iff.mpr (by decide), nm_r (e' := 0) (mr_sub2 (by decide) h2 (by decide)) ⟨vp_in_iff.mpr (by decide), nm_r (e' := upd a1 1 0) (mr_u (by decide) (by decide)) ⟨1, br_t (by decide) (nm_r (e' := 2) (by decide) ?_)⟩⟩⟩⟩
  refine br_f (by decide) ⟨vp_in_iff.mpr (by decide), nm_r (e' := 1) (mr_g h2 (by decide)) ⟨vp_in_iff.mpr (by decide), nm_r (e' := 0) (mr_sub2 (by decide) h3 (by decide)) ⟨vp_in_iff.mpr (by decide), nm_r (e' := upd (upd a1 1 0) 2 0) (mr_u (by decide) (by decide)) ⟨1, br_t (by decide) (nm_r (e' := 3) (by decide) ?_)⟩⟩⟩⟩
  refine br_f (by decide) ⟨vp_in_iff.mpr (by decide), nm_r (e' := 1) (mr_g h3 (by decide)) ⟨vp_in_iff.mpr (by decide), nm_r (e' := 0) (mr_sub2 (by decide) h4 (by decide)) ⟨vp_in_iff.mpr (by decide), nm_r (e' := upd (upd (upd a1 1 0) 2 0) 3 0) (mr_u (by decide) (by decide)) ⟨1, br_t (by decide) (nm_r (e' := 4) (by decide) ?_)⟩⟩⟩⟩
  exact br_t (by decide) (H _ rfl)
theorem mr_fb_0 {post : Int32 → St2 → Prop} (h0 : a13 0 = 0) (h1 : a13 1 = 0) (h2 : a13 2 = 0) (h3 : a13 3 = 0) (h4 : a13 4 = 0) (H : ∀ a1 a2 a3 : Nat → Int32, a1 2 = 0 → post oe (pc, bs, mo, fa, ofs, lo, hi, re, bu, mp, sc, se, oe, a1, a2, a3, a4, a5, a6, a7, a8, a9, a10, a11, a12, a13, a14, a15)) : wpX_feedBack post (pc, bs, mo, fa, ofs, lo, hi, re, bu, mp, sc, se, oe, a1, a2, a3, a4, a5, a6, a7, a8, a9, a10, a11, a12, a13, a14, a15) := by
  refine ⟨5, br_f (by decide) ⟨vp_in_iff.mpr (by decide), nm_r (e' := 0) (mr_g h0 (by decide)) ⟨vp_in_iff.mpr (by decide), nm_r (e' := 0) (mr_sub2 (by decide) h1 (by decide)) ⟨vp_in_iff.mpr (by decide), nm_e ⟨1, br_t (by decide) (nm_r (e' := 1) (by decide) ?_)⟩⟩⟩⟩⟩
  exact mr_fbT_0 h1 h2 h3 h4 (fun b1 hb => H b1 _ _ hb)
theorem mr_fb_1 {post : Int32 → St2 → Prop} (h0 : a13 0 = 0) (h1 : a13 1 = 1) (h2 : a13 2 = 1) (h3 : a13 3 = 1) (h4 : a13 4 = 1) (H : ∀ a1 a2 a3 : Nat → Int32, a1 2 = 0 → post oe (pc, bs, mo, fa, ofs, lo, hi, re, bu, mp, sc, se, oe, a1, a2, a3, a4, a5, a6, a7, a8, a9, a10, a11, a12, a13, a14, a15)) : wpX_feedBack post (pc, bs, mo, fa, ofs, lo, hi, re, bu, mp, sc, se, oe, a1, a2, a3, a4, a5, a6, a7, a8, a9, a10, a11, a12, a13, a14, a15) := by
  refine ⟨5, br_f (by decide) ⟨vp_in_iff.mpr (by decide), nm_r (e' := 0) (mr_g h0 (by decide)) ⟨vp_in_iff.mpr (by decide), nm_r (e' := 1) (mr_sub2 (by decide) h1 (by decide)) ⟨vp_in_iff.mpr (by decide), nm_e ⟨2, ?_⟩⟩⟩⟩⟩
  refine br_f (by decide) ⟨vp_in_iff.mpr (by decide), vp_in_iff.mpr (by decide), nm_e ⟨vp_in_iff.mpr (by decide), vp_in_iff.mpr (by decide), nm_e (nm_r (e' := 1) (by decide) (br_t (by decide) (nm_r (e' := 1) (by decide) ?_)))⟩⟩
  exact mr_fbT_1 h1 h2 h3 h4 (fun b1 hb => H b1 _ _ hb)
theorem mr_empty {post : Int32 → St2 → Prop} (h : a1 2 = 0) (H : ∀ b1, post 0 (pc, bs, mo, fa, ofs, lo, hi, re, bu, mp, sc, se, oe, b1, a2, a3, a4, a5, a6, a7, a8, a9, a10, a11, a12, a13, a14, a15)) : wpX_emptySplit post (pc, bs, mo, fa, ofs, lo, hi, re, bu, mp, sc, se, oe, a1, a2, a3, a4, a5, a6, a7, a8, a9, a10, a11, a12, a13, a14, a15) 2 :=
  br_f (by decide) (br_t (by decide) ⟨vp_in_iff.mpr (by decide), nm_r (e' := 0) (mr_g h (by decide)) ⟨vp_in_iff.mpr (by decide), nm_e (H _)⟩⟩)
/-! the law behind the run's answer -/
theorem mr_tail_0 {post : Int32 → St0 → Prop} {mc ms kc ks : Nat} {x10 r : Int32} (hf : mr_fin 0 0 r pc mp oe a13 a14 a15) (H : post 1 ()) : wL_lawOf_338 post mc ms 0 1 x10 0 0 0 kc ks pc bs mo fa ofs lo hi re bu mp sc se oe a1 a2 a3 a4 a5 a6 a7 a8 a9 a10 a11 a12 a13 a14 a15 := by
  obtain ⟨rfl, rfl, rfl, h0, ⟨h1, h2, h3, h4⟩, _⟩ := hf
  refine br_t rfl (br_f (by decide) (br_t rfl (mr_key_0 h0 h1 (br_f (by decide) (br_t (by decide) (br_t rfl ?_))))))
  refine mr_value_0 h0 h1 (br_f (by decide) (br_t (by decide) (br_t rfl ?_)))
  refine mr_fb_0 h0 h1 h2 h3 h4 (fun b1 b2 b3 hb => br_f (by decide) (br_t rfl ?_))
  exact mr_empty hb (fun _ => br_t rfl H)
theorem mr_tail_1 {post : Int32 → St0 → Prop} {mc ms kc ks : Nat} {x8 x10 : Int32} (h8 : ¬ x8 ≤ 0) (hf : mr_fin 1 x8 x10 pc mp oe a13 a14 a15) (H : post 1 ()) : wL_lawOf_338 post mc ms x8 1 x10 1 1 1 kc ks pc bs mo fa ofs lo hi re bu mp sc se oe a1 a2 a3 a4 a5 a6 a7 a8 a9 a10 a11 a12 a13 a14 a15 := by
  obtain ⟨rfl, rfl, rfl, h0, ⟨h1, h2, h3, h4⟩, h⟩ := hf
  refine br_t rfl (br_f (by decide) (br_t rfl (mr_key_1 h0 h1 (h rfl).1 (br_f (by decide) (br_f h8 (br_t rfl ?_))))))
  refine mr_value_1 h0 h1 (h rfl).2 (br_f (by decide) (br_f h8 (br_t rfl ?_)))
  refine mr_fb_1 h0 h1 h2 h3 h4 (fun b1 b2 b3 hb => br_f (by decide) (br_t rfl ?_))
  exact mr_empty hb (fun _ => br_t rfl H)
theorem mr_tail_B {post : Int32 → St0 → Prop} {mc ms kc ks : Nat} {x8 x10 x12 r : Int32} (hf : mr_fin 0 0 r pc mp oe a13 a14 a15) (H : post 1 ()) : wL_lawOf_338 post mc ms x8 0 x10 x12 (-1) (-1) kc ks pc bs mo fa ofs lo hi re bu mp sc se oe a1 a2 a3 a4 a5 a6 a7 a8 a9 a10 a11 a12 a13 a14 a15 := by
  obtain ⟨rfl, rfl, rfl, h0, ⟨h1, h2, h3, h4⟩, _⟩ := hf
  refine br_t rfl (br_t rfl (br_t rfl (mr_key_0 h0 h1 (br_t rfl (br_t rfl ?_)))))
  refine mr_value_0 h0 h1 (br_t rfl (br_t rfl ?_))
  refine mr_fb_0 h0 h1 h2 h3 h4 (fun b1 b2 b3 hb => br_t rfl (br_t rfl ?_))
  exact mr_empty hb (fun _ => br_t rfl H)
/-- what the law has worked out ahead of the run -/
def mr_ok (v w lo hi re x8 x9 x10 : Int32) : Prop :=
  ((re < 0 ∨ ¬ re ≤ 4) ∧ x9 = 0) ∨ ((¬ re < 0 ∧ re ≤ 4) ∧ x9 = 1 ∧ ((mr_out lo hi v ∧ mr_out lo hi w ∧ x8 = 0) ∨ (mr_inn lo hi v ∧ mr_out lo hi w ∧ x8 = 1 ∧ x10 = mr_r1 re (mr_val re v)) ∨ (mr_out lo hi v ∧ mr_inn lo hi w ∧ x8 = 1 ∧ x10 = mr_r1 re (mr_val re w)) ∨ (mr_inn lo hi v ∧ mr_inn lo hi w ∧ x8 = 2 ∧ x10 = mr_r2 re (mr_val re v) (mr_val re w))))
theorem mr_303 {post : Int32 → St0 → Prop} {mc ms kc ks k : Nat} {v w x4 x8 x9 x10 t : Int32} (hk : k ≤ 3) (hp : mr_pre v w k a1 a2 a3 a4 a5) (ho : mr_ok v w lo hi x4 x8 x9 x10) (h13 : ∀ j, a13 j = 0) (H : post 1 ()) :
    wL_lawOf_303 post mc ms x4 x8 x9 x10 t t kc ks 1 2 16 1 0 lo hi 0 0 0 0 0 0 a1 a2 a3 a4 a5 a6 a7 a8 a9 a10 a11 a12 a13 a14 a15 := by
  refine br_t rfl ?_
  rcases ho with ⟨hb, rfl⟩ | ⟨⟨g0, g4⟩, rfl, ⟨hv, hw, rfl⟩ | ⟨hv, hw, rfl, rfl⟩ | ⟨hv, hw, rfl, rfl⟩ | ⟨hv, hw, rfl, rfl⟩⟩
  · have hf : mr_fin 0 0 0 1 0 0 a13 a14 a15 := ⟨rfl, rfl, rfl, h13 0, ⟨h13 1, h13 2, h13 3, h13 4⟩, fun z => absurd z (by decide)⟩
    exact br_c (fun _ => mr_runB hb (br_t rfl (mr_tail_B hf H))) (fun _ => mr_runB hb (br_t rfl (mr_tail_B hf H)))
  · exact br_t (by decide) (mr_run_ff (r := 0) hk hp g0 g4 hv hw (fun hf => br_f (by decide) (mr_tail_0 hf H)))
  · exact br_f (by decide) (mr_run_tf hk hp g0 g4 hv hw (fun hf => br_f (by decide) (mr_tail_1 (by decide) hf H)))
  · exact br_f (by decide) (mr_run_ft hk hp g0 g4 hv hw (fun hf => br_f (by decide) (mr_tail_1 (by decide) hf H)))
  · exact br_f (by decide) (mr_run_tt hk hp g0 g4 hv hw (fun hf => br_f (by decide) (mr_tail_1 (by decide) hf H)))
/-! making the object, its records, its failures -/
theorem mr_at {f : Nat → Int32} {i i' : Nat} {x z : Int32} (hi : i = i') (h : f i' = 0) (hz : x + 0 = z) : x + f i = z := by rw [hi, h, hz]
theorem mr_lt0 {f : Nat → Int32} {i i' : Nat} (hi : i = i') (h : f i' = 0) : f i < 16 := by rw [hi, h]; decide
theorem mr_add_1 {post : Int32 → St2 → Prop} {key x : Int32} (h : a1 1 = 0) (H : post 1 (pc, bs, mo, fa, ofs, lo, hi, re, bu, mp, sc, se, oe, upd a1 1 1, upd a2 16 key, upd a3 16 x, a4, a5, a6, a7, a8, a9, a10, a11, a12, a13, a14, a15)) : wpX_addRecord post (pc, bs, mo, fa, ofs, lo, hi, re, bu, mp, sc, se, oe, a1, a2, a3, a4, a5, a6, a7, a8, a9, a10, a11, a12, a13, a14, a15) 1 key x :=
  br_f (by decide) (br_t (by decide) ⟨vp_in_iff.mpr (by decide), br_t (mr_lt0 (by decide) h) ⟨vp_in_iff.mpr (by decide), nm_r (e' := 16) (mr_at (by decide) h (by decide)) ⟨vp_in_iff.mpr (by decide), nm_r (e' := upd a2 16 key) (mr_u (by decide) rfl) ⟨vp_in_iff.mpr (by decide), nm_r (e' := upd a3 16 x) (mr_u (by decide) rfl) ⟨vp_in_iff.mpr (by decide), vp_in_iff.mpr (by decide), nm_r (e' := upd a1 1 1) (mr_u (by decide) (mr_inc h (by decide) (by decide))) ⟨vp_in_iff.mpr (by decide), H⟩⟩⟩⟩⟩⟩)
theorem mr_add_2 {post : Int32 → St2 → Prop} {key x : Int32} (h : a1 2 = 0) (H : post 1 (pc, bs, mo, fa, ofs, lo, hi, re, bu, mp, sc, se, oe, upd a1 2 1, upd a2 32 key, upd a3 32 x, a4, a5, a6, a7, a8, a9, a10, a11, a12, a13, a14, a15)) : wpX_addRecord post (pc, bs, mo, fa, ofs, lo, hi, re, bu, mp, sc, se, oe, a1, a2, a3, a4, a5, a6, a7, a8, a9, a10, a11, a12, a13, a14, a15) 2 key x :=
  br_f (by decide) (br_t (by decide) ⟨vp_in_iff.mpr (by decide), br_t (mr_lt0 (by decide) h) ⟨vp_in_iff.mpr (by decide), nm_r (e' := 32) (mr_at (by decide) h (by decide)) ⟨vp_in_iff.mpr (by decide), nm_r (e' := upd a2 32 key) (mr_u (by decide) rfl) ⟨vp_in_iff.mpr (by decide), nm_r (e' := upd a3 32 x) (mr_u (by decide) rfl) ⟨vp_in_iff.mpr (by decide), vp_in_iff.mpr (by decide), nm_r (e' := upd a1 2 1) (mr_u (by decide) (mr_inc h (by decide) (by decide))) ⟨vp_in_iff.mpr (by decide), H⟩⟩⟩⟩⟩⟩)
theorem mr_init {post : St2 → Prop} (H : post (1, 2, 16, 1, 0, -2147483648, 2147483647, 0, 0, 0, 0, 0, 0, fun _ => 0, fun _ => 0, fun _ => 0, fun _ => 0, fun _ => 0, fun _ => 0, fun _ => 0, fun _ => 0, fun _ => 0, fun _ => 0, fun _ => 0, fun _ => 0, fun _ => 0, fun _ => 0, fun _ => 0)) :
    wpX_init post 15 545 (0, 0, 0, 0, 0, 0, 0, 0, 0, 0, 0, 0, 0) 1 2 :=
  ⟨by decide, by decide, by decide, by decide, by decide, by decide, by decide, by decide, by decide, by decide, by decide, by decide, by decide, by decide, by decide, by decide, by decide, by decide, by decide, by decide, by decide, by decide, by decide, by decide, by decide, by decide, by decide, by decide, by decide, by decide, br_t (by decide) (br_t (by decide) (br_t (by decide) (br_t (by decide) H)))⟩
theorem mr_failV {post : Int32 → St2 → Prop} {x5 : Int32} (h0 : ¬ x5 < 0) (h3 : x5 ≤ 3) (hx : x5.toInt8.toInt32 = x5) (H : post 1 (1, bs, mo, fa, ofs, lo, hi, re, bu, mp, sc, se, oe, a1, a2, a3, a4, upd a5 0 x5, a6, a7, a8, a9, a10, a11, a12, a13, a14, a15)) : wpX_failures post (1, bs, mo, fa, ofs, lo, hi, re, bu, mp, sc, se, oe, a1, a2, a3, a4, a5, a6, a7, a8, a9, a10, a11, a12, a13, a14, a15) 1 0 x5 :=
  br_f (by decide) (br_f (by decide) (br_f h0 (br_t h3 (br_f (by decide) (br_t (by decide) (br_f (by decide) ⟨vp_in_iff.mpr (by decide), nm_r (e' := upd a5 0 x5) (mr_u (by decide) hx) H⟩))))))
theorem mr_bounds {post : St2 → Prop} {p q : Int32} (H : post (pc, bs, mo, fa, ofs, p, q, re, bu, mp, sc, se, oe, a1, a2, a3, a4, a5, a6, a7, a8, a9, a10, a11, a12, a13, a14, a15)) : wpX_bounds post (pc, bs, mo, fa, ofs, lo, hi, re, bu, mp, sc, se, oe, a1, a2, a3, a4, a5, a6, a7, a8, a9, a10, a11, a12, a13, a14, a15) p q := H
theorem mr_failN {post : Int32 → St2 → Prop} {x5 : Int32} (h : x5 < 0 ∨ ¬ x5 ≤ 3) (H : post 0 (1, bs, mo, fa, ofs, lo, hi, re, bu, mp, sc, se, oe, a1, a2, a3, a4, a5, a6, a7, a8, a9, a10, a11, a12, a13, a14, a15)) : wpX_failures post (1, bs, mo, fa, ofs, lo, hi, re, bu, mp, sc, se, oe, a1, a2, a3, a4, a5, a6, a7, a8, a9, a10, a11, a12, a13, a14, a15) 1 0 x5 :=
  br_f (by decide) (br_f (by decide) (br_c (fun _ => H) (fun l => h.elim (fun z => absurd z l) (fun z => br_f z H))))
end
theorem mr_k8 : ∀ k, k < 4 → (nI k).toInt8.toInt32 = nI k := by decide +kernel
theorem mr_231 {post : Int32 → St0 → Prop} {v w lo hi re ti x8 x9 x10 : Int32} (ho : mr_ok v w lo hi re x8 x9 x10) (H : post 1 ()) : wL_lawOf_231 post 198 3152 v w lo hi re ti x8 x9 x10 0 0 := by
  refine ⟨by decide, by decide, 15, 545, by decide, by decide, mr_init ?_⟩
  refine mr_add_2 rfl (br_t rfl (mr_add_1 rfl (br_t rfl (mr_bounds ?_))))
  by_cases h0 : ti < 0
  · exact mr_failN (Or.inl h0) (br_t h0 (mr_303 (k := 0) (by decide) ⟨⟨rfl, rfl, rfl, rfl⟩, ⟨rfl, rfl⟩, ⟨rfl, rfl⟩, ⟨rfl, rfl, rfl, rfl⟩, rfl, rfl, rfl, rfl⟩ ho (fun _ => rfl) H))
  · by_cases h3 : ti ≤ 3
    · obtain ⟨k, hk, rfl⟩ := nI_of2 (M := 3) (n := 3) (by decide) h0 h3
      exact mr_failV h0 h3 (mr_k8 k (by omega)) (br_f h0 (br_f (Int32.not_lt.mpr h3) (mr_303 (k := k) hk ⟨⟨rfl, rfl, rfl, rfl⟩, ⟨rfl, rfl⟩, ⟨rfl, rfl⟩, ⟨rfl, rfl, rfl, rfl⟩, rfl, rfl, rfl, rfl⟩ ho (fun _ => rfl) H)))
    · exact mr_failN (Or.inr h3) (br_f h0 (br_t (Int32.not_le.mp h3) (mr_303 (k := 0) (by decide) ⟨⟨rfl, rfl, rfl, rfl⟩, ⟨rfl, rfl⟩, ⟨rfl, rfl⟩, ⟨rfl, rfl, rfl, rfl⟩, rfl, rfl, rfl, rfl⟩ ho (fun _ => rfl) H)))
end
section
/-! the law's own reckoning, and the whole -/
/-! the results, reducer by reducer -/
theorem mr_n03 : ¬ (0 : Int32) = 3 := by decide
theorem mr_n13 : ¬ (1 : Int32) = 3 := by decide
theorem mr_n23 : ¬ (2 : Int32) = 3 := by decide
theorem mr_n43 : ¬ (4 : Int32) = 3 := by decide
theorem mr_n04 : ¬ (0 : Int32) = 4 := by decide
theorem mr_n14 : ¬ (1 : Int32) = 4 := by decide
theorem mr_n24 : ¬ (2 : Int32) = 4 := by decide
theorem mr_n34 : ¬ (3 : Int32) = 4 := by decide
theorem mr_n10 : ¬ (1 : Int32) = 0 := by decide
theorem mr_n01 : ¬ (0 : Int32) = 1 := by decide
theorem mr_n02 : ¬ (0 : Int32) = 2 := by decide
theorem mr_n21 : ¬ (2 : Int32) = 1 := by decide
theorem mr_n31 : ¬ (3 : Int32) = 1 := by decide
theorem mr_n32 : ¬ (3 : Int32) = 2 := by decide
theorem mr_st0_0 (x w : Int32) : mr_st 0 x 0 w = w := by rw [mr_st, if_neg mr_n04, if_pos rfl]
theorem mr_st1_0 (x w : Int32) : mr_st 0 x 1 w = mr_cb 0 x w := by rw [mr_st, if_neg mr_n04, if_neg mr_n10]
theorem mr_r1_0 (w : Int32) : mr_r1 0 w = w := by rw [mr_r1, mr_st0_0]
theorem mr_r2_0 (w w' : Int32) : mr_r2 0 w w' = mr_cb 0 w w' := by rw [mr_r2, mr_r1_0, mr_st1_0]
theorem mr_st0_1 (x w : Int32) : mr_st 1 x 0 w = w := by rw [mr_st, if_neg mr_n14, if_pos rfl]
theorem mr_st1_1 (x w : Int32) : mr_st 1 x 1 w = mr_cb 1 x w := by rw [mr_st, if_neg mr_n14, if_neg mr_n10]
theorem mr_r1_1 (w : Int32) : mr_r1 1 w = w := by rw [mr_r1, mr_st0_1]
theorem mr_r2_1 (w w' : Int32) : mr_r2 1 w w' = mr_cb 1 w w' := by rw [mr_r2, mr_r1_1, mr_st1_1]
theorem mr_st0_2 (x w : Int32) : mr_st 2 x 0 w = w := by rw [mr_st, if_neg mr_n24, if_pos rfl]
theorem mr_st1_2 (x w : Int32) : mr_st 2 x 1 w = mr_cb 2 x w := by rw [mr_st, if_neg mr_n24, if_neg mr_n10]
theorem mr_r1_2 (w : Int32) : mr_r1 2 w = w := by rw [mr_r1, mr_st0_2]
theorem mr_r2_2 (w w' : Int32) : mr_r2 2 w w' = mr_cb 2 w w' := by rw [mr_r2, mr_r1_2, mr_st1_2]
theorem mr_st0_3 (x w : Int32) : mr_st 3 x 0 w = w := by rw [mr_st, if_neg mr_n34, if_pos rfl]
theorem mr_st1_3 (x w : Int32) : mr_st 3 x 1 w = mr_cb 3 x w := by rw [mr_st, if_neg mr_n34, if_neg mr_n10]
theorem mr_r1_3 (w : Int32) : mr_r1 3 w = w := by rw [mr_r1, mr_st0_3]
theorem mr_r2_3 (w w' : Int32) : mr_r2 3 w w' = mr_cb 3 w w' := by rw [mr_r2, mr_r1_3, mr_st1_3]
theorem mr_r1_4 (w : Int32) : mr_r1 4 w = 31 * 7 + w := by rw [mr_r1, mr_i0, mr_st, if_pos rfl, if_pos rfl]
theorem mr_r2_4 (w w' : Int32) : mr_r2 4 w w' = 31 * (31 * 7 + w) + w' := by rw [mr_r2, mr_r1_4, mr_st, if_pos rfl]
theorem mr_val_0 (v : Int32) : mr_val 0 v = v := by rw [mr_val, if_neg mr_n03]
theorem mr_val_1 (v : Int32) : mr_val 1 v = v := by rw [mr_val, if_neg mr_n13]
theorem mr_val_2 (v : Int32) : mr_val 2 v = v := by rw [mr_val, if_neg mr_n23]
theorem mr_val_4 (v : Int32) : mr_val 4 v = v := by rw [mr_val, if_neg mr_n43]
theorem mr_val_3 (v : Int32) : mr_val 3 v = 1 := by rw [mr_val, if_pos rfl]
theorem mr_cb_0 (a b : Int32) : mr_cb 0 a b = a + b := by rw [mr_cb, if_neg mr_n01, if_neg mr_n02]
theorem mr_cb_3 : mr_cb 3 1 1 = 2 := by rw [mr_cb, if_neg mr_n31, if_neg mr_n32]; decide
theorem mr_cb_1t {a b : Int32} (h : a ≤ b) : mr_cb 1 a b = b := by rw [mr_cb, if_pos rfl, if_pos h]
theorem mr_cb_1f {a b : Int32} (h : ¬ a ≤ b) : mr_cb 1 a b = a := by rw [mr_cb, if_pos rfl, if_neg h]
theorem mr_cb_2t {a b : Int32} (h : b ≤ a) : mr_cb 2 a b = b := by rw [mr_cb, if_neg mr_n21, if_pos rfl, if_pos h]
theorem mr_cb_2f {a b : Int32} (h : ¬ b ≤ a) : mr_cb 2 a b = a := by rw [mr_cb, if_neg mr_n21, if_pos rfl, if_neg h]
section
variable {post : Int32 → St0 → Prop} {mc ms kc ks : Nat} {v w lo hi re ti x6 x7 x8 x9 y z : Int32}
theorem mr_211A (H : ∀ y, wL_lawOf_231 post mc ms v w lo hi re ti x8 x9 y kc ks) : wL_lawOf_211 post mc ms v w lo hi re ti x7 x8 x9 y kc ks :=
  br_c (fun _ => br_c (fun _ => H _) (fun _ => nm_e (H _))) (fun _ => H _)
theorem mr_191A (H : ∀ y, wL_lawOf_231 post mc ms v w lo hi re ti x8 x9 y kc ks) : wL_lawOf_191 post mc ms v w lo hi re ti x6 x7 x8 x9 y kc ks :=
  br_c (fun _ => br_c (fun _ => mr_211A H) (fun _ => nm_e (mr_211A H))) (fun _ => mr_211A H)
theorem mr_155A (H : ∀ y, wL_lawOf_231 post mc ms v w lo hi re ti x8 x9 y kc ks) : wL_lawOf_155 post mc ms v w lo hi re ti x6 x7 x8 x9 y kc ks :=
  br_c (fun _ => br_c (fun _ => mr_191A H) (fun _ => br_c (fun _ => mr_191A H) (fun _ => br_c (fun _ => mr_191A H) (fun _ => mr_191A H)))) (fun _ => mr_191A H)
theorem mr_117A (H : ∀ y, wL_lawOf_231 post mc ms v w lo hi re ti x8 x9 y kc ks) : wL_lawOf_117 post mc ms v w lo hi re ti x6 x7 x8 x9 y kc ks :=
  br_c (fun _ => br_c (fun _ => mr_155A H) (fun _ => br_c (fun _ => mr_155A H) (fun _ => br_c (fun _ => mr_155A H) (fun _ => mr_155A H)))) (fun _ => mr_155A H)
theorem mr_90A (H : ∀ y, wL_lawOf_231 post mc ms v w lo hi re ti x8 x9 y kc ks) : wL_lawOf_90 post mc ms v w lo hi re ti x6 x7 x8 x9 y kc ks :=
  br_c (fun _ => mr_117A H) (fun _ => mr_117A H)
theorem mr_73A (H : ∀ y, wL_lawOf_231 post mc ms v w lo hi re ti x8 x9 y kc ks) : wL_lawOf_73 post mc ms v w lo hi re ti x6 x7 x8 x9 kc ks :=
  br_c (fun _ => br_c (fun _ => mr_90A H) (fun _ => mr_90A H)) (fun _ => br_c (fun _ => mr_117A H) (fun _ => mr_117A H))
theorem mr_five (h0 : ¬ re < 0) (h4 : re ≤ 4) : re = 0 ∨ re = 1 ∨ re = 2 ∨ re = 3 ∨ re = 4 := by
  obtain ⟨k, hk, rfl⟩ := nI_of2 (M := 4) (n := 4) (by decide) h0 h4
  have : k = 0 ∨ k = 1 ∨ k = 2 ∨ k = 3 ∨ k = 4 := by omega
  rcases this with rfl | rfl | rfl | rfl | rfl
  · exact Or.inl rfl
  · exact Or.inr (Or.inl rfl)
  · exact Or.inr (Or.inr (Or.inl rfl))
  · exact Or.inr (Or.inr (Or.inr (Or.inl rfl)))
  · exact Or.inr (Or.inr (Or.inr (Or.inr rfl)))
theorem mr_73_10 (h0 : ¬ re < 0) (h4 : re ≤ 4) (H : wL_lawOf_231 post mc ms v w lo hi re ti 1 x9 (mr_r1 re (mr_val re v)) kc ks) : wL_lawOf_73 post mc ms v w lo hi re ti 1 0 1 x9 kc ks := by
  rcases mr_five h0 h4 with rfl | rfl | rfl | rfl | rfl
  · rw [mr_val_0, mr_r1_0] at H
    have H' : wL_lawOf_231 post mc ms v w lo hi 0 ti 1 x9 (v + 0) kc ks := by rw [Int32.add_zero]; exact H
    exact br_t rfl (br_f (by decide) (br_t rfl (br_f (by decide) (br_f (by decide) (br_f (by decide) (br_f (by decide) H'))))))
  · rw [mr_val_1, mr_r1_1] at H
    exact br_f (by decide) (br_f (by decide) (br_t rfl (br_f (by decide) (br_t rfl (br_f (by decide) (br_f (by decide) (br_f (by decide) H)))))))
  · rw [mr_val_2, mr_r1_2] at H
    exact br_f (by decide) (br_f (by decide) (br_f (by decide) (br_t rfl (br_f (by decide) (br_t rfl (br_f (by decide) (br_f (by decide) H)))))))
  · rw [mr_val_3, mr_r1_3] at H
    exact br_f (by decide) (br_t rfl (br_f (by decide) (br_f (by decide) (br_f (by decide) (br_f (by decide) H)))))
  · rw [mr_val_4, mr_r1_4] at H
    exact br_f (by decide) (br_f (by decide) (br_f (by decide) (br_f (by decide) (br_t rfl (br_f (by decide) (nm_e (br_t rfl (br_t rfl H))))))))
theorem mr_73_01 (h0 : ¬ re < 0) (h4 : re ≤ 4) (H : wL_lawOf_231 post mc ms v w lo hi re ti 1 x9 (mr_r1 re (mr_val re w)) kc ks) : wL_lawOf_73 post mc ms v w lo hi re ti 0 1 1 x9 kc ks := by
  rcases mr_five h0 h4 with rfl | rfl | rfl | rfl | rfl
  · rw [mr_val_0, mr_r1_0] at H
    have H' : wL_lawOf_231 post mc ms v w lo hi 0 ti 1 x9 (0 + w) kc ks := by rw [Int32.zero_add]; exact H
    exact br_t rfl (br_t rfl (br_f (by decide) (br_f (by decide) (br_f (by decide) (br_f (by decide) (br_f (by decide) H'))))))
  · rw [mr_val_1, mr_r1_1] at H
    exact br_f (by decide) (br_f (by decide) (br_t rfl (br_t rfl (br_f (by decide) (br_f (by decide) (br_f (by decide) H))))))
  · rw [mr_val_2, mr_r1_2] at H
    exact br_f (by decide) (br_f (by decide) (br_f (by decide) (br_t rfl (br_t rfl (br_f (by decide) (br_f (by decide) H))))))
  · rw [mr_val_3, mr_r1_3] at H
    exact br_f (by decide) (br_t rfl (br_f (by decide) (br_f (by decide) (br_f (by decide) (br_f (by decide) H)))))
  · rw [mr_val_4, mr_r1_4] at H
    exact br_f (by decide) (br_f (by decide) (br_f (by decide) (br_f (by decide) (br_t rfl (br_t rfl (br_t rfl (br_f (by decide) (nm_e H))))))))
theorem mr_73_11 (h0 : ¬ re < 0) (h4 : re ≤ 4) (H : wL_lawOf_231 post mc ms v w lo hi re ti 2 x9 (mr_r2 re (mr_val re v) (mr_val re w)) kc ks) : wL_lawOf_73 post mc ms v w lo hi re ti 1 1 2 x9 kc ks := by
  rcases mr_five h0 h4 with rfl | rfl | rfl | rfl | rfl
  · rw [mr_val_0, mr_val_0, mr_r2_0, mr_cb_0] at H
    exact br_t rfl (br_f (by decide) (br_f (by decide) (br_f (by decide) (br_f (by decide) (br_f (by decide) (br_f (by decide) H))))))
  · rw [mr_val_1, mr_val_1, mr_r2_1] at H
    refine br_f (by decide) (br_f (by decide) (br_t rfl (br_f (by decide) (br_f (by decide) (br_c (fun h => ?_) (fun h => ?_))))))
    · rw [mr_cb_1t h] at H
      exact br_f (by decide) (br_f (by decide) (br_f (by decide) H))
    · rw [mr_cb_1f h] at H
      exact br_f (by decide) (br_f (by decide) (br_f (by decide) H))
  · rw [mr_val_2, mr_val_2, mr_r2_2] at H
    refine br_f (by decide) (br_f (by decide) (br_f (by decide) (br_t rfl (br_f (by decide) (br_f (by decide) (br_c (fun h => ?_) (fun h => ?_)))))))
    · rw [mr_cb_2t h] at H
      exact br_f (by decide) (br_f (by decide) H)
    · rw [mr_cb_2f h] at H
      exact br_f (by decide) (br_f (by decide) H)
  · rw [mr_val_3, mr_val_3, mr_r2_3, mr_cb_3] at H
    exact br_f (by decide) (br_t rfl (br_f (by decide) (br_f (by decide) (br_f (by decide) (br_f (by decide) H)))))
  · rw [mr_val_4, mr_val_4, mr_r2_4] at H
    exact br_f (by decide) (br_f (by decide) (br_f (by decide) (br_f (by decide) (br_t rfl (br_f (by decide) (nm_e (br_t rfl (br_f (by decide) (nm_e H)))))))))
/-- the first tests: good or not -/
theorem mr_54 {z0 z1 : Int32} (e : z1 + z0 = x8) (hB : (re < 0 ∨ ¬ re ≤ 4) → wL_lawOf_73 post mc ms v w lo hi re ti x6 x7 x8 0 kc ks) (hG : ¬ re < 0 → re ≤ 4 → wL_lawOf_73 post mc ms v w lo hi re ti x6 x7 x8 1 kc ks) :
    wL_lawOf_54 post mc ms v w lo hi re ti x6 x7 z0 z1 kc ks :=
  nm_r (e' := x8) e (br_c (fun h => hB (Or.inl h)) (fun h => br_c (fun g => hB (Or.inr (Int32.not_le.mpr g))) (fun g => hG h (Int32.not_lt.mp g))))
end
section
variable {post : Int32 → St0 → Prop} {v w lo hi re ti : Int32}
theorem mr_32_00 (hv : mr_out lo hi v) (hw : mr_out lo hi w) (H : post 1 ()) : wL_lawOf_32 post 198 3152 v w lo hi re ti 0 0 0 0 :=
  br_t rfl (br_t rfl (mr_54 (x8 := 0) (by decide) (fun hb => mr_73A (fun _ => mr_231 (Or.inl ⟨hb, rfl⟩) H)) (fun h0 h4 => mr_73A (fun _ => mr_231 (Or.inr ⟨⟨h0, h4⟩, rfl, Or.inl ⟨hv, hw, rfl⟩⟩) H))))
theorem mr_32_10 (hv : mr_inn lo hi v) (hw : mr_out lo hi w) (H : post 1 ()) : wL_lawOf_32 post 198 3152 v w lo hi re ti 1 0 0 0 :=
  br_f (by decide) (br_t rfl (mr_54 (x8 := 1) (by decide) (fun hb => mr_73A (fun _ => mr_231 (Or.inl ⟨hb, rfl⟩) H)) (fun h0 h4 => mr_73_10 h0 h4 (mr_231 (Or.inr ⟨⟨h0, h4⟩, rfl, Or.inr (Or.inl ⟨hv, hw, rfl, rfl⟩)⟩) H))))
theorem mr_32_01 (hv : mr_out lo hi v) (hw : mr_inn lo hi w) (H : post 1 ()) : wL_lawOf_32 post 198 3152 v w lo hi re ti 0 1 0 0 :=
  br_t rfl (br_f (by decide) (mr_54 (x8 := 1) (by decide) (fun hb => mr_73A (fun _ => mr_231 (Or.inl ⟨hb, rfl⟩) H)) (fun h0 h4 => mr_73_01 h0 h4 (mr_231 (Or.inr ⟨⟨h0, h4⟩, rfl, Or.inr (Or.inr (Or.inl ⟨hv, hw, rfl, rfl⟩))⟩) H))))
theorem mr_32_11 (hv : mr_inn lo hi v) (hw : mr_inn lo hi w) (H : post 1 ()) : wL_lawOf_32 post 198 3152 v w lo hi re ti 1 1 0 0 :=
  br_f (by decide) (br_f (by decide) (mr_54 (x8 := 2) (by decide) (fun hb => mr_73A (fun _ => mr_231 (Or.inl ⟨hb, rfl⟩) H)) (fun h0 h4 => mr_73_11 h0 h4 (mr_231 (Or.inr ⟨⟨h0, h4⟩, rfl, Or.inr (Or.inr (Or.inr ⟨hv, hw, rfl, rfl⟩))⟩) H))))
theorem mr_15_0 (hv : mr_out lo hi v) (H : post 1 ()) : wL_lawOf_15 post 198 3152 v w lo hi re ti 0 0 0 :=
  br_c (fun a => mr_32_00 hv (Or.inl a) H) (fun a => br_c (fun b => mr_32_00 hv (Or.inr (Int32.not_le.mpr b)) H) (fun b => mr_32_01 hv ⟨a, Int32.not_lt.mp b⟩ H))
theorem mr_15_1 (hv : mr_inn lo hi v) (H : post 1 ()) : wL_lawOf_15 post 198 3152 v w lo hi re ti 1 0 0 :=
  br_c (fun a => mr_32_10 hv (Or.inl a) H) (fun a => br_c (fun b => mr_32_10 hv (Or.inr (Int32.not_le.mpr b)) H) (fun b => mr_32_11 hv ⟨a, Int32.not_lt.mp b⟩ H))
theorem mr_lawOf (H : post 1 ()) : wpL_lawOf post 198 3152 () v w lo hi re ti :=
  br_c (fun a => mr_15_0 (Or.inl a) H) (fun a => br_c (fun b => mr_15_0 (Or.inr (Int32.not_le.mpr b)) H) (fun b => mr_15_1 ⟨a, Int32.not_lt.mp b⟩ H))
end
theorem mr_cell {post : Int32 → Prop} {L : Nat} {xs : Nat → Int32} {p : Int32} (i : Nat) (hL : L ≤ 6) (hi : i < 6) (hp : p = nI i) (H : ∀ r, post r) : wpL_cellAt post L xs () p :=
  pk_le L i (fun _ => H _) (fun h => ⟨pk_in i L h hp, H _⟩) rfl hp
theorem i_vc (xs : Nat → Int32) (L : Nat) (hL : L ≤ 6) : wpL_law (fun r => r = 1) L xs := by
  unfold wpL_law
  refine mr_cell 0 hL (by decide) rfl (fun _ => mr_cell 1 hL (by decide) rfl (fun _ => mr_cell 2 hL (by decide) rfl (fun _ => mr_cell 3 hL (by decide) rfl (fun _ => mr_cell 4 hL (by decide) rfl (fun _ => mr_cell 5 hL (by decide) rfl (fun _ => ?_))))))
  exact ⟨198, 3152, by decide, by decide, mr_lawOf rfl⟩
end
