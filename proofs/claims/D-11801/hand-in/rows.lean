section
/-! making programs: one lemma a method, states exact -/
section
variable {nc nh sz pd ts vs fr cl cd en fc fe cr : Int32} {a1 a2 a3 a4 a5 a6 a7 a8 a9 a10 a11 a12 a13 a14 a15 a16 a17 a18 a19 a20 a21 a22 a23 a24 a25 a26 a27 a28 : Nat → Int32}
theorem cc_un {f : Nat → Int32} {n : Nat} {v : Int32} (h : n < 2 ^ 31) : upd f (nI n).toNatClampNeg v = upd f n v := by rw [nI_clamp h]
theorem cc_ue {f : Nat → Int32} {n : Nat} {x v : Int32} (e : x = nI n) (h : n < 2 ^ 31) : upd f x.toNatClampNeg v = upd f n v := by rw [e, nI_clamp h]
theorem cc_at {f : Nat → Int32} {n : Nat} {x v : Int32} (e : x = nI n) (h : n < 2 ^ 31) (hv : f n = v) : f x.toNatClampNeg = v := by rw [e, nI_clamp h]; exact hv
theorem cc_in {n N : Nat} {x : Int32} (e : x = nI n) (h : n < N) (hN : N < 2 ^ 31) : vp_in x N := by rw [e]; exact vp_in_nI h hN
theorem cc_ne {a b : Nat} (h : a ≠ b) (ha : a < 2 ^ 31) (hb : b < 2 ^ 31) : ¬ nI a = nI b := fun e => h ((nI_eq ha hb).mp e)
theorem cc_r {post : Int32 → St2 → Prop} {r r' : Int32} {u : St2} (e : r = r') (H : post r' u) : post r u := by rw [e]; exact H
theorem cc_adN {post : St2 → Prop} {p0 p1 : Int32} (h : p0 < 0) (H : post (nc, nh, sz, pd, ts, vs, fr, cl, cd, en, fc, fe, cr, a1, a2, a3, a4, a5, a6, a7, a8, a9, a10, a11, a12, a13, a14, a15, a16, a17, a18, a19, a20, a21, a22, a23, a24, a25, a26, a27, a28)) : wpX_adopt post (nc, nh, sz, pd, ts, vs, fr, cl, cd, en, fc, fe, cr, a1, a2, a3, a4, a5, a6, a7, a8, a9, a10, a11, a12, a13, a14, a15, a16, a17, a18, a19, a20, a21, a22, a23, a24, a25, a26, a27, a28) p0 p1 := br_t h H
theorem cc_adP {post : St2 → Prop} {x : Nat} {p1 : Int32} (hx : x < 24) (H : post (nc, nh, sz, pd, ts, vs, fr, cl, cd, en, fc, fe, cr, a1, a2, a3, a4, a5, upd a6 x nc, upd a7 x p1, a8, a9, a10, a11, a12, a13, a14, a15, a16, a17, a18, a19, a20, a21, a22, a23, a24, a25, a26, a27, a28)) : wpX_adopt post (nc, nh, sz, pd, ts, vs, fr, cl, cd, en, fc, fe, cr, a1, a2, a3, a4, a5, a6, a7, a8, a9, a10, a11, a12, a13, a14, a15, a16, a17, a18, a19, a20, a21, a22, a23, a24, a25, a26, a27, a28) (nI x) p1 :=
  br_f (nI_pos (by omega)) ⟨vp_in_nI hx (by omega), nm_r (cc_un (by omega)) ⟨vp_in_nI hx (by omega), nm_r (cc_un (by omega)) H⟩⟩
theorem cc_adN2 {post : St2 → Prop} {p0 p1 : Int32} (h : p0 < 0) (H : post (nc, nh, sz, pd, ts, vs, fr, cl, cd, en, fc, fe, cr, a1, a2, a3, a4, a5, a6, a7, a8, a9, a10, a11, a12, a13, a14, a15, a16, a17, a18, a19, a20, a21, a22, a23, a24, a25, a26, a27, a28)) : wpX_adopt_2 post (nc, nh, sz, pd, ts, vs, fr, cl, cd, en, fc, fe, cr, a1, a2, a3, a4, a5, a6, a7, a8, a9, a10, a11, a12, a13, a14, a15, a16, a17, a18, a19, a20, a21, a22, a23, a24, a25, a26, a27, a28) p0 p1 := br_t h H
theorem cc_adP2 {post : St2 → Prop} {x : Nat} {p1 : Int32} (hx : x < 24) (H : post (nc, nh, sz, pd, ts, vs, fr, cl, cd, en, fc, fe, cr, a1, a2, a3, a4, a5, upd a6 x nc, upd a7 x p1, a8, a9, a10, a11, a12, a13, a14, a15, a16, a17, a18, a19, a20, a21, a22, a23, a24, a25, a26, a27, a28)) : wpX_adopt_2 post (nc, nh, sz, pd, ts, vs, fr, cl, cd, en, fc, fe, cr, a1, a2, a3, a4, a5, a6, a7, a8, a9, a10, a11, a12, a13, a14, a15, a16, a17, a18, a19, a20, a21, a22, a23, a24, a25, a26, a27, a28) (nI x) p1 :=
  br_f (nI_pos (by omega)) ⟨vp_in_nI hx (by omega), nm_r (cc_un (by omega)) ⟨vp_in_nI hx (by omega), nm_r (cc_un (by omega)) H⟩⟩
theorem cc_mk0 {post : Int32 → St2 → Prop} {c : Nat} {k : Int32} (hc : c < 24)
    (H : post (nI c) (nI (c + 1), nh, sz, pd, ts, vs, fr, cl, cd, en, fc, fe, cr, upd a1 c k, upd a2 c (-1), upd a3 c (-1), upd a4 c (-1), a5, upd a6 c (-1), a7, a8, a9, a10, a11, a12, a13, a14, a15, a16, a17, a18, a19, a20, a21, a22, a23, a24, a25, a26, a27, a28)) : wpX_make post (nI c, nh, sz, pd, ts, vs, fr, cl, cd, en, fc, fe, cr, a1, a2, a3, a4, a5, a6, a7, a8, a9, a10, a11, a12, a13, a14, a15, a16, a17, a18, a19, a20, a21, a22, a23, a24, a25, a26, a27, a28) k (-1) (-1) (-1) :=
  have hi : vp_in (nI c) 24 := vp_in_nI hc (by omega)
  have hb : c < 2 ^ 31 := by omega
  ⟨hi, nm_r (cc_un hb) ⟨hi, nm_r (cc_un hb) ⟨hi, nm_r (cc_un hb) ⟨hi, nm_r (cc_un hb) ⟨hi, nm_r (cc_un hb) (cc_adN (by decide) (cc_adN (by decide) (cc_adN (by decide) (nm_r (nI_1 c) (cc_r (nI_pred c) H)))))⟩⟩⟩⟩⟩
theorem cc_mk1 {post : Int32 → St2 → Prop} {c x : Nat} {k p1 : Int32} (hc : c < 24) (e1 : p1 = nI x) (hx : x < 24)
    (H : post (nI c) (nI (c + 1), nh, sz, pd, ts, vs, fr, cl, cd, en, fc, fe, cr, upd a1 c k, upd a2 c (nI x), upd a3 c (-1), upd a4 c (-1), a5, upd (upd a6 c (-1)) x (nI c), upd a7 x 0, a8, a9, a10, a11, a12, a13, a14, a15, a16, a17, a18, a19, a20, a21, a22, a23, a24, a25, a26, a27, a28)) : wpX_make post (nI c, nh, sz, pd, ts, vs, fr, cl, cd, en, fc, fe, cr, a1, a2, a3, a4, a5, a6, a7, a8, a9, a10, a11, a12, a13, a14, a15, a16, a17, a18, a19, a20, a21, a22, a23, a24, a25, a26, a27, a28) k p1 (-1) (-1) := by
  subst e1
  have hi : vp_in (nI c) 24 := vp_in_nI hc (by omega)
  have hb : c < 2 ^ 31 := by omega
  exact ⟨hi, nm_r (cc_un hb) ⟨hi, nm_r (cc_un hb) ⟨hi, nm_r (cc_un hb) ⟨hi, nm_r (cc_un hb) ⟨hi, nm_r (cc_un hb) (cc_adP hx (cc_adN (by decide) (cc_adN (by decide) (nm_r (nI_1 c) (cc_r (nI_pred c) H)))))⟩⟩⟩⟩⟩
theorem cc_mk2 {post : Int32 → St2 → Prop} {c x y : Nat} {k p1 p2 : Int32} (hc : c < 24) (e1 : p1 = nI x) (hx : x < 24) (e2 : p2 = nI y) (hy : y < 24)
    (H : post (nI c) (nI (c + 1), nh, sz, pd, ts, vs, fr, cl, cd, en, fc, fe, cr, upd a1 c k, upd a2 c (nI x), upd a3 c (nI y), upd a4 c (-1), a5, upd (upd (upd a6 c (-1)) x (nI c)) y (nI c), upd (upd a7 x 0) y 1, a8, a9, a10, a11, a12, a13, a14, a15, a16, a17, a18, a19, a20, a21, a22, a23, a24, a25, a26, a27, a28)) : wpX_make_2 post (nI c, nh, sz, pd, ts, vs, fr, cl, cd, en, fc, fe, cr, a1, a2, a3, a4, a5, a6, a7, a8, a9, a10, a11, a12, a13, a14, a15, a16, a17, a18, a19, a20, a21, a22, a23, a24, a25, a26, a27, a28) k p1 p2 (-1) := by
  subst e1 e2
  have hi : vp_in (nI c) 24 := vp_in_nI hc (by omega)
  have hb : c < 2 ^ 31 := by omega
  exact ⟨hi, nm_r (cc_un hb) ⟨hi, nm_r (cc_un hb) ⟨hi, nm_r (cc_un hb) ⟨hi, nm_r (cc_un hb) ⟨hi, nm_r (cc_un hb) (cc_adP2 hx (cc_adP2 hy (cc_adN2 (by decide) (nm_r (nI_1 c) (cc_r (nI_pred c) H)))))⟩⟩⟩⟩⟩
theorem cc_mk3 {post : Int32 → St2 → Prop} {c x y z : Nat} {k p1 p2 p3 : Int32} (hc : c < 24) (e1 : p1 = nI x) (hx : x < 24) (e2 : p2 = nI y) (hy : y < 24) (e3 : p3 = nI z) (hz : z < 24)
    (H : post (nI c) (nI (c + 1), nh, sz, pd, ts, vs, fr, cl, cd, en, fc, fe, cr, upd a1 c k, upd a2 c (nI x), upd a3 c (nI y), upd a4 c (nI z), a5, upd (upd (upd (upd a6 c (-1)) x (nI c)) y (nI c)) z (nI c), upd (upd (upd a7 x 0) y 1) z 2, a8, a9, a10, a11, a12, a13, a14, a15, a16, a17, a18, a19, a20, a21, a22, a23, a24, a25, a26, a27, a28)) : wpX_make_2 post (nI c, nh, sz, pd, ts, vs, fr, cl, cd, en, fc, fe, cr, a1, a2, a3, a4, a5, a6, a7, a8, a9, a10, a11, a12, a13, a14, a15, a16, a17, a18, a19, a20, a21, a22, a23, a24, a25, a26, a27, a28) k p1 p2 p3 := by
  subst e1 e2 e3
  have hi : vp_in (nI c) 24 := vp_in_nI hc (by omega)
  have hb : c < 2 ^ 31 := by omega
  exact ⟨hi, nm_r (cc_un hb) ⟨hi, nm_r (cc_un hb) ⟨hi, nm_r (cc_un hb) ⟨hi, nm_r (cc_un hb) ⟨hi, nm_r (cc_un hb) (cc_adP2 hx (cc_adP2 hy (cc_adP2 hz (nm_r (nI_1 c) (cc_r (nI_pred c) H)))))⟩⟩⟩⟩⟩
theorem cc_leaf {post : Int32 → St2 → Prop} {c h : Nat} {k n : Int32} (hc : c < 24) (hh : h < 6)
    (H : post (nI (h + 1)) (nI (c + 1), nI (h + 1), sz, pd, ts, vs, fr, cl, cd, en, fc, fe, cr, upd a1 c k, upd a2 c (-1), upd a3 c (-1), upd a4 c (-1), upd a5 c n, upd a6 c (-1), a7, upd a8 h (nI c), a9, a10, a11, a12, a13, a14, a15, a16, a17, a18, a19, a20, a21, a22, a23, a24, a25, a26, a27, a28)) : wpX_leaf post (nI c, nI h, sz, pd, ts, vs, fr, cl, cd, en, fc, fe, cr, a1, a2, a3, a4, a5, a6, a7, a8, a9, a10, a11, a12, a13, a14, a15, a16, a17, a18, a19, a20, a21, a22, a23, a24, a25, a26, a27, a28) k n :=
  br_f (cc_ne (b := 24) (by omega) (by omega) (by omega)) (br_f (cc_ne (b := 6) (by omega) (by omega) (by omega)) (cc_mk0 hc
    ⟨vp_in_nI hc (by omega), nm_r (cc_un (by omega)) ⟨vp_in_nI hh (by omega), nm_r (cc_un (by omega)) (nm_r (nI_1 h) H)⟩⟩))
theorem cc_leafH {post : Int32 → St2 → Prop} {c : Nat} {k n : Int32} (hc : c < 24) (H : post (-2) (nI c, nI 6, sz, pd, ts, vs, fr, cl, cd, en, fc, fe, cr, a1, a2, a3, a4, a5, a6, a7, a8, a9, a10, a11, a12, a13, a14, a15, a16, a17, a18, a19, a20, a21, a22, a23, a24, a25, a26, a27, a28)) : wpX_leaf post (nI c, nI 6, sz, pd, ts, vs, fr, cl, cd, en, fc, fe, cr, a1, a2, a3, a4, a5, a6, a7, a8, a9, a10, a11, a12, a13, a14, a15, a16, a17, a18, a19, a20, a21, a22, a23, a24, a25, a26, a27, a28) k n :=
  br_f (cc_ne (b := 24) (by omega) (by omega) (by omega)) (br_t rfl H)
theorem cc_leafC {post : Int32 → St2 → Prop} {k n : Int32} (H : post (-2) (nI 24, nh, sz, pd, ts, vs, fr, cl, cd, en, fc, fe, cr, a1, a2, a3, a4, a5, a6, a7, a8, a9, a10, a11, a12, a13, a14, a15, a16, a17, a18, a19, a20, a21, a22, a23, a24, a25, a26, a27, a28)) : wpX_leaf post (nI 24, nh, sz, pd, ts, vs, fr, cl, cd, en, fc, fe, cr, a1, a2, a3, a4, a5, a6, a7, a8, a9, a10, a11, a12, a13, a14, a15, a16, a17, a18, a19, a20, a21, a22, a23, a24, a25, a26, a27, a28) k n := br_t rfl H
theorem cc_name {post : Int32 → St2 → Prop} {c h : Nat} {n : Int32} (h0 : ¬ n < 0) (h4 : n < 4) (hc : c < 24) (hh : h < 6)
    (H : post (nI (h + 1)) (nI (c + 1), nI (h + 1), sz, pd, ts, vs, fr, cl, cd, en, fc, fe, cr, upd a1 c 9, upd a2 c (-1), upd a3 c (-1), upd a4 c (-1), upd a5 c n, upd a6 c (-1), a7, upd a8 h (nI c), a9, a10, a11, a12, a13, a14, a15, a16, a17, a18, a19, a20, a21, a22, a23, a24, a25, a26, a27, a28)) : wpX_name post (nI c, nI h, sz, pd, ts, vs, fr, cl, cd, en, fc, fe, cr, a1, a2, a3, a4, a5, a6, a7, a8, a9, a10, a11, a12, a13, a14, a15, a16, a17, a18, a19, a20, a21, a22, a23, a24, a25, a26, a27, a28) n :=
  br_f h0 (br_t h4 (br_t rfl (cc_leaf hc hh H)))
theorem cc_nameH {post : Int32 → St2 → Prop} {c : Nat} {n : Int32} (h0 : ¬ n < 0) (h4 : n < 4) (hc : c < 24) (H : post (-2) (nI c, nI 6, sz, pd, ts, vs, fr, cl, cd, en, fc, fe, cr, a1, a2, a3, a4, a5, a6, a7, a8, a9, a10, a11, a12, a13, a14, a15, a16, a17, a18, a19, a20, a21, a22, a23, a24, a25, a26, a27, a28)) : wpX_name post (nI c, nI 6, sz, pd, ts, vs, fr, cl, cd, en, fc, fe, cr, a1, a2, a3, a4, a5, a6, a7, a8, a9, a10, a11, a12, a13, a14, a15, a16, a17, a18, a19, a20, a21, a22, a23, a24, a25, a26, a27, a28) n :=
  br_f h0 (br_t h4 (br_t rfl (cc_leafH hc H)))
theorem cc_number {post : Int32 → St2 → Prop} {c h : Nat} {n : Int32} (h0 : ¬ n < (-9)) (h9 : n ≤ 9) (hc : c < 24) (hh : h < 6)
    (H : post (nI (h + 1)) (nI (c + 1), nI (h + 1), sz, pd, ts, vs, fr, cl, cd, en, fc, fe, cr, upd a1 c 8, upd a2 c (-1), upd a3 c (-1), upd a4 c (-1), upd a5 c n, upd a6 c (-1), a7, upd a8 h (nI c), a9, a10, a11, a12, a13, a14, a15, a16, a17, a18, a19, a20, a21, a22, a23, a24, a25, a26, a27, a28)) : wpX_number post (nI c, nI h, sz, pd, ts, vs, fr, cl, cd, en, fc, fe, cr, a1, a2, a3, a4, a5, a6, a7, a8, a9, a10, a11, a12, a13, a14, a15, a16, a17, a18, a19, a20, a21, a22, a23, a24, a25, a26, a27, a28) n :=
  br_f h0 (br_t h9 (cc_leaf hc hh H))
theorem cc_numberH {post : Int32 → St2 → Prop} {c : Nat} {n : Int32} (h0 : ¬ n < (-9)) (h9 : n ≤ 9) (hc : c < 24) (H : post (-2) (nI c, nI 6, sz, pd, ts, vs, fr, cl, cd, en, fc, fe, cr, a1, a2, a3, a4, a5, a6, a7, a8, a9, a10, a11, a12, a13, a14, a15, a16, a17, a18, a19, a20, a21, a22, a23, a24, a25, a26, a27, a28)) : wpX_number post (nI c, nI 6, sz, pd, ts, vs, fr, cl, cd, en, fc, fe, cr, a1, a2, a3, a4, a5, a6, a7, a8, a9, a10, a11, a12, a13, a14, a15, a16, a17, a18, a19, a20, a21, a22, a23, a24, a25, a26, a27, a28) n :=
  br_f h0 (br_t h9 (cc_leafH hc H))
theorem cc_numberC {post : Int32 → St2 → Prop} {n : Int32} (h0 : ¬ n < (-9)) (h9 : n ≤ 9) (H : post (-2) (nI 24, nh, sz, pd, ts, vs, fr, cl, cd, en, fc, fe, cr, a1, a2, a3, a4, a5, a6, a7, a8, a9, a10, a11, a12, a13, a14, a15, a16, a17, a18, a19, a20, a21, a22, a23, a24, a25, a26, a27, a28)) : wpX_number post (nI 24, nh, sz, pd, ts, vs, fr, cl, cd, en, fc, fe, cr, a1, a2, a3, a4, a5, a6, a7, a8, a9, a10, a11, a12, a13, a14, a15, a16, a17, a18, a19, a20, a21, a22, a23, a24, a25, a26, a27, a28) n :=
  br_f h0 (br_t h9 (cc_leafC H))
theorem cc_two {post : Int32 → St2 → Prop} {c h x y : Nat} {k : Int32} (h0 : ¬ k < 0) (h4 : k ≤ 4) (hc : c < 24) (hh : h < 5) (ex : a8 h = nI x) (hx : x < 24) (ey : a8 (h + 1) = nI y) (hy : y < 24)
    (H : post (nI (h + 1)) (nI (c + 1), nI (h + 1), sz, pd, ts, vs, fr, cl, cd, en, fc, fe, cr, upd a1 c k, upd a2 c (nI x), upd a3 c (nI y), upd a4 c (-1), a5, upd (upd (upd a6 c (-1)) x (nI c)) y (nI c), upd (upd a7 x 0) y 1, upd a8 h (nI c), a9, a10, a11, a12, a13, a14, a15, a16, a17, a18, a19, a20, a21, a22, a23, a24, a25, a26, a27, a28)) : wpX_two post (nI c, nI (h + 2), sz, pd, ts, vs, fr, cl, cd, en, fc, fe, cr, a1, a2, a3, a4, a5, a6, a7, a8, a9, a10, a11, a12, a13, a14, a15, a16, a17, a18, a19, a20, a21, a22, a23, a24, a25, a26, a27, a28) k :=
  br_f h0 (br_t h4 (br_f (cc_ne (b := 24) (by omega) (by omega) (by omega)) (br_t (nI_le (a := 2) (by omega) (by omega)) (nm_r (nI_pred (h + 1)) ⟨cc_in (nI_pred h) (by omega) (by omega), vp_in_nI (by omega) (by omega),
    cc_mk2 hc (cc_at (nI_pred h) (by omega) ex) hx (cc_at rfl (by omega) ey) hy ⟨cc_in (nI_pred h) (by omega) (by omega), nm_r (cc_ue (nI_pred h) (by omega)) H⟩⟩))))
theorem cc_twoC {post : Int32 → St2 → Prop} {k : Int32} (h0 : ¬ k < 0) (h4 : k ≤ 4) (H : post (-2) (nI 24, nh, sz, pd, ts, vs, fr, cl, cd, en, fc, fe, cr, a1, a2, a3, a4, a5, a6, a7, a8, a9, a10, a11, a12, a13, a14, a15, a16, a17, a18, a19, a20, a21, a22, a23, a24, a25, a26, a27, a28)) : wpX_two post (nI 24, nh, sz, pd, ts, vs, fr, cl, cd, en, fc, fe, cr, a1, a2, a3, a4, a5, a6, a7, a8, a9, a10, a11, a12, a13, a14, a15, a16, a17, a18, a19, a20, a21, a22, a23, a24, a25, a26, a27, a28) k :=
  br_f h0 (br_t h4 (br_t rfl H))
theorem cc_twoB {post : Int32 → St2 → Prop} {k : Int32} (h0 : ¬ k < 0) (h4 : ¬ k ≤ 4) (H : post (-1) (nc, nh, sz, pd, ts, vs, fr, cl, cd, en, fc, fe, cr, a1, a2, a3, a4, a5, a6, a7, a8, a9, a10, a11, a12, a13, a14, a15, a16, a17, a18, a19, a20, a21, a22, a23, a24, a25, a26, a27, a28)) : wpX_two post (nc, nh, sz, pd, ts, vs, fr, cl, cd, en, fc, fe, cr, a1, a2, a3, a4, a5, a6, a7, a8, a9, a10, a11, a12, a13, a14, a15, a16, a17, a18, a19, a20, a21, a22, a23, a24, a25, a26, a27, a28) k :=
  br_f h0 (br_f h4 H)
theorem cc_choose {post : Int32 → St2 → Prop} {c h x y z : Nat} (hc : c < 24) (hh : h < 4) (ex : a8 h = nI x) (hx : x < 24) (ey : a8 (h + 1) = nI y) (hy : y < 24) (ez : a8 (h + 2) = nI z) (hz : z < 24)
    (H : post (nI (h + 1)) (nI (c + 1), nI (h + 1), sz, pd, ts, vs, fr, cl, cd, en, fc, fe, cr, upd a1 c 5, upd a2 c (nI x), upd a3 c (nI y), upd a4 c (nI z), a5, upd (upd (upd (upd a6 c (-1)) x (nI c)) y (nI c)) z (nI c), upd (upd (upd a7 x 0) y 1) z 2, upd a8 h (nI c), a9, a10, a11, a12, a13, a14, a15, a16, a17, a18, a19, a20, a21, a22, a23, a24, a25, a26, a27, a28)) : wpX_choose post (nI c, nI (h + 3), sz, pd, ts, vs, fr, cl, cd, en, fc, fe, cr, a1, a2, a3, a4, a5, a6, a7, a8, a9, a10, a11, a12, a13, a14, a15, a16, a17, a18, a19, a20, a21, a22, a23, a24, a25, a26, a27, a28) :=
  br_f (cc_ne (b := 24) (by omega) (by omega) (by omega)) (br_t (nI_le (a := 3) (by omega) (by omega)) (nm_r (show nI (h + 3) - 2 = nI (h + 1) from pk_sub (a := h + 3) (b := 2) (by omega)) ⟨cc_in (nI_pred h) (by omega) (by omega), vp_in_nI (by omega) (by omega), cc_in (nI_1 (h + 1)) (by omega) (by omega),
    cc_mk3 hc (cc_at (nI_pred h) (by omega) ex) hx (cc_at rfl (by omega) ey) hy (cc_at (nI_1 (h + 1)) (by omega) ez) hz ⟨cc_in (nI_pred h) (by omega) (by omega), nm_r (cc_ue (nI_pred h) (by omega)) H⟩⟩))
theorem cc_chooseC {post : Int32 → St2 → Prop} (H : post (-2) (nI 24, nh, sz, pd, ts, vs, fr, cl, cd, en, fc, fe, cr, a1, a2, a3, a4, a5, a6, a7, a8, a9, a10, a11, a12, a13, a14, a15, a16, a17, a18, a19, a20, a21, a22, a23, a24, a25, a26, a27, a28)) : wpX_choose post (nI 24, nh, sz, pd, ts, vs, fr, cl, cd, en, fc, fe, cr, a1, a2, a3, a4, a5, a6, a7, a8, a9, a10, a11, a12, a13, a14, a15, a16, a17, a18, a19, a20, a21, a22, a23, a24, a25, a26, a27, a28) := br_t rfl H
theorem cc_function {post : Int32 → St2 → Prop} {c h x : Nat} {p q : Int32} (p0 : ¬ p < 0) (p4 : p < 4) (q0 : ¬ q < 0) (q4 : q < 4) (hc : c < 24) (hh : h < 6) (ex : a8 h = nI x) (hx : x < 24)
    (H : post (nI (h + 1)) (nI (c + 1), nI (h + 1), sz, pd, ts, vs, fr, cl, cd, en, fc, fe, cr, upd a1 c 7, upd a2 c (nI x), upd a3 c (-1), upd a4 c (-1), upd a5 c ((4 * p) + q), upd (upd a6 c (-1)) x (nI c), upd a7 x 0, upd a8 h (nI c), a9, a10, a11, a12, a13, a14, a15, a16, a17, a18, a19, a20, a21, a22, a23, a24, a25, a26, a27, a28)) : wpX_function post (nI c, nI (h + 1), sz, pd, ts, vs, fr, cl, cd, en, fc, fe, cr, a1, a2, a3, a4, a5, a6, a7, a8, a9, a10, a11, a12, a13, a14, a15, a16, a17, a18, a19, a20, a21, a22, a23, a24, a25, a26, a27, a28) p q :=
  br_f p0 (br_t p4 (br_t rfl (br_f q0 (br_t q4 (br_t rfl (br_f (cc_ne (b := 24) (by omega) (by omega) (by omega)) (br_f (cc_ne (b := 0) (by omega) (by omega) (by omega)) ⟨cc_in (nI_pred h) (by omega) (by omega),
    cc_mk1 hc (cc_at (nI_pred h) (by omega) ex) hx ⟨vp_in_nI hc (by omega), nm_r (cc_un (by omega)) ⟨cc_in (nI_pred h) (by omega) (by omega), nm_r (cc_ue (nI_pred h) (by omega)) H⟩⟩⟩)))))))
theorem cc_functionC {post : Int32 → St2 → Prop} {p q : Int32} (p0 : ¬ p < 0) (p4 : p < 4) (q0 : ¬ q < 0) (q4 : q < 4) (H : post (-2) (nI 24, nh, sz, pd, ts, vs, fr, cl, cd, en, fc, fe, cr, a1, a2, a3, a4, a5, a6, a7, a8, a9, a10, a11, a12, a13, a14, a15, a16, a17, a18, a19, a20, a21, a22, a23, a24, a25, a26, a27, a28)) : wpX_function post (nI 24, nh, sz, pd, ts, vs, fr, cl, cd, en, fc, fe, cr, a1, a2, a3, a4, a5, a6, a7, a8, a9, a10, a11, a12, a13, a14, a15, a16, a17, a18, a19, a20, a21, a22, a23, a24, a25, a26, a27, a28) p q :=
  br_f p0 (br_t p4 (br_t rfl (br_f q0 (br_t q4 (br_t rfl (br_t rfl H))))))
theorem cc_bindF {post : Int32 → St2 → Prop} {c : Nat} {p : Int32} (p0 : ¬ p < 0) (p4 : p < 4) (hc : c < 24) (H : post (-3) (nI c, nI 1, sz, pd, ts, vs, fr, cl, cd, en, fc, fe, cr, a1, a2, a3, a4, a5, a6, a7, a8, a9, a10, a11, a12, a13, a14, a15, a16, a17, a18, a19, a20, a21, a22, a23, a24, a25, a26, a27, a28)) : wpX_bind post (nI c, nI 1, sz, pd, ts, vs, fr, cl, cd, en, fc, fe, cr, a1, a2, a3, a4, a5, a6, a7, a8, a9, a10, a11, a12, a13, a14, a15, a16, a17, a18, a19, a20, a21, a22, a23, a24, a25, a26, a27, a28) p :=
  br_f p0 (br_t p4 (br_t rfl (br_f (cc_ne (b := 24) (by omega) (by omega) (by omega)) (br_f (nI_ge (a := 1) (b := 2) (by omega) (by omega)) H))))
theorem cc_bindC {post : Int32 → St2 → Prop} {p : Int32} (p0 : ¬ p < 0) (p4 : p < 4) (H : post (-2) (nI 24, nh, sz, pd, ts, vs, fr, cl, cd, en, fc, fe, cr, a1, a2, a3, a4, a5, a6, a7, a8, a9, a10, a11, a12, a13, a14, a15, a16, a17, a18, a19, a20, a21, a22, a23, a24, a25, a26, a27, a28)) : wpX_bind post (nI 24, nh, sz, pd, ts, vs, fr, cl, cd, en, fc, fe, cr, a1, a2, a3, a4, a5, a6, a7, a8, a9, a10, a11, a12, a13, a14, a15, a16, a17, a18, a19, a20, a21, a22, a23, a24, a25, a26, a27, a28) p :=
  br_f p0 (br_t p4 (br_t rfl (br_t rfl H)))
end
end
section
/-! looking outwards for a name, whether a program lies inside of another, free names -/
section
variable {nc nh sz pd ts vs fr cl cd en fc fe cr : Int32} {a1 a2 a3 a4 a5 a6 a7 a8 a9 a10 a11 a12 a13 a14 a15 a16 a17 a18 a19 a20 a21 a22 a23 a24 a25 a26 a27 a28 : Nat → Int32}
theorem cc_atne {f : Nat → Int32} {n : Nat} {x v : Int32} (e : x = nI n) (h : n < 2 ^ 31) (hv : ¬ f n = v) : ¬ f x.toNatClampNeg = v := by rw [e, nI_clamp h]; exact hv
theorem cc_atnl {f : Nat → Int32} {n m : Nat} (h : n < 2 ^ 31) (hm : m < 2 ^ 31) (hv : f n = nI m) : ¬ f (nI n).toNatClampNeg < 0 := by rw [nI_clamp h, hv]; exact nI_pos hm
theorem cc_atlt {f : Nat → Int32} {n : Nat} (h : n < 2 ^ 31) (hv : f n = -1) : f (nI n).toNatClampNeg < 0 := by rw [nI_clamp h, hv]; decide
/-- the loop of lookOut from x, i steps done: finds F, E; no function is crossed -/
def cc_LO (K N W : Nat → Int32) (v : Int32) (i x : Nat) (F E : Int32) : Prop := ∀ (post : St2 → Prop) (nc nh sz pd ts vs fr cl cd en : Int32) (a2 a3 a4 a7 a8 a9 a10 a11 a12 a13 a14 a15 a16 a17 a18 a19 a20 a21 a22 a23 a24 a25 a26 a27 a28 : Nat → Int32) (n : Nat), 24 < i + n → post (nc, nh, sz, pd, ts, vs, fr, cl, cd, en, F, E, -1, K, a2, a3, a4, N, W, a7, a8, a9, a10, a11, a12, a13, a14, a15, a16, a17, a18, a19, a20, a21, a22, a23, a24, a25, a26, a27, a28) → wX_lookOut_21 post v nc nh sz pd ts vs fr cl cd en 15 0 (-1) K a2 a3 a4 N W a7 a8 a9 a10 a11 a12 a13 a14 a15 a16 a17 a18 a19 a20 a21 a22 a23 a24 a25 a26 a27 a28 n (nI x) (nI i)
def cc_LK (K N W : Nat → Int32) (v : Int32) (x : Nat) (F E : Int32) : Prop := ∀ (post : St2 → Prop) (nc nh sz pd ts vs fr cl cd en fc fe cr : Int32) (a2 a3 a4 a7 a8 a9 a10 a11 a12 a13 a14 a15 a16 a17 a18 a19 a20 a21 a22 a23 a24 a25 a26 a27 a28 : Nat → Int32), post (nc, nh, sz, pd, ts, vs, fr, cl, cd, en, F, E, -1, K, a2, a3, a4, N, W, a7, a8, a9, a10, a11, a12, a13, a14, a15, a16, a17, a18, a19, a20, a21, a22, a23, a24, a25, a26, a27, a28) → wpX_lookOut post (nc, nh, sz, pd, ts, vs, fr, cl, cd, en, fc, fe, cr, K, a2, a3, a4, N, W, a7, a8, a9, a10, a11, a12, a13, a14, a15, a16, a17, a18, a19, a20, a21, a22, a23, a24, a25, a26, a27, a28) (nI x) v
theorem cc_lk {K N W : Nat → Int32} {v F E : Int32} {x : Nat} (h : cc_LO K N W v 0 x F E) : cc_LK K N W v x F E := by
  intro post nc nh sz pd ts vs fr cl cd en fc fe cr a2 a3 a4 a7 a8 a9 a10 a11 a12 a13 a14 a15 a16 a17 a18 a19 a20 a21 a22 a23 a24 a25 a26 a27 a28 H
  exact ⟨25, h post _ _ _ _ _ _ _ _ _ _ _ _ _ _ _ _ _ _ _ _ _ _ _ _ _ _ _ _ _ _ _ _ _ _ _ 25 (by omega) H⟩
theorem cc_loUp {K N W : Nat → Int32} {v F E : Int32} {i x : Nat} (w : Nat) (hi : i < 24) (hx : x < 24) (hw : w < 24) (e : W x = nI w) (k6 : ¬ K w = 6) (k7 : ¬ K w = 7) (h : cc_LO K N W v (i + 1) w F E) : cc_LO K N W v i x F E := by
  intro post nc nh sz pd ts vs fr cl cd en a2 a3 a4 a7 a8 a9 a10 a11 a12 a13 a14 a15 a16 a17 a18 a19 a20 a21 a22 a23 a24 a25 a26 a27 a28 n hn H
  cases n with
  | zero => omega
  | succ n =>
    exact br_f (nI_ge (b := 24) hi (by omega)) ⟨vp_in_nI hx (by omega), br_f (cc_atnl (by omega) (by omega) e) ⟨vp_in_nI hx (by omega), nm_r (cc_at rfl (by omega) e) ⟨vp_in_nI hw (by omega), br_f (cc_atne rfl (by omega) k6)
      ⟨vp_in_nI hw (by omega), br_f (cc_atne rfl (by omega) k7) (nm_r (nI_1 i) (h post _ _ _ _ _ _ _ _ _ _ _ _ _ _ _ _ _ _ _ _ _ _ _ _ _ _ _ _ _ _ _ _ _ _ _ n (by omega) H))⟩⟩⟩⟩
theorem cc_loRoot {K N W : Nat → Int32} {v : Int32} {i x : Nat} (hi : i < 24) (hx : x < 24) (e : W x = -1) : cc_LO K N W v i x 15 0 := by
  intro post nc nh sz pd ts vs fr cl cd en a2 a3 a4 a7 a8 a9 a10 a11 a12 a13 a14 a15 a16 a17 a18 a19 a20 a21 a22 a23 a24 a25 a26 a27 a28 n hn H
  cases n with
  | zero => omega
  | succ n => exact br_f (nI_ge (b := 24) hi (by omega)) ⟨vp_in_nI hx (by omega), br_t (cc_atlt (by omega) e) H⟩
theorem cc_loArg {K N W : Nat → Int32} {v : Int32} {i x : Nat} (w : Nat) (hi : i < 24) (hx : x < 24) (hw : w < 24) (e : W x = nI w) (k7 : K w = 7) (ha : N w &&& 3 = v) : cc_LO K N W v i x 12 v := by
  intro post nc nh sz pd ts vs fr cl cd en a2 a3 a4 a7 a8 a9 a10 a11 a12 a13 a14 a15 a16 a17 a18 a19 a20 a21 a22 a23 a24 a25 a26 a27 a28 n hn H
  have k6 : ¬ K w = 6 := by rw [k7]; decide
  cases n with
  | zero => omega
  | succ n =>
    exact br_f (nI_ge (b := 24) hi (by omega)) ⟨vp_in_nI hx (by omega), br_f (cc_atnl (by omega) (by omega) e) ⟨vp_in_nI hx (by omega), nm_r (cc_at rfl (by omega) e) ⟨vp_in_nI hw (by omega), br_f (cc_atne rfl (by omega) k6)
      ⟨vp_in_nI hw (by omega), br_t (cc_at rfl (by omega) k7) ⟨vp_in_nI hw (by omega), br_t (by rw [nI_clamp (by omega)]; exact ha) ⟨vp_in_nI hw (by omega), br_c (fun _ => br_f (by decide) (br_f (by decide) H)) (fun _ => br_f (by decide) (br_f (by decide) H))⟩⟩⟩⟩⟩⟩
theorem cc_loSelf {K N W : Nat → Int32} {v : Int32} {i x : Nat} (w : Nat) (hi : i < 24) (hx : x < 24) (hw : w < 24) (e : W x = nI w) (k7 : K w = 7) (ha : ¬ N w &&& 3 = v) (hs : N w >>> ((2 : Int32) &&& 31) = v) : cc_LO K N W v i x 13 v := by
  intro post nc nh sz pd ts vs fr cl cd en a2 a3 a4 a7 a8 a9 a10 a11 a12 a13 a14 a15 a16 a17 a18 a19 a20 a21 a22 a23 a24 a25 a26 a27 a28 n hn H
  have k6 : ¬ K w = 6 := by rw [k7]; decide
  cases n with
  | zero => omega
  | succ n =>
    exact br_f (nI_ge (b := 24) hi (by omega)) ⟨vp_in_nI hx (by omega), br_f (cc_atnl (by omega) (by omega) e) ⟨vp_in_nI hx (by omega), nm_r (cc_at rfl (by omega) e) ⟨vp_in_nI hw (by omega), br_f (cc_atne rfl (by omega) k6)
      ⟨vp_in_nI hw (by omega), br_t (cc_at rfl (by omega) k7) ⟨vp_in_nI hw (by omega), br_f (by rw [nI_clamp (by omega)]; exact ha) ⟨vp_in_nI hw (by omega), br_t (by rw [nI_clamp (by omega)]; exact hs) (br_t rfl (br_f (by decide) (br_t rfl (br_f (by decide) H))))⟩⟩⟩⟩⟩⟩
/-- the loop of inside -/
def cc_IN (W : Nat → Int32) (top i x : Nat) (R : Int32) : Prop := ∀ (post : Int32 → Prop) (nc nh sz pd ts vs fr cl cd en fc fe cr : Int32) (a1 a2 a3 a4 a5 a7 a8 a9 a10 a11 a12 a13 a14 a15 a16 a17 a18 a19 a20 a21 a22 a23 a24 a25 a26 a27 a28 : Nat → Int32) (n : Nat), 24 < i + n → post R → wX_inside_5 post (nI top) nc nh sz pd ts vs fr cl cd en fc fe cr a1 a2 a3 a4 a5 W a7 a8 a9 a10 a11 a12 a13 a14 a15 a16 a17 a18 a19 a20 a21 a22 a23 a24 a25 a26 a27 a28 n (nI x) (nI i)
theorem cc_inUp {W : Nat → Int32} {top i x : Nat} {R : Int32} (w : Nat) (hi : i < 24) (hx : x < 24) (hw : w < 24) (ht : top < 24) (ne : x ≠ top) (e : W x = nI w) (h : cc_IN W top (i + 1) w R) : cc_IN W top i x R := by
  intro post nc nh sz pd ts vs fr cl cd en fc fe cr a1 a2 a3 a4 a5 a7 a8 a9 a10 a11 a12 a13 a14 a15 a16 a17 a18 a19 a20 a21 a22 a23 a24 a25 a26 a27 a28 n hn H
  cases n with
  | zero => omega
  | succ n => exact br_f (nI_ge (b := 24) hi (by omega)) (br_f (cc_ne ne (by omega) (by omega)) ⟨vp_in_nI hx (by omega), br_f (cc_atnl (by omega) (by omega) e) ⟨vp_in_nI hx (by omega), nm_r (cc_at rfl (by omega) e) (nm_r (nI_1 i) (h post _ _ _ _ _ _ _ _ _ _ _ _ _ _ _ _ _ _ _ _ _ _ _ _ _ _ _ _ _ _ _ _ _ _ _ _ _ _ _ _ n (by omega) H))⟩⟩)
theorem cc_inTop {W : Nat → Int32} {top i : Nat} (hi : i < 24) : cc_IN W top i top 1 := by
  intro post nc nh sz pd ts vs fr cl cd en fc fe cr a1 a2 a3 a4 a5 a7 a8 a9 a10 a11 a12 a13 a14 a15 a16 a17 a18 a19 a20 a21 a22 a23 a24 a25 a26 a27 a28 n hn H
  cases n with
  | zero => omega
  | succ n => exact br_f (nI_ge (b := 24) hi (by omega)) (br_t rfl (br_t rfl H))
theorem cc_inRoot {W : Nat → Int32} {top i x : Nat} (hi : i < 24) (hx : x < 24) (ht : top < 24) (ne : x ≠ top) (e : W x = -1) : cc_IN W top i x 0 := by
  intro post nc nh sz pd ts vs fr cl cd en fc fe cr a1 a2 a3 a4 a5 a7 a8 a9 a10 a11 a12 a13 a14 a15 a16 a17 a18 a19 a20 a21 a22 a23 a24 a25 a26 a27 a28 n hn H
  cases n with
  | zero => omega
  | succ n => exact br_f (nI_ge (b := 24) hi (by omega)) (br_f (cc_ne ne (by omega) (by omega)) ⟨vp_in_nI hx (by omega), br_t (cc_atlt (by omega) e) (br_f (cc_ne ne (by omega) (by omega)) H)⟩)
theorem cc_frSkip {post : Int32 → St2 → Prop} {top x n : Nat} {s : Int32} (hx : x ≤ top) (ht : top < 24) (hk : ¬ a1 x = 9) (H : wX_free_26 post (nI top) n s (nI (x + 1)) nc nh sz pd ts vs fr cl cd en fc fe cr a1 a2 a3 a4 a5 a6 a7 a8 a9 a10 a11 a12 a13 a14 a15 a16 a17 a18 a19 a20 a21 a22 a23 a24 a25 a26 a27 a28) : wX_free_26 post (nI top) (n + 1) s (nI x) nc nh sz pd ts vs fr cl cd en fc fe cr a1 a2 a3 a4 a5 a6 a7 a8 a9 a10 a11 a12 a13 a14 a15 a16 a17 a18 a19 a20 a21 a22 a23 a24 a25 a26 a27 a28 :=
  br_f (nI_nlt hx (by omega)) ⟨vp_in_nI (by omega) (by omega), br_f (cc_atne rfl (by omega) hk) (nm_r (nI_1 x) H)⟩
theorem cc_frOut {post : Int32 → St2 → Prop} {top x n : Nat} {s : Int32} (hx : x ≤ top) (ht : top < 24) (hk : a1 x = 9) (hi : cc_IN a6 top 0 x 0) (H : wX_free_26 post (nI top) n s (nI (x + 1)) nc nh sz pd ts vs fr cl cd en fc fe cr a1 a2 a3 a4 a5 a6 a7 a8 a9 a10 a11 a12 a13 a14 a15 a16 a17 a18 a19 a20 a21 a22 a23 a24 a25 a26 a27 a28) : wX_free_26 post (nI top) (n + 1) s (nI x) nc nh sz pd ts vs fr cl cd en fc fe cr a1 a2 a3 a4 a5 a6 a7 a8 a9 a10 a11 a12 a13 a14 a15 a16 a17 a18 a19 a20 a21 a22 a23 a24 a25 a26 a27 a28 :=
  br_f (nI_nlt hx (by omega)) ⟨vp_in_nI (by omega) (by omega), br_t (cc_at rfl (by omega) hk) ⟨25, hi _ _ _ _ _ _ _ _ _ _ _ _ _ _ _ _ _ _ _ _ _ _ _ _ _ _ _ _ _ _ _ _ _ _ _ _ _ _ _ _ _ 25 (by omega) (br_t rfl (nm_r (nI_1 x) H))⟩⟩
theorem cc_frN {post : Int32 → St2 → Prop} {top x n : Nat} {s v E : Int32} (hx : x ≤ top) (ht : top < 24) (hk : a1 x = 9) (hv : a5 x = v) (hi : cc_IN a6 top 0 x 1) (hl : cc_LK a1 a5 a6 v x 15 E) (H : wX_free_26 post (nI top) n (s ||| ((1 : Int32) <<< (v &&& 31))) (nI (x + 1)) nc nh sz pd ts vs fr cl cd en 15 E (-1) a1 a2 a3 a4 a5 a6 a7 a8 a9 a10 a11 a12 a13 a14 a15 a16 a17 a18 a19 a20 a21 a22 a23 a24 a25 a26 a27 a28) : wX_free_26 post (nI top) (n + 1) s (nI x) nc nh sz pd ts vs fr cl cd en fc fe cr a1 a2 a3 a4 a5 a6 a7 a8 a9 a10 a11 a12 a13 a14 a15 a16 a17 a18 a19 a20 a21 a22 a23 a24 a25 a26 a27 a28 := by
  subst hv
  refine br_f (nI_nlt hx (by omega)) ⟨vp_in_nI (by omega) (by omega), br_t (cc_at rfl (by omega) hk) ⟨25, hi _ _ _ _ _ _ _ _ _ _ _ _ _ _ _ _ _ _ _ _ _ _ _ _ _ _ _ _ _ _ _ _ _ _ _ _ _ _ _ _ _ 25 (by omega) (br_f (by decide) ⟨vp_in_nI (by omega) (by omega), ?_⟩)⟩⟩
  rw [nI_clamp (show x < 2 ^ 31 by omega)]
  refine hl _ _ _ _ _ _ _ _ _ _ _ _ _ _ _ _ _ _ _ _ _ _ _ _ _ _ _ _ _ _ _ _ _ _ _ _ _ _ _ ⟨1, ?_⟩
  exact br_f (by decide) (br_t (by decide) (br_t rfl ⟨vp_in_nI (by omega) (by omega), nm_r (by rw [nI_clamp (show x < 2 ^ 31 by omega)]) (nm_r (nI_1 x) H)⟩))
theorem cc_frF {post : Int32 → St2 → Prop} {top x n : Nat} {s v F E : Int32} (hx : x ≤ top) (ht : top < 24) (hk : a1 x = 9) (hv : a5 x = v) (hi : cc_IN a6 top 0 x 1) (hl : cc_LK a1 a5 a6 v x F E) (hF : ¬ F = 15) (H : wX_free_26 post (nI top) n s (nI (x + 1)) nc nh sz pd ts vs fr cl cd en F E (-1) a1 a2 a3 a4 a5 a6 a7 a8 a9 a10 a11 a12 a13 a14 a15 a16 a17 a18 a19 a20 a21 a22 a23 a24 a25 a26 a27 a28) : wX_free_26 post (nI top) (n + 1) s (nI x) nc nh sz pd ts vs fr cl cd en fc fe cr a1 a2 a3 a4 a5 a6 a7 a8 a9 a10 a11 a12 a13 a14 a15 a16 a17 a18 a19 a20 a21 a22 a23 a24 a25 a26 a27 a28 := by
  subst hv
  refine br_f (nI_nlt hx (by omega)) ⟨vp_in_nI (by omega) (by omega), br_t (cc_at rfl (by omega) hk) ⟨25, hi _ _ _ _ _ _ _ _ _ _ _ _ _ _ _ _ _ _ _ _ _ _ _ _ _ _ _ _ _ _ _ _ _ _ _ _ _ _ _ _ _ 25 (by omega) (br_f (by decide) ⟨vp_in_nI (by omega) (by omega), ?_⟩)⟩⟩
  rw [nI_clamp (show x < 2 ^ 31 by omega)]
  refine hl _ _ _ _ _ _ _ _ _ _ _ _ _ _ _ _ _ _ _ _ _ _ _ _ _ _ _ _ _ _ _ _ _ _ _ _ _ _ _ ⟨1, ?_⟩
  exact br_f (by decide) (br_t (by decide) (br_f hF (nm_r (nI_1 x) H)))
theorem cc_frEnd {post : Int32 → St2 → Prop} {top x n : Nat} {s : Int32} (hx : top < x) (ht : x < 25) (H : post s (nc, nh, sz, pd, ts, vs, fr, cl, cd, en, fc, fe, cr, a1, a2, a3, a4, a5, a6, a7, a8, a9, a10, a11, a12, a13, a14, a15, a16, a17, a18, a19, a20, a21, a22, a23, a24, a25, a26, a27, a28)) : wX_free_26 post (nI top) (n + 1) s (nI x) nc nh sz pd ts vs fr cl cd en fc fe cr a1 a2 a3 a4 a5 a6 a7 a8 a9 a10 a11 a12 a13 a14 a15 a16 a17 a18 a19 a20 a21 a22 a23 a24 a25 a26 a27 a28 :=
  br_t (nI_lt hx (by omega)) H
theorem cc_free {post : Int32 → St2 → Prop} {top h : Nat} (hh : h < 6) (e : a8 h = nI top) (H : wX_free_26 post (nI top) 26 0 (nI 0) nc (nI (h + 1)) sz pd ts vs fr cl cd en fc fe cr a1 a2 a3 a4 a5 a6 a7 a8 a9 a10 a11 a12 a13 a14 a15 a16 a17 a18 a19 a20 a21 a22 a23 a24 a25 a26 a27 a28) : wpX_free post (nc, nI (h + 1), sz, pd, ts, vs, fr, cl, cd, en, fc, fe, cr, a1, a2, a3, a4, a5, a6, a7, a8, a9, a10, a11, a12, a13, a14, a15, a16, a17, a18, a19, a20, a21, a22, a23, a24, a25, a26, a27, a28) :=
  br_f (nI_ne0 (by omega) (by omega)) ⟨cc_in (nI_pred h) (by omega) (by omega), nm_r (cc_at (nI_pred h) (by omega) e) ⟨26, H⟩⟩
end
end
section
/-! compiling: one lemma a step of a program under way -/
section
variable {nc nh sz pd ts vs fr cl cd en fc fe cr : Int32} {a1 a2 a3 a4 a5 a6 a7 a8 a9 a10 a11 a12 a13 a14 a15 a16 a17 a18 a19 a20 a21 a22 a23 a24 a25 a26 a27 a28 : Nat → Int32}
theorem cc_begin {post : St2 → Prop} {t : Nat} {p0 p1 : Int32} (ht : t < 32) (e : p0 = p1) (H : post (nc, nh, sz, pd, nI (t + 1), vs, fr, cl, cd, en, fc, fe, cr, a1, a2, a3, a4, a5, a6, a7, a8, a9, a10, a11, a12, a13, a14, upd a15 t p1, upd a16 t 0, a17, a18, a19, a20, a21, a22, a23, a24, a25, a26, a27, a28)) : wpX_begin post (nc, nh, sz, pd, nI t, vs, fr, cl, cd, en, fc, fe, cr, a1, a2, a3, a4, a5, a6, a7, a8, a9, a10, a11, a12, a13, a14, a15, a16, a17, a18, a19, a20, a21, a22, a23, a24, a25, a26, a27, a28) p0 := by
  subst e
  exact ⟨vp_in_nI ht (by omega), nm_r (cc_un (by omega)) ⟨vp_in_nI ht (by omega), nm_r (cc_un (by omega)) (nm_r (nI_1 t) H)⟩⟩
theorem cc_emit {post : St2 → Prop} {s : Nat} {p0 p1 q0 q1 : Int32} (hs : s < 128) (e0 : p0 = q0) (e1 : p1 = q1) (H : post (nc, nh, nI (s + 1), pd, ts, vs, fr, cl, cd, en, fc, fe, cr, a1, a2, a3, a4, a5, a6, a7, a8, upd a9 s q0, upd a10 s q1, a11, a12, a13, a14, a15, a16, a17, a18, a19, a20, a21, a22, a23, a24, a25, a26, a27, a28)) : wpX_emit post (nc, nh, nI s, pd, ts, vs, fr, cl, cd, en, fc, fe, cr, a1, a2, a3, a4, a5, a6, a7, a8, a9, a10, a11, a12, a13, a14, a15, a16, a17, a18, a19, a20, a21, a22, a23, a24, a25, a26, a27, a28) p0 p1 := by
  subst e0 e1
  exact ⟨vp_in_nI hs (by omega), nm_r (cc_un (by omega)) ⟨vp_in_nI hs (by omega), nm_r (cc_un (by omega)) (nm_r (nI_1 s) H)⟩⟩
theorem cc_capture {post : St2 → Prop} {x : Nat} {p1 v F E : Int32} (e : p1 = v) (hl : cc_LK a1 a5 a6 v x F E) (H : post (nc, nh, sz, pd, ts, vs, fr, cl, cd, en, F, E, -1, a1, a2, a3, a4, a5, a6, a7, a8, a9, a10, a11, a12, a13, a14, a15, a16, a17, a18, a19, a20, a21, a22, a23, a24, a25, a26, a27, a28)) : wpX_capture post (nc, nh, sz, pd, ts, vs, fr, cl, cd, en, fc, fe, cr, a1, a2, a3, a4, a5, a6, a7, a8, a9, a10, a11, a12, a13, a14, a15, a16, a17, a18, a19, a20, a21, a22, a23, a24, a25, a26, a27, a28) (nI x) p1 := by
  subst e
  unfold wpX_capture
  exact hl _ _ _ _ _ _ _ _ _ _ _ _ _ _ _ _ _ _ _ _ _ _ _ _ _ _ _ _ _ _ _ _ _ _ _ _ _ _ _ ⟨1, br_f (by decide) (br_t (by decide) H)⟩
theorem cc_lfConst {post : St2 → Prop} {x s : Nat} {v : Int32} (hx : x < 24) (hs : s < 128) (k : a1 x = 8) (ev : a5 x = v) (H : post (nc, nh, nI (s + 1), pd, ts, vs, fr, cl, cd, en, fc, fe, cr, a1, a2, a3, a4, a5, a6, a7, a8, upd a9 s 10, upd a10 s v, a11, a12, a13, a14, a15, a16, a17, a18, a19, a20, a21, a22, a23, a24, a25, a26, a27, a28)) : wpX_compileLeaf post (nc, nh, nI s, pd, ts, vs, fr, cl, cd, en, fc, fe, cr, a1, a2, a3, a4, a5, a6, a7, a8, a9, a10, a11, a12, a13, a14, a15, a16, a17, a18, a19, a20, a21, a22, a23, a24, a25, a26, a27, a28) (nI x) :=
  ⟨vp_in_nI hx (by omega), br_t (cc_at rfl (by omega) k) ⟨vp_in_nI hx (by omega), cc_emit hs rfl (cc_at rfl (by omega) ev) H⟩⟩
theorem cc_lfName {post : St2 → Prop} {x s : Nat} {v F E : Int32} (hx : x < 24) (hs : s < 128) (k : a1 x = 9) (ev : a5 x = v) (hl : cc_LK a1 a5 a6 v x F E) (H : post (nc, nh, nI (s + 1), pd, ts, vs, fr, cl, cd, en, F, E, -1, a1, a2, a3, a4, a5, a6, a7, a8, upd a9 s F, upd a10 s E, a11, a12, a13, a14, a15, a16, a17, a18, a19, a20, a21, a22, a23, a24, a25, a26, a27, a28)) : wpX_compileLeaf post (nc, nh, nI s, pd, ts, vs, fr, cl, cd, en, fc, fe, cr, a1, a2, a3, a4, a5, a6, a7, a8, a9, a10, a11, a12, a13, a14, a15, a16, a17, a18, a19, a20, a21, a22, a23, a24, a25, a26, a27, a28) (nI x) :=
  ⟨vp_in_nI hx (by omega), br_f (cc_atne rfl (by omega) (by rw [k]; decide)) ⟨vp_in_nI hx (by omega), br_t (cc_at rfl (by omega) k) ⟨vp_in_nI hx (by omega), cc_capture (cc_at rfl (by omega) ev) hl (cc_emit hs rfl rfl H)⟩⟩⟩
theorem cc_lfFun {post : St2 → Prop} {x s p : Nat} (hx : x < 24) (hs : s < 128) (hp : p < 24) (k : a1 x = 7) (H : post (nc, nh, nI (s + 1), nI (p + 1), ts, vs, fr, cl, cd, en, fc, fe, cr, a1, a2, a3, a4, a5, a6, a7, a8, upd a9 s 17, upd a10 s (nI x), a11, a12, a13, upd a14 p (nI x), a15, a16, a17, a18, a19, a20, a21, a22, a23, a24, a25, a26, a27, a28)) : wpX_compileLeaf post (nc, nh, nI s, nI p, ts, vs, fr, cl, cd, en, fc, fe, cr, a1, a2, a3, a4, a5, a6, a7, a8, a9, a10, a11, a12, a13, a14, a15, a16, a17, a18, a19, a20, a21, a22, a23, a24, a25, a26, a27, a28) (nI x) :=
  ⟨vp_in_nI hx (by omega), br_f (cc_atne rfl (by omega) (by rw [k]; decide)) ⟨vp_in_nI hx (by omega), br_f (cc_atne rfl (by omega) (by rw [k]; decide)) (cc_emit hs rfl rfl ⟨vp_in_nI hp (by omega), nm_r (cc_un (by omega)) (nm_r (nI_1 p) H)⟩)⟩⟩
theorem cc_ph {t p : Nat} (ht : t < 32) : upd a16 (nI t).toNatClampNeg (nI p + 1) = upd a16 t (nI (p + 1)) := by rw [nI_clamp (by omega), nI_1]
theorem cc_atlk {f : Nat → Int32} {n : Nat} {v w : Int32} (h : n < 2 ^ 31) (hv : f n = v) (hl : v < w) : f (nI n).toNatClampNeg < w := by rw [nI_clamp h, hv]; exact hl
theorem cc_atnlk {f : Nat → Int32} {n : Nat} {v w : Int32} (h : n < 2 ^ 31) (hv : f n = v) (hl : ¬ v < w) : ¬ f (nI n).toNatClampNeg < w := by rw [nI_clamp h, hv]; exact hl
theorem cc_atnek {f : Nat → Int32} {n : Nat} {v w : Int32} (h : n < 2 ^ 31) (hv : f n = v) (hl : ¬ v = w) : ¬ f (nI n).toNatClampNeg = w := by rw [nI_clamp h, hv]; exact hl
theorem cc_csConst {post : St2 → Prop} {t x p s : Nat} {v : Int32} (ht : t < 32) (et : a15 t = nI x) (ep : a16 t = nI p) (hx : x < 24) (hs : s < 128) (k : a1 x = 8) (ev : a5 x = v)
    (H : post (nc, nh, nI (s + 1), pd, nI t, vs, fr, cl, cd, en, fc, fe, cr, a1, a2, a3, a4, a5, a6, a7, a8, upd a9 s 10, upd a10 s v, a11, a12, a13, a14, a15, upd a16 t (nI (p + 1)), a17, a18, a19, a20, a21, a22, a23, a24, a25, a26, a27, a28)) : wpX_compileStep post (nc, nh, nI s, pd, nI (t + 1), vs, fr, cl, cd, en, fc, fe, cr, a1, a2, a3, a4, a5, a6, a7, a8, a9, a10, a11, a12, a13, a14, a15, a16, a17, a18, a19, a20, a21, a22, a23, a24, a25, a26, a27, a28) :=
  have hi : vp_in (nI t) 32 := vp_in_nI ht (by omega)
  nm_r (nI_pred t) ⟨hi, nm_r (cc_at rfl (by omega) et) ⟨hi, nm_r (cc_at rfl (by omega) ep) ⟨hi, nm_r (cc_ph ht) ⟨vp_in_nI hx (by omega), br_f (cc_atnlk (by omega) k (by decide)) (cc_lfConst hx hs k ev H)⟩⟩⟩⟩
theorem cc_csName {post : St2 → Prop} {t x p s : Nat} {v F E : Int32} (ht : t < 32) (et : a15 t = nI x) (ep : a16 t = nI p) (hx : x < 24) (hs : s < 128) (k : a1 x = 9) (ev : a5 x = v) (hl : cc_LK a1 a5 a6 v x F E)
    (H : post (nc, nh, nI (s + 1), pd, nI t, vs, fr, cl, cd, en, F, E, -1, a1, a2, a3, a4, a5, a6, a7, a8, upd a9 s F, upd a10 s E, a11, a12, a13, a14, a15, upd a16 t (nI (p + 1)), a17, a18, a19, a20, a21, a22, a23, a24, a25, a26, a27, a28)) : wpX_compileStep post (nc, nh, nI s, pd, nI (t + 1), vs, fr, cl, cd, en, fc, fe, cr, a1, a2, a3, a4, a5, a6, a7, a8, a9, a10, a11, a12, a13, a14, a15, a16, a17, a18, a19, a20, a21, a22, a23, a24, a25, a26, a27, a28) :=
  have hi : vp_in (nI t) 32 := vp_in_nI ht (by omega)
  nm_r (nI_pred t) ⟨hi, nm_r (cc_at rfl (by omega) et) ⟨hi, nm_r (cc_at rfl (by omega) ep) ⟨hi, nm_r (cc_ph ht) ⟨vp_in_nI hx (by omega), br_f (cc_atnlk (by omega) k (by decide)) (cc_lfName hx hs k ev hl H)⟩⟩⟩⟩
theorem cc_csFun {post : St2 → Prop} {t x p s m : Nat} (ht : t < 32) (et : a15 t = nI x) (ep : a16 t = nI p) (hx : x < 24) (hs : s < 128) (hm : m < 24) (k : a1 x = 7)
    (H : post (nc, nh, nI (s + 1), nI (m + 1), nI t, vs, fr, cl, cd, en, fc, fe, cr, a1, a2, a3, a4, a5, a6, a7, a8, upd a9 s 17, upd a10 s (nI x), a11, a12, a13, upd a14 m (nI x), a15, upd a16 t (nI (p + 1)), a17, a18, a19, a20, a21, a22, a23, a24, a25, a26, a27, a28)) : wpX_compileStep post (nc, nh, nI s, nI m, nI (t + 1), vs, fr, cl, cd, en, fc, fe, cr, a1, a2, a3, a4, a5, a6, a7, a8, a9, a10, a11, a12, a13, a14, a15, a16, a17, a18, a19, a20, a21, a22, a23, a24, a25, a26, a27, a28) :=
  have hi : vp_in (nI t) 32 := vp_in_nI ht (by omega)
  nm_r (nI_pred t) ⟨hi, nm_r (cc_at rfl (by omega) et) ⟨hi, nm_r (cc_at rfl (by omega) ep) ⟨hi, nm_r (cc_ph ht) ⟨vp_in_nI hx (by omega), br_f (cc_atnlk (by omega) k (by decide)) (cc_lfFun hx hs hm k H)⟩⟩⟩⟩
theorem cc_csCh0 {post : St2 → Prop} {t x y : Nat} (ht : t < 31) (et : a15 t = nI x) (ep : a16 t = nI 0) (hx : x < 24) (k : a1 x = 5) (ey : a2 x = nI y)
    (H : post (nc, nh, sz, pd, nI (t + 2), vs, fr, cl, cd, en, fc, fe, cr, a1, a2, a3, a4, a5, a6, a7, a8, a9, a10, a11, a12, a13, a14, upd a15 (t + 1) (nI y), upd (upd a16 t (nI 1)) (t + 1) 0, a17, a18, a19, a20, a21, a22, a23, a24, a25, a26, a27, a28)) : wpX_compileStep post (nc, nh, sz, pd, nI (t + 1), vs, fr, cl, cd, en, fc, fe, cr, a1, a2, a3, a4, a5, a6, a7, a8, a9, a10, a11, a12, a13, a14, a15, a16, a17, a18, a19, a20, a21, a22, a23, a24, a25, a26, a27, a28) :=
  have hi : vp_in (nI t) 32 := vp_in_nI (by omega) (by omega)
  have hj : vp_in (nI x) 24 := vp_in_nI hx (by omega)
  nm_r (nI_pred t) ⟨hi, nm_r (cc_at rfl (by omega) et) ⟨hi, nm_r (cc_at rfl (by omega) ep) ⟨hi, nm_r (cc_ph (p := 0) (by omega)) ⟨hj, br_t (cc_atlk (by omega) k (by decide)) ⟨hj, br_t (cc_at rfl (by omega) k) (br_t rfl ⟨hj, cc_begin (t := t + 1) (by omega) (cc_at rfl (by omega) ey) H⟩)⟩⟩⟩⟩⟩
theorem cc_csCh1 {post : St2 → Prop} {t x y s : Nat} (ht : t < 31) (et : a15 t = nI x) (ep : a16 t = nI 1) (hx : x < 24) (hs : s < 128) (k : a1 x = 5) (ey : a3 x = nI y)
    (H : post (nc, nh, nI (s + 1), pd, nI (t + 2), vs, fr, cl, cd, en, fc, fe, cr, a1, a2, a3, a4, a5, a6, a7, a8, upd a9 s 18, upd a10 s 0, a11, a12, a13, a14, upd a15 (t + 1) (nI y), upd (upd a16 t (nI 2)) (t + 1) 0, upd a17 t (nI s), a18, a19, a20, a21, a22, a23, a24, a25, a26, a27, a28)) : wpX_compileStep post (nc, nh, nI s, pd, nI (t + 1), vs, fr, cl, cd, en, fc, fe, cr, a1, a2, a3, a4, a5, a6, a7, a8, a9, a10, a11, a12, a13, a14, a15, a16, a17, a18, a19, a20, a21, a22, a23, a24, a25, a26, a27, a28) :=
  have hi : vp_in (nI t) 32 := vp_in_nI (by omega) (by omega)
  have hj : vp_in (nI x) 24 := vp_in_nI hx (by omega)
  nm_r (nI_pred t) ⟨hi, nm_r (cc_at rfl (by omega) et) ⟨hi, nm_r (cc_at rfl (by omega) ep) ⟨hi, nm_r (cc_ph (p := 1) (by omega)) ⟨hj, br_t (cc_atlk (by omega) k (by decide)) ⟨hj, br_t (cc_at rfl (by omega) k) (br_f (by decide) (br_t rfl ⟨hi, nm_r (cc_un (by omega)) (cc_emit hs rfl rfl ⟨hj, cc_begin (t := t + 1) (by omega) (cc_at rfl (by omega) ey) H⟩)⟩))⟩⟩⟩⟩⟩
theorem cc_csCh2 {post : St2 → Prop} {t x y s o : Nat} (ht : t < 31) (et : a15 t = nI x) (ep : a16 t = nI 2) (hx : x < 24) (hs : s < 128) (ho : o < 128) (eo : a17 t = nI o) (k : a1 x = 5) (ey : a4 x = nI y)
    (H : post (nc, nh, nI (s + 1), pd, nI (t + 2), vs, fr, cl, cd, en, fc, fe, cr, a1, a2, a3, a4, a5, a6, a7, a8, upd a9 s 19, upd (upd a10 o (nI (s + 1))) s 0, a11, a12, a13, a14, upd a15 (t + 1) (nI y), upd (upd a16 t (nI 3)) (t + 1) 0, upd a17 t (nI s), a18, a19, a20, a21, a22, a23, a24, a25, a26, a27, a28)) : wpX_compileStep post (nc, nh, nI s, pd, nI (t + 1), vs, fr, cl, cd, en, fc, fe, cr, a1, a2, a3, a4, a5, a6, a7, a8, a9, a10, a11, a12, a13, a14, a15, a16, a17, a18, a19, a20, a21, a22, a23, a24, a25, a26, a27, a28) :=
  have hi : vp_in (nI t) 32 := vp_in_nI (by omega) (by omega)
  have hj : vp_in (nI x) 24 := vp_in_nI hx (by omega)
  have eo' : a17 (nI t).toNatClampNeg = nI o := cc_at rfl (by omega) eo
  nm_r (nI_pred t) ⟨hi, nm_r (cc_at rfl (by omega) et) ⟨hi, nm_r (cc_at rfl (by omega) ep) ⟨hi, nm_r (cc_ph (p := 2) (by omega)) ⟨hj, br_t (cc_atlk (by omega) k (by decide)) ⟨hj, br_t (cc_at rfl (by omega) k) (br_f (by decide) (br_f (by decide) (br_t rfl ⟨hi, cc_in eo' ho (by omega), nm_r (by rw [eo', nI_clamp (by omega), nI_1]) ⟨hi, nm_r (cc_un (by omega)) (cc_emit hs rfl rfl ⟨hj, cc_begin (t := t + 1) (by omega) (cc_at rfl (by omega) ey) H⟩)⟩⟩)))⟩⟩⟩⟩⟩
theorem cc_csCh3 {post : St2 → Prop} {t x s o : Nat} (ht : t < 31) (et : a15 t = nI x) (ep : a16 t = nI 3) (hx : x < 24) (ho : o < 128) (eo : a17 t = nI o) (k : a1 x = 5)
    (H : post (nc, nh, nI s, pd, nI t, vs, fr, cl, cd, en, fc, fe, cr, a1, a2, a3, a4, a5, a6, a7, a8, a9, upd a10 o (nI s), a11, a12, a13, a14, a15, upd a16 t (nI 4), a17, a18, a19, a20, a21, a22, a23, a24, a25, a26, a27, a28)) : wpX_compileStep post (nc, nh, nI s, pd, nI (t + 1), vs, fr, cl, cd, en, fc, fe, cr, a1, a2, a3, a4, a5, a6, a7, a8, a9, a10, a11, a12, a13, a14, a15, a16, a17, a18, a19, a20, a21, a22, a23, a24, a25, a26, a27, a28) :=
  have hi : vp_in (nI t) 32 := vp_in_nI (by omega) (by omega)
  have hj : vp_in (nI x) 24 := vp_in_nI hx (by omega)
  have eo' : a17 (nI t).toNatClampNeg = nI o := cc_at rfl (by omega) eo
  nm_r (nI_pred t) ⟨hi, nm_r (cc_at rfl (by omega) et) ⟨hi, nm_r (cc_at rfl (by omega) ep) ⟨hi, nm_r (cc_ph (p := 3) (by omega)) ⟨hj, br_t (cc_atlk (by omega) k (by decide)) ⟨hj, br_t (cc_at rfl (by omega) k) (br_f (by decide) (br_f (by decide) (br_f (by decide) ⟨hi, cc_in eo' ho (by omega), nm_r (by rw [eo', nI_clamp (by omega)]) H⟩)))⟩⟩⟩⟩⟩
theorem cc_csBi0 {post : St2 → Prop} {t x y : Nat} {b : Int32} (ht : t < 31) (et : a15 t = nI x) (ep : a16 t = nI 0) (hx : x < 24) (k : a1 x = b) (k7 : b < 7) (k5 : ¬ b = 5) (ey : a2 x = nI y)
    (H : post (nc, nh, sz, pd, nI (t + 2), vs, fr, cl, cd, en, fc, fe, cr, a1, a2, a3, a4, a5, a6, a7, a8, a9, a10, a11, a12, a13, a14, upd a15 (t + 1) (nI y), upd (upd a16 t (nI 1)) (t + 1) 0, a17, a18, a19, a20, a21, a22, a23, a24, a25, a26, a27, a28)) : wpX_compileStep post (nc, nh, sz, pd, nI (t + 1), vs, fr, cl, cd, en, fc, fe, cr, a1, a2, a3, a4, a5, a6, a7, a8, a9, a10, a11, a12, a13, a14, a15, a16, a17, a18, a19, a20, a21, a22, a23, a24, a25, a26, a27, a28) :=
  have hi : vp_in (nI t) 32 := vp_in_nI (by omega) (by omega)
  have hj : vp_in (nI x) 24 := vp_in_nI hx (by omega)
  nm_r (nI_pred t) ⟨hi, nm_r (cc_at rfl (by omega) et) ⟨hi, nm_r (cc_at rfl (by omega) ep) ⟨hi, nm_r (cc_ph (p := 0) (by omega)) ⟨hj, br_t (cc_atlk (by omega) k k7) ⟨hj, br_f (cc_atnek (by omega) k k5) (br_t rfl ⟨hj, cc_begin (t := t + 1) (by omega) (cc_at rfl (by omega) ey) H⟩)⟩⟩⟩⟩⟩
theorem cc_csBi1 {post : St2 → Prop} {t x y : Nat} {b : Int32} (ht : t < 31) (et : a15 t = nI x) (ep : a16 t = nI 1) (hx : x < 24) (k : a1 x = b) (k7 : b < 7) (k5 : ¬ b = 5) (k6 : ¬ b = 6) (ey : a3 x = nI y)
    (H : post (nc, nh, sz, pd, nI (t + 2), vs, fr, cl, cd, en, fc, fe, cr, a1, a2, a3, a4, a5, a6, a7, a8, a9, a10, a11, a12, a13, a14, upd a15 (t + 1) (nI y), upd (upd a16 t (nI 2)) (t + 1) 0, a17, a18, a19, a20, a21, a22, a23, a24, a25, a26, a27, a28)) : wpX_compileStep post (nc, nh, sz, pd, nI (t + 1), vs, fr, cl, cd, en, fc, fe, cr, a1, a2, a3, a4, a5, a6, a7, a8, a9, a10, a11, a12, a13, a14, a15, a16, a17, a18, a19, a20, a21, a22, a23, a24, a25, a26, a27, a28) :=
  have hi : vp_in (nI t) 32 := vp_in_nI (by omega) (by omega)
  have hj : vp_in (nI x) 24 := vp_in_nI hx (by omega)
  nm_r (nI_pred t) ⟨hi, nm_r (cc_at rfl (by omega) et) ⟨hi, nm_r (cc_at rfl (by omega) ep) ⟨hi, nm_r (cc_ph (p := 1) (by omega)) ⟨hj, br_t (cc_atlk (by omega) k k7) ⟨hj, br_f (cc_atnek (by omega) k k5) (br_f (by decide) (br_t rfl ⟨hj, br_f (cc_atnek (by omega) k k6) ⟨hj, cc_begin (t := t + 1) (by omega) (cc_at rfl (by omega) ey) H⟩⟩))⟩⟩⟩⟩⟩
theorem cc_csBi2 {post : St2 → Prop} {t x s : Nat} {b : Int32} (ht : t < 31) (et : a15 t = nI x) (ep : a16 t = nI 2) (hx : x < 24) (hs : s < 128) (k : a1 x = b) (k7 : b < 7) (k5 : ¬ b = 5) (k6 : ¬ b = 6)
    (H : post (nc, nh, nI (s + 1), pd, nI t, vs, fr, cl, cd, en, fc, fe, cr, a1, a2, a3, a4, a5, a6, a7, a8, upd a9 s b, upd a10 s 0, a11, a12, a13, a14, a15, upd a16 t (nI 3), a17, a18, a19, a20, a21, a22, a23, a24, a25, a26, a27, a28)) : wpX_compileStep post (nc, nh, nI s, pd, nI (t + 1), vs, fr, cl, cd, en, fc, fe, cr, a1, a2, a3, a4, a5, a6, a7, a8, a9, a10, a11, a12, a13, a14, a15, a16, a17, a18, a19, a20, a21, a22, a23, a24, a25, a26, a27, a28) :=
  have hi : vp_in (nI t) 32 := vp_in_nI (by omega) (by omega)
  have hj : vp_in (nI x) 24 := vp_in_nI hx (by omega)
  nm_r (nI_pred t) ⟨hi, nm_r (cc_at rfl (by omega) et) ⟨hi, nm_r (cc_at rfl (by omega) ep) ⟨hi, nm_r (cc_ph (p := 2) (by omega)) ⟨hj, br_t (cc_atlk (by omega) k k7) ⟨hj, br_f (cc_atnek (by omega) k k5) (br_f (by decide) (br_f (by decide) ⟨hj, br_f (cc_atnek (by omega) k k6) ⟨hj, cc_emit hs (cc_at rfl (by omega) k) rfl H⟩⟩))⟩⟩⟩⟩⟩
end
end
section
/-! the compiler's loops -/
section
variable {nc nh sz pd ts vs fr cl cd en fc fe cr : Int32} {a1 a2 a3 a4 a5 a6 a7 a8 a9 a10 a11 a12 a13 a14 a15 a16 a17 a18 a19 a20 a21 a22 a23 a24 a25 a26 a27 a28 : Nat → Int32}
theorem cc_clConst {post : St2 → Prop} {i n : Nat} {t x p s : Nat} {v : Int32} (hi : i < 200) (ht : t < 32) (et : a15 t = nI x) (ep : a16 t = nI p) (hx : x < 24) (hs : s < 128) (k : a1 x = 8) (ev : a5 x = v)
    (H : wX_compile_12 post n (nI (i + 1)) nc nh (nI (s + 1)) pd (nI t) vs fr cl cd en fc fe cr a1 a2 a3 a4 a5 a6 a7 a8 (upd a9 s 10) (upd a10 s v) a11 a12 a13 a14 a15 (upd a16 t (nI (p + 1))) a17 a18 a19 a20 a21 a22 a23 a24 a25 a26 a27 a28) : wX_compile_12 post (n + 1) (nI i) nc nh (nI s) pd (nI (t + 1)) vs fr cl cd en fc fe cr a1 a2 a3 a4 a5 a6 a7 a8 a9 a10 a11 a12 a13 a14 a15 a16 a17 a18 a19 a20 a21 a22 a23 a24 a25 a26 a27 a28 :=
  br_f (nI_ge (b := 200) hi (by omega)) (br_f (nI_nle (by omega) (by omega)) (cc_csConst ht et ep hx hs k ev (nm_r (nI_1 i) H)))
theorem cc_clName {post : St2 → Prop} {i n : Nat} {t x p s : Nat} {v F E : Int32} (hi : i < 200) (ht : t < 32) (et : a15 t = nI x) (ep : a16 t = nI p) (hx : x < 24) (hs : s < 128) (k : a1 x = 9) (ev : a5 x = v) (hl : cc_LK a1 a5 a6 v x F E)
    (H : wX_compile_12 post n (nI (i + 1)) nc nh (nI (s + 1)) pd (nI t) vs fr cl cd en F E (-1) a1 a2 a3 a4 a5 a6 a7 a8 (upd a9 s F) (upd a10 s E) a11 a12 a13 a14 a15 (upd a16 t (nI (p + 1))) a17 a18 a19 a20 a21 a22 a23 a24 a25 a26 a27 a28) : wX_compile_12 post (n + 1) (nI i) nc nh (nI s) pd (nI (t + 1)) vs fr cl cd en fc fe cr a1 a2 a3 a4 a5 a6 a7 a8 a9 a10 a11 a12 a13 a14 a15 a16 a17 a18 a19 a20 a21 a22 a23 a24 a25 a26 a27 a28 :=
  br_f (nI_ge (b := 200) hi (by omega)) (br_f (nI_nle (by omega) (by omega)) (cc_csName ht et ep hx hs k ev hl (nm_r (nI_1 i) H)))
theorem cc_clFun {post : St2 → Prop} {i n : Nat} {t x p s m : Nat} (hi : i < 200) (ht : t < 32) (et : a15 t = nI x) (ep : a16 t = nI p) (hx : x < 24) (hs : s < 128) (hm : m < 24) (k : a1 x = 7)
    (H : wX_compile_12 post n (nI (i + 1)) nc nh (nI (s + 1)) (nI (m + 1)) (nI t) vs fr cl cd en fc fe cr a1 a2 a3 a4 a5 a6 a7 a8 (upd a9 s 17) (upd a10 s (nI x)) a11 a12 a13 (upd a14 m (nI x)) a15 (upd a16 t (nI (p + 1))) a17 a18 a19 a20 a21 a22 a23 a24 a25 a26 a27 a28) : wX_compile_12 post (n + 1) (nI i) nc nh (nI s) (nI m) (nI (t + 1)) vs fr cl cd en fc fe cr a1 a2 a3 a4 a5 a6 a7 a8 a9 a10 a11 a12 a13 a14 a15 a16 a17 a18 a19 a20 a21 a22 a23 a24 a25 a26 a27 a28 :=
  br_f (nI_ge (b := 200) hi (by omega)) (br_f (nI_nle (by omega) (by omega)) (cc_csFun ht et ep hx hs hm k (nm_r (nI_1 i) H)))
theorem cc_clCh0 {post : St2 → Prop} {i n : Nat} {t x y : Nat} (hi : i < 200) (ht : t < 31) (et : a15 t = nI x) (ep : a16 t = nI 0) (hx : x < 24) (k : a1 x = 5) (ey : a2 x = nI y)
    (H : wX_compile_12 post n (nI (i + 1)) nc nh sz pd (nI (t + 2)) vs fr cl cd en fc fe cr a1 a2 a3 a4 a5 a6 a7 a8 a9 a10 a11 a12 a13 a14 (upd a15 (t + 1) (nI y)) (upd (upd a16 t (nI 1)) (t + 1) 0) a17 a18 a19 a20 a21 a22 a23 a24 a25 a26 a27 a28) : wX_compile_12 post (n + 1) (nI i) nc nh sz pd (nI (t + 1)) vs fr cl cd en fc fe cr a1 a2 a3 a4 a5 a6 a7 a8 a9 a10 a11 a12 a13 a14 a15 a16 a17 a18 a19 a20 a21 a22 a23 a24 a25 a26 a27 a28 :=
  br_f (nI_ge (b := 200) hi (by omega)) (br_f (nI_nle (by omega) (by omega)) (cc_csCh0 ht et ep hx k ey (nm_r (nI_1 i) H)))
theorem cc_clCh1 {post : St2 → Prop} {i n : Nat} {t x y s : Nat} (hi : i < 200) (ht : t < 31) (et : a15 t = nI x) (ep : a16 t = nI 1) (hx : x < 24) (hs : s < 128) (k : a1 x = 5) (ey : a3 x = nI y)
    (H : wX_compile_12 post n (nI (i + 1)) nc nh (nI (s + 1)) pd (nI (t + 2)) vs fr cl cd en fc fe cr a1 a2 a3 a4 a5 a6 a7 a8 (upd a9 s 18) (upd a10 s 0) a11 a12 a13 a14 (upd a15 (t + 1) (nI y)) (upd (upd a16 t (nI 2)) (t + 1) 0) (upd a17 t (nI s)) a18 a19 a20 a21 a22 a23 a24 a25 a26 a27 a28) : wX_compile_12 post (n + 1) (nI i) nc nh (nI s) pd (nI (t + 1)) vs fr cl cd en fc fe cr a1 a2 a3 a4 a5 a6 a7 a8 a9 a10 a11 a12 a13 a14 a15 a16 a17 a18 a19 a20 a21 a22 a23 a24 a25 a26 a27 a28 :=
  br_f (nI_ge (b := 200) hi (by omega)) (br_f (nI_nle (by omega) (by omega)) (cc_csCh1 ht et ep hx hs k ey (nm_r (nI_1 i) H)))
theorem cc_clCh2 {post : St2 → Prop} {i n : Nat} {t x y s o : Nat} (hi : i < 200) (ht : t < 31) (et : a15 t = nI x) (ep : a16 t = nI 2) (hx : x < 24) (hs : s < 128) (ho : o < 128) (eo : a17 t = nI o) (k : a1 x = 5) (ey : a4 x = nI y)
    (H : wX_compile_12 post n (nI (i + 1)) nc nh (nI (s + 1)) pd (nI (t + 2)) vs fr cl cd en fc fe cr a1 a2 a3 a4 a5 a6 a7 a8 (upd a9 s 19) (upd (upd a10 o (nI (s + 1))) s 0) a11 a12 a13 a14 (upd a15 (t + 1) (nI y)) (upd (upd a16 t (nI 3)) (t + 1) 0) (upd a17 t (nI s)) a18 a19 a20 a21 a22 a23 a24 a25 a26 a27 a28) : wX_compile_12 post (n + 1) (nI i) nc nh (nI s) pd (nI (t + 1)) vs fr cl cd en fc fe cr a1 a2 a3 a4 a5 a6 a7 a8 a9 a10 a11 a12 a13 a14 a15 a16 a17 a18 a19 a20 a21 a22 a23 a24 a25 a26 a27 a28 :=
  br_f (nI_ge (b := 200) hi (by omega)) (br_f (nI_nle (by omega) (by omega)) (cc_csCh2 ht et ep hx hs ho eo k ey (nm_r (nI_1 i) H)))
theorem cc_clCh3 {post : St2 → Prop} {i n : Nat} {t x s o : Nat} (hi : i < 200) (ht : t < 31) (et : a15 t = nI x) (ep : a16 t = nI 3) (hx : x < 24) (ho : o < 128) (eo : a17 t = nI o) (k : a1 x = 5)
    (H : wX_compile_12 post n (nI (i + 1)) nc nh (nI s) pd (nI t) vs fr cl cd en fc fe cr a1 a2 a3 a4 a5 a6 a7 a8 a9 (upd a10 o (nI s)) a11 a12 a13 a14 a15 (upd a16 t (nI 4)) a17 a18 a19 a20 a21 a22 a23 a24 a25 a26 a27 a28) : wX_compile_12 post (n + 1) (nI i) nc nh (nI s) pd (nI (t + 1)) vs fr cl cd en fc fe cr a1 a2 a3 a4 a5 a6 a7 a8 a9 a10 a11 a12 a13 a14 a15 a16 a17 a18 a19 a20 a21 a22 a23 a24 a25 a26 a27 a28 :=
  br_f (nI_ge (b := 200) hi (by omega)) (br_f (nI_nle (by omega) (by omega)) (cc_csCh3 ht et ep hx ho eo k (nm_r (nI_1 i) H)))
theorem cc_clBi0 {post : St2 → Prop} {i n : Nat} {t x y : Nat} {b : Int32} (hi : i < 200) (ht : t < 31) (et : a15 t = nI x) (ep : a16 t = nI 0) (hx : x < 24) (k : a1 x = b) (k7 : b < 7) (k5 : ¬ b = 5) (ey : a2 x = nI y)
    (H : wX_compile_12 post n (nI (i + 1)) nc nh sz pd (nI (t + 2)) vs fr cl cd en fc fe cr a1 a2 a3 a4 a5 a6 a7 a8 a9 a10 a11 a12 a13 a14 (upd a15 (t + 1) (nI y)) (upd (upd a16 t (nI 1)) (t + 1) 0) a17 a18 a19 a20 a21 a22 a23 a24 a25 a26 a27 a28) : wX_compile_12 post (n + 1) (nI i) nc nh sz pd (nI (t + 1)) vs fr cl cd en fc fe cr a1 a2 a3 a4 a5 a6 a7 a8 a9 a10 a11 a12 a13 a14 a15 a16 a17 a18 a19 a20 a21 a22 a23 a24 a25 a26 a27 a28 :=
  br_f (nI_ge (b := 200) hi (by omega)) (br_f (nI_nle (by omega) (by omega)) (cc_csBi0 ht et ep hx k k7 k5 ey (nm_r (nI_1 i) H)))
theorem cc_clBi1 {post : St2 → Prop} {i n : Nat} {t x y : Nat} {b : Int32} (hi : i < 200) (ht : t < 31) (et : a15 t = nI x) (ep : a16 t = nI 1) (hx : x < 24) (k : a1 x = b) (k7 : b < 7) (k5 : ¬ b = 5) (k6 : ¬ b = 6) (ey : a3 x = nI y)
    (H : wX_compile_12 post n (nI (i + 1)) nc nh sz pd (nI (t + 2)) vs fr cl cd en fc fe cr a1 a2 a3 a4 a5 a6 a7 a8 a9 a10 a11 a12 a13 a14 (upd a15 (t + 1) (nI y)) (upd (upd a16 t (nI 2)) (t + 1) 0) a17 a18 a19 a20 a21 a22 a23 a24 a25 a26 a27 a28) : wX_compile_12 post (n + 1) (nI i) nc nh sz pd (nI (t + 1)) vs fr cl cd en fc fe cr a1 a2 a3 a4 a5 a6 a7 a8 a9 a10 a11 a12 a13 a14 a15 a16 a17 a18 a19 a20 a21 a22 a23 a24 a25 a26 a27 a28 :=
  br_f (nI_ge (b := 200) hi (by omega)) (br_f (nI_nle (by omega) (by omega)) (cc_csBi1 ht et ep hx k k7 k5 k6 ey (nm_r (nI_1 i) H)))
theorem cc_clBi2 {post : St2 → Prop} {i n : Nat} {t x s : Nat} {b : Int32} (hi : i < 200) (ht : t < 31) (et : a15 t = nI x) (ep : a16 t = nI 2) (hx : x < 24) (hs : s < 128) (k : a1 x = b) (k7 : b < 7) (k5 : ¬ b = 5) (k6 : ¬ b = 6)
    (H : wX_compile_12 post n (nI (i + 1)) nc nh (nI (s + 1)) pd (nI t) vs fr cl cd en fc fe cr a1 a2 a3 a4 a5 a6 a7 a8 (upd a9 s b) (upd a10 s 0) a11 a12 a13 a14 a15 (upd a16 t (nI 3)) a17 a18 a19 a20 a21 a22 a23 a24 a25 a26 a27 a28) : wX_compile_12 post (n + 1) (nI i) nc nh (nI s) pd (nI (t + 1)) vs fr cl cd en fc fe cr a1 a2 a3 a4 a5 a6 a7 a8 a9 a10 a11 a12 a13 a14 a15 a16 a17 a18 a19 a20 a21 a22 a23 a24 a25 a26 a27 a28 :=
  br_f (nI_ge (b := 200) hi (by omega)) (br_f (nI_nle (by omega) (by omega)) (cc_csBi2 ht et ep hx hs k k7 k5 k6 (nm_r (nI_1 i) H)))
theorem cc_clEnd {post : St2 → Prop} {i n s : Nat} (hi : i < 200) (hs : s < 128) (H : post (nc, nh, nI (s + 1), pd, nI 0, vs, fr, cl, cd, en, fc, fe, cr, a1, a2, a3, a4, a5, a6, a7, a8, upd a9 s 20, upd a10 s 0, a11, a12, a13, a14, a15, a16, a17, a18, a19, a20, a21, a22, a23, a24, a25, a26, a27, a28)) : wX_compile_12 post (n + 1) (nI i) nc nh (nI s) pd (nI 0) vs fr cl cd en fc fe cr a1 a2 a3 a4 a5 a6 a7 a8 a9 a10 a11 a12 a13 a14 a15 a16 a17 a18 a19 a20 a21 a22 a23 a24 a25 a26 a27 a28 :=
  br_f (nI_ge (b := 200) hi (by omega)) (br_t (by decide) (cc_emit hs rfl rfl H))
theorem cc_compile {post : St2 → Prop} {x : Nat} (H : wX_compile_12 post 201 (nI 0) nc nh sz pd (nI (0 + 1)) vs fr cl cd en fc fe cr a1 a2 a3 a4 a5 a6 a7 a8 a9 a10 a11 a12 a13 a14 (upd a15 0 (nI x)) (upd a16 0 0) a17 a18 a19 a20 a21 a22 a23 a24 a25 a26 a27 a28) : wpX_compile post (nc, nh, sz, pd, ts, vs, fr, cl, cd, en, fc, fe, cr, a1, a2, a3, a4, a5, a6, a7, a8, a9, a10, a11, a12, a13, a14, a15, a16, a17, a18, a19, a20, a21, a22, a23, a24, a25, a26, a27, a28) (nI x) := by
  unfold wpX_compile
  exact cc_begin (t := 0) (by omega) rfl ⟨201, H⟩
theorem cc_caEnd {post : St2 → Prop} {k p n : Nat} (h : p ≤ k) (hk : k < 25) (H : post (nc, nh, sz, nI p, ts, vs, fr, cl, cd, en, fc, fe, cr, a1, a2, a3, a4, a5, a6, a7, a8, a9, a10, a11, a12, a13, a14, a15, a16, a17, a18, a19, a20, a21, a22, a23, a24, a25, a26, a27, a28)) : wX_compileAll_38 post (n + 1) (nI k) nc nh sz (nI p) ts vs fr cl cd en fc fe cr a1 a2 a3 a4 a5 a6 a7 a8 a9 a10 a11 a12 a13 a14 a15 a16 a17 a18 a19 a20 a21 a22 a23 a24 a25 a26 a27 a28 :=
  br_t (nI_le h (by omega)) H
theorem cc_caStep {post : St2 → Prop} {k p n x y : Nat} (h : k < p) (hp : p < 25) (ex : a14 k = nI x) (hx : x < 24) (ey : a2 x = nI y)
    (H : ∀ post' : St2 → Prop, (∀ (nc' nh' sz' pd' ts' vs' fr' cl' cd' en' fc' fe' cr' : Int32) (a1' a2' a3' a4' a5' a6' a7' a8' a9' a10' a11' a12' a13' a14' a15' a16' a17' a18' a19' a20' a21' a22' a23' a24' a25' a26' a27' a28' : Nat → Int32), wX_compileAll_38 post n (nI (k + 1)) nc' nh' sz' pd' ts' vs' fr' cl' cd' en' fc' fe' cr' a1' a2' a3' a4' a5' a6' a7' a8' a9' a10' a11' a12' a13' a14' a15' a16' a17' a18' a19' a20' a21' a22' a23' a24' a25' a26' a27' a28' → post' (nc', nh', sz', pd', ts', vs', fr', cl', cd', en', fc', fe', cr', a1', a2', a3', a4', a5', a6', a7', a8', a9', a10', a11', a12', a13', a14', a15', a16', a17', a18', a19', a20', a21', a22', a23', a24', a25', a26', a27', a28')) → wpX_compile post' (nc, nh, sz, nI p, ts, vs, fr, cl, cd, en, fc, fe, cr, a1, a2, a3, a4, a5, a6, a7, a8, a9, a10, upd a11 x sz, a12, a13, a14, a15, a16, a17, a18, a19, a20, a21, a22, a23, a24, a25, a26, a27, a28) (nI y)) :
    wX_compileAll_38 post (n + 1) (nI k) nc nh sz (nI p) ts vs fr cl cd en fc fe cr a1 a2 a3 a4 a5 a6 a7 a8 a9 a10 a11 a12 a13 a14 a15 a16 a17 a18 a19 a20 a21 a22 a23 a24 a25 a26 a27 a28 := by
  have e2 : a2 (nI x).toNatClampNeg = nI y := cc_at rfl (by omega) ey
  refine br_f (nI_ge h (by omega)) ⟨vp_in_nI (by omega) (by omega), nm_r (cc_at rfl (by omega) ex) ⟨vp_in_nI hx (by omega), nm_r (cc_un (by omega)) ⟨vp_in_nI hx (by omega), ?_⟩⟩⟩
  rw [e2]
  exact H _ (fun _ _ _ _ _ _ _ _ _ _ _ _ _ _ _ _ _ _ _ _ _ _ _ _ _ _ _ _ _ _ _ _ _ _ _ _ _ _ _ _ _ h => nm_r (nI_1 k) h)
theorem cc_compileAll {post : St2 → Prop} {x1 : Int32}
    (H : ∀ (post' : St2 → Prop) (a12' : Nat → Int32), (∀ j, j < 96 → a12' j = -1) → (∀ (nc' nh' sz' pd' ts' vs' fr' cl' cd' en' fc' fe' cr' : Int32) (a1' a2' a3' a4' a5' a6' a7' a8' a9' a10' a11' a12' a13' a14' a15' a16' a17' a18' a19' a20' a21' a22' a23' a24' a25' a26' a27' a28' : Nat → Int32), wX_compileAll_38 post 25 (nI 0) nc' nh' sz' pd' ts' vs' fr' cl' cd' en' fc' fe' cr' a1' a2' a3' a4' a5' a6' a7' a8' a9' a10' a11' a12' a13' a14' a15' a16' a17' a18' a19' a20' a21' a22' a23' a24' a25' a26' a27' a28' → post' (nc', nh', sz', pd', ts', vs', fr', cl', cd', en', fc', fe', cr', a1', a2', a3', a4', a5', a6', a7', a8', a9', a10', a11', a12', a13', a14', a15', a16', a17', a18', a19', a20', a21', a22', a23', a24', a25', a26', a27', a28')) → wpX_compile post' (nc, nh, nI 0, nI 0, ts, vs, fr, cl, cd, en, fc, fe, cr, a1, a2, a3, a4, a5, a6, a7, a8, a9, a10, a11, a12', a13, a14, a15, a16, a17, a18, a19, a20, a21, a22, a23, a24, a25, a26, a27, a28) x1) :
    wpX_compileAll post (nc, nh, sz, pd, ts, vs, fr, cl, cd, en, fc, fe, cr, a1, a2, a3, a4, a5, a6, a7, a8, a9, a10, a11, a12, a13, a14, a15, a16, a17, a18, a19, a20, a21, a22, a23, a24, a25, a26, a27, a28) x1 :=
  pk_loop (fun n i s => wX_compileAll_12 post x1 nc nh 0 0 ts vs fr cl cd en fc fe cr n (nI i) a1 a2 a3 a4 a5 a6 a7 a8 a9 a10 a11 s a13 a14 a15 a16 a17 a18 a19 a20 a21 a22 a23 a24 a25 a26 a27 a28) (fun i s => ∀ j, j < i → s j = -1) 96 0 a12 (by omega) (fun j hj => absurd hj (by omega))
    (fun n s h => br_t (nI_le (a := 96) (b := 96) (by omega) (by omega)) (H _ s h (fun _ _ _ _ _ _ _ _ _ _ _ _ _ _ _ _ _ _ _ _ _ _ _ _ _ _ _ _ _ _ _ _ _ _ _ _ _ _ _ _ _ h' => ⟨25, h'⟩)))
    (fun n i s hi h hw => br_f (nI_ge (b := 96) hi (by omega)) ⟨vp_in_nI hi (by omega), nm_r (cc_un (by omega)) (nm_r (nI_1 i) (hw _ (fun j hj => by
      by_cases e : j = i
      · rw [e, pk_us]
      · rw [pk_un e]; exact h j (by omega))))⟩)
end
end
section
/-! the machine: one lemma an instruction, first at wpX_step, then at the loop of execute -/
section
variable {nc nh sz pd ts vs fr cl cd en fc fe cr : Int32} {a1 a2 a3 a4 a5 a6 a7 a8 a9 a10 a11 a12 a13 a14 a15 a16 a17 a18 a19 a20 a21 a22 a23 a24 a25 a26 a27 a28 : Nat → Int32}
theorem cc_push {post : St2 → Prop} {v : Nat} {t d t' d' : Int32} (hv : v < 1600) (et : t = t') (ed : d = d') (H : post (nc, nh, sz, pd, ts, nI (v + 1), fr, cl, cd, en, fc, fe, cr, a1, a2, a3, a4, a5, a6, a7, a8, a9, a10, a11, a12, a13, a14, a15, a16, a17, upd a18 v t', upd a19 v d', a20, a21, a22, a23, a24, a25, a26, a27, a28)) : wpX_push post (nc, nh, sz, pd, ts, nI v, fr, cl, cd, en, fc, fe, cr, a1, a2, a3, a4, a5, a6, a7, a8, a9, a10, a11, a12, a13, a14, a15, a16, a17, a18, a19, a20, a21, a22, a23, a24, a25, a26, a27, a28) t d := by
  subst et ed
  exact ⟨vp_in_nI hv (by omega), nm_r (cc_un (by omega)) ⟨vp_in_nI hv (by omega), nm_r (cc_un (by omega)) (nm_r (nI_1 v) H)⟩⟩
theorem cc_tagne {v : Nat} {t : Int32} (hv : v < 1600) (ht : ¬ t = 2) : ¬ upd a18 v t (nI (v + 1) - 1).toNatClampNeg = 2 := by
  rw [nI_pred, nI_clamp (by omega), pk_us]; exact ht
theorem cc_ln10 {post : St2 → Prop} {v : Nat} {w p n : Int32} (hv : v < 1600) (ew : w = 10) (e : p = n) (H : post (nc, nh, sz, pd, ts, nI (v + 1), fr, cl, cd, en, fc, fe, cr, a1, a2, a3, a4, a5, a6, a7, a8, a9, a10, a11, a12, a13, a14, a15, a16, a17, upd a18 v 0, upd a19 v n, a20, a21, a22, a23, a24, a25, a26, a27, a28)) : wpX_loadName post (nc, nh, sz, pd, ts, nI v, fr, cl, cd, en, fc, fe, cr, a1, a2, a3, a4, a5, a6, a7, a8, a9, a10, a11, a12, a13, a14, a15, a16, a17, a18, a19, a20, a21, a22, a23, a24, a25, a26, a27, a28) w p := by
  subst ew
  exact nm_e (br_t rfl (cc_push hv rfl e ⟨cc_in (nI_pred v) hv (by omega), br_f (cc_tagne hv (by decide)) H⟩))
theorem cc_ln12 {post : St2 → Prop} {v f : Nat} {w p t d : Int32} (hv : v < 1600) (hf : f < 61) (ew : w = 12) (et : a22 f = t) (ed : a23 f = d) (ht : ¬ t = 2) (H : post (nc, nh, sz, pd, ts, nI (v + 1), nI (f + 1), cl, cd, en, fc, fe, cr, a1, a2, a3, a4, a5, a6, a7, a8, a9, a10, a11, a12, a13, a14, a15, a16, a17, upd a18 v t, upd a19 v d, a20, a21, a22, a23, a24, a25, a26, a27, a28)) : wpX_loadName post (nc, nh, sz, pd, ts, nI v, nI (f + 1), cl, cd, en, fc, fe, cr, a1, a2, a3, a4, a5, a6, a7, a8, a9, a10, a11, a12, a13, a14, a15, a16, a17, a18, a19, a20, a21, a22, a23, a24, a25, a26, a27, a28) w p := by
  subst ew
  exact nm_r (nI_pred f) (br_f (by decide) (br_f (by decide) (br_t rfl ⟨vp_in_nI hf (by omega), vp_in_nI hf (by omega), cc_push hv (cc_at rfl (by omega) et) (cc_at rfl (by omega) ed) ⟨cc_in (nI_pred v) hv (by omega), br_f (cc_tagne hv ht) H⟩⟩)))
theorem cc_ln13 {post : St2 → Prop} {v f : Nat} {w p d : Int32} (hv : v < 1600) (hf : f < 61) (ew : w = 13) (ed : a21 f = d) (H : post (nc, nh, sz, pd, ts, nI (v + 1), nI (f + 1), cl, cd, en, fc, fe, cr, a1, a2, a3, a4, a5, a6, a7, a8, a9, a10, a11, a12, a13, a14, a15, a16, a17, upd a18 v 1, upd a19 v d, a20, a21, a22, a23, a24, a25, a26, a27, a28)) : wpX_loadName post (nc, nh, sz, pd, ts, nI v, nI (f + 1), cl, cd, en, fc, fe, cr, a1, a2, a3, a4, a5, a6, a7, a8, a9, a10, a11, a12, a13, a14, a15, a16, a17, a18, a19, a20, a21, a22, a23, a24, a25, a26, a27, a28) w p := by
  subst ew
  exact nm_r (nI_pred f) (br_f (by decide) (br_f (by decide) (br_f (by decide) (br_t rfl ⟨vp_in_nI hf (by omega), cc_push hv rfl (cc_at rfl (by omega) ed) ⟨cc_in (nI_pred v) hv (by omega), br_f (cc_tagne hv (by decide)) H⟩⟩))))
theorem cc_st10 {post : Int32 → St2 → Prop} {v k : Nat} {n : Int32} (hk : k < 128) (e9 : a9 k = 10) (e10 : a10 k = n) (hv : v < 1600) (H : post (nI (k + 1)) (nc, nh, sz, pd, ts, nI (v + 1), fr, cl, cd, en, fc, fe, cr, a1, a2, a3, a4, a5, a6, a7, a8, a9, a10, a11, a12, a13, a14, a15, a16, a17, upd a18 v 0, upd a19 v n, a20, a21, a22, a23, a24, a25, a26, a27, a28)) : wpX_step post (nc, nh, sz, pd, ts, nI v, fr, cl, cd, en, fc, fe, cr, a1, a2, a3, a4, a5, a6, a7, a8, a9, a10, a11, a12, a13, a14, a15, a16, a17, a18, a19, a20, a21, a22, a23, a24, a25, a26, a27, a28) (nI k) :=
  ⟨vp_in_nI hk (by omega), nm_r (cc_at rfl (by omega) e9) (br_t (by decide) (br_f (by decide) (br_f (by decide) (br_f (by decide) (br_f (by decide) (br_f (by decide) (br_f (by decide) ⟨vp_in_nI hk (by omega), cc_ln10 hv rfl (cc_at rfl (by omega) e10) (cc_r (nI_1 k) H)⟩)))))))⟩
theorem cc_st12 {post : Int32 → St2 → Prop} {v f k : Nat} {t d : Int32} (hk : k < 128) (e9 : a9 k = 12) (hv : v < 1600) (hf : f < 61) (et : a22 f = t) (ed : a23 f = d) (ht : ¬ t = 2) (H : post (nI (k + 1)) (nc, nh, sz, pd, ts, nI (v + 1), nI (f + 1), cl, cd, en, fc, fe, cr, a1, a2, a3, a4, a5, a6, a7, a8, a9, a10, a11, a12, a13, a14, a15, a16, a17, upd a18 v t, upd a19 v d, a20, a21, a22, a23, a24, a25, a26, a27, a28)) : wpX_step post (nc, nh, sz, pd, ts, nI v, nI (f + 1), cl, cd, en, fc, fe, cr, a1, a2, a3, a4, a5, a6, a7, a8, a9, a10, a11, a12, a13, a14, a15, a16, a17, a18, a19, a20, a21, a22, a23, a24, a25, a26, a27, a28) (nI k) :=
  ⟨vp_in_nI hk (by omega), nm_r (cc_at rfl (by omega) e9) (br_t (by decide) (br_f (by decide) (br_f (by decide) (br_f (by decide) (br_f (by decide) (br_f (by decide) (br_f (by decide) ⟨vp_in_nI hk (by omega), cc_ln12 hv hf rfl et ed ht (cc_r (nI_1 k) H)⟩)))))))⟩
theorem cc_st13 {post : Int32 → St2 → Prop} {v f k : Nat} {d : Int32} (hk : k < 128) (e9 : a9 k = 13) (hv : v < 1600) (hf : f < 61) (ed : a21 f = d) (H : post (nI (k + 1)) (nc, nh, sz, pd, ts, nI (v + 1), nI (f + 1), cl, cd, en, fc, fe, cr, a1, a2, a3, a4, a5, a6, a7, a8, a9, a10, a11, a12, a13, a14, a15, a16, a17, upd a18 v 1, upd a19 v d, a20, a21, a22, a23, a24, a25, a26, a27, a28)) : wpX_step post (nc, nh, sz, pd, ts, nI v, nI (f + 1), cl, cd, en, fc, fe, cr, a1, a2, a3, a4, a5, a6, a7, a8, a9, a10, a11, a12, a13, a14, a15, a16, a17, a18, a19, a20, a21, a22, a23, a24, a25, a26, a27, a28) (nI k) :=
  ⟨vp_in_nI hk (by omega), nm_r (cc_at rfl (by omega) e9) (br_t (by decide) (br_f (by decide) (br_f (by decide) (br_f (by decide) (br_f (by decide) (br_f (by decide) (br_f (by decide) ⟨vp_in_nI hk (by omega), cc_ln13 hv hf rfl ed (cc_r (nI_1 k) H)⟩)))))))⟩
theorem cc_ix {c j : Nat} : nI c * 4 + nI j = nI (c * 4 + j) := by
  rw [show (4 : Int32) = nI 4 from rfl, pk_mul, nI_add]
theorem cc_mcStep {post : St2 → Prop} {x c n j : Nat} (hx : x < 24) (hc : c < 736) (hj : j < 4) (hg : a12 (x * 4 + j) = -1) (H : wX_makeClosure_24 post (nI x) (nI c) n (nI (j + 1)) nc nh sz pd ts vs fr cl cd en fc fe cr a1 a2 a3 a4 a5 a6 a7 a8 a9 a10 a11 a12 a13 a14 a15 a16 a17 a18 a19 a20 a21 a22 a23 a24 a25 a26 (upd a27 (c * 4 + j) 2) a28) : wX_makeClosure_24 post (nI x) (nI c) (n + 1) (nI j) nc nh sz pd ts vs fr cl cd en fc fe cr a1 a2 a3 a4 a5 a6 a7 a8 a9 a10 a11 a12 a13 a14 a15 a16 a17 a18 a19 a20 a21 a22 a23 a24 a25 a26 a27 a28 :=
  br_f (nI_ge (b := 4) hj (by omega)) ⟨cc_in cc_ix (by omega) (by omega), nm_r (cc_ue cc_ix (by omega)) ⟨cc_in cc_ix (by omega) (by omega), br_t (by rw [cc_ix, nI_clamp (by omega), hg]; decide) (nm_r (nI_1 j) H)⟩⟩
theorem cc_mcEnd {post : St2 → Prop} {x c n v : Nat} (hv : v < 1600) (H : post (nc, nh, sz, pd, ts, nI (v + 1), fr, cl, cd, en, fc, fe, cr, a1, a2, a3, a4, a5, a6, a7, a8, a9, a10, a11, a12, a13, a14, a15, a16, a17, upd a18 v 1, upd a19 v (nI c), a20, a21, a22, a23, a24, a25, a26, a27, a28)) : wX_makeClosure_24 post (nI x) (nI c) (n + 1) (nI 4) nc nh sz pd ts (nI v) fr cl cd en fc fe cr a1 a2 a3 a4 a5 a6 a7 a8 a9 a10 a11 a12 a13 a14 a15 a16 a17 a18 a19 a20 a21 a22 a23 a24 a25 a26 a27 a28 :=
  br_t (nI_le (a := 4) (b := 4) (by omega) (by omega)) (cc_push hv rfl rfl H)
theorem cc_st17 {post : Int32 → St2 → Prop} {v k x : Nat} (hk : k < 128) (e9 : a9 k = 17) (e10 : a10 k = nI x) (hx : x < 24) (hg : ∀ j, j < 96 → a12 j = -1) (hv : v < 1600)
    (H : post (nI (k + 1)) (nc, nh, sz, pd, ts, nI (v + 1), fr, nI 1, cd, en, fc, fe, cr, a1, a2, a3, a4, a5, a6, a7, a8, a9, a10, a11, a12, a13, a14, a15, a16, a17, upd a18 v 1, upd a19 v (nI 0), a20, a21, a22, a23, a24, a25, upd a26 0 (nI x), upd (upd (upd (upd a27 (0 * 4 + 0) 2) (0 * 4 + 1) 2) (0 * 4 + 2) 2) (0 * 4 + 3) 2, a28)) : wpX_step post (nc, nh, sz, pd, ts, nI v, fr, nI 0, cd, en, fc, fe, cr, a1, a2, a3, a4, a5, a6, a7, a8, a9, a10, a11, a12, a13, a14, a15, a16, a17, a18, a19, a20, a21, a22, a23, a24, a25, a26, a27, a28) (nI k) := by
  have e10' : a10 (nI k).toNatClampNeg = nI x := cc_at rfl (by omega) e10
  refine ⟨vp_in_nI hk (by omega), nm_r (cc_at rfl (by omega) e9) (br_t (by decide) (br_f (by decide) (br_f (by decide) (br_t rfl ⟨vp_in_nI hk (by omega), ?_⟩))))⟩
  rw [e10']
  refine nm_r (nI_1 0) ⟨vp_in_nI (n := 0) (by omega) (by omega), nm_r (cc_ue (n := 0) rfl (by omega)) ⟨5, ?_⟩⟩
  exact cc_mcStep (c := 0) (j := 0) hx (by omega) (by omega) (hg _ (by omega)) (cc_mcStep (c := 0) hx (by omega) (by omega) (hg _ (by omega)) (cc_mcStep (c := 0) hx (by omega) (by omega) (hg _ (by omega)) (cc_mcStep (c := 0) hx (by omega) (by omega) (hg _ (by omega)) (cc_mcEnd (c := 0) hv (cc_r (nI_1 k) H)))))
theorem cc_st18z {post : Int32 → St2 → Prop} {v k m : Nat} (hk : k < 128) (e9 : a9 k = 18) (e10 : a10 k = nI m) (hv : v < 1600) (et : a18 v = 0) (ed : a19 v = 0) (H : post (nI m) (nc, nh, sz, pd, ts, nI v, fr, cl, cd, en, fc, fe, cr, a1, a2, a3, a4, a5, a6, a7, a8, a9, a10, a11, a12, a13, a14, a15, a16, a17, a18, a19, a20, a21, a22, a23, a24, a25, a26, a27, a28)) : wpX_step post (nc, nh, sz, pd, ts, nI (v + 1), fr, cl, cd, en, fc, fe, cr, a1, a2, a3, a4, a5, a6, a7, a8, a9, a10, a11, a12, a13, a14, a15, a16, a17, a18, a19, a20, a21, a22, a23, a24, a25, a26, a27, a28) (nI k) :=
  ⟨vp_in_nI hk (by omega), nm_r (cc_at rfl (by omega) e9) (br_t (by decide) (br_f (by decide) (br_f (by decide) (br_f (by decide) (br_t rfl (nm_r (nI_pred v) ⟨vp_in_nI hv (by omega), br_t (cc_at rfl (by omega) et) ⟨vp_in_nI hv (by omega), br_t (cc_at rfl (by omega) ed) ⟨vp_in_nI hk (by omega), cc_r (cc_at rfl (by omega) e10) H⟩⟩⟩))))))⟩
theorem cc_st18n {post : Int32 → St2 → Prop} {v k : Nat} (hk : k < 128) (e9 : a9 k = 18) (hv : v < 1600) (et : a18 v = 0) (ed : ¬ a19 v = 0) (H : post (nI (k + 1)) (nc, nh, sz, pd, ts, nI v, fr, cl, cd, en, fc, fe, cr, a1, a2, a3, a4, a5, a6, a7, a8, a9, a10, a11, a12, a13, a14, a15, a16, a17, a18, a19, a20, a21, a22, a23, a24, a25, a26, a27, a28)) : wpX_step post (nc, nh, sz, pd, ts, nI (v + 1), fr, cl, cd, en, fc, fe, cr, a1, a2, a3, a4, a5, a6, a7, a8, a9, a10, a11, a12, a13, a14, a15, a16, a17, a18, a19, a20, a21, a22, a23, a24, a25, a26, a27, a28) (nI k) :=
  ⟨vp_in_nI hk (by omega), nm_r (cc_at rfl (by omega) e9) (br_t (by decide) (br_f (by decide) (br_f (by decide) (br_f (by decide) (br_t rfl (nm_r (nI_pred v) ⟨vp_in_nI hv (by omega), br_t (cc_at rfl (by omega) et) ⟨vp_in_nI hv (by omega), br_f (cc_atne rfl (by omega) ed) (cc_r (nI_1 k) H)⟩⟩))))))⟩
theorem cc_st19 {post : Int32 → St2 → Prop} {k m : Nat} (hk : k < 128) (e9 : a9 k = 19) (e10 : a10 k = nI m) (H : post (nI m) (nc, nh, sz, pd, ts, vs, fr, cl, cd, en, fc, fe, cr, a1, a2, a3, a4, a5, a6, a7, a8, a9, a10, a11, a12, a13, a14, a15, a16, a17, a18, a19, a20, a21, a22, a23, a24, a25, a26, a27, a28)) : wpX_step post (nc, nh, sz, pd, ts, vs, fr, cl, cd, en, fc, fe, cr, a1, a2, a3, a4, a5, a6, a7, a8, a9, a10, a11, a12, a13, a14, a15, a16, a17, a18, a19, a20, a21, a22, a23, a24, a25, a26, a27, a28) (nI k) :=
  ⟨vp_in_nI hk (by omega), nm_r (cc_at rfl (by omega) e9) (br_t (by decide) (br_f (by decide) (br_f (by decide) (br_f (by decide) (br_f (by decide) (br_t rfl ⟨vp_in_nI hk (by omega), cc_r (cc_at rfl (by omega) e10) H⟩))))))⟩
theorem cc_st20 {post : Int32 → St2 → Prop} {k f m : Nat} (hk : k < 128) (e9 : a9 k = 20) (hf : f < 60) (eb : a20 (f + 1) = nI m) (H : post (nI m) (nc, nh, sz, pd, ts, vs, nI (f + 1), cl, cd, en, fc, fe, cr, a1, a2, a3, a4, a5, a6, a7, a8, a9, a10, a11, a12, a13, a14, a15, a16, a17, a18, a19, a20, a21, a22, a23, a24, a25, a26, a27, a28)) : wpX_step post (nc, nh, sz, pd, ts, vs, nI (f + 2), cl, cd, en, fc, fe, cr, a1, a2, a3, a4, a5, a6, a7, a8, a9, a10, a11, a12, a13, a14, a15, a16, a17, a18, a19, a20, a21, a22, a23, a24, a25, a26, a27, a28) (nI k) :=
  ⟨vp_in_nI hk (by omega), nm_r (cc_at rfl (by omega) e9) (br_t (by decide) (br_f (by decide) (br_f (by decide) (br_f (by decide) (br_f (by decide) (br_f (by decide) (br_t rfl (nm_r (nI_pred (f + 1)) (br_f (nI_ne0 (by omega) (by omega)) ⟨vp_in_nI (by omega) (by omega), cc_r (cc_at rfl (by omega) eb) H⟩)))))))))⟩
theorem cc_st20e {post : Int32 → St2 → Prop} {k v : Nat} {t : Int32} (hk : k < 128) (e9 : a9 k = 20) (hv : v < 1600) (et : a18 v = t) (H : ∀ m, post m (nc, nh, sz, pd, ts, nI (v + 1), nI 0, cl, cd, t, fc, fe, cr, a1, a2, a3, a4, a5, a6, a7, a8, a9, a10, a11, a12, a13, a14, a15, a16, a17, a18, a19, a20, a21, a22, a23, a24, a25, a26, a27, a28)) : wpX_step post (nc, nh, sz, pd, ts, nI (v + 1), nI 1, cl, cd, en, fc, fe, cr, a1, a2, a3, a4, a5, a6, a7, a8, a9, a10, a11, a12, a13, a14, a15, a16, a17, a18, a19, a20, a21, a22, a23, a24, a25, a26, a27, a28) (nI k) :=
  ⟨vp_in_nI hk (by omega), nm_r (cc_at rfl (by omega) e9) (br_t (by decide) (br_f (by decide) (br_f (by decide) (br_f (by decide) (br_f (by decide) (br_f (by decide) (br_t rfl (nm_r (nI_pred 0) (br_t rfl ⟨cc_in (nI_pred v) hv (by omega), nm_r (cc_at (nI_pred v) (by omega) et) ⟨vp_in_nI (n := 0) (by omega) (by omega), H _⟩⟩)))))))))⟩
theorem cc_st4 {post : Int32 → St2 → Prop} {k v f c x m j : Nat} {t d : Int32} (hk : k < 128) (e9 : a9 k = 4) (hv : v < 1599) (hf : f < 61) (hj : j < 60) (e1 : a18 v = 1) (ec : a19 v = nI c) (hc : c < 736) (et : a18 (v + 1) = t) (ed : a19 (v + 1) = d) (ex : a26 c = nI x) (hx : x < 24) (em : a11 x = nI m)
    (H : post (nI m) (nc, nh, sz, pd, ts, nI v, nI (f + 1), cl, nI (j + 1), en, fc, fe, cr, a1, a2, a3, a4, a5, a6, a7, a8, a9, a10, a11, a12, a13, a14, a15, a16, a17, a18, a19, upd a20 f (nI (k + 1)), upd a21 f (nI c), upd a22 f t, upd a23 f d, a24, a25, a26, a27, a28)) : wpX_step post (nc, nh, sz, pd, ts, nI (v + 2), nI f, cl, nI j, en, fc, fe, cr, a1, a2, a3, a4, a5, a6, a7, a8, a9, a10, a11, a12, a13, a14, a15, a16, a17, a18, a19, a20, a21, a22, a23, a24, a25, a26, a27, a28) (nI k) :=
  have hi : vp_in (nI v) 1600 := vp_in_nI (by omega) (by omega)
  have hi' : vp_in (nI v + 1) 1600 := cc_in (nI_1 v) (by omega) (by omega)
  have h6 : vp_in (nI f) 61 := vp_in_nI hf (by omega)
  have ex' : a26 (nI c).toNatClampNeg = nI x := cc_at rfl (by omega) ex
  have et' : a18 (nI v + 1).toNatClampNeg = t := cc_at (nI_1 v) (by omega) et
  have ed' : a19 (nI v + 1).toNatClampNeg = d := cc_at (nI_1 v) (by omega) ed
  ⟨vp_in_nI hk (by omega), nm_r (cc_at rfl (by omega) e9) (br_t (by decide) (br_t rfl (nm_r (show nI (v + 2) - 2 = nI v from pk_sub (a := v + 2) (b := 2) (by omega)) ⟨hi, br_t (cc_at rfl (by omega) e1) (br_f (cc_ne (b := 60) (by omega) (by omega) (by omega)) (nm_r (nI_1 j) ⟨hi, nm_r (cc_at rfl (by omega) ec) ⟨h6, nm_r (by rw [nI_clamp (by omega), nI_1]) ⟨h6, nm_r (cc_un (by omega)) ⟨hi', h6, nm_r (by rw [nI_clamp (show f < 2 ^ 31 by omega), et']) ⟨hi', h6, nm_r (by rw [nI_clamp (show f < 2 ^ 31 by omega), ed']) (nm_r (nI_1 f) ⟨vp_in_nI hc (by omega), cc_in ex' hx (by omega), cc_r (cc_at ex' (by omega) em) H⟩)⟩⟩⟩⟩⟩))⟩)))⟩
theorem cc_st4t {post : Int32 → St2 → Prop} {k v : Nat} (hk : k < 128) (e9 : a9 k = 4) (hv : v < 1599) (e1 : a18 v = 1) (H : ∀ m, post m (nc, nh, sz, pd, ts, nI v, fr, cl, nI 60, 3, fc, fe, cr, a1, a2, a3, a4, a5, a6, a7, a8, a9, a10, a11, a12, a13, a14, a15, a16, a17, a18, a19, a20, a21, a22, a23, a24, a25, a26, a27, a28)) : wpX_step post (nc, nh, sz, pd, ts, nI (v + 2), fr, cl, nI 60, en, fc, fe, cr, a1, a2, a3, a4, a5, a6, a7, a8, a9, a10, a11, a12, a13, a14, a15, a16, a17, a18, a19, a20, a21, a22, a23, a24, a25, a26, a27, a28) (nI k) :=
  ⟨vp_in_nI hk (by omega), nm_r (cc_at rfl (by omega) e9) (br_t (by decide) (br_t rfl (nm_r (show nI (v + 2) - 2 = nI v from pk_sub (a := v + 2) (b := 2) (by omega)) ⟨vp_in_nI (by omega) (by omega), br_t (cc_at rfl (by omega) e1) (br_t rfl (H _))⟩)))⟩
/-- what an operation of the machine answers -/
def cc_cmb (o x y : Int32) : Int32 := if o = 0 then x + y else if o = 1 then x - y else x * y
theorem cc_comb {post : Int32 → Prop} {o x y : Int32} (ho : o = 0 ∨ o = 1 ∨ o = 2) (H : post (cc_cmb o x y)) : wpX_combined post (nc, nh, sz, pd, ts, vs, fr, cl, cd, en, fc, fe, cr, a1, a2, a3, a4, a5, a6, a7, a8, a9, a10, a11, a12, a13, a14, a15, a16, a17, a18, a19, a20, a21, a22, a23, a24, a25, a26, a27, a28) o x y := by
  rcases ho with rfl | rfl | rfl
  · exact br_t rfl H
  · exact br_f (by decide) (br_t rfl H)
  · exact br_f (by decide) (br_f (by decide) (br_t rfl H))
theorem cc_stOp {post : Int32 → St2 → Prop} {k v : Nat} {o x y : Int32} (hk : k < 128) (e9 : a9 k = o) (ho : o = 0 ∨ o = 1 ∨ o = 2) (hv : v < 1599) (e1 : a18 v = 0) (e2 : a18 (v + 1) = 0) (ex : a19 v = x) (ey : a19 (v + 1) = y)
    (H : post (nI (k + 1)) (nc, nh, sz, pd, ts, nI (v + 1), fr, cl, cd, en, fc, fe, cr, a1, a2, a3, a4, a5, a6, a7, a8, a9, a10, a11, a12, a13, a14, a15, a16, a17, upd a18 v 0, upd a19 v (cc_cmb o x y), a20, a21, a22, a23, a24, a25, a26, a27, a28)) : wpX_step post (nc, nh, sz, pd, ts, nI (v + 2), fr, cl, cd, en, fc, fe, cr, a1, a2, a3, a4, a5, a6, a7, a8, a9, a10, a11, a12, a13, a14, a15, a16, a17, a18, a19, a20, a21, a22, a23, a24, a25, a26, a27, a28) (nI k) := by
  have hi : vp_in (nI v) 1600 := vp_in_nI (by omega) (by omega)
  have hi' : vp_in (nI v + 1) 1600 := cc_in (nI_1 v) (by omega) (by omega)
  have h4 : ¬ 4 ≤ o := by rcases ho with rfl | rfl | rfl <;> decide
  refine ⟨vp_in_nI hk (by omega), nm_r (cc_at rfl (by omega) e9) (br_f h4 (nm_r (show nI (v + 2) - 2 = nI v from pk_sub (a := v + 2) (b := 2) (by omega)) ⟨hi, br_t (cc_at rfl (by omega) e1) ⟨hi', br_t (cc_at (nI_1 v) (by omega) e2) ⟨hi, hi', ?_⟩⟩⟩))⟩
  rw [cc_at (f := a19) (x := nI v) rfl (by omega) ex, cc_at (f := a19) (nI_1 v) (by omega) ey]
  exact cc_comb ho (cc_push (by omega) rfl rfl (cc_r (nI_1 k) H))
/-! the loop -/
theorem cc_vEnd {post : St2 → Prop} {n i : Nat} {k : Int32} (he : 0 ≤ en) (H : post (nc, nh, sz, pd, ts, vs, fr, cl, cd, en, fc, fe, cr, a1, a2, a3, a4, a5, a6, a7, a8, a9, a10, a11, a12, a13, a14, a15, a16, a17, a18, a19, a20, a21, a22, a23, a24, a25, a26, a27, a28)) : wX_execute_58 post (n + 1) k (nI i) nc nh sz pd ts vs fr cl cd en fc fe cr a1 a2 a3 a4 a5 a6 a7 a8 a9 a10 a11 a12 a13 a14 a15 a16 a17 a18 a19 a20 a21 a22 a23 a24 a25 a26 a27 a28 :=
  br_c (fun _ => H) (fun _ => br_t he H)
theorem cc_v10 {post : St2 → Prop} {n i v k : Nat} {d : Int32} (hi : i < 8000) (hk : k < 128) (e9 : a9 k = 10) (e10 : a10 k = d) (hv : v < 1600) (H : wX_execute_58 post n (nI (k + 1)) (nI (i + 1)) nc nh sz pd ts (nI (v + 1)) fr cl cd (-1) fc fe cr a1 a2 a3 a4 a5 a6 a7 a8 a9 a10 a11 a12 a13 a14 a15 a16 a17 (upd a18 v 0) (upd a19 v d) a20 a21 a22 a23 a24 a25 a26 a27 a28) : wX_execute_58 post (n + 1) (nI k) (nI i) nc nh sz pd ts (nI v) fr cl cd (-1) fc fe cr a1 a2 a3 a4 a5 a6 a7 a8 a9 a10 a11 a12 a13 a14 a15 a16 a17 a18 a19 a20 a21 a22 a23 a24 a25 a26 a27 a28 :=
  br_f (nI_ge (b := 8000) hi (by omega)) (br_f (by decide) (cc_st10 hk e9 e10 hv (nm_r (nI_1 i) H)))
theorem cc_v12 {post : St2 → Prop} {n i v f k : Nat} {t d : Int32} (hi : i < 8000) (hk : k < 128) (e9 : a9 k = 12) (hv : v < 1600) (hf : f < 61) (et : a22 f = t) (ed : a23 f = d) (ht : ¬ t = 2) (H : wX_execute_58 post n (nI (k + 1)) (nI (i + 1)) nc nh sz pd ts (nI (v + 1)) (nI (f + 1)) cl cd (-1) fc fe cr a1 a2 a3 a4 a5 a6 a7 a8 a9 a10 a11 a12 a13 a14 a15 a16 a17 (upd a18 v t) (upd a19 v d) a20 a21 a22 a23 a24 a25 a26 a27 a28) : wX_execute_58 post (n + 1) (nI k) (nI i) nc nh sz pd ts (nI v) (nI (f + 1)) cl cd (-1) fc fe cr a1 a2 a3 a4 a5 a6 a7 a8 a9 a10 a11 a12 a13 a14 a15 a16 a17 a18 a19 a20 a21 a22 a23 a24 a25 a26 a27 a28 :=
  br_f (nI_ge (b := 8000) hi (by omega)) (br_f (by decide) (cc_st12 hk e9 hv hf et ed ht (nm_r (nI_1 i) H)))
theorem cc_v13 {post : St2 → Prop} {n i v f k : Nat} {d : Int32} (hi : i < 8000) (hk : k < 128) (e9 : a9 k = 13) (hv : v < 1600) (hf : f < 61) (ed : a21 f = d) (H : wX_execute_58 post n (nI (k + 1)) (nI (i + 1)) nc nh sz pd ts (nI (v + 1)) (nI (f + 1)) cl cd (-1) fc fe cr a1 a2 a3 a4 a5 a6 a7 a8 a9 a10 a11 a12 a13 a14 a15 a16 a17 (upd a18 v 1) (upd a19 v d) a20 a21 a22 a23 a24 a25 a26 a27 a28) : wX_execute_58 post (n + 1) (nI k) (nI i) nc nh sz pd ts (nI v) (nI (f + 1)) cl cd (-1) fc fe cr a1 a2 a3 a4 a5 a6 a7 a8 a9 a10 a11 a12 a13 a14 a15 a16 a17 a18 a19 a20 a21 a22 a23 a24 a25 a26 a27 a28 :=
  br_f (nI_ge (b := 8000) hi (by omega)) (br_f (by decide) (cc_st13 hk e9 hv hf ed (nm_r (nI_1 i) H)))
theorem cc_v17 {post : St2 → Prop} {n i v k x : Nat} (hi : i < 8000) (hk : k < 128) (e9 : a9 k = 17) (e10 : a10 k = nI x) (hx : x < 24) (hg : ∀ j, j < 96 → a12 j = -1) (hv : v < 1600)
    (H : wX_execute_58 post n (nI (k + 1)) (nI (i + 1)) nc nh sz pd ts (nI (v + 1)) fr (nI 1) cd (-1) fc fe cr a1 a2 a3 a4 a5 a6 a7 a8 a9 a10 a11 a12 a13 a14 a15 a16 a17 (upd a18 v 1) (upd a19 v (nI 0)) a20 a21 a22 a23 a24 a25 (upd a26 0 (nI x)) (upd (upd (upd (upd a27 (0 * 4 + 0) 2) (0 * 4 + 1) 2) (0 * 4 + 2) 2) (0 * 4 + 3) 2) a28) : wX_execute_58 post (n + 1) (nI k) (nI i) nc nh sz pd ts (nI v) fr (nI 0) cd (-1) fc fe cr a1 a2 a3 a4 a5 a6 a7 a8 a9 a10 a11 a12 a13 a14 a15 a16 a17 a18 a19 a20 a21 a22 a23 a24 a25 a26 a27 a28 :=
  br_f (nI_ge (b := 8000) hi (by omega)) (br_f (by decide) (cc_st17 hk e9 e10 hx hg hv (nm_r (nI_1 i) H)))
theorem cc_v18z {post : St2 → Prop} {n i v k m : Nat} (hi : i < 8000) (hk : k < 128) (e9 : a9 k = 18) (e10 : a10 k = nI m) (hv : v < 1600) (et : a18 v = 0) (ed : a19 v = 0) (H : wX_execute_58 post n (nI m) (nI (i + 1)) nc nh sz pd ts (nI v) fr cl cd (-1) fc fe cr a1 a2 a3 a4 a5 a6 a7 a8 a9 a10 a11 a12 a13 a14 a15 a16 a17 a18 a19 a20 a21 a22 a23 a24 a25 a26 a27 a28) : wX_execute_58 post (n + 1) (nI k) (nI i) nc nh sz pd ts (nI (v + 1)) fr cl cd (-1) fc fe cr a1 a2 a3 a4 a5 a6 a7 a8 a9 a10 a11 a12 a13 a14 a15 a16 a17 a18 a19 a20 a21 a22 a23 a24 a25 a26 a27 a28 :=
  br_f (nI_ge (b := 8000) hi (by omega)) (br_f (by decide) (cc_st18z hk e9 e10 hv et ed (nm_r (nI_1 i) H)))
theorem cc_v18n {post : St2 → Prop} {n i v k : Nat} (hi : i < 8000) (hk : k < 128) (e9 : a9 k = 18) (hv : v < 1600) (et : a18 v = 0) (ed : ¬ a19 v = 0) (H : wX_execute_58 post n (nI (k + 1)) (nI (i + 1)) nc nh sz pd ts (nI v) fr cl cd (-1) fc fe cr a1 a2 a3 a4 a5 a6 a7 a8 a9 a10 a11 a12 a13 a14 a15 a16 a17 a18 a19 a20 a21 a22 a23 a24 a25 a26 a27 a28) : wX_execute_58 post (n + 1) (nI k) (nI i) nc nh sz pd ts (nI (v + 1)) fr cl cd (-1) fc fe cr a1 a2 a3 a4 a5 a6 a7 a8 a9 a10 a11 a12 a13 a14 a15 a16 a17 a18 a19 a20 a21 a22 a23 a24 a25 a26 a27 a28 :=
  br_f (nI_ge (b := 8000) hi (by omega)) (br_f (by decide) (cc_st18n hk e9 hv et ed (nm_r (nI_1 i) H)))
theorem cc_v19 {post : St2 → Prop} {n i k m : Nat} (hi : i < 8000) (hk : k < 128) (e9 : a9 k = 19) (e10 : a10 k = nI m) (H : wX_execute_58 post n (nI m) (nI (i + 1)) nc nh sz pd ts vs fr cl cd (-1) fc fe cr a1 a2 a3 a4 a5 a6 a7 a8 a9 a10 a11 a12 a13 a14 a15 a16 a17 a18 a19 a20 a21 a22 a23 a24 a25 a26 a27 a28) : wX_execute_58 post (n + 1) (nI k) (nI i) nc nh sz pd ts vs fr cl cd (-1) fc fe cr a1 a2 a3 a4 a5 a6 a7 a8 a9 a10 a11 a12 a13 a14 a15 a16 a17 a18 a19 a20 a21 a22 a23 a24 a25 a26 a27 a28 :=
  br_f (nI_ge (b := 8000) hi (by omega)) (br_f (by decide) (cc_st19 hk e9 e10 (nm_r (nI_1 i) H)))
theorem cc_v20 {post : St2 → Prop} {n i k f m : Nat} (hi : i < 8000) (hk : k < 128) (e9 : a9 k = 20) (hf : f < 60) (eb : a20 (f + 1) = nI m) (H : wX_execute_58 post n (nI m) (nI (i + 1)) nc nh sz pd ts vs (nI (f + 1)) cl cd (-1) fc fe cr a1 a2 a3 a4 a5 a6 a7 a8 a9 a10 a11 a12 a13 a14 a15 a16 a17 a18 a19 a20 a21 a22 a23 a24 a25 a26 a27 a28) : wX_execute_58 post (n + 1) (nI k) (nI i) nc nh sz pd ts vs (nI (f + 2)) cl cd (-1) fc fe cr a1 a2 a3 a4 a5 a6 a7 a8 a9 a10 a11 a12 a13 a14 a15 a16 a17 a18 a19 a20 a21 a22 a23 a24 a25 a26 a27 a28 :=
  br_f (nI_ge (b := 8000) hi (by omega)) (br_f (by decide) (cc_st20 hk e9 hf eb (nm_r (nI_1 i) H)))
theorem cc_v20e {post : St2 → Prop} {n i k v : Nat} {t : Int32} (hi : i < 8000) (hk : k < 128) (e9 : a9 k = 20) (hv : v < 1600) (et : a18 v = t) (h0 : 0 ≤ t) (H : post (nc, nh, sz, pd, ts, nI (v + 1), nI 0, cl, cd, t, fc, fe, cr, a1, a2, a3, a4, a5, a6, a7, a8, a9, a10, a11, a12, a13, a14, a15, a16, a17, a18, a19, a20, a21, a22, a23, a24, a25, a26, a27, a28)) : wX_execute_58 post (n + 2) (nI k) (nI i) nc nh sz pd ts (nI (v + 1)) (nI 1) cl cd (-1) fc fe cr a1 a2 a3 a4 a5 a6 a7 a8 a9 a10 a11 a12 a13 a14 a15 a16 a17 a18 a19 a20 a21 a22 a23 a24 a25 a26 a27 a28 :=
  br_f (nI_ge (b := 8000) hi (by omega)) (br_f (by decide) (cc_st20e hk e9 hv et (fun _ => nm_r (nI_1 i) (cc_vEnd h0 H))))
theorem cc_v4 {post : St2 → Prop} {n i k v f c x m j : Nat} {t d : Int32} (hi : i < 8000) (hk : k < 128) (e9 : a9 k = 4) (hv : v < 1599) (hf : f < 61) (hj : j < 60) (e1 : a18 v = 1) (ec : a19 v = nI c) (hc : c < 736) (et : a18 (v + 1) = t) (ed : a19 (v + 1) = d) (ex : a26 c = nI x) (hx : x < 24) (em : a11 x = nI m)
    (H : wX_execute_58 post n (nI m) (nI (i + 1)) nc nh sz pd ts (nI v) (nI (f + 1)) cl (nI (j + 1)) (-1) fc fe cr a1 a2 a3 a4 a5 a6 a7 a8 a9 a10 a11 a12 a13 a14 a15 a16 a17 a18 a19 (upd a20 f (nI (k + 1))) (upd a21 f (nI c)) (upd a22 f t) (upd a23 f d) a24 a25 a26 a27 a28) : wX_execute_58 post (n + 1) (nI k) (nI i) nc nh sz pd ts (nI (v + 2)) (nI f) cl (nI j) (-1) fc fe cr a1 a2 a3 a4 a5 a6 a7 a8 a9 a10 a11 a12 a13 a14 a15 a16 a17 a18 a19 a20 a21 a22 a23 a24 a25 a26 a27 a28 :=
  br_f (nI_ge (b := 8000) hi (by omega)) (br_f (by decide) (cc_st4 hk e9 hv hf hj e1 ec hc et ed ex hx em (nm_r (nI_1 i) H)))
theorem cc_v4t {post : St2 → Prop} {n i k v : Nat} (hi : i < 8000) (hk : k < 128) (e9 : a9 k = 4) (hv : v < 1599) (e1 : a18 v = 1) (H : post (nc, nh, sz, pd, ts, nI v, fr, cl, nI 60, 3, fc, fe, cr, a1, a2, a3, a4, a5, a6, a7, a8, a9, a10, a11, a12, a13, a14, a15, a16, a17, a18, a19, a20, a21, a22, a23, a24, a25, a26, a27, a28)) : wX_execute_58 post (n + 2) (nI k) (nI i) nc nh sz pd ts (nI (v + 2)) fr cl (nI 60) (-1) fc fe cr a1 a2 a3 a4 a5 a6 a7 a8 a9 a10 a11 a12 a13 a14 a15 a16 a17 a18 a19 a20 a21 a22 a23 a24 a25 a26 a27 a28 :=
  br_f (nI_ge (b := 8000) hi (by omega)) (br_f (by decide) (cc_st4t hk e9 hv e1 (fun _ => nm_r (nI_1 i) (cc_vEnd (by decide) H))))
theorem cc_vOp {post : St2 → Prop} {n i k v : Nat} {o x y : Int32} (hi : i < 8000) (hk : k < 128) (e9 : a9 k = o) (ho : o = 0 ∨ o = 1 ∨ o = 2) (hv : v < 1599) (e1 : a18 v = 0) (e2 : a18 (v + 1) = 0) (ex : a19 v = x) (ey : a19 (v + 1) = y)
    (H : wX_execute_58 post n (nI (k + 1)) (nI (i + 1)) nc nh sz pd ts (nI (v + 1)) fr cl cd (-1) fc fe cr a1 a2 a3 a4 a5 a6 a7 a8 a9 a10 a11 a12 a13 a14 a15 a16 a17 (upd a18 v 0) (upd a19 v (cc_cmb o x y)) a20 a21 a22 a23 a24 a25 a26 a27 a28) : wX_execute_58 post (n + 1) (nI k) (nI i) nc nh sz pd ts (nI (v + 2)) fr cl cd (-1) fc fe cr a1 a2 a3 a4 a5 a6 a7 a8 a9 a10 a11 a12 a13 a14 a15 a16 a17 a18 a19 a20 a21 a22 a23 a24 a25 a26 a27 a28 :=
  br_f (nI_ge (b := 8000) hi (by omega)) (br_f (by decide) (cc_stOp hk e9 ho hv e1 e2 ex ey (nm_r (nI_1 i) H)))
end
end
section
/-! the law's programs: what their compiling leaves -/
section
variable {nc nh sz pd ts vs fr cl cd en fc fe cr : Int32} {a1 a2 a3 a4 a5 a6 a7 a8 a9 a10 a11 a12 a13 a14 a15 a16 a17 a18 a19 a20 a21 a22 a23 a24 a25 a26 a27 a28 : Nat → Int32}
/-- the recursive function's nodes 0 .. 10 -/
def cc_P1 (f v o b : Int32) (a1 a2 a3 a4 a5 a6 : Nat → Int32) : Prop :=
  (a1 0 = 9 ∧ a1 1 = 9 ∧ a1 2 = 9 ∧ a1 3 = 8 ∧ a1 4 = 0 ∧ a1 5 = 4 ∧ a1 6 = 9 ∧ a1 7 = o ∧ a1 8 = 8 ∧ a1 9 = 5 ∧ a1 10 = 7) ∧
  (a5 0 = v ∧ a5 1 = f ∧ a5 2 = v ∧ a5 3 = -1 ∧ a5 6 = v ∧ a5 8 = b ∧ a5 10 = 4 * f + v) ∧
  (a2 4 = nI 2 ∧ a3 4 = nI 3 ∧ a2 5 = nI 1 ∧ a3 5 = nI 4 ∧ a2 7 = nI 5 ∧ a3 7 = nI 6 ∧ a2 9 = nI 0 ∧ a3 9 = nI 7 ∧ a4 9 = nI 8 ∧ a2 10 = nI 9) ∧
  (a6 0 = nI 9 ∧ a6 1 = nI 5 ∧ a6 2 = nI 4 ∧ a6 4 = nI 5 ∧ a6 5 = nI 7 ∧ a6 6 = nI 7 ∧ a6 7 = nI 9 ∧ a6 9 = nI 10)
/-- names that differ, and can be told apart in a function's number; an operation -/
def cc_FV (f v : Int32) : Prop := ¬ v = f ∧ (4 * f + v) &&& 3 = v ∧ (4 * f + v) >>> ((2 : Int32) &&& 31) = f ∧ ¬ v < 0 ∧ v < 4 ∧ ¬ f < 0 ∧ f < 4
theorem cc_op7 {o : Int32} (h : o = 0 ∨ o = 1 ∨ o = 2) : o < 7 ∧ ¬ o = 5 ∧ ¬ o = 6 ∧ ¬ o = 7 ∧ ¬ o = 9 ∧ ¬ o < 0 ∧ o ≤ 4 := by
  rcases h with rfl | rfl | rfl <;> decide
theorem cc_P1L {f v o b : Int32} (hf : cc_FV f v) (ho : o = 0 ∨ o = 1 ∨ o = 2) (P : cc_P1 f v o b a1 a2 a3 a4 a5 a6) :
    cc_LK a1 a5 a6 v 0 12 v ∧ cc_LK a1 a5 a6 f 1 13 f ∧ cc_LK a1 a5 a6 v 2 12 v ∧ cc_LK a1 a5 a6 v 6 12 v := by
  obtain ⟨⟨k0, k1, k2, k3, k4, k5, k6, k7, k8, k9, k10⟩, ⟨n0, n1, n2, n3, n6, n8, n10⟩, _, ⟨w0, w1, w2, w4, w5, w6, w7, w9⟩⟩ := P
  obtain ⟨o7, o5, o6, o77, o9, _, _⟩ := cc_op7 ho
  obtain ⟨hne, hA, hS, _, _, _, _⟩ := hf
  have A10 : a5 10 &&& 3 = v := by rw [n10]; exact hA
  have S10 : a5 10 >>> ((2 : Int32) &&& 31) = f := by rw [n10]; exact hS
  have N10 : ¬ a5 10 &&& 3 = f := by rw [A10]; exact hne
  have q4 : ¬ a1 4 = 6 ∧ ¬ a1 4 = 7 := by rw [k4]; decide
  have q5 : ¬ a1 5 = 6 ∧ ¬ a1 5 = 7 := by rw [k5]; decide
  have q7 : ¬ a1 7 = 6 ∧ ¬ a1 7 = 7 := by rw [k7]; exact ⟨o6, o77⟩
  have q9 : ¬ a1 9 = 6 ∧ ¬ a1 9 = 7 := by rw [k9]; decide
  refine ⟨cc_lk ?_, cc_lk ?_, cc_lk ?_, cc_lk ?_⟩
  · exact cc_loUp 9 (by omega) (by omega) (by omega) w0 q9.1 q9.2 (cc_loArg 10 (by omega) (by omega) (by omega) w9 k10 A10)
  · exact cc_loUp 5 (by omega) (by omega) (by omega) w1 q5.1 q5.2 (cc_loUp 7 (by omega) (by omega) (by omega) w5 q7.1 q7.2 (cc_loUp 9 (by omega) (by omega) (by omega) w7 q9.1 q9.2 (cc_loSelf 10 (by omega) (by omega) (by omega) w9 k10 N10 S10)))
  · exact cc_loUp 4 (by omega) (by omega) (by omega) w2 q4.1 q4.2 (cc_loUp 5 (by omega) (by omega) (by omega) w4 q5.1 q5.2 (cc_loUp 7 (by omega) (by omega) (by omega) w5 q7.1 q7.2 (cc_loUp 9 (by omega) (by omega) (by omega) w7 q9.1 q9.2 (cc_loArg 10 (by omega) (by omega) (by omega) w9 k10 A10))))
  · exact cc_loUp 7 (by omega) (by omega) (by omega) w6 q7.1 q7.2 (cc_loUp 9 (by omega) (by omega) (by omega) w7 q9.1 q9.2 (cc_loArg 10 (by omega) (by omega) (by omega) w9 k10 A10))
theorem cc_bodyC {post : St2 → Prop} {s : Nat} {f v o b : Int32} (hs : s < 100) (hf : cc_FV f v) (ho : o = 0 ∨ o = 1 ∨ o = 2) (P : cc_P1 f v o b a1 a2 a3 a4 a5 a6)
    (H : ∀ (ts' fc' fe' cr' : Int32) (a15' a16' a17' : Nat → Int32), post (nc, nh, nI (s + 12), pd, ts', vs, fr, cl, cd, en, fc', fe', cr', a1, a2, a3, a4, a5, a6, a7, a8, upd (upd (upd (upd (upd (upd (upd (upd (upd (upd (upd (upd a9 s 12) (s + 1) 18) (s + 2) 13) (s + 3) 12) (s + 4) 10) (s + 5) 0) (s + 6) 4) (s + 7) 12) (s + 8) o) (s + 9) 19) (s + 10) 10) (s + 11) 20, upd (upd (upd (upd (upd (upd (upd (upd (upd (upd (upd (upd (upd (upd (a10) (s) v) (s + 1) 0) (s + 2) f) (s + 3) v) (s + 4) (-1)) (s + 5) 0) (s + 6) 0) (s + 7) v) (s + 8) 0) (s + 1) (nI (s + 9 + 1))) (s + 9) 0) (s + 10) b) (s + 9) (nI (s + 11))) (s + 11) 0, a11, a12, a13, a14, a15', a16', a17', a18, a19, a20, a21, a22, a23, a24, a25, a26, a27, a28)) : wpX_compile post (nc, nh, nI s, pd, ts, vs, fr, cl, cd, en, fc, fe, cr, a1, a2, a3, a4, a5, a6, a7, a8, a9, a10, a11, a12, a13, a14, a15, a16, a17, a18, a19, a20, a21, a22, a23, a24, a25, a26, a27, a28) (nI 9) := by
  obtain ⟨L0, L1, L2, L6⟩ := cc_P1L hf ho P
  obtain ⟨⟨k0, k1, k2, k3, k4, k5, k6, k7, k8, k9, k10⟩, ⟨n0, n1, n2, n3, n6, n8, n10⟩, ⟨A4, B4, A5, B5, A7, B7, A9, B9, C9, A10⟩, _⟩ := P
  obtain ⟨o7, o5, o6, _, _, _, _⟩ := cc_op7 ho
  refine cc_compile ?_
  refine cc_clCh0 (y := 0) (t := 0) (x := 9) (by omega) (by omega) rfl rfl (by omega) k9 A9 ?_
  refine cc_clName (t := 1) (x := 0) (p := 0) (by omega) (by omega) rfl rfl (by omega) (by omega) k0 n0 L0 ?_
  refine cc_clCh1 (y := 7) (t := 0) (x := 9) (by omega) (by omega) rfl rfl (by omega) (by omega) k9 B9 ?_
  refine cc_clBi0 (y := 5) (t := 1) (x := 7) (by omega) (by omega) rfl rfl (by omega) k7 o7 o5 A7 ?_
  refine cc_clBi0 (y := 1) (t := 2) (x := 5) (by omega) (by omega) rfl rfl (by omega) k5 (by decide) (by decide) A5 ?_
  refine cc_clName (t := 3) (x := 1) (p := 0) (by omega) (by omega) rfl rfl (by omega) (by omega) k1 n1 L1 ?_
  refine cc_clBi1 (y := 4) (t := 2) (x := 5) (by omega) (by omega) rfl rfl (by omega) k5 (by decide) (by decide) (by decide) B5 ?_
  refine cc_clBi0 (y := 2) (t := 3) (x := 4) (by omega) (by omega) rfl rfl (by omega) k4 (by decide) (by decide) A4 ?_
  refine cc_clName (t := 4) (x := 2) (p := 0) (by omega) (by omega) rfl rfl (by omega) (by omega) k2 n2 L2 ?_
  refine cc_clBi1 (y := 3) (t := 3) (x := 4) (by omega) (by omega) rfl rfl (by omega) k4 (by decide) (by decide) (by decide) B4 ?_
  refine cc_clConst (t := 4) (x := 3) (p := 0) (by omega) (by omega) rfl rfl (by omega) (by omega) k3 n3 ?_
  refine cc_clBi2 (t := 3) (x := 4) (by omega) (by omega) rfl rfl (by omega) (by omega) k4 (by decide) (by decide) (by decide) ?_
  refine cc_clBi2 (t := 2) (x := 5) (by omega) (by omega) rfl rfl (by omega) (by omega) k5 (by decide) (by decide) (by decide) ?_
  refine cc_clBi1 (y := 6) (t := 1) (x := 7) (by omega) (by omega) rfl rfl (by omega) k7 o7 o5 o6 B7 ?_
  refine cc_clName (t := 2) (x := 6) (p := 0) (by omega) (by omega) rfl rfl (by omega) (by omega) k6 n6 L6 ?_
  refine cc_clBi2 (t := 1) (x := 7) (by omega) (by omega) rfl rfl (by omega) (by omega) k7 o7 o5 o6 ?_
  refine cc_clCh2 (y := 8) (o := s + 1) (t := 0) (x := 9) (by omega) (by omega) rfl rfl (by omega) (by omega) (by omega) rfl k9 C9 ?_
  refine cc_clConst (t := 1) (x := 8) (p := 0) (by omega) (by omega) rfl rfl (by omega) (by omega) k8 n8 ?_
  refine cc_clCh3 (o := s + 9) (t := 0) (x := 9) (by omega) (by omega) rfl rfl (by omega) (by omega) rfl k9 ?_
  refine cc_clEnd (by omega) (by omega) ?_
  exact H _ _ _ _ _ _ _
/-- what the compiled recursion leaves: from place s on the body, at the front its use -/
def cc_body (s : Nat) (f v o b : Int32) (a9 a10 a11 : Nat → Int32) : Prop :=
  a9 s = 12 ∧ (a9 (s + 1) = 18 ∧ a10 (s + 1) = nI (s + 10)) ∧ a9 (s + 2) = 13 ∧ a9 (s + 3) = 12 ∧ (a9 (s + 4) = 10 ∧ a10 (s + 4) = -1) ∧ a9 (s + 5) = 0 ∧ a9 (s + 6) = 4 ∧ a9 (s + 7) = 12 ∧ a9 (s + 8) = o ∧ (a9 (s + 9) = 19 ∧ a10 (s + 9) = nI (s + 11)) ∧ (a9 (s + 10) = 10 ∧ a10 (s + 10) = b) ∧ a9 (s + 11) = 20 ∧ a11 10 = nI s
theorem cc_compC {post : St2 → Prop} {f v o b : Int32} (hf : cc_FV f v) (ho : o = 0 ∨ o = 1 ∨ o = 2) (P : cc_P1 f v o b a1 a2 a3 a4 a5 a6)
    (H : ∀ (sz' pd' ts' fc' fe' cr' : Int32) (a9' a10' a11' a12' a14' a15' a16' a17' : Nat → Int32), (∀ j, j < 96 → a12' j = -1) → (a9' 0 = 17 ∧ a10' 0 = nI 10 ∧ a9' 1 = 20) → post (nc, nh, sz', pd', ts', vs, fr, cl, cd, en, fc', fe', cr', a1, a2, a3, a4, a5, a6, a7, a8, a9', a10', a11', a12', a13, a14', a15', a16', a17', a18, a19, a20, a21, a22, a23, a24, a25, a26, a27, a28)) : wpX_compileAll post (nc, nh, sz, pd, ts, vs, fr, cl, cd, en, fc, fe, cr, a1, a2, a3, a4, a5, a6, a7, a8, a9, a10, a11, a12, a13, a14, a15, a16, a17, a18, a19, a20, a21, a22, a23, a24, a25, a26, a27, a28) (nI 10) := by
  have k10 : a1 10 = 7 := P.1.2.2.2.2.2.2.2.2.2.2
  have A10 : a2 10 = nI 9 := P.2.2.1.2.2.2.2.2.2.2.2.2
  refine cc_compileAll (fun post' a12' hg hp => ?_)
  refine cc_compile ?_
  refine cc_clFun (m := 0) (t := 0) (x := 10) (p := 0) (by omega) (by omega) rfl rfl (by omega) (by omega) (by omega) k10 ?_
  refine cc_clEnd (by omega) (by omega) ?_
  refine hp _ _ _ _ _ _ _ _ _ _ _ _ _ _ _ _ _ _ _ _ _ _ _ _ _ _ _ _ _ _ _ _ _ _ _ _ _ _ _ _ _ ?_
  refine cc_caStep (p := 0 + 1) (x := 10) (y := 9) (by omega) (by omega) rfl (by omega) A10 (fun post'' hp' => ?_)
  refine cc_bodyC (s := 0 + 1 + 1) (by omega) hf ho P (fun ts1 fc1 fe1 cr1 a15x a16x a17x => ?_)
  refine hp' _ _ _ _ _ _ _ _ _ _ _ _ _ _ _ _ _ _ _ _ _ _ _ _ _ _ _ _ _ _ _ _ _ _ _ _ _ _ _ _ _ ?_
  refine cc_caEnd (by omega) (by omega) ?_
  exact H _ _ _ _ _ _ _ _ _ _ _ _ _ _ hg ⟨rfl, rfl, rfl⟩
theorem cc_compA {post : St2 → Prop} {f v o b n11 : Int32} (hf : cc_FV f v) (ho : o = 0 ∨ o = 1 ∨ o = 2) (P : cc_P1 f v o b a1 a2 a3 a4 a5 a6) (k11 : a1 11 = 8) (n11' : a5 11 = n11) (k12 : a1 12 = 4) (A12 : a2 12 = nI 10) (B12 : a3 12 = nI 11)
    (H : ∀ (sz' pd' ts' fc' fe' cr' : Int32) (a9' a10' a11' a12' a14' a15' a16' a17' : Nat → Int32), (∀ j, j < 96 → a12' j = -1) → (a9' 0 = 17 ∧ a10' 0 = nI 10 ∧ a9' 1 = 10 ∧ a10' 1 = n11 ∧ a9' 2 = 4 ∧ a9' 3 = 20) → cc_body 4 f v o b a9' a10' a11' → post (nc, nh, sz', pd', ts', vs, fr, cl, cd, en, fc', fe', cr', a1, a2, a3, a4, a5, a6, a7, a8, a9', a10', a11', a12', a13, a14', a15', a16', a17', a18, a19, a20, a21, a22, a23, a24, a25, a26, a27, a28)) : wpX_compileAll post (nc, nh, sz, pd, ts, vs, fr, cl, cd, en, fc, fe, cr, a1, a2, a3, a4, a5, a6, a7, a8, a9, a10, a11, a12, a13, a14, a15, a16, a17, a18, a19, a20, a21, a22, a23, a24, a25, a26, a27, a28) (nI 12) := by
  have k10 : a1 10 = 7 := P.1.2.2.2.2.2.2.2.2.2.2
  have A10 : a2 10 = nI 9 := P.2.2.1.2.2.2.2.2.2.2.2.2
  refine cc_compileAll (fun post' a12' hg hp => ?_)
  refine cc_compile ?_
  refine cc_clBi0 (y := 10) (t := 0) (x := 12) (by omega) (by omega) rfl rfl (by omega) k12 (by decide) (by decide) A12 ?_
  refine cc_clFun (m := 0) (t := 1) (x := 10) (p := 0) (by omega) (by omega) rfl rfl (by omega) (by omega) (by omega) k10 ?_
  refine cc_clBi1 (y := 11) (t := 0) (x := 12) (by omega) (by omega) rfl rfl (by omega) k12 (by decide) (by decide) (by decide) B12 ?_
  refine cc_clConst (t := 1) (x := 11) (p := 0) (by omega) (by omega) rfl rfl (by omega) (by omega) k11 n11' ?_
  refine cc_clBi2 (t := 0) (x := 12) (by omega) (by omega) rfl rfl (by omega) (by omega) k12 (by decide) (by decide) (by decide) ?_
  refine cc_clEnd (by omega) (by omega) ?_
  refine hp _ _ _ _ _ _ _ _ _ _ _ _ _ _ _ _ _ _ _ _ _ _ _ _ _ _ _ _ _ _ _ _ _ _ _ _ _ _ _ _ _ ?_
  refine cc_caStep (p := 0 + 1) (x := 10) (y := 9) (by omega) (by omega) rfl (by omega) A10 (fun post'' hp' => ?_)
  refine cc_bodyC (s := 0 + 1 + 1 + 1 + 1) (by omega) hf ho P (fun ts1 fc1 fe1 cr1 a15x a16x a17x => ?_)
  refine hp' _ _ _ _ _ _ _ _ _ _ _ _ _ _ _ _ _ _ _ _ _ _ _ _ _ _ _ _ _ _ _ _ _ _ _ _ _ _ _ _ _ ?_
  refine cc_caEnd (by omega) (by omega) ?_
  exact H _ _ _ _ _ _ _ _ _ _ _ _ _ _ hg ⟨rfl, rfl, rfl, rfl, rfl, rfl⟩ ⟨rfl, ⟨rfl, rfl⟩, rfl, rfl, ⟨rfl, rfl⟩, rfl, rfl, rfl, rfl, ⟨rfl, rfl⟩, ⟨rfl, rfl⟩, rfl, rfl⟩
/-- the endless function's program -/
def cc_P2 (f v k : Int32) (a1 a2 a3 a5 a6 : Nat → Int32) : Prop :=
  (a1 0 = 9 ∧ a1 1 = 9 ∧ a1 2 = 4 ∧ a1 3 = 7 ∧ a1 4 = 8 ∧ a1 5 = 4) ∧ (a5 0 = f ∧ a5 1 = v ∧ a5 3 = 4 * f + v ∧ a5 4 = k) ∧
  (a2 2 = nI 0 ∧ a3 2 = nI 1 ∧ a2 3 = nI 2 ∧ a2 5 = nI 3 ∧ a3 5 = nI 4) ∧ (a6 0 = nI 2 ∧ a6 1 = nI 2 ∧ a6 2 = nI 3)
theorem cc_compT {post : St2 → Prop} {f v k : Int32} (hf : cc_FV f v) (P : cc_P2 f v k a1 a2 a3 a5 a6)
    (H : ∀ (sz' pd' ts' fc' fe' cr' : Int32) (a9' a10' a11' a12' a14' a15' a16' a17' : Nat → Int32), (∀ j, j < 96 → a12' j = -1) → (a9' 0 = 17 ∧ a10' 0 = nI 3 ∧ a9' 1 = 10 ∧ a10' 1 = k ∧ a9' 2 = 4 ∧ a9' 4 = 13 ∧ a9' 5 = 12 ∧ a9' 6 = 4 ∧ a11' 3 = nI 4) → post (nc, nh, sz', pd', ts', vs, fr, cl, cd, en, fc', fe', cr', a1, a2, a3, a4, a5, a6, a7, a8, a9', a10', a11', a12', a13, a14', a15', a16', a17', a18, a19, a20, a21, a22, a23, a24, a25, a26, a27, a28)) : wpX_compileAll post (nc, nh, sz, pd, ts, vs, fr, cl, cd, en, fc, fe, cr, a1, a2, a3, a4, a5, a6, a7, a8, a9, a10, a11, a12, a13, a14, a15, a16, a17, a18, a19, a20, a21, a22, a23, a24, a25, a26, a27, a28) (nI 5) := by
  obtain ⟨⟨k0, k1, k2, k3, k4, k5⟩, ⟨n0, n1, n3, n4⟩, ⟨A2, B2, A3, A5, B5⟩, ⟨w0, w1, w2⟩⟩ := P
  obtain ⟨hne, hA, hS, _, _, _, _⟩ := hf
  have A30 : a5 3 &&& 3 = v := by rw [n3]; exact hA
  have S30 : a5 3 >>> ((2 : Int32) &&& 31) = f := by rw [n3]; exact hS
  have N30 : ¬ a5 3 &&& 3 = f := by rw [A30]; exact hne
  have q2 : ¬ a1 2 = 6 ∧ ¬ a1 2 = 7 := by rw [k2]; decide
  have L0 : cc_LK a1 a5 a6 f 0 13 f := cc_lk (cc_loUp 2 (by omega) (by omega) (by omega) w0 q2.1 q2.2 (cc_loSelf 3 (by omega) (by omega) (by omega) w2 k3 N30 S30))
  have L1 : cc_LK a1 a5 a6 v 1 12 v := cc_lk (cc_loUp 2 (by omega) (by omega) (by omega) w1 q2.1 q2.2 (cc_loArg 3 (by omega) (by omega) (by omega) w2 k3 A30))
  refine cc_compileAll (fun post' a12' hg hp => ?_)
  refine cc_compile ?_
  refine cc_clBi0 (y := 3) (t := 0) (x := 5) (by omega) (by omega) rfl rfl (by omega) k5 (by decide) (by decide) A5 ?_
  refine cc_clFun (m := 0) (t := 1) (x := 3) (p := 0) (by omega) (by omega) rfl rfl (by omega) (by omega) (by omega) k3 ?_
  refine cc_clBi1 (y := 4) (t := 0) (x := 5) (by omega) (by omega) rfl rfl (by omega) k5 (by decide) (by decide) (by decide) B5 ?_
  refine cc_clConst (t := 1) (x := 4) (p := 0) (by omega) (by omega) rfl rfl (by omega) (by omega) k4 n4 ?_
  refine cc_clBi2 (t := 0) (x := 5) (by omega) (by omega) rfl rfl (by omega) (by omega) k5 (by decide) (by decide) (by decide) ?_
  refine cc_clEnd (by omega) (by omega) ?_
  refine hp _ _ _ _ _ _ _ _ _ _ _ _ _ _ _ _ _ _ _ _ _ _ _ _ _ _ _ _ _ _ _ _ _ _ _ _ _ _ _ _ _ ?_
  refine cc_caStep (p := 0 + 1) (x := 3) (y := 2) (by omega) (by omega) rfl (by omega) A3 (fun post'' hp' => ?_)
  refine cc_compile ?_
  refine cc_clBi0 (y := 0) (t := 0) (x := 2) (by omega) (by omega) rfl rfl (by omega) k2 (by decide) (by decide) A2 ?_
  refine cc_clName (t := 1) (x := 0) (p := 0) (by omega) (by omega) rfl rfl (by omega) (by omega) k0 n0 L0 ?_
  refine cc_clBi1 (y := 1) (t := 0) (x := 2) (by omega) (by omega) rfl rfl (by omega) k2 (by decide) (by decide) (by decide) B2 ?_
  refine cc_clName (t := 1) (x := 1) (p := 0) (by omega) (by omega) rfl rfl (by omega) (by omega) k1 n1 L1 ?_
  refine cc_clBi2 (t := 0) (x := 2) (by omega) (by omega) rfl rfl (by omega) (by omega) k2 (by decide) (by decide) (by decide) ?_
  refine cc_clEnd (by omega) (by omega) ?_
  refine hp' _ _ _ _ _ _ _ _ _ _ _ _ _ _ _ _ _ _ _ _ _ _ _ _ _ _ _ _ _ _ _ _ _ _ _ _ _ _ _ _ _ ?_
  refine cc_caEnd (by omega) (by omega) ?_
  exact H _ _ _ _ _ _ _ _ _ _ _ _ _ _ hg ⟨rfl, rfl, rfl, rfl, rfl, rfl, rfl, rfl, rfl⟩
theorem cc_compW {post : St2 → Prop} (k20 : a1 20 = 8) (k21 : a1 21 = 7) (k22 : a1 22 = 7) (k23 : a1 23 = 7) (A21 : a2 21 = nI 20) (A22 : a2 22 = nI 21) (A23 : a2 23 = nI 22)
    (H : ∀ (sz' pd' ts' fc' fe' cr' : Int32) (a9' a10' a11' a12' a14' a15' a16' a17' : Nat → Int32), (∀ j, j < 96 → a12' j = -1) → (a9' 0 = 17 ∧ a10' 0 = nI 23 ∧ a9' 1 = 20) → post (nc, nh, sz', pd', ts', vs, fr, cl, cd, en, fc', fe', cr', a1, a2, a3, a4, a5, a6, a7, a8, a9', a10', a11', a12', a13, a14', a15', a16', a17', a18, a19, a20, a21, a22, a23, a24, a25, a26, a27, a28)) : wpX_compileAll post (nc, nh, sz, pd, ts, vs, fr, cl, cd, en, fc, fe, cr, a1, a2, a3, a4, a5, a6, a7, a8, a9, a10, a11, a12, a13, a14, a15, a16, a17, a18, a19, a20, a21, a22, a23, a24, a25, a26, a27, a28) (nI 23) := by
  refine cc_compileAll (fun post' a12' hg hp => ?_)
  refine cc_compile ?_
  refine cc_clFun (m := 0) (t := 0) (x := 23) (p := 0) (by omega) (by omega) rfl rfl (by omega) (by omega) (by omega) k23 ?_
  refine cc_clEnd (by omega) (by omega) ?_
  refine hp _ _ _ _ _ _ _ _ _ _ _ _ _ _ _ _ _ _ _ _ _ _ _ _ _ _ _ _ _ _ _ _ _ _ _ _ _ _ _ _ _ ?_
  refine cc_caStep (p := 0 + 1) (x := 23) (y := 22) (by omega) (by omega) rfl (by omega) A23 (fun post0 hp0 => ?_)
  refine cc_compile ?_
  refine cc_clFun (m := 0 + 1) (t := 0) (x := 22) (p := 0) (by omega) (by omega) rfl rfl (by omega) (by omega) (by omega) k22 ?_
  refine cc_clEnd (by omega) (by omega) ?_
  refine hp0 _ _ _ _ _ _ _ _ _ _ _ _ _ _ _ _ _ _ _ _ _ _ _ _ _ _ _ _ _ _ _ _ _ _ _ _ _ _ _ _ _ ?_
  refine cc_caStep (p := 0 + 1 + 1) (x := 22) (y := 21) (by omega) (by omega) rfl (by omega) A22 (fun post1 hp1 => ?_)
  refine cc_compile ?_
  refine cc_clFun (m := 0 + 1 + 1) (t := 0) (x := 21) (p := 0) (by omega) (by omega) rfl rfl (by omega) (by omega) (by omega) k21 ?_
  refine cc_clEnd (by omega) (by omega) ?_
  refine hp1 _ _ _ _ _ _ _ _ _ _ _ _ _ _ _ _ _ _ _ _ _ _ _ _ _ _ _ _ _ _ _ _ _ _ _ _ _ _ _ _ _ ?_
  refine cc_caStep (p := 0 + 1 + 1 + 1) (x := 21) (y := 20) (by omega) (by omega) rfl (by omega) A21 (fun post2 hp2 => ?_)
  refine cc_compile ?_
  refine cc_clConst (t := 0) (x := 20) (p := 0) (by omega) (by omega) rfl rfl (by omega) (by omega) k20 rfl ?_
  refine cc_clEnd (by omega) (by omega) ?_
  refine hp2 _ _ _ _ _ _ _ _ _ _ _ _ _ _ _ _ _ _ _ _ _ _ _ _ _ _ _ _ _ _ _ _ _ _ _ _ _ _ _ _ _ ?_
  refine cc_caEnd (by omega) (by omega) ?_
  exact H _ _ _ _ _ _ _ _ _ _ _ _ _ _ hg ⟨rfl, rfl, rfl⟩
end
end
section
/-! running: the recursion by induction over its argument, the endless function by the calls left -/
section
variable {nc nh sz pd ts vs fr cl cd en fc fe cr : Int32} {a1 a2 a3 a4 a5 a6 a7 a8 a9 a10 a11 a12 a13 a14 a15 a16 a17 a18 a19 a20 a21 a22 a23 a24 a25 a26 a27 a28 : Nat → Int32}
def cc_fv (o b : Int32) : Nat → Int32
  | 0 => b
  | n + 1 => cc_cmb o (cc_fv o b n) (nI (n + 1))
theorem cc_recA {post : St2 → Prop} {f v o b : Int32} (ho : o = 0 ∨ o = 1 ∨ o = 2) (hb : cc_body 4 f v o b a9 a10 a11) (hcf : a26 0 = nI 10) : ∀ (m : Nat) {n N i q p j r : Nat} (a18 a19 a20 a21 a22 a23 : Nat → Int32), m < 8 → N = n + 4 + 11 * m → i + 4 + 11 * m < 8000 → q < 1000 → p + m < 50 → j + m < 60 → a20 (p + 1) = nI r → a21 (p + 1) = nI 0 → a22 (p + 1) = 0 → a23 (p + 1) = nI m →
    (∀ (a18' a19' a20' a21' a22' a23' : Nat → Int32) (I J : Nat), I = i + 4 + 11 * m → J = j + m → (∀ x, x < q → a18' x = a18 x) → (∀ x, x < q → a19' x = a19 x) → a18' q = 0 → a19' q = cc_fv o b m → (∀ x, x < p + 1 → a20' x = a20 x ∧ a21' x = a21 x ∧ a22' x = a22 x ∧ a23' x = a23 x) → wX_execute_58 post n (nI r) (nI I) nc nh sz pd ts (nI (q + 1)) (nI (p + 1)) cl (nI J) (-1) fc fe cr a1 a2 a3 a4 a5 a6 a7 a8 a9 a10 a11 a12 a13 a14 a15 a16 a17 a18' a19' a20' a21' a22' a23' a24 a25 a26 a27 a28) →
    wX_execute_58 post N (nI 4) (nI i) nc nh sz pd ts (nI q) (nI (p + 2)) cl (nI j) (-1) fc fe cr a1 a2 a3 a4 a5 a6 a7 a8 a9 a10 a11 a12 a13 a14 a15 a16 a17 a18 a19 a20 a21 a22 a23 a24 a25 a26 a27 a28 := by
  obtain ⟨c0, ⟨c1, x1⟩, c2, c3, ⟨c4, x4⟩, c5, c6, c7, c8, ⟨c9, x9⟩, ⟨c10, x10⟩, c11, e10⟩ := hb
  intro m
  induction m with
  | zero =>
    intro n N i q p j r a18 a19 a20 a21 a22 a23 hm hN hi hq hp hj r20 r21 r22 r23 H
    subst hN
    refine cc_v12 (f := p + 1) (by omega) (by omega) c0 (by omega) (by omega) r22 r23 (by decide) ?_
    refine cc_v18z (k := 5) (m := 14) (by omega) (by omega) c1 x1 (by omega) pk_us pk_us ?_
    refine cc_v10 (k := 14) (by omega) (by omega) c10 x10 (by omega) ?_
    refine cc_v20 (k := 15) (f := p) (by omega) (by omega) c11 (by omega) r20 ?_
    refine H _ _ _ _ _ _ _ _ (by omega) rfl (fun x hx => ?_) (fun x hx => ?_) pk_us pk_us (fun x hx => ⟨rfl, rfl, rfl, rfl⟩)
    · rw [pk_un (by omega), pk_un (by omega)]
    · rw [pk_un (by omega), pk_un (by omega)]
  | succ m ih =>
    intro n N i q p j r a18 a19 a20 a21 a22 a23 hm hN hi hq hp hj r20 r21 r22 r23 H
    have hN' : N = n + 4 + 4 + 11 * m + 7 := by omega
    subst hN'
    refine cc_v12 (f := p + 1) (by omega) (by omega) c0 (by omega) (by omega) r22 r23 (by decide) ?_
    refine cc_v18n (k := 5) (by omega) (by omega) c1 (by omega) pk_us (by rw [pk_us]; exact nI_ne0 (by omega) (by omega)) ?_
    refine cc_v13 (k := 6) (f := p + 1) (by omega) (by omega) c2 (by omega) (by omega) r21 ?_
    refine cc_v12 (k := 7) (f := p + 1) (by omega) (by omega) c3 (by omega) (by omega) r22 r23 (by decide) ?_
    refine cc_v10 (k := 8) (by omega) (by omega) c4 x4 (by omega) ?_
    refine cc_vOp (k := 9) (v := q + 1) (x := nI (m + 1)) (y := -1) (by omega) (by omega) c5 (Or.inl rfl) (by omega) (by rw [pk_un (by omega), pk_us]) pk_us (by rw [pk_un (by omega), pk_us]) pk_us ?_
    have hsub : cc_cmb 0 (nI (m + 1)) (-1) = nI m := pk_m1 m
    refine cc_v4 (k := 10) (v := q) (f := p + 2) (c := 0) (x := 10) (m := 4) (t := 0) (d := nI m) (by omega) (by omega) c6 (by omega) (by omega) (by omega) (by rw [pk_un (by omega), pk_un (by omega), pk_un (by omega), pk_us]) (by rw [pk_un (by omega), pk_un (by omega), pk_un (by omega), pk_us]) (by omega) pk_us (by rw [pk_us]; exact hsub) hcf (by omega) e10 ?_
    refine ih (p := p + 1) (r := 11) _ _ _ _ _ _ (by omega) rfl (by omega) (by omega) (by omega) (by omega) pk_us pk_us pk_us pk_us (fun b18 b19 b20 b21 b22 b23 I J hI hJ s18 s19 t18 t19 sf => ?_)
    have sf1 := sf (p + 1) (by omega)
    rw [pk_un (show p + 1 ≠ p + 2 by omega), pk_un (show p + 1 ≠ p + 2 by omega), pk_un (show p + 1 ≠ p + 2 by omega), pk_un (show p + 1 ≠ p + 2 by omega)] at sf1
    refine cc_v12 (k := 11) (f := p + 1) (by omega) (by omega) c7 (by omega) (by omega) (sf1.2.2.1.trans r22) (sf1.2.2.2.trans r23) (by decide) ?_
    refine cc_vOp (k := 12) (v := q) (x := cc_fv o b m) (y := nI (m + 1)) (by omega) (by omega) c8 ho (by omega) (by rw [pk_un (by omega)]; exact t18) pk_us (by rw [pk_un (by omega)]; exact t19) pk_us ?_
    refine cc_v19 (k := 13) (m := 15) (by omega) (by omega) c9 x9 ?_
    refine cc_v20 (k := 15) (f := p) (by omega) (by omega) c11 (by omega) (sf1.1.trans r20) ?_
    refine H _ _ _ _ _ _ _ _ (by omega) (by omega) (fun x hx => ?_) (fun x hx => ?_) pk_us pk_us (fun x hx => ?_)
    · rw [pk_un (by omega), pk_un (by omega), s18 x hx, pk_un (by omega), pk_un (by omega), pk_un (by omega), pk_un (by omega), pk_un (by omega)]
    · rw [pk_un (by omega), pk_un (by omega), s19 x hx, pk_un (by omega), pk_un (by omega), pk_un (by omega), pk_un (by omega), pk_un (by omega)]
    · have h := sf x (by omega)
      rw [pk_un (show x ≠ p + 2 by omega), pk_un (show x ≠ p + 2 by omega), pk_un (show x ≠ p + 2 by omega), pk_un (show x ≠ p + 2 by omega)] at h
      exact h
theorem cc_recT {post : St2 → Prop} {kk : Int32} (c4 : a9 4 = 13) (c5 : a9 5 = 12) (c6 : a9 6 = 4) (e3 : a11 3 = nI 4) (hcf : a26 0 = nI 3) : ∀ (d : Nat) {N i j : Nat} (a18 a19 a20 a21 a22 a23 : Nat → Int32), j + d = 60 → N = 3 * d + 4 → i + 3 * d + 4 < 8000 → a21 j = nI 0 → a22 j = 0 → a23 j = kk →
    (∀ (fr' : Int32) (a18' a19' a20' a21' a22' a23' : Nat → Int32), post (nc, nh, sz, pd, ts, nI 0, fr', cl, nI 60, 3, fc, fe, cr, a1, a2, a3, a4, a5, a6, a7, a8, a9, a10, a11, a12, a13, a14, a15, a16, a17, a18', a19', a20', a21', a22', a23', a24, a25, a26, a27, a28)) →
    wX_execute_58 post N (nI 4) (nI i) nc nh sz pd ts (nI 0) (nI (j + 1)) cl (nI j) (-1) fc fe cr a1 a2 a3 a4 a5 a6 a7 a8 a9 a10 a11 a12 a13 a14 a15 a16 a17 a18 a19 a20 a21 a22 a23 a24 a25 a26 a27 a28 := by
  intro d
  induction d with
  | zero =>
    intro N i j a18 a19 a20 a21 a22 a23 hj hN hi r21 r22 r23 H
    have hj' : j = 60 := by omega
    subst hN hj'
    refine cc_v13 (k := 4) (f := 60) (by omega) (by omega) c4 (by omega) (by omega) r21 ?_
    refine cc_v12 (k := 5) (f := 60) (by omega) (by omega) c5 (by omega) (by omega) r22 r23 (by decide) ?_
    exact cc_v4t (k := 6) (v := 0) (by omega) (by omega) c6 (by omega) (by rw [pk_un (by omega), pk_us]) (H _ _ _ _ _ _ _)
  | succ d ih =>
    intro N i j a18 a19 a20 a21 a22 a23 hj hN hi r21 r22 r23 H
    have hN' : N = 3 * d + 4 + 3 := by omega
    subst hN'
    refine cc_v13 (k := 4) (f := j) (by omega) (by omega) c4 (by omega) (by omega) r21 ?_
    refine cc_v12 (k := 5) (f := j) (by omega) (by omega) c5 (by omega) (by omega) r22 r23 (by decide) ?_
    refine cc_v4 (k := 6) (v := 0) (f := j + 1) (c := 0) (x := 3) (m := 4) (t := 0) (d := kk) (by omega) (by omega) c6 (by omega) (by omega) (by omega) (by rw [pk_un (by omega), pk_us]) (by rw [pk_un (by omega), pk_us]) (by omega) pk_us pk_us hcf (by omega) e3 ?_
    exact ih (j := j + 1) _ _ _ _ _ _ (by omega) rfl (by omega) pk_us pk_us pk_us H
/-- the machine's start, as execute leaves it -/
theorem cc_goC {post : St2 → Prop} {x : Nat} (hx : x < 24) (hg : ∀ j, j < 96 → a12 j = -1) (hc : a9 0 = 17 ∧ a10 0 = nI x ∧ a9 1 = 20)
    (H : ∀ (vs' fr' cd' : Int32) (a18' a19' a20' a21' a22' a23' a26' a27' : Nat → Int32), post (nc, nh, sz, pd, ts, vs', fr', nI 1, cd', 1, fc, fe, cr, a1, a2, a3, a4, a5, a6, a7, a8, a9, a10, a11, a12, a13, a14, a15, a16, a17, a18', a19', a20', a21', a22', a23', a24, a25, a26', a27', a28)) : wX_execute_58 post 3 0 0 nc nh sz pd ts 0 1 0 0 (-1) fc fe cr a1 a2 a3 a4 a5 a6 a7 a8 a9 a10 a11 a12 a13 a14 a15 a16 a17 a18 a19 a20 a21 a22 a23 a24 a25 a26 a27 a28 := by
  refine cc_v17 (i := 0) (v := 0) (k := 0) (x := x) (by omega) (by omega) hc.1 hc.2.1 hx hg (by omega) ?_
  exact cc_v20e (n := 0) (k := 1) (v := 0) (t := 1) (by omega) (by omega) hc.2.2 (by omega) pk_us (by decide) (H _ _ _ _ _ _ _ _ _ _ _)
theorem cc_goA {post : St2 → Prop} {f v o b : Int32} {m : Nat} (hm : m < 8) (ho : o = 0 ∨ o = 1 ∨ o = 2) (hg : ∀ j, j < 96 → a12 j = -1) (hc : a9 0 = 17 ∧ a10 0 = nI 10 ∧ a9 1 = 10 ∧ a10 1 = nI m ∧ a9 2 = 4 ∧ a9 3 = 20) (hb : cc_body 4 f v o b a9 a10 a11)
    (H : ∀ (fr' : Int32) (a18' a19' a20' a21' a22' a23' a26' a27' : Nat → Int32), a19' 0 = cc_fv o b m → post (nc, nh, sz, pd, ts, nI 1, fr', nI 1, nI (m + 1), 0, fc, fe, cr, a1, a2, a3, a4, a5, a6, a7, a8, a9, a10, a11, a12, a13, a14, a15, a16, a17, a18', a19', a20', a21', a22', a23', a24, a25, a26', a27', a28)) : wX_execute_58 post (2 + 4 + 11 * m + 3) 0 0 nc nh sz pd ts 0 1 0 0 (-1) fc fe cr a1 a2 a3 a4 a5 a6 a7 a8 a9 a10 a11 a12 a13 a14 a15 a16 a17 a18 a19 a20 a21 a22 a23 a24 a25 a26 a27 a28 := by
  obtain ⟨c0, x0, c1, x1, c2, c3⟩ := hc
  have e10 : a11 10 = nI 4 := hb.2.2.2.2.2.2.2.2.2.2.2.2
  refine cc_v17 (i := 0) (v := 0) (k := 0) (x := 10) (by omega) (by omega) c0 x0 (by omega) hg (by omega) ?_
  refine cc_v10 (k := 1) (by omega) (by omega) c1 x1 (by omega) ?_
  refine cc_v4 (k := 2) (v := 0) (f := 1) (c := 0) (x := 10) (m := 4) (t := 0) (d := nI m) (j := 0) (by omega) (by omega) c2 (by omega) (by omega) (by omega) (by rw [pk_un (by omega), pk_us]) (by rw [pk_un (by omega), pk_us]) (by omega) pk_us pk_us pk_us (by omega) e10 ?_
  refine cc_recA (n := 2) (p := 0) (r := 3) (j := 1) (q := 0) ho hb pk_us m _ _ _ _ _ _ hm rfl (by omega) (by omega) (by omega) (by omega) pk_us pk_us pk_us pk_us (fun b18 b19 b20 b21 b22 b23 I J hI hJ s18 s19 t18 t19 sf => ?_)
  have hJ' : J = m + 1 := by omega
  subst hJ'
  exact cc_v20e (n := 0) (k := 3) (v := 0) (t := 0) (by omega) (by omega) c3 (by omega) t18 (by decide) (H _ _ _ _ _ _ _ _ _ t19)
theorem cc_goT {post : St2 → Prop} {kk : Int32} (hg : ∀ j, j < 96 → a12 j = -1) (hc : a9 0 = 17 ∧ a10 0 = nI 3 ∧ a9 1 = 10 ∧ a10 1 = kk ∧ a9 2 = 4 ∧ a9 4 = 13 ∧ a9 5 = 12 ∧ a9 6 = 4 ∧ a11 3 = nI 4)
    (H : ∀ (fr' : Int32) (a18' a19' a20' a21' a22' a23' a26' a27' : Nat → Int32), post (nc, nh, sz, pd, ts, nI 0, fr', nI 1, nI 60, 3, fc, fe, cr, a1, a2, a3, a4, a5, a6, a7, a8, a9, a10, a11, a12, a13, a14, a15, a16, a17, a18', a19', a20', a21', a22', a23', a24, a25, a26', a27', a28)) : wX_execute_58 post 184 0 0 nc nh sz pd ts 0 1 0 0 (-1) fc fe cr a1 a2 a3 a4 a5 a6 a7 a8 a9 a10 a11 a12 a13 a14 a15 a16 a17 a18 a19 a20 a21 a22 a23 a24 a25 a26 a27 a28 := by
  obtain ⟨c0, x0, c1, x1, c2, c4, c5, c6, e3⟩ := hc
  refine cc_v17 (i := 0) (v := 0) (k := 0) (x := 3) (by omega) (by omega) c0 x0 (by omega) hg (by omega) ?_
  refine cc_v10 (k := 1) (by omega) (by omega) c1 x1 (by omega) ?_
  refine cc_v4 (k := 2) (v := 0) (f := 1) (c := 0) (x := 3) (m := 4) (t := 0) (d := kk) (j := 0) (by omega) (by omega) c2 (by omega) (by omega) (by omega) (by rw [pk_un (by omega), pk_us]) (by rw [pk_un (by omega), pk_us]) (by omega) pk_us pk_us pk_us (by omega) e3 ?_
  exact cc_recT (kk := kk) c4 c5 c6 e3 pk_us 59 _ _ _ _ _ _ (by omega) (by omega) (by omega) pk_us pk_us pk_us (fun fr1 b18 b19 b20 b21 b22 b23 => H _ _ _ _ _ _ _ _ _)
end
end
section
/-! execute over the law's programs, and what run, value, calls, closures answer -/
section
variable {nc nh sz pd ts vs fr cl cd en fc fe cr : Int32} {a1 a2 a3 a4 a5 a6 a7 a8 a9 a10 a11 a12 a13 a14 a15 a16 a17 a18 a19 a20 a21 a22 a23 a24 a25 a26 a27 a28 : Nat → Int32}
theorem cc_exC {post : St2 → Prop} {f v o b : Int32} {h : Nat} (hh : h < 6) (e8 : a8 h = nI 10) (hf : cc_FV f v) (ho : o = 0 ∨ o = 1 ∨ o = 2) (P : cc_P1 f v o b a1 a2 a3 a4 a5 a6)
    (H : ∀ (sz' pd' ts' vs' fr' cl' cd' en' fc' fe' cr' : Int32) (a9' a10' a11' a12' a13' a14' a15' a16' a17' a18' a19' a20' a21' a22' a23' a24' a25' a26' a27' a28' : Nat → Int32), cl' = nI 1 → en' = 1 → post (nc, nI (h + 1), sz', pd', ts', vs', fr', cl', cd', en', fc', fe', cr', a1, a2, a3, a4, a5, a6, a7, a8, a9', a10', a11', a12', a13', a14', a15', a16', a17', a18', a19', a20', a21', a22', a23', a24', a25', a26', a27', a28')) : wpX_execute post (nc, nI (h + 1), sz, pd, ts, vs, fr, cl, cd, en, fc, fe, cr, a1, a2, a3, a4, a5, a6, a7, a8, a9, a10, a11, a12, a13, a14, a15, a16, a17, a18, a19, a20, a21, a22, a23, a24, a25, a26, a27, a28) := by
  have e : a8 (nI (h + 1) - 1).toNatClampNeg = nI 10 := cc_at (nI_pred h) (by omega) e8
  refine ⟨cc_in (nI_pred h) hh (by omega), ?_⟩
  rw [e]
  refine cc_compC hf ho P (fun _ _ _ _ _ _ _ _ _ _ _ _ _ _ hg hc => ?_)
  refine nm_e (nm_e ⟨3, ?_⟩)
  exact cc_goC (x := 10) (by omega) hg hc (fun _ _ _ _ _ _ _ _ _ _ _ => H _ _ _ _ _ _ _ _ _ _ _ _ _ _ _ _ _ _ _ _ _ _ _ _ _ _ _ _ _ _ _ rfl rfl)
theorem cc_exA {post : St2 → Prop} {f v o b : Int32} {h m : Nat} (hh : h < 6) (e8 : a8 h = nI 12) (hm : m < 8) (hf : cc_FV f v) (ho : o = 0 ∨ o = 1 ∨ o = 2) (P : cc_P1 f v o b a1 a2 a3 a4 a5 a6) (k11 : a1 11 = 8) (n11 : a5 11 = nI m) (k12 : a1 12 = 4) (A12 : a2 12 = nI 10) (B12 : a3 12 = nI 11)
    (H : ∀ (sz' pd' ts' vs' fr' cl' cd' en' fc' fe' cr' : Int32) (a9' a10' a11' a12' a13' a14' a15' a16' a17' a18' a19' a20' a21' a22' a23' a24' a25' a26' a27' a28' : Nat → Int32), cl' = nI 1 → en' = 0 → cd' = nI (m + 1) → vs' = nI 1 → a19' 0 = cc_fv o b m → post (nc, nI (h + 1), sz', pd', ts', vs', fr', cl', cd', en', fc', fe', cr', a1, a2, a3, a4, a5, a6, a7, a8, a9', a10', a11', a12', a13', a14', a15', a16', a17', a18', a19', a20', a21', a22', a23', a24', a25', a26', a27', a28')) : wpX_execute post (nc, nI (h + 1), sz, pd, ts, vs, fr, cl, cd, en, fc, fe, cr, a1, a2, a3, a4, a5, a6, a7, a8, a9, a10, a11, a12, a13, a14, a15, a16, a17, a18, a19, a20, a21, a22, a23, a24, a25, a26, a27, a28) := by
  have e : a8 (nI (h + 1) - 1).toNatClampNeg = nI 12 := cc_at (nI_pred h) (by omega) e8
  refine ⟨cc_in (nI_pred h) hh (by omega), ?_⟩
  rw [e]
  refine cc_compA hf ho P k11 n11 k12 A12 B12 (fun _ _ _ _ _ _ _ _ _ _ _ _ _ _ hg hc hb => ?_)
  refine nm_e (nm_e ⟨2 + 4 + 11 * m + 3, ?_⟩)
  exact cc_goA hm ho hg hc hb (fun _ _ _ _ _ _ _ _ _ e => H _ _ _ _ _ _ _ _ _ _ _ _ _ _ _ _ _ _ _ _ _ _ _ _ _ _ _ _ _ _ _ rfl rfl rfl rfl e)
theorem cc_exT {post : St2 → Prop} {f v k : Int32} {h : Nat} (hh : h < 6) (e8 : a8 h = nI 5) (hf : cc_FV f v) (P : cc_P2 f v k a1 a2 a3 a5 a6)
    (H : ∀ (sz' pd' ts' vs' fr' cl' cd' en' fc' fe' cr' : Int32) (a9' a10' a11' a12' a13' a14' a15' a16' a17' a18' a19' a20' a21' a22' a23' a24' a25' a26' a27' a28' : Nat → Int32), cl' = nI 1 → en' = 3 → cd' = nI 60 → post (nc, nI (h + 1), sz', pd', ts', vs', fr', cl', cd', en', fc', fe', cr', a1, a2, a3, a4, a5, a6, a7, a8, a9', a10', a11', a12', a13', a14', a15', a16', a17', a18', a19', a20', a21', a22', a23', a24', a25', a26', a27', a28')) : wpX_execute post (nc, nI (h + 1), sz, pd, ts, vs, fr, cl, cd, en, fc, fe, cr, a1, a2, a3, a4, a5, a6, a7, a8, a9, a10, a11, a12, a13, a14, a15, a16, a17, a18, a19, a20, a21, a22, a23, a24, a25, a26, a27, a28) := by
  have e : a8 (nI (h + 1) - 1).toNatClampNeg = nI 5 := cc_at (nI_pred h) (by omega) e8
  refine ⟨cc_in (nI_pred h) hh (by omega), ?_⟩
  rw [e]
  refine cc_compT hf P (fun _ _ _ _ _ _ _ _ _ _ _ _ _ _ hg hc => ?_)
  refine nm_e (nm_e ⟨184, ?_⟩)
  exact cc_goT hg hc (fun _ _ _ _ _ _ _ _ _ => H _ _ _ _ _ _ _ _ _ _ _ _ _ _ _ _ _ _ _ _ _ _ _ _ _ _ _ _ _ _ _ rfl rfl rfl)
theorem cc_exW {post : St2 → Prop} {h : Nat} (hh : h < 6) (e8 : a8 h = nI 23) (k20 : a1 20 = 8) (k21 : a1 21 = 7) (k22 : a1 22 = 7) (k23 : a1 23 = 7) (A21 : a2 21 = nI 20) (A22 : a2 22 = nI 21) (A23 : a2 23 = nI 22)
    (H : ∀ (sz' pd' ts' vs' fr' cl' cd' en' fc' fe' cr' : Int32) (a9' a10' a11' a12' a13' a14' a15' a16' a17' a18' a19' a20' a21' a22' a23' a24' a25' a26' a27' a28' : Nat → Int32), cl' = nI 1 → en' = 1 → post (nc, nI (h + 1), sz', pd', ts', vs', fr', cl', cd', en', fc', fe', cr', a1, a2, a3, a4, a5, a6, a7, a8, a9', a10', a11', a12', a13', a14', a15', a16', a17', a18', a19', a20', a21', a22', a23', a24', a25', a26', a27', a28')) : wpX_execute post (nc, nI (h + 1), sz, pd, ts, vs, fr, cl, cd, en, fc, fe, cr, a1, a2, a3, a4, a5, a6, a7, a8, a9, a10, a11, a12, a13, a14, a15, a16, a17, a18, a19, a20, a21, a22, a23, a24, a25, a26, a27, a28) := by
  have e : a8 (nI (h + 1) - 1).toNatClampNeg = nI 23 := cc_at (nI_pred h) (by omega) e8
  refine ⟨cc_in (nI_pred h) hh (by omega), ?_⟩
  rw [e]
  refine cc_compW k20 k21 k22 k23 A21 A22 A23 (fun _ _ _ _ _ _ _ _ _ _ _ _ _ _ hg hc => ?_)
  refine nm_e (nm_e ⟨3, ?_⟩)
  exact cc_goC (x := 23) (by omega) hg hc (fun _ _ _ _ _ _ _ _ _ _ _ => H _ _ _ _ _ _ _ _ _ _ _ _ _ _ _ _ _ _ _ _ _ _ _ _ _ _ _ _ _ _ _ rfl rfl)
theorem cc_runC {post : Int32 → St2 → Prop} {f v o b : Int32} {h : Nat} (hh : h < 6) (e8 : a8 h = nI 10) (hf : cc_FV f v) (ho : o = 0 ∨ o = 1 ∨ o = 2) (P : cc_P1 f v o b a1 a2 a3 a4 a5 a6)
    (H : ∀ (sz' pd' ts' vs' fr' cl' cd' en' fc' fe' cr' : Int32) (a9' a10' a11' a12' a13' a14' a15' a16' a17' a18' a19' a20' a21' a22' a23' a24' a25' a26' a27' a28' : Nat → Int32), post (1) (nc, nI (h + 1), sz', pd', ts', vs', fr', cl', cd', en', fc', fe', cr', a1, a2, a3, a4, a5, a6, a7, a8, a9', a10', a11', a12', a13', a14', a15', a16', a17', a18', a19', a20', a21', a22', a23', a24', a25', a26', a27', a28')) : wpX_run post (nc, nI (h + 1), sz, pd, ts, vs, fr, cl, cd, en, fc, fe, cr, a1, a2, a3, a4, a5, a6, a7, a8, a9, a10, a11, a12, a13, a14, a15, a16, a17, a18, a19, a20, a21, a22, a23, a24, a25, a26, a27, a28) := by
  refine br_f (nI_ne0 (by omega) (by omega)) (cc_exC hh e8 hf ho P (fun sz' pd' ts' vs' fr' cl' cd' en' fc' fe' cr' a9' a10' a11' a12' a13' a14' a15' a16' a17' a18' a19' a20' a21' a22' a23' a24' a25' a26' a27' a28' h0 h1 => ?_))
  subst h1
  exact H _ _ _ _ _ _ _ _ _ _ _ _ _ _ _ _ _ _ _ _ _ _ _ _ _ _ _ _ _ _ _
theorem cc_runA {post : Int32 → St2 → Prop} {f v o b : Int32} {h m : Nat} (hh : h < 6) (e8 : a8 h = nI 12) (hm : m < 8) (hf : cc_FV f v) (ho : o = 0 ∨ o = 1 ∨ o = 2) (P : cc_P1 f v o b a1 a2 a3 a4 a5 a6) (k11 : a1 11 = 8) (n11 : a5 11 = nI m) (k12 : a1 12 = 4) (A12 : a2 12 = nI 10) (B12 : a3 12 = nI 11)
    (H : ∀ (sz' pd' ts' vs' fr' cl' cd' en' fc' fe' cr' : Int32) (a9' a10' a11' a12' a13' a14' a15' a16' a17' a18' a19' a20' a21' a22' a23' a24' a25' a26' a27' a28' : Nat → Int32), post (0) (nc, nI (h + 1), sz', pd', ts', vs', fr', cl', cd', en', fc', fe', cr', a1, a2, a3, a4, a5, a6, a7, a8, a9', a10', a11', a12', a13', a14', a15', a16', a17', a18', a19', a20', a21', a22', a23', a24', a25', a26', a27', a28')) : wpX_run post (nc, nI (h + 1), sz, pd, ts, vs, fr, cl, cd, en, fc, fe, cr, a1, a2, a3, a4, a5, a6, a7, a8, a9, a10, a11, a12, a13, a14, a15, a16, a17, a18, a19, a20, a21, a22, a23, a24, a25, a26, a27, a28) := by
  refine br_f (nI_ne0 (by omega) (by omega)) (cc_exA hh e8 hm hf ho P k11 n11 k12 A12 B12 (fun sz' pd' ts' vs' fr' cl' cd' en' fc' fe' cr' a9' a10' a11' a12' a13' a14' a15' a16' a17' a18' a19' a20' a21' a22' a23' a24' a25' a26' a27' a28' h0 h1 h2 h3 h4 => ?_))
  subst h1
  exact H _ _ _ _ _ _ _ _ _ _ _ _ _ _ _ _ _ _ _ _ _ _ _ _ _ _ _ _ _ _ _
theorem cc_runT {post : Int32 → St2 → Prop} {f v k : Int32} {h : Nat} (hh : h < 6) (e8 : a8 h = nI 5) (hf : cc_FV f v) (P : cc_P2 f v k a1 a2 a3 a5 a6)
    (H : ∀ (sz' pd' ts' vs' fr' cl' cd' en' fc' fe' cr' : Int32) (a9' a10' a11' a12' a13' a14' a15' a16' a17' a18' a19' a20' a21' a22' a23' a24' a25' a26' a27' a28' : Nat → Int32), post (3) (nc, nI (h + 1), sz', pd', ts', vs', fr', cl', cd', en', fc', fe', cr', a1, a2, a3, a4, a5, a6, a7, a8, a9', a10', a11', a12', a13', a14', a15', a16', a17', a18', a19', a20', a21', a22', a23', a24', a25', a26', a27', a28')) : wpX_run post (nc, nI (h + 1), sz, pd, ts, vs, fr, cl, cd, en, fc, fe, cr, a1, a2, a3, a4, a5, a6, a7, a8, a9, a10, a11, a12, a13, a14, a15, a16, a17, a18, a19, a20, a21, a22, a23, a24, a25, a26, a27, a28) := by
  refine br_f (nI_ne0 (by omega) (by omega)) (cc_exT hh e8 hf P (fun sz' pd' ts' vs' fr' cl' cd' en' fc' fe' cr' a9' a10' a11' a12' a13' a14' a15' a16' a17' a18' a19' a20' a21' a22' a23' a24' a25' a26' a27' a28' h0 h1 h2 => ?_))
  subst h1
  exact H _ _ _ _ _ _ _ _ _ _ _ _ _ _ _ _ _ _ _ _ _ _ _ _ _ _ _ _ _ _ _
theorem cc_runW {post : Int32 → St2 → Prop} {h : Nat} (hh : h < 6) (e8 : a8 h = nI 23) (k20 : a1 20 = 8) (k21 : a1 21 = 7) (k22 : a1 22 = 7) (k23 : a1 23 = 7) (A21 : a2 21 = nI 20) (A22 : a2 22 = nI 21) (A23 : a2 23 = nI 22)
    (H : ∀ (sz' pd' ts' vs' fr' cl' cd' en' fc' fe' cr' : Int32) (a9' a10' a11' a12' a13' a14' a15' a16' a17' a18' a19' a20' a21' a22' a23' a24' a25' a26' a27' a28' : Nat → Int32), post (1) (nc, nI (h + 1), sz', pd', ts', vs', fr', cl', cd', en', fc', fe', cr', a1, a2, a3, a4, a5, a6, a7, a8, a9', a10', a11', a12', a13', a14', a15', a16', a17', a18', a19', a20', a21', a22', a23', a24', a25', a26', a27', a28')) : wpX_run post (nc, nI (h + 1), sz, pd, ts, vs, fr, cl, cd, en, fc, fe, cr, a1, a2, a3, a4, a5, a6, a7, a8, a9, a10, a11, a12, a13, a14, a15, a16, a17, a18, a19, a20, a21, a22, a23, a24, a25, a26, a27, a28) := by
  refine br_f (nI_ne0 (by omega) (by omega)) (cc_exW hh e8 k20 k21 k22 k23 A21 A22 A23 (fun sz' pd' ts' vs' fr' cl' cd' en' fc' fe' cr' a9' a10' a11' a12' a13' a14' a15' a16' a17' a18' a19' a20' a21' a22' a23' a24' a25' a26' a27' a28' h0 h1 => ?_))
  subst h1
  exact H _ _ _ _ _ _ _ _ _ _ _ _ _ _ _ _ _ _ _ _ _ _ _ _ _ _ _ _ _ _ _
theorem cc_callsA {post : Int32 → St2 → Prop} {f v o b : Int32} {h m : Nat} (hh : h < 6) (e8 : a8 h = nI 12) (hm : m < 8) (hf : cc_FV f v) (ho : o = 0 ∨ o = 1 ∨ o = 2) (P : cc_P1 f v o b a1 a2 a3 a4 a5 a6) (k11 : a1 11 = 8) (n11 : a5 11 = nI m) (k12 : a1 12 = 4) (A12 : a2 12 = nI 10) (B12 : a3 12 = nI 11)
    (H : ∀ (sz' pd' ts' vs' fr' cl' cd' en' fc' fe' cr' : Int32) (a9' a10' a11' a12' a13' a14' a15' a16' a17' a18' a19' a20' a21' a22' a23' a24' a25' a26' a27' a28' : Nat → Int32), post (nI (m + 1)) (nc, nI (h + 1), sz', pd', ts', vs', fr', cl', cd', en', fc', fe', cr', a1, a2, a3, a4, a5, a6, a7, a8, a9', a10', a11', a12', a13', a14', a15', a16', a17', a18', a19', a20', a21', a22', a23', a24', a25', a26', a27', a28')) : wpX_calls post (nc, nI (h + 1), sz, pd, ts, vs, fr, cl, cd, en, fc, fe, cr, a1, a2, a3, a4, a5, a6, a7, a8, a9, a10, a11, a12, a13, a14, a15, a16, a17, a18, a19, a20, a21, a22, a23, a24, a25, a26, a27, a28) := by
  refine br_f (nI_ne0 (by omega) (by omega)) (cc_exA hh e8 hm hf ho P k11 n11 k12 A12 B12 (fun sz' pd' ts' vs' fr' cl' cd' en' fc' fe' cr' a9' a10' a11' a12' a13' a14' a15' a16' a17' a18' a19' a20' a21' a22' a23' a24' a25' a26' a27' a28' h0 h1 h2 h3 h4 => ?_))
  subst h2
  exact H _ _ _ _ _ _ _ _ _ _ _ _ _ _ _ _ _ _ _ _ _ _ _ _ _ _ _ _ _ _ _
theorem cc_callsT {post : Int32 → St2 → Prop} {f v k : Int32} {h : Nat} (hh : h < 6) (e8 : a8 h = nI 5) (hf : cc_FV f v) (P : cc_P2 f v k a1 a2 a3 a5 a6)
    (H : ∀ (sz' pd' ts' vs' fr' cl' cd' en' fc' fe' cr' : Int32) (a9' a10' a11' a12' a13' a14' a15' a16' a17' a18' a19' a20' a21' a22' a23' a24' a25' a26' a27' a28' : Nat → Int32), post (nI 60) (nc, nI (h + 1), sz', pd', ts', vs', fr', cl', cd', en', fc', fe', cr', a1, a2, a3, a4, a5, a6, a7, a8, a9', a10', a11', a12', a13', a14', a15', a16', a17', a18', a19', a20', a21', a22', a23', a24', a25', a26', a27', a28')) : wpX_calls post (nc, nI (h + 1), sz, pd, ts, vs, fr, cl, cd, en, fc, fe, cr, a1, a2, a3, a4, a5, a6, a7, a8, a9, a10, a11, a12, a13, a14, a15, a16, a17, a18, a19, a20, a21, a22, a23, a24, a25, a26, a27, a28) := by
  refine br_f (nI_ne0 (by omega) (by omega)) (cc_exT hh e8 hf P (fun sz' pd' ts' vs' fr' cl' cd' en' fc' fe' cr' a9' a10' a11' a12' a13' a14' a15' a16' a17' a18' a19' a20' a21' a22' a23' a24' a25' a26' a27' a28' h0 h1 h2 => ?_))
  subst h2
  exact H _ _ _ _ _ _ _ _ _ _ _ _ _ _ _ _ _ _ _ _ _ _ _ _ _ _ _ _ _ _ _
theorem cc_closA {post : Int32 → St2 → Prop} {f v o b : Int32} {h m : Nat} (hh : h < 6) (e8 : a8 h = nI 12) (hm : m < 8) (hf : cc_FV f v) (ho : o = 0 ∨ o = 1 ∨ o = 2) (P : cc_P1 f v o b a1 a2 a3 a4 a5 a6) (k11 : a1 11 = 8) (n11 : a5 11 = nI m) (k12 : a1 12 = 4) (A12 : a2 12 = nI 10) (B12 : a3 12 = nI 11)
    (H : ∀ (sz' pd' ts' vs' fr' cl' cd' en' fc' fe' cr' : Int32) (a9' a10' a11' a12' a13' a14' a15' a16' a17' a18' a19' a20' a21' a22' a23' a24' a25' a26' a27' a28' : Nat → Int32), post (nI 1) (nc, nI (h + 1), sz', pd', ts', vs', fr', cl', cd', en', fc', fe', cr', a1, a2, a3, a4, a5, a6, a7, a8, a9', a10', a11', a12', a13', a14', a15', a16', a17', a18', a19', a20', a21', a22', a23', a24', a25', a26', a27', a28')) : wpX_closures post (nc, nI (h + 1), sz, pd, ts, vs, fr, cl, cd, en, fc, fe, cr, a1, a2, a3, a4, a5, a6, a7, a8, a9, a10, a11, a12, a13, a14, a15, a16, a17, a18, a19, a20, a21, a22, a23, a24, a25, a26, a27, a28) := by
  refine br_f (nI_ne0 (by omega) (by omega)) (cc_exA hh e8 hm hf ho P k11 n11 k12 A12 B12 (fun sz' pd' ts' vs' fr' cl' cd' en' fc' fe' cr' a9' a10' a11' a12' a13' a14' a15' a16' a17' a18' a19' a20' a21' a22' a23' a24' a25' a26' a27' a28' h0 h1 h2 h3 h4 => ?_))
  subst h0
  exact H _ _ _ _ _ _ _ _ _ _ _ _ _ _ _ _ _ _ _ _ _ _ _ _ _ _ _ _ _ _ _
theorem cc_closT {post : Int32 → St2 → Prop} {f v k : Int32} {h : Nat} (hh : h < 6) (e8 : a8 h = nI 5) (hf : cc_FV f v) (P : cc_P2 f v k a1 a2 a3 a5 a6)
    (H : ∀ (sz' pd' ts' vs' fr' cl' cd' en' fc' fe' cr' : Int32) (a9' a10' a11' a12' a13' a14' a15' a16' a17' a18' a19' a20' a21' a22' a23' a24' a25' a26' a27' a28' : Nat → Int32), post (nI 1) (nc, nI (h + 1), sz', pd', ts', vs', fr', cl', cd', en', fc', fe', cr', a1, a2, a3, a4, a5, a6, a7, a8, a9', a10', a11', a12', a13', a14', a15', a16', a17', a18', a19', a20', a21', a22', a23', a24', a25', a26', a27', a28')) : wpX_closures post (nc, nI (h + 1), sz, pd, ts, vs, fr, cl, cd, en, fc, fe, cr, a1, a2, a3, a4, a5, a6, a7, a8, a9, a10, a11, a12, a13, a14, a15, a16, a17, a18, a19, a20, a21, a22, a23, a24, a25, a26, a27, a28) := by
  refine br_f (nI_ne0 (by omega) (by omega)) (cc_exT hh e8 hf P (fun sz' pd' ts' vs' fr' cl' cd' en' fc' fe' cr' a9' a10' a11' a12' a13' a14' a15' a16' a17' a18' a19' a20' a21' a22' a23' a24' a25' a26' a27' a28' h0 h1 h2 => ?_))
  subst h0
  exact H _ _ _ _ _ _ _ _ _ _ _ _ _ _ _ _ _ _ _ _ _ _ _ _ _ _ _ _ _ _ _
theorem cc_closW {post : Int32 → St2 → Prop} {h : Nat} (hh : h < 6) (e8 : a8 h = nI 23) (k20 : a1 20 = 8) (k21 : a1 21 = 7) (k22 : a1 22 = 7) (k23 : a1 23 = 7) (A21 : a2 21 = nI 20) (A22 : a2 22 = nI 21) (A23 : a2 23 = nI 22)
    (H : ∀ (sz' pd' ts' vs' fr' cl' cd' en' fc' fe' cr' : Int32) (a9' a10' a11' a12' a13' a14' a15' a16' a17' a18' a19' a20' a21' a22' a23' a24' a25' a26' a27' a28' : Nat → Int32), post (nI 1) (nc, nI (h + 1), sz', pd', ts', vs', fr', cl', cd', en', fc', fe', cr', a1, a2, a3, a4, a5, a6, a7, a8, a9', a10', a11', a12', a13', a14', a15', a16', a17', a18', a19', a20', a21', a22', a23', a24', a25', a26', a27', a28')) : wpX_closures post (nc, nI (h + 1), sz, pd, ts, vs, fr, cl, cd, en, fc, fe, cr, a1, a2, a3, a4, a5, a6, a7, a8, a9, a10, a11, a12, a13, a14, a15, a16, a17, a18, a19, a20, a21, a22, a23, a24, a25, a26, a27, a28) := by
  refine br_f (nI_ne0 (by omega) (by omega)) (cc_exW hh e8 k20 k21 k22 k23 A21 A22 A23 (fun sz' pd' ts' vs' fr' cl' cd' en' fc' fe' cr' a9' a10' a11' a12' a13' a14' a15' a16' a17' a18' a19' a20' a21' a22' a23' a24' a25' a26' a27' a28' h0 h1 => ?_))
  subst h0
  exact H _ _ _ _ _ _ _ _ _ _ _ _ _ _ _ _ _ _ _ _ _ _ _ _ _ _ _ _ _ _ _
theorem cc_valA {post : Int32 → St2 → Prop} {f v o b : Int32} {h m : Nat} (hh : h < 6) (e8 : a8 h = nI 12) (hm : m < 8) (hf : cc_FV f v) (ho : o = 0 ∨ o = 1 ∨ o = 2) (P : cc_P1 f v o b a1 a2 a3 a4 a5 a6) (k11 : a1 11 = 8) (n11 : a5 11 = nI m) (k12 : a1 12 = 4) (A12 : a2 12 = nI 10) (B12 : a3 12 = nI 11)
    (H : ∀ (sz' pd' ts' vs' fr' cl' cd' en' fc' fe' cr' : Int32) (a9' a10' a11' a12' a13' a14' a15' a16' a17' a18' a19' a20' a21' a22' a23' a24' a25' a26' a27' a28' : Nat → Int32), post (cc_fv o b m) (nc, nI (h + 1), sz', pd', ts', vs', fr', cl', cd', en', fc', fe', cr', a1, a2, a3, a4, a5, a6, a7, a8, a9', a10', a11', a12', a13', a14', a15', a16', a17', a18', a19', a20', a21', a22', a23', a24', a25', a26', a27', a28')) : wpX_value post (nc, nI (h + 1), sz, pd, ts, vs, fr, cl, cd, en, fc, fe, cr, a1, a2, a3, a4, a5, a6, a7, a8, a9, a10, a11, a12, a13, a14, a15, a16, a17, a18, a19, a20, a21, a22, a23, a24, a25, a26, a27, a28) := by
  refine br_f (nI_ne0 (by omega) (by omega)) (cc_exA hh e8 hm hf ho P k11 n11 k12 A12 B12 (fun sz' pd' ts' vs' fr' cl' cd' en' fc' fe' cr' a9' a10' a11' a12' a13' a14' a15' a16' a17' a18' a19' a20' a21' a22' a23' a24' a25' a26' a27' a28' h0 h1 h2 h3 h4 => ?_))
  subst h1 h3
  refine br_t rfl ⟨cc_in (n := 0) (nI_pred 0) (by omega) (by omega), ?_⟩
  rw [cc_at (f := a19') (n := 0) (show nI 1 - 1 = nI 0 from nI_pred 0) (by omega) h4]
  exact H _ _ _ _ _ _ _ _ _ _ _ _ _ _ _ _ _ _ _ _ _ _ _ _ _ _ _ _ _ _ _
theorem cc_valT {post : Int32 → St2 → Prop} {f v k : Int32} {h : Nat} (hh : h < 6) (e8 : a8 h = nI 5) (hf : cc_FV f v) (P : cc_P2 f v k a1 a2 a3 a5 a6)
    (H : ∀ (sz' pd' ts' vs' fr' cl' cd' en' fc' fe' cr' : Int32) (a9' a10' a11' a12' a13' a14' a15' a16' a17' a18' a19' a20' a21' a22' a23' a24' a25' a26' a27' a28' : Nat → Int32), post (0) (nc, nI (h + 1), sz', pd', ts', vs', fr', cl', cd', en', fc', fe', cr', a1, a2, a3, a4, a5, a6, a7, a8, a9', a10', a11', a12', a13', a14', a15', a16', a17', a18', a19', a20', a21', a22', a23', a24', a25', a26', a27', a28')) : wpX_value post (nc, nI (h + 1), sz, pd, ts, vs, fr, cl, cd, en, fc, fe, cr, a1, a2, a3, a4, a5, a6, a7, a8, a9, a10, a11, a12, a13, a14, a15, a16, a17, a18, a19, a20, a21, a22, a23, a24, a25, a26, a27, a28) := by
  refine br_f (nI_ne0 (by omega) (by omega)) (cc_exT hh e8 hf P (fun sz' pd' ts' vs' fr' cl' cd' en' fc' fe' cr' a9' a10' a11' a12' a13' a14' a15' a16' a17' a18' a19' a20' a21' a22' a23' a24' a25' a26' a27' a28' h0 h1 h2 => ?_))
  subst h1
  exact br_f (by decide) (H _ _ _ _ _ _ _ _ _ _ _ _ _ _ _ _ _ _ _ _ _ _ _ _ _ _ _ _ _ _ _)
end
end
section
/-! free names of the law's programs -/
section
variable {nc nh sz pd ts vs fr cl cd en fc fe cr : Int32} {a1 a2 a3 a4 a5 a6 a7 a8 a9 a10 a11 a12 a13 a14 a15 a16 a17 a18 a19 a20 a21 a22 a23 a24 a25 a26 a27 a28 : Nat → Int32}
theorem cc_or (a b : Int32) : ((0 ||| a) ||| b) ||| b = a ||| b := by
  rw [Int32.zero_or, Int32.or_assoc, Int32.or_self]
def cc_PO (f v o : Int32) (a1 a5 a6 : Nat → Int32) : Prop := (a1 0 = 9 ∧ a1 1 = 9 ∧ a1 2 = 8 ∧ a1 3 = 0 ∧ a1 4 = 4 ∧ a1 5 = 9 ∧ a1 6 = o) ∧ (a5 0 = f ∧ a5 1 = v ∧ a5 5 = v) ∧ (a6 0 = nI 4 ∧ a6 1 = nI 3 ∧ a6 3 = nI 4 ∧ a6 4 = nI 6 ∧ a6 5 = nI 6 ∧ a6 6 = -1)
theorem cc_freePO {post : Int32 → St2 → Prop} {f v o : Int32} (ho : o = 0 ∨ o = 1 ∨ o = 2) (P : cc_PO f v o a1 a5 a6) (e8 : a8 0 = nI 6)
    (H : ∀ (fc' fe' cr' : Int32), post (((1 : Int32) <<< (f &&& 31)) ||| ((1 : Int32) <<< (v &&& 31))) (nc, nI (0 + 1), sz, pd, ts, vs, fr, cl, cd, en, fc', fe', cr', a1, a2, a3, a4, a5, a6, a7, a8, a9, a10, a11, a12, a13, a14, a15, a16, a17, a18, a19, a20, a21, a22, a23, a24, a25, a26, a27, a28)) : wpX_free post (nc, nI (0 + 1), sz, pd, ts, vs, fr, cl, cd, en, fc, fe, cr, a1, a2, a3, a4, a5, a6, a7, a8, a9, a10, a11, a12, a13, a14, a15, a16, a17, a18, a19, a20, a21, a22, a23, a24, a25, a26, a27, a28) := by
  obtain ⟨⟨k0, k1, k2, k3, k4, k5, k6⟩, ⟨n0, n1, n5⟩, ⟨w0, w1, w3, w4, w5, w6⟩⟩ := P
  obtain ⟨o7, o5, o6, o77, o9, _, _⟩ := cc_op7 ho
  have q3 : ¬ a1 3 = 6 ∧ ¬ a1 3 = 7 := by rw [k3]; decide
  have q4 : ¬ a1 4 = 6 ∧ ¬ a1 4 = 7 := by rw [k4]; decide
  have q6 : ¬ a1 6 = 6 ∧ ¬ a1 6 = 7 := by rw [k6]; exact ⟨o6, o77⟩
  refine cc_free (by omega) e8 ?_
  refine cc_frN (x := 0) (by omega) (by omega) k0 n0 (cc_inUp 4 (by omega) (by omega) (by omega) (by omega) (by omega) w0 (cc_inUp 6 (by omega) (by omega) (by omega) (by omega) (by omega) w4 (cc_inTop (by omega)))) (cc_lk (cc_loUp 4 (by omega) (by omega) (by omega) w0 q4.1 q4.2 (cc_loUp 6 (by omega) (by omega) (by omega) w4 q6.1 q6.2 (cc_loRoot (by omega) (by omega) w6)))) ?_
  refine cc_frN (x := 1) (by omega) (by omega) k1 n1 (cc_inUp 3 (by omega) (by omega) (by omega) (by omega) (by omega) w1 (cc_inUp 4 (by omega) (by omega) (by omega) (by omega) (by omega) w3 (cc_inUp 6 (by omega) (by omega) (by omega) (by omega) (by omega) w4 (cc_inTop (by omega))))) (cc_lk (cc_loUp 3 (by omega) (by omega) (by omega) w1 q3.1 q3.2 (cc_loUp 4 (by omega) (by omega) (by omega) w3 q4.1 q4.2 (cc_loUp 6 (by omega) (by omega) (by omega) w4 q6.1 q6.2 (cc_loRoot (by omega) (by omega) w6))))) ?_
  refine cc_frSkip (x := 2) (by omega) (by omega) (by rw [k2]; decide) ?_
  refine cc_frSkip (x := 3) (by omega) (by omega) (by rw [k3]; decide) ?_
  refine cc_frSkip (x := 4) (by omega) (by omega) (by rw [k4]; decide) ?_
  refine cc_frN (x := 5) (by omega) (by omega) k5 n5 (cc_inUp 6 (by omega) (by omega) (by omega) (by omega) (by omega) w5 (cc_inTop (by omega))) (cc_lk (cc_loUp 6 (by omega) (by omega) (by omega) w5 q6.1 q6.2 (cc_loRoot (by omega) (by omega) w6))) ?_
  refine cc_frSkip (x := 6) (by omega) (by omega) (by rw [k6]; exact o9) ?_
  refine cc_frEnd (by omega) (by omega) ?_
  rw [cc_or]
  exact H _ _ _
def cc_PB (f v o : Int32) (a1 a5 a6 : Nat → Int32) : Prop := (a1 0 = 9 ∧ a1 1 = 8 ∧ a1 2 = 9 ∧ a1 3 = 9 ∧ a1 4 = 8 ∧ a1 5 = 0 ∧ a1 6 = 4 ∧ a1 7 = 9 ∧ a1 8 = o ∧ a1 9 = 8 ∧ a1 10 = 5) ∧ (a5 2 = f ∧ a5 3 = v ∧ a5 7 = v) ∧ (a6 0 = -1 ∧ a6 2 = nI 6 ∧ a6 3 = nI 5 ∧ a6 5 = nI 6 ∧ a6 6 = nI 8 ∧ a6 7 = nI 8 ∧ a6 8 = nI 10 ∧ a6 10 = -1)
theorem cc_freePB {post : Int32 → St2 → Prop} {f v o : Int32} (ho : o = 0 ∨ o = 1 ∨ o = 2) (P : cc_PB f v o a1 a5 a6) (e8 : a8 1 = nI 10)
    (H : ∀ (fc' fe' cr' : Int32), post (((1 : Int32) <<< (f &&& 31)) ||| ((1 : Int32) <<< (v &&& 31))) (nc, nI (1 + 1), sz, pd, ts, vs, fr, cl, cd, en, fc', fe', cr', a1, a2, a3, a4, a5, a6, a7, a8, a9, a10, a11, a12, a13, a14, a15, a16, a17, a18, a19, a20, a21, a22, a23, a24, a25, a26, a27, a28)) : wpX_free post (nc, nI (1 + 1), sz, pd, ts, vs, fr, cl, cd, en, fc, fe, cr, a1, a2, a3, a4, a5, a6, a7, a8, a9, a10, a11, a12, a13, a14, a15, a16, a17, a18, a19, a20, a21, a22, a23, a24, a25, a26, a27, a28) := by
  obtain ⟨⟨k0, k1, k2, k3, k4, k5, k6, k7, k8, k9, k10⟩, ⟨n2, n3, n7⟩, ⟨w0, w2, w3, w5, w6, w7, w8, w10⟩⟩ := P
  obtain ⟨o7, o5, o6, o77, o9, _, _⟩ := cc_op7 ho
  have q5 : ¬ a1 5 = 6 ∧ ¬ a1 5 = 7 := by rw [k5]; decide
  have q6 : ¬ a1 6 = 6 ∧ ¬ a1 6 = 7 := by rw [k6]; decide
  have q8 : ¬ a1 8 = 6 ∧ ¬ a1 8 = 7 := by rw [k8]; exact ⟨o6, o77⟩
  have q10 : ¬ a1 10 = 6 ∧ ¬ a1 10 = 7 := by rw [k10]; decide
  refine cc_free (by omega) e8 ?_
  refine cc_frOut (x := 0) (by omega) (by omega) k0 (cc_inRoot (by omega) (by omega) (by omega) (by omega) w0) ?_
  refine cc_frSkip (x := 1) (by omega) (by omega) (by rw [k1]; decide) ?_
  refine cc_frN (x := 2) (by omega) (by omega) k2 n2 (cc_inUp 6 (by omega) (by omega) (by omega) (by omega) (by omega) w2 (cc_inUp 8 (by omega) (by omega) (by omega) (by omega) (by omega) w6 (cc_inUp 10 (by omega) (by omega) (by omega) (by omega) (by omega) w8 (cc_inTop (by omega))))) (cc_lk (cc_loUp 6 (by omega) (by omega) (by omega) w2 q6.1 q6.2 (cc_loUp 8 (by omega) (by omega) (by omega) w6 q8.1 q8.2 (cc_loUp 10 (by omega) (by omega) (by omega) w8 q10.1 q10.2 (cc_loRoot (by omega) (by omega) w10))))) ?_
  refine cc_frN (x := 3) (by omega) (by omega) k3 n3 (cc_inUp 5 (by omega) (by omega) (by omega) (by omega) (by omega) w3 (cc_inUp 6 (by omega) (by omega) (by omega) (by omega) (by omega) w5 (cc_inUp 8 (by omega) (by omega) (by omega) (by omega) (by omega) w6 (cc_inUp 10 (by omega) (by omega) (by omega) (by omega) (by omega) w8 (cc_inTop (by omega)))))) (cc_lk (cc_loUp 5 (by omega) (by omega) (by omega) w3 q5.1 q5.2 (cc_loUp 6 (by omega) (by omega) (by omega) w5 q6.1 q6.2 (cc_loUp 8 (by omega) (by omega) (by omega) w6 q8.1 q8.2 (cc_loUp 10 (by omega) (by omega) (by omega) w8 q10.1 q10.2 (cc_loRoot (by omega) (by omega) w10)))))) ?_
  refine cc_frSkip (x := 4) (by omega) (by omega) (by rw [k4]; decide) ?_
  refine cc_frSkip (x := 5) (by omega) (by omega) (by rw [k5]; decide) ?_
  refine cc_frSkip (x := 6) (by omega) (by omega) (by rw [k6]; decide) ?_
  refine cc_frN (x := 7) (by omega) (by omega) k7 n7 (cc_inUp 8 (by omega) (by omega) (by omega) (by omega) (by omega) w7 (cc_inUp 10 (by omega) (by omega) (by omega) (by omega) (by omega) w8 (cc_inTop (by omega)))) (cc_lk (cc_loUp 8 (by omega) (by omega) (by omega) w7 q8.1 q8.2 (cc_loUp 10 (by omega) (by omega) (by omega) w8 q10.1 q10.2 (cc_loRoot (by omega) (by omega) w10)))) ?_
  refine cc_frSkip (x := 8) (by omega) (by omega) (by rw [k8]; exact o9) ?_
  refine cc_frSkip (x := 9) (by omega) (by omega) (by rw [k9]; decide) ?_
  refine cc_frSkip (x := 10) (by omega) (by omega) (by rw [k10]; decide) ?_
  refine cc_frEnd (by omega) (by omega) ?_
  rw [cc_or]
  exact H _ _ _
theorem cc_freeA {post : Int32 → St2 → Prop} {f v o b : Int32} (hf : cc_FV f v) (ho : o = 0 ∨ o = 1 ∨ o = 2) (P : cc_P1 f v o b a1 a2 a3 a4 a5 a6) (k11 : a1 11 = 8) (k12 : a1 12 = 4) (w10 : a6 10 = nI 12) (e8 : a8 0 = nI 12)
    (H : ∀ (fc' fe' cr' : Int32), post 0 (nc, nI 1, sz, pd, ts, vs, fr, cl, cd, en, fc', fe', cr', a1, a2, a3, a4, a5, a6, a7, a8, a9, a10, a11, a12, a13, a14, a15, a16, a17, a18, a19, a20, a21, a22, a23, a24, a25, a26, a27, a28)) : wpX_free post (nc, nI 1, sz, pd, ts, vs, fr, cl, cd, en, fc, fe, cr, a1, a2, a3, a4, a5, a6, a7, a8, a9, a10, a11, a12, a13, a14, a15, a16, a17, a18, a19, a20, a21, a22, a23, a24, a25, a26, a27, a28) := by
  obtain ⟨L0, L1, L2, L6⟩ := cc_P1L hf ho P
  obtain ⟨⟨k0, k1, k2, k3, k4, k5, k6, k7, k8, k9, k10⟩, ⟨n0, n1, n2, n3, n6, n8, n10⟩, _, ⟨w0, w1, w2, w4, w5, w6, w7, w9⟩⟩ := P
  obtain ⟨o7, o5, o6, o77, o9, _, _⟩ := cc_op7 ho
  refine cc_free (h := 0) (by omega) e8 ?_
  refine cc_frF (x := 0) (by omega) (by omega) k0 n0 (cc_inUp 9 (by omega) (by omega) (by omega) (by omega) (by omega) w0 (cc_inUp 10 (by omega) (by omega) (by omega) (by omega) (by omega) w9 (cc_inUp 12 (by omega) (by omega) (by omega) (by omega) (by omega) w10 (cc_inTop (by omega))))) L0 (by decide) ?_
  refine cc_frF (x := 1) (by omega) (by omega) k1 n1 (cc_inUp 5 (by omega) (by omega) (by omega) (by omega) (by omega) w1 (cc_inUp 7 (by omega) (by omega) (by omega) (by omega) (by omega) w5 (cc_inUp 9 (by omega) (by omega) (by omega) (by omega) (by omega) w7 (cc_inUp 10 (by omega) (by omega) (by omega) (by omega) (by omega) w9 (cc_inUp 12 (by omega) (by omega) (by omega) (by omega) (by omega) w10 (cc_inTop (by omega))))))) L1 (by decide) ?_
  refine cc_frF (x := 2) (by omega) (by omega) k2 n2 (cc_inUp 4 (by omega) (by omega) (by omega) (by omega) (by omega) w2 (cc_inUp 5 (by omega) (by omega) (by omega) (by omega) (by omega) w4 (cc_inUp 7 (by omega) (by omega) (by omega) (by omega) (by omega) w5 (cc_inUp 9 (by omega) (by omega) (by omega) (by omega) (by omega) w7 (cc_inUp 10 (by omega) (by omega) (by omega) (by omega) (by omega) w9 (cc_inUp 12 (by omega) (by omega) (by omega) (by omega) (by omega) w10 (cc_inTop (by omega)))))))) L2 (by decide) ?_
  refine cc_frSkip (x := 3) (by omega) (by omega) (by rw [k3]; decide) ?_
  refine cc_frSkip (x := 4) (by omega) (by omega) (by rw [k4]; decide) ?_
  refine cc_frSkip (x := 5) (by omega) (by omega) (by rw [k5]; decide) ?_
  refine cc_frF (x := 6) (by omega) (by omega) k6 n6 (cc_inUp 7 (by omega) (by omega) (by omega) (by omega) (by omega) w6 (cc_inUp 9 (by omega) (by omega) (by omega) (by omega) (by omega) w7 (cc_inUp 10 (by omega) (by omega) (by omega) (by omega) (by omega) w9 (cc_inUp 12 (by omega) (by omega) (by omega) (by omega) (by omega) w10 (cc_inTop (by omega)))))) L6 (by decide) ?_
  refine cc_frSkip (x := 7) (by omega) (by omega) (by rw [k7]; exact o9) ?_
  refine cc_frSkip (x := 8) (by omega) (by omega) (by rw [k8]; decide) ?_
  refine cc_frSkip (x := 9) (by omega) (by omega) (by rw [k9]; decide) ?_
  refine cc_frSkip (x := 10) (by omega) (by omega) (by rw [k10]; decide) ?_
  refine cc_frSkip (x := 11) (by omega) (by omega) (by rw [k11]; decide) ?_
  refine cc_frSkip (x := 12) (by omega) (by omega) (by rw [k12]; decide) ?_
  refine cc_frEnd (by omega) (by omega) ?_
  exact H _ _ _
end
end
section
/-! the law -/
section
variable {nc nh sz pd ts vs fr cl cd en fc fe cr : Int32} {a1 a2 a3 a4 a5 a6 a7 a8 a9 a10 a11 a12 a13 a14 a15 a16 a17 a18 a19 a20 a21 a22 a23 a24 a25 a26 a27 a28 : Nat → Int32}
theorem cc_discard {post : St2 → Prop} (H : post (0, 0, sz, pd, ts, vs, fr, cl, cd, en, fc, fe, cr, a1, a2, a3, a4, a5, a6, a7, a8, a9, a10, a11, a12, a13, a14, a15, a16, a17, a18, a19, a20, a21, a22, a23, a24, a25, a26, a27, a28)) : wpX_discard post (nc, nh, sz, pd, ts, vs, fr, cl, cd, en, fc, fe, cr, a1, a2, a3, a4, a5, a6, a7, a8, a9, a10, a11, a12, a13, a14, a15, a16, a17, a18, a19, a20, a21, a22, a23, a24, a25, a26, a27, a28) := H
theorem cc_depth {post : Int32 → Prop} (H : post nh) : wpX_depth post (nc, nh, sz, pd, ts, vs, fr, cl, cd, en, fc, fe, cr, a1, a2, a3, a4, a5, a6, a7, a8, a9, a10, a11, a12, a13, a14, a15, a16, a17, a18, a19, a20, a21, a22, a23, a24, a25, a26, a27, a28) := H
theorem cc_made {post : Int32 → Prop} (H : post nc) : wpX_made post (nc, nh, sz, pd, ts, vs, fr, cl, cd, en, fc, fe, cr, a1, a2, a3, a4, a5, a6, a7, a8, a9, a10, a11, a12, a13, a14, a15, a16, a17, a18, a19, a20, a21, a22, a23, a24, a25, a26, a27, a28) := H
theorem cc_small {i : Nat} (h : i < 8) : ¬ nI i < (-9) ∧ nI i ≤ 9 := by
  have t : ∀ i, i < 8 → ¬ nI i < (-9) ∧ nI i ≤ 9 := by decide
  exact t i h
theorem cc_tower {post : Int32 → St2 → Prop} {n i : Nat} {f v : Int32} (hf : cc_FV f v) (hi : i < 6)
    (H : ∀ (a1' a2' a3' a4' a5' a6' a7' a8' : Nat → Int32), a1' (4 * i) = 8 → a1' (4 * i + 1) = 7 → a1' (4 * i + 2) = 7 → a1' (4 * i + 3) = 7 → a2' (4 * i + 1) = nI (4 * i) → a2' (4 * i + 2) = nI (4 * i + 1) → a2' (4 * i + 3) = nI (4 * i + 2) → a8' i = nI (4 * i + 3) → wL_run_333 post f v n 1 (nI (i + 1)) (nI (4 * i + 4)) (nI (i + 1)) sz pd ts vs fr cl cd en fc fe cr a1' a2' a3' a4' a5' a6' a7' a8' a9 a10 a11 a12 a13 a14 a15 a16 a17 a18 a19 a20 a21 a22 a23 a24 a25 a26 a27 a28) :
    wL_run_333 post f v (n + 1) 1 (nI i) (nI (4 * i)) (nI i) sz pd ts vs fr cl cd en fc fe cr a1 a2 a3 a4 a5 a6 a7 a8 a9 a10 a11 a12 a13 a14 a15 a16 a17 a18 a19 a20 a21 a22 a23 a24 a25 a26 a27 a28 := by
  obtain ⟨_, _, _, v0, v4, f0, f4⟩ := hf
  obtain ⟨k0, k9⟩ := cc_small (i := i) (by omega)
  refine br_f (nI_ge (b := 6) hi (by omega)) ?_
  refine cc_number (c := 4 * i) (h := i) k0 k9 (by omega) (by omega) ?_
  refine cc_function (c := 4 * i + 1) (h := i) (x := 4 * i) f0 f4 v0 v4 (by omega) (by omega) pk_us (by omega) ?_
  refine cc_function (c := 4 * i + 2) (h := i) (x := 4 * i + 1) v0 v4 f0 f4 (by omega) (by omega) pk_us (by omega) ?_
  refine cc_function (c := 4 * i + 3) (h := i) (x := 4 * i + 2) f0 f4 v0 v4 (by omega) (by omega) pk_us (by omega) ?_
  refine br_f (by decide) (cc_depth (br_t (nI_1 i).symm (cc_made (br_t ?_ (nm_r (nI_1 i) (H _ _ _ _ _ _ _ _ ?_ ?_ ?_ pk_us ?_ ?_ pk_us pk_us))))))
  · rw [show (4 : Int32) = nI 4 from rfl, pk_mul, nI_add]
  · rw [pk_un (by omega), pk_un (by omega), pk_un (by omega), pk_us]
  · rw [pk_un (by omega), pk_un (by omega), pk_us]
  · rw [pk_un (by omega), pk_us]
  · rw [pk_un (by omega), pk_un (by omega), pk_us]
  · rw [pk_un (by omega), pk_us]
theorem cc_towerX {post : Int32 → St2 → Prop} {n : Nat} {f v : Int32} (hf : cc_FV f v) (k20 : a1 20 = 8) (k21 : a1 21 = 7) (k22 : a1 22 = 7) (k23 : a1 23 = 7) (A21 : a2 21 = nI 20) (A22 : a2 22 = nI 21) (A23 : a2 23 = nI 22) (e8 : a8 5 = nI 23)
    (H : ∀ (nc' nh' sz' pd' ts' vs' fr' cl' cd' en' fc' fe' cr' : Int32) (a1' a2' a3' a4' a5' a6' a7' a8' a9' a10' a11' a12' a13' a14' a15' a16' a17' a18' a19' a20' a21' a22' a23' a24' a25' a26' a27' a28' : Nat → Int32), post 1 (nc', nh', sz', pd', ts', vs', fr', cl', cd', en', fc', fe', cr', a1', a2', a3', a4', a5', a6', a7', a8', a9', a10', a11', a12', a13', a14', a15', a16', a17', a18', a19', a20', a21', a22', a23', a24', a25', a26', a27', a28')) : wL_run_333 post f v (n + 1) 1 (nI 6) (nI 24) (nI 6) sz pd ts vs fr cl cd en fc fe cr a1 a2 a3 a4 a5 a6 a7 a8 a9 a10 a11 a12 a13 a14 a15 a16 a17 a18 a19 a20 a21 a22 a23 a24 a25 a26 a27 a28 := by
  obtain ⟨_, _, _, v0, v4, f0, f4⟩ := hf
  refine br_t (nI_le (a := 6) (b := 6) (by omega) (by omega)) (br_f (by decide) ?_)
  refine cc_numberC (by decide) (by decide) (br_t rfl ?_)
  refine cc_twoC (by decide) (by decide) (br_t rfl ?_)
  refine cc_chooseC (br_t rfl ?_)
  refine cc_bindC v0 v4 (br_t rfl ?_)
  refine cc_functionC f0 f4 v0 v4 (br_t rfl ?_)
  refine cc_twoB (by decide) (by decide) (br_t rfl ?_)
  refine cc_made (br_t rfl ?_)
  refine cc_runW (h := 5) (by omega) e8 k20 k21 k22 k23 A21 A22 A23 (fun _ _ _ _ _ _ _ _ _ _ _ _ _ _ _ _ _ _ _ _ _ _ _ _ _ _ _ _ _ _ _ => br_t rfl ?_)
  refine cc_closW (h := 5) (by omega) e8 k20 k21 k22 k23 A21 A22 A23 (fun _ _ _ _ _ _ _ _ _ _ _ _ _ _ _ _ _ _ _ _ _ _ _ _ _ _ _ _ _ _ _ => br_t rfl ?_)
  exact H _ _ _ _ _ _ _ _ _ _ _ _ _ _ _ _ _ _ _ _ _ _ _ _ _ _ _ _ _ _ _ _ _ _ _ _ _ _ _ _ _
theorem cc_l324 {post : Int32 → St2 → Prop} {f v : Int32} (hf : cc_FV f v) (H : ∀ (nc' nh' sz' pd' ts' vs' fr' cl' cd' en' fc' fe' cr' : Int32) (a1' a2' a3' a4' a5' a6' a7' a8' a9' a10' a11' a12' a13' a14' a15' a16' a17' a18' a19' a20' a21' a22' a23' a24' a25' a26' a27' a28' : Nat → Int32), post 1 (nc', nh', sz', pd', ts', vs', fr', cl', cd', en', fc', fe', cr', a1', a2', a3', a4', a5', a6', a7', a8', a9', a10', a11', a12', a13', a14', a15', a16', a17', a18', a19', a20', a21', a22', a23', a24', a25', a26', a27', a28')) : wL_run_324 post f v 1 nc nh sz pd ts vs fr cl cd en fc fe cr a1 a2 a3 a4 a5 a6 a7 a8 a9 a10 a11 a12 a13 a14 a15 a16 a17 a18 a19 a20 a21 a22 a23 a24 a25 a26 a27 a28 := by
  unfold wL_run_324
  refine cc_discard ⟨7, ?_⟩
  refine cc_tower (i := 0) hf (by omega) (fun _ _ _ _ _ _ _ _ _ _ _ _ _ _ _ _ => ?_)
  refine cc_tower (i := 1) hf (by omega) (fun _ _ _ _ _ _ _ _ _ _ _ _ _ _ _ _ => ?_)
  refine cc_tower (i := 2) hf (by omega) (fun _ _ _ _ _ _ _ _ _ _ _ _ _ _ _ _ => ?_)
  refine cc_tower (i := 3) hf (by omega) (fun _ _ _ _ _ _ _ _ _ _ _ _ _ _ _ _ => ?_)
  refine cc_tower (i := 4) hf (by omega) (fun _ _ _ _ _ _ _ _ _ _ _ _ _ _ _ _ => ?_)
  refine cc_tower (i := 5) hf (by omega) (fun _ _ _ _ _ _ _ _ k20 k21 k22 k23 A21 A22 A23 e8 => ?_)
  exact cc_towerX hf k20 k21 k22 k23 A21 A22 A23 e8 H
theorem cc_l235 {post : Int32 → St2 → Prop} {f v : Int32} {m : Nat} (hm : m < 8) (hf : cc_FV f v) (H : ∀ (nc' nh' sz' pd' ts' vs' fr' cl' cd' en' fc' fe' cr' : Int32) (a1' a2' a3' a4' a5' a6' a7' a8' a9' a10' a11' a12' a13' a14' a15' a16' a17' a18' a19' a20' a21' a22' a23' a24' a25' a26' a27' a28' : Nat → Int32), post 1 (nc', nh', sz', pd', ts', vs', fr', cl', cd', en', fc', fe', cr', a1', a2', a3', a4', a5', a6', a7', a8', a9', a10', a11', a12', a13', a14', a15', a16', a17', a18', a19', a20', a21', a22', a23', a24', a25', a26', a27', a28')) : wL_run_235 post (nI m) f v 1 nc nh sz pd ts vs fr cl cd en fc fe cr a1 a2 a3 a4 a5 a6 a7 a8 a9 a10 a11 a12 a13 a14 a15 a16 a17 a18 a19 a20 a21 a22 a23 a24 a25 a26 a27 a28 := by
  have hf' := hf
  obtain ⟨_, _, _, v0, v4, f0, f4⟩ := hf'
  obtain ⟨k0, k9⟩ := cc_small hm
  unfold wL_run_235
  refine cc_discard ?_
  refine cc_name (c := 0) (h := 0) f0 f4 (by omega) (by omega) ?_
  refine cc_name (c := 1) (h := 1) v0 v4 (by omega) (by omega) ?_
  refine cc_two (c := 2) (h := 0) (x := 0) (y := 1) (by decide) (by decide) (by omega) (by omega) rfl (by omega) rfl (by omega) ?_
  refine cc_function (c := 3) (h := 0) (x := 2) f0 f4 v0 v4 (by omega) (by omega) rfl (by omega) ?_
  refine cc_number (c := 4) (h := 1) k0 k9 (by omega) (by omega) ?_
  refine cc_two (c := 5) (h := 0) (x := 3) (y := 4) (by decide) (by decide) (by omega) (by omega) rfl (by omega) rfl (by omega) ?_
  refine br_f (by decide) ?_
  refine cc_runT (h := 0) (k := nI m) (by omega) rfl hf ⟨⟨rfl, rfl, rfl, rfl, rfl, rfl⟩, ⟨rfl, rfl, rfl, rfl⟩, ⟨rfl, rfl, rfl, rfl, rfl⟩, ⟨rfl, rfl, rfl⟩⟩ (fun _ _ _ _ _ _ _ _ _ _ _ _ _ _ _ _ _ _ _ _ _ _ _ _ _ _ _ _ _ _ _ => br_t rfl ?_)
  refine cc_callsT (h := 0) (k := nI m) (by omega) rfl hf ⟨⟨rfl, rfl, rfl, rfl, rfl, rfl⟩, ⟨rfl, rfl, rfl, rfl⟩, ⟨rfl, rfl, rfl, rfl, rfl⟩, ⟨rfl, rfl, rfl⟩⟩ (fun _ _ _ _ _ _ _ _ _ _ _ _ _ _ _ _ _ _ _ _ _ _ _ _ _ _ _ _ _ _ _ => br_t rfl ?_)
  refine cc_valT (h := 0) (k := nI m) (by omega) rfl hf ⟨⟨rfl, rfl, rfl, rfl, rfl, rfl⟩, ⟨rfl, rfl, rfl, rfl⟩, ⟨rfl, rfl, rfl, rfl, rfl⟩, ⟨rfl, rfl, rfl⟩⟩ (fun _ _ _ _ _ _ _ _ _ _ _ _ _ _ _ _ _ _ _ _ _ _ _ _ _ _ _ _ _ _ _ => br_t rfl ?_)
  refine cc_closT (h := 0) (k := nI m) (by omega) rfl hf ⟨⟨rfl, rfl, rfl, rfl, rfl, rfl⟩, ⟨rfl, rfl, rfl, rfl⟩, ⟨rfl, rfl, rfl, rfl, rfl⟩, ⟨rfl, rfl, rfl⟩⟩ (fun _ _ _ _ _ _ _ _ _ _ _ _ _ _ _ _ _ _ _ _ _ _ _ _ _ _ _ _ _ _ _ => br_t rfl ?_)
  exact cc_l324 hf H
theorem cc_l102x {post : Int32 → St2 → Prop} {n : Nat} {f v o b : Int32} {m : Nat} (hm : m < 8) (hf : cc_FV f v) (ho : o = 0 ∨ o = 1 ∨ o = 2) (P : cc_P1 f v o b a1 a2 a3 a4 a5 a6) (k11 : a1 11 = 8) (n11 : a5 11 = nI m) (k12 : a1 12 = 4) (A12 : a2 12 = nI 10) (B12 : a3 12 = nI 11) (w10 : a6 10 = nI 12) (e8 : a8 0 = nI 12)
    (H : ∀ (sz' pd' ts' vs' fr' cl' cd' en' fc' fe' cr' : Int32) (a9' a10' a11' a12' a13' a14' a15' a16' a17' a18' a19' a20' a21' a22' a23' a24' a25' a26' a27' a28' : Nat → Int32), wL_run_235 post (nI m) f v 1 (nI 13) (nI 1) sz' pd' ts' vs' fr' cl' cd' en' fc' fe' cr' a1 a2 a3 a4 a5 a6 a7 a8 a9' a10' a11' a12' a13' a14' a15' a16' a17' a18' a19' a20' a21' a22' a23' a24' a25' a26' a27' a28') : wL_run_102 post (nI m) o f v 1 1 1 (nI 13) (nI 1) sz pd ts vs fr cl cd en fc fe cr a1 a2 a3 a4 a5 a6 a7 a8 a9 a10 a11 a12 a13 a14 a15 a16 a17 a18 a19 a20 a21 a22 a23 a24 a25 a26 a27 a28 (n + 1) (cc_fv o b m) (nI 8) := by
  refine br_t (nI_le (a := 8) (b := 8) (by omega) (by omega)) (br_t rfl (br_t rfl (br_t rfl ?_)))
  refine cc_runA (h := 0) (by omega) e8 hm hf ho P k11 n11 k12 A12 B12 (fun _ _ _ _ _ _ _ _ _ _ _ _ _ _ _ _ _ _ _ _ _ _ _ _ _ _ _ _ _ _ _ => br_t rfl ?_)
  refine cc_valA (h := 0) (by omega) e8 hm hf ho P k11 n11 k12 A12 B12 (fun _ _ _ _ _ _ _ _ _ _ _ _ _ _ _ _ _ _ _ _ _ _ _ _ _ _ _ _ _ _ _ => br_t rfl ?_)
  refine cc_callsA (h := 0) (by omega) e8 hm hf ho P k11 n11 k12 A12 B12 (fun _ _ _ _ _ _ _ _ _ _ _ _ _ _ _ _ _ _ _ _ _ _ _ _ _ _ _ _ _ _ _ => br_t (nI_1 m).symm ?_)
  refine cc_closA (h := 0) (by omega) e8 hm hf ho P k11 n11 k12 A12 B12 (fun _ _ _ _ _ _ _ _ _ _ _ _ _ _ _ _ _ _ _ _ _ _ _ _ _ _ _ _ _ _ _ => br_t rfl ?_)
  refine cc_freeA hf ho P k11 k12 w10 e8 (fun _ _ _ => br_t rfl (cc_made (br_t rfl ?_)))
  exact H _ _ _ _ _ _ _ _ _ _ _ _ _ _ _ _ _ _ _ _ _ _ _ _ _ _ _ _ _ _ _
theorem cc_l102 {post : Int32 → St2 → Prop} {f v o b : Int32} {m : Nat} (hm : m < 8) (hf : cc_FV f v) (ho : o = 0 ∨ o = 1 ∨ o = 2) (P : cc_P1 f v o b a1 a2 a3 a4 a5 a6) (k11 : a1 11 = 8) (n11 : a5 11 = nI m) (k12 : a1 12 = 4) (A12 : a2 12 = nI 10) (B12 : a3 12 = nI 11) (w10 : a6 10 = nI 12) (e8 : a8 0 = nI 12)
    (H : ∀ (sz' pd' ts' vs' fr' cl' cd' en' fc' fe' cr' : Int32) (a9' a10' a11' a12' a13' a14' a15' a16' a17' a18' a19' a20' a21' a22' a23' a24' a25' a26' a27' a28' : Nat → Int32), wL_run_235 post (nI m) f v 1 (nI 13) (nI 1) sz' pd' ts' vs' fr' cl' cd' en' fc' fe' cr' a1 a2 a3 a4 a5 a6 a7 a8 a9' a10' a11' a12' a13' a14' a15' a16' a17' a18' a19' a20' a21' a22' a23' a24' a25' a26' a27' a28') : ∃ n, wL_run_102 post (nI m) o f v 1 1 1 (nI 13) (nI 1) sz pd ts vs fr cl cd en fc fe cr a1 a2 a3 a4 a5 a6 a7 a8 a9 a10 a11 a12 a13 a14 a15 a16 a17 a18 a19 a20 a21 a22 a23 a24 a25 a26 a27 a28 n b 1 := by
  refine pk_loop (fun n i s => wL_run_102 post (nI m) o f v 1 1 1 (nI 13) (nI 1) sz pd ts vs fr cl cd en fc fe cr a1 a2 a3 a4 a5 a6 a7 a8 a9 a10 a11 a12 a13 a14 a15 a16 a17 a18 a19 a20 a21 a22 a23 a24 a25 a26 a27 a28 n s (nI i)) (fun i s => 1 ≤ i ∧ s = cc_fv o b (min (i - 1) m)) 8 1 b (by omega) ⟨by omega, ?_⟩ ?_ ?_
  · rw [show min (1 - 1) m = 0 by omega]; rfl
  · intro n s hs
    have e : s = cc_fv o b m := by rw [hs.2, show min (8 - 1) m = m by omega]
    subst e
    exact cc_l102x hm hf ho P k11 n11 k12 A12 B12 w10 e8 H
  · intro n i s hi hs hw
    obtain ⟨h1, hs⟩ := hs
    have key : ∀ z, z = cc_cmb o s (nI i) → wL_run_139 post (wL_run_102 post (nI m) o f v 1 1 1 (nI 13) (nI 1) sz pd ts vs fr cl cd en fc fe cr a1 a2 a3 a4 a5 a6 a7 a8 a9 a10 a11 a12 a13 a14 a15 a16 a17 a18 a19 a20 a21 a22 a23 a24 a25 a26 a27 a28 n) (nI m) o f v 1 1 1 s (nI i) z (nI 13) (nI 1) sz pd ts vs fr cl cd en fc fe cr a1 a2 a3 a4 a5 a6 a7 a8 a9 a10 a11 a12 a13 a14 a15 a16 a17 a18 a19 a20 a21 a22 a23 a24 a25 a26 a27 a28 := by
      intro z hz
      refine pk_lt m i (fun hlt => nm_r (nI_1 i) (hw s ⟨by omega, ?_⟩)) (fun hge => nm_r (nI_1 i) (hw z ⟨by omega, ?_⟩))
      · rw [hs, show min (i - 1) m = m by omega, show min (i + 1 - 1) m = m by omega]
      · obtain ⟨y, rfl⟩ : ∃ y, i = y + 1 := ⟨i - 1, by omega⟩
        rw [hz, hs, show min (y + 1 - 1) m = y by omega, show min (y + 1 + 1 - 1) m = y + 1 by omega]
        rfl
    refine br_f (nI_ge (b := 8) hi (by omega)) ?_
    rcases ho with ho | ho | ho
    · subst ho
      exact br_t rfl (key _ rfl)
    · subst ho
      exact br_f (by decide) (br_t rfl (key _ rfl))
    · subst ho
      exact br_f (by decide) (br_f (by decide) (key _ rfl))
theorem cc_lrun {post : Int32 → St2 → Prop} {f v o b : Int32} {m : Nat} (hm : m < 8) (hf : cc_FV f v) (ho : o = 0 ∨ o = 1 ∨ o = 2) (hb : ¬ b < (-9) ∧ b ≤ 9) (H : ∀ (nc' nh' sz' pd' ts' vs' fr' cl' cd' en' fc' fe' cr' : Int32) (a1' a2' a3' a4' a5' a6' a7' a8' a9' a10' a11' a12' a13' a14' a15' a16' a17' a18' a19' a20' a21' a22' a23' a24' a25' a26' a27' a28' : Nat → Int32), post 1 (nc', nh', sz', pd', ts', vs', fr', cl', cd', en', fc', fe', cr', a1', a2', a3', a4', a5', a6', a7', a8', a9', a10', a11', a12', a13', a14', a15', a16', a17', a18', a19', a20', a21', a22', a23', a24', a25', a26', a27', a28')) : wpL_run post (nc, nh, sz, pd, ts, vs, fr, cl, cd, en, fc, fe, cr, a1, a2, a3, a4, a5, a6, a7, a8, a9, a10, a11, a12, a13, a14, a15, a16, a17, a18, a19, a20, a21, a22, a23, a24, a25, a26, a27, a28) (nI m) b o f v := by
  have hf' := hf
  obtain ⟨_, _, _, v0, v4, f0, f4⟩ := hf'
  obtain ⟨k0, k9⟩ := cc_small hm
  obtain ⟨b0, b9⟩ := hb
  obtain ⟨_, _, _, _, _, o0, o4⟩ := cc_op7 ho
  unfold wpL_run
  refine cc_discard ?_
  refine cc_name (c := 0) (h := 0) v0 v4 (by omega) (by omega) ?_
  refine cc_name (c := 1) (h := 1) f0 f4 (by omega) (by omega) ?_
  refine cc_name (c := 2) (h := 2) v0 v4 (by omega) (by omega) ?_
  refine cc_number (c := 3) (h := 3) (by decide) (by decide) (by omega) (by omega) ?_
  refine cc_two (c := 4) (h := 2) (x := 2) (y := 3) (by decide) (by decide) (by omega) (by omega) rfl (by omega) rfl (by omega) ?_
  refine cc_two (c := 5) (h := 1) (x := 1) (y := 4) (by decide) (by decide) (by omega) (by omega) rfl (by omega) rfl (by omega) ?_
  refine cc_name (c := 6) (h := 2) v0 v4 (by omega) (by omega) ?_
  refine cc_two (c := 7) (h := 1) (x := 5) (y := 6) o0 o4 (by omega) (by omega) rfl (by omega) rfl (by omega) ?_
  refine cc_number (c := 8) (h := 2) b0 b9 (by omega) (by omega) ?_
  refine cc_choose (c := 9) (h := 0) (x := 0) (y := 7) (z := 8) (by omega) (by omega) rfl (by omega) rfl (by omega) rfl (by omega) ?_
  refine cc_function (c := 10) (h := 0) (x := 9) f0 f4 v0 v4 (by omega) (by omega) rfl (by omega) ?_
  refine cc_runC (h := 0) (b := b) (by omega) rfl hf ho ⟨⟨rfl, rfl, rfl, rfl, rfl, rfl, rfl, rfl, rfl, rfl, rfl⟩, ⟨rfl, rfl, rfl, rfl, rfl, rfl, rfl⟩, ⟨rfl, rfl, rfl, rfl, rfl, rfl, rfl, rfl, rfl, rfl⟩, ⟨rfl, rfl, rfl, rfl, rfl, rfl, rfl, rfl⟩⟩ (fun _ _ _ _ _ _ _ _ _ _ _ _ _ _ _ _ _ _ _ _ _ _ _ _ _ _ _ _ _ _ _ => ?_)
  refine cc_number (c := 11) (h := 1) k0 k9 (by omega) (by omega) ?_
  refine cc_two (c := 12) (h := 0) (x := 10) (y := 11) (by decide) (by decide) (by omega) (by omega) rfl (by omega) rfl (by omega) ?_
  exact cc_l102 (b := b) hm hf ho ⟨⟨rfl, rfl, rfl, rfl, rfl, rfl, rfl, rfl, rfl, rfl, rfl⟩, ⟨rfl, rfl, rfl, rfl, rfl, rfl, rfl⟩, ⟨rfl, rfl, rfl, rfl, rfl, rfl, rfl, rfl, rfl, rfl⟩, ⟨rfl, rfl, rfl, rfl, rfl, rfl, rfl, rfl⟩⟩ rfl rfl rfl rfl rfl rfl rfl (fun _ _ _ _ _ _ _ _ _ _ _ _ _ _ _ _ _ _ _ _ _ _ _ _ _ _ _ _ _ _ _ => cc_l235 hm hf H)
theorem cc_l329 {post : Int32 → St0 → Prop} {mc ms kc ks : Nat} {f v o b : Int32} {m : Nat} (hm : m < 8) (hf : cc_FV f v) (ho : o = 0 ∨ o = 1 ∨ o = 2) (hb : ¬ b < (-9) ∧ b ≤ 9) (H : post 1 ()) : wL_lawOf_329 post mc ms (nI m) b o f v 1 kc ks nc nh sz pd ts vs fr cl cd en fc fe cr a1 a2 a3 a4 a5 a6 a7 a8 a9 a10 a11 a12 a13 a14 a15 a16 a17 a18 a19 a20 a21 a22 a23 a24 a25 a26 a27 a28 := by
  have hb' := hb
  have hf' := hf
  obtain ⟨_, _, _, v0, v4, f0, f4⟩ := hf'
  obtain ⟨k0, k9⟩ := cc_small hm
  obtain ⟨b0, b9⟩ := hb
  obtain ⟨_, _, _, _, _, o0, o4⟩ := cc_op7 ho
  unfold wL_lawOf_329
  refine cc_discard ?_
  refine cc_name (c := 0) (h := 0) v0 v4 (by omega) (by omega) ?_
  refine cc_number (c := 1) (h := 1) b0 b9 (by omega) (by omega) ?_
  refine cc_name (c := 2) (h := 2) f0 f4 (by omega) (by omega) ?_
  refine cc_name (c := 3) (h := 3) v0 v4 (by omega) (by omega) ?_
  refine cc_number (c := 4) (h := 4) (by decide) (by decide) (by omega) (by omega) ?_
  refine cc_two (c := 5) (h := 3) (x := 3) (y := 4) (by decide) (by decide) (by omega) (by omega) rfl (by omega) rfl (by omega) ?_
  refine cc_two (c := 6) (h := 2) (x := 2) (y := 5) (by decide) (by decide) (by omega) (by omega) rfl (by omega) rfl (by omega) ?_
  refine cc_name (c := 7) (h := 3) v0 v4 (by omega) (by omega) ?_
  refine cc_two (c := 8) (h := 2) (x := 6) (y := 7) o0 o4 (by omega) (by omega) rfl (by omega) rfl (by omega) ?_
  refine cc_number (c := 9) (h := 3) b0 b9 (by omega) (by omega) ?_
  refine cc_choose (c := 10) (h := 1) (x := 1) (y := 8) (z := 9) (by omega) (by omega) rfl (by omega) rfl (by omega) rfl (by omega) ?_
  refine cc_freePB (f := f) (v := v) ho ⟨⟨rfl, rfl, rfl, rfl, rfl, rfl, rfl, rfl, rfl, rfl, rfl⟩, ⟨rfl, rfl, rfl⟩, ⟨rfl, rfl, rfl, rfl, rfl, rfl, rfl, rfl⟩⟩ rfl (fun _ _ _ => br_f (by decide) (br_t rfl (br_t rfl ?_)))
  exact cc_lrun hm hf ho hb' (fun _ _ _ _ _ _ _ _ _ _ _ _ _ _ _ _ _ _ _ _ _ _ _ _ _ _ _ _ _ _ _ _ _ _ _ _ _ _ _ _ _ => br_f (by decide) H)
theorem cc_l227 {post : Int32 → St0 → Prop} {mc ms kc ks : Nat} {f v o b : Int32} {m : Nat} (hm : m < 8) (hf : cc_FV f v) (ho : o = 0 ∨ o = 1 ∨ o = 2) (hb : ¬ b < (-9) ∧ b ≤ 9) (H : post 1 ()) : wL_lawOf_227 post mc ms (nI m) b o f v 1 kc ks nc nh sz pd ts vs fr cl cd en fc fe cr a1 a2 a3 a4 a5 a6 a7 a8 a9 a10 a11 a12 a13 a14 a15 a16 a17 a18 a19 a20 a21 a22 a23 a24 a25 a26 a27 a28 := by
  have hb' := hb
  have hf' := hf
  obtain ⟨_, _, _, v0, v4, f0, f4⟩ := hf'
  obtain ⟨k0, k9⟩ := cc_small hm
  obtain ⟨b0, b9⟩ := hb
  obtain ⟨_, _, _, _, _, o0, o4⟩ := cc_op7 ho
  obtain ⟨j, hj, ej⟩ := pk_andE (f + 2) (m := 3) 2 (by decide)
  have j0 : ¬ (f + 2) &&& 3 < 0 := by rw [ej]; exact nI_pos (by omega)
  have j4 : (f + 2) &&& 3 < 4 := by rw [ej]; exact nI_lt (b := 4) hj (by omega)
  unfold wL_lawOf_227
  refine cc_discard ?_
  refine cc_name (c := 0) (h := 0) f0 f4 (by omega) (by omega) ?_
  refine cc_name (c := 1) (h := 1) v0 v4 (by omega) (by omega) ?_
  refine cc_number (c := 2) (h := 2) (by decide) (by decide) (by omega) (by omega) ?_
  refine cc_two (c := 3) (h := 1) (x := 1) (y := 2) (by decide) (by decide) (by omega) (by omega) rfl (by omega) rfl (by omega) ?_
  refine cc_two (c := 4) (h := 0) (x := 0) (y := 3) (by decide) (by decide) (by omega) (by omega) rfl (by omega) rfl (by omega) ?_
  refine cc_name (c := 5) (h := 1) v0 v4 (by omega) (by omega) ?_
  refine cc_two (c := 6) (h := 0) (x := 4) (y := 5) o0 o4 (by omega) (by omega) rfl (by omega) rfl (by omega) ?_
  refine cc_freePO (f := f) (v := v) ho ⟨⟨rfl, rfl, rfl, rfl, rfl, rfl, rfl⟩, ⟨rfl, rfl, rfl⟩, ⟨rfl, rfl, rfl, rfl, rfl, rfl⟩⟩ rfl (fun _ _ _ => ?_)
  refine cc_bindF (c := 7) j0 j4 (by omega) (br_f (by decide) (cc_made (br_t rfl (br_t rfl ?_))))
  exact cc_l329 hm hf ho hb' H
theorem cc_l135 {post : Int32 → St0 → Prop} {mc ms kc ks : Nat} {f v o b : Int32} {m : Nat} (hm : m < 8) (hf : cc_FV f v) (ho : o = 0 ∨ o = 1 ∨ o = 2) (hb : ¬ b < (-9) ∧ b ≤ 9) (H : post 1 ()) : wL_lawOf_135 post mc ms (nI m) b o f v 1 kc ks nc nh sz pd ts vs fr cl cd en fc fe cr a1 a2 a3 a4 a5 a6 a7 a8 a9 a10 a11 a12 a13 a14 a15 a16 a17 a18 a19 a20 a21 a22 a23 a24 a25 a26 a27 a28 := by
  have hb' := hb
  have hf' := hf
  obtain ⟨_, _, _, v0, v4, f0, f4⟩ := hf'
  obtain ⟨k0, k9⟩ := cc_small hm
  obtain ⟨b0, b9⟩ := hb
  obtain ⟨_, _, _, _, _, o0, o4⟩ := cc_op7 ho
  unfold wL_lawOf_135
  refine cc_discard ?_
  refine cc_name (c := 0) (h := 0) v0 v4 (by omega) (by omega) ?_
  refine cc_number (c := 1) (h := 1) (by decide) (by decide) (by omega) (by omega) ?_
  refine cc_two (c := 2) (h := 0) (x := 0) (y := 1) (by decide) (by decide) (by omega) (by omega) rfl (by omega) rfl (by omega) ?_
  refine cc_number (c := 3) (h := 1) b0 b9 (by omega) (by omega) ?_
  refine cc_name (c := 4) (h := 2) v0 v4 (by omega) (by omega) ?_
  refine cc_name (c := 5) (h := 3) f0 f4 (by omega) (by omega) ?_
  refine cc_name (c := 6) (h := 4) v0 v4 (by omega) (by omega) ?_
  refine br_f (by decide) (cc_depth (br_t rfl ?_))
  refine cc_number (c := 7) (h := 5) (by decide) (by decide) (by omega) (by omega) ?_
  refine br_t rfl (cc_nameH (c := 8) v0 v4 (by omega) (br_t rfl ?_))
  exact cc_l227 hm hf ho hb' H
end
end
section
/-! the script's numbers; the owed statement -/
section
theorem cc_b (x : Int32) : ¬ (x &&& 15) - 7 < (-9) ∧ (x &&& 15) - 7 ≤ 9 := by
  obtain ⟨j, hj, e⟩ := pk_andE x (m := 15) 4 (by decide)
  have t : ∀ j, j < 16 → ¬ nI j - 7 < (-9) ∧ nI j - 7 ≤ 9 := by decide
  rw [e]
  exact t j hj
theorem cc_o (x : Int32) : (x &&& 3) - (x &&& 3) / 3 * 3 = 0 ∨ (x &&& 3) - (x &&& 3) / 3 * 3 = 1 ∨ (x &&& 3) - (x &&& 3) / 3 * 3 = 2 := by
  obtain ⟨j, hj, e⟩ := pk_andE x (m := 3) 2 (by decide)
  have t : ∀ j, j < 4 → nI j - nI j / 3 * 3 = 0 ∨ nI j - nI j / 3 * 3 = 1 ∨ nI j - nI j / 3 * 3 = 2 := by decide
  rw [e]
  exact t j hj
theorem cc_fvs (x y : Int32) : cc_FV (x &&& 3) ((((x &&& 3) + 1) + ((y &&& 3) - (y &&& 3) / 3 * 3)) &&& 3) := by
  obtain ⟨j, hj, e⟩ := pk_andE x (m := 3) 2 (by decide)
  obtain ⟨i, hi, e'⟩ := pk_andE y (m := 3) 2 (by decide)
  have t : ∀ j, j < 4 → ∀ i, i < 4 → cc_FV (nI j) (((nI j + 1) + (nI i - nI i / 3 * 3)) &&& 3) := by unfold cc_FV; decide
  rw [e, e']
  exact t j hj i hi
theorem cc_lawOf {post : Int32 → St0 → Prop} (p0 p1 p2 : Int32) (H : post 1 ()) : wpL_lawOf post 4096 98704 () p0 p1 p2 := by
  refine ⟨by omega, by omega, 4000, 98000, by omega, by omega, ?_⟩
  refine ⟨by omega, by omega, by omega, by omega, by omega, by omega, by omega, by omega, by omega, by omega, by omega, by omega, by omega, by omega, by omega, by omega, by omega, by omega, by omega, by omega, by omega, by omega, by omega, by omega, by omega, by omega, by omega, by omega, by omega, by omega, by omega, by omega, by omega, by omega, by omega, by omega, by omega, by omega, by omega, by omega, by omega, by omega, by omega, by omega, by omega, by omega, by omega, by omega, by omega, by omega, by omega, by omega, by omega, by omega, by omega, by omega, ?_⟩
  intro x4 e4 x5 e5
  refine ⟨by decide, ?_⟩
  intro x6 e6 x7 e7
  refine ⟨by decide, ?_⟩
  intro x8 e8
  obtain ⟨m, hm, em⟩ := pk_andE p0 (m := 7) 3 (by decide)
  have hb : ¬ x5 < (-9) ∧ x5 ≤ 9 := by rw [e5]; exact cc_b _
  have ho : x6 = 0 ∨ x6 = 1 ∨ x6 = 2 := by rw [e6]; exact cc_o _
  have hf : cc_FV x7 x8 := by rw [e8, e7]; exact cc_fvs _ _
  rw [em] at e4
  subst e4
  clear e5 e6 e7 e8
  have hf' := hf
  obtain ⟨_, _, _, v0, v4, f0, f4⟩ := hf'
  have hb' := hb
  obtain ⟨b0, b9⟩ := hb'
  refine cc_name (c := 0) (h := 0) v0 v4 (by omega) (by omega) ?_
  refine cc_number (c := 1) (h := 1) (by decide) (by decide) (by omega) (by omega) ?_
  refine cc_two (c := 2) (h := 0) (x := 0) (y := 1) (by decide) (by decide) (by omega) (by omega) rfl (by omega) rfl (by omega) ?_
  refine cc_number (c := 3) (h := 1) b0 b9 (by omega) (by omega) ?_
  refine cc_name (c := 4) (h := 2) v0 v4 (by omega) (by omega) ?_
  refine cc_name (c := 5) (h := 3) f0 f4 (by omega) (by omega) ?_
  refine cc_depth (br_t rfl ?_)
  refine cc_number (c := 6) (h := 4) (by decide) (by decide) (by omega) (by omega) ?_
  refine br_t rfl ?_
  refine cc_number (c := 7) (h := 5) (by decide) (by decide) (by omega) (by omega) ?_
  refine br_t rfl (cc_numberH (c := 8) (by decide) (by decide) (by omega) (br_t rfl ?_))
  exact cc_l135 hm hf ho hb H
theorem cc_cell {post : Int32 → Prop} {L j : Nat} {xs : Nat → Int32} (hL : L ≤ 3) (hj : j < 3) (H : ∀ x, post x) : wpL_cellAt post L xs () (nI j) :=
  pk_le L j (fun _ => H _) (fun z => ⟨vp_in_nI z (by omega), H _⟩)
theorem i_vc (xs : Nat → Int32) (L : Nat) (hL : L ≤ 3) : wpL_law (fun r => r = 1) L xs :=
  cc_cell (j := 0) hL (by omega) (fun r1 => cc_cell (j := 1) hL (by omega) (fun r2 => cc_cell (j := 2) hL (by omega) (fun r3 => ⟨4096, 98704, by omega, by omega, cc_lawOf r1 r2 r3 rfl⟩)))
end
end
