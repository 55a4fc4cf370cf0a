section
/-! the base: indices by naturals; emit, begin, push; looking out; leaves of the compiler -/
theorem cc_ix {s : Nat} {f : Nat → Int32} {p : Int32} (hs : s < 2 ^ 31) : upd f (nI s).toNatClampNeg p = upd f s p := by rw [nI_clamp hs]
theorem cc_rd {s : Nat} {f : Nat → Int32} {y : Int32} (hs : s < 2 ^ 31) (e : f s = y) : f (nI s).toNatClampNeg = y := by rw [nI_clamp hs]; exact e
theorem cc_p {P : Int32 → Prop} {s : Nat} {f : Nat → Int32} (hs : s < 2 ^ 31) (e : P (f s)) : P (f (nI s).toNatClampNeg) := by rw [nI_clamp hs]; exact e
section
variable {c h sz pe ta va fr cl ca en fc fe cr : Int32} {a1 a2 a3 a4 a5 a6 a7 a8 a9 a10 a11 a12 a13 a14 a15 a16 a17 a18 a19 a20 a21 a22 a23 a24 a25 a26 a27 a28 : Nat → Int32}
theorem cc_emit {post : St2 → Prop} {p0 p1 : Int32} {s : Nat} (hs : s < 128) (hp : post (c, h, nI (s + 1), pe, ta, va, fr, cl, ca, en, fc, fe, cr, a1, a2, a3, a4, a5, a6, a7, a8, upd a9 s p0, upd a10 s p1, a11, a12, a13, a14, a15, a16, a17, a18, a19, a20, a21, a22, a23, a24, a25, a26, a27, a28)) : wpX_emit post (c, h, nI s, pe, ta, va, fr, cl, ca, en, fc, fe, cr, a1, a2, a3, a4, a5, a6, a7, a8, a9, a10, a11, a12, a13, a14, a15, a16, a17, a18, a19, a20, a21, a22, a23, a24, a25, a26, a27, a28) p0 p1 :=
  ⟨pk_in s 128 hs, nm_r (cc_ix (by omega)) ⟨pk_in s 128 hs, nm_r (cc_ix (by omega)) (nm_r (nI_1 s) hp)⟩⟩
theorem cc_begin {post : St2 → Prop} {x : Int32} {t : Nat} (ht : t < 32) (hp : post (c, h, sz, pe, nI (t + 1), va, fr, cl, ca, en, fc, fe, cr, a1, a2, a3, a4, a5, a6, a7, a8, a9, a10, a11, a12, a13, a14, upd a15 t x, upd a16 t 0, a17, a18, a19, a20, a21, a22, a23, a24, a25, a26, a27, a28)) : wpX_begin post (c, h, sz, pe, nI t, va, fr, cl, ca, en, fc, fe, cr, a1, a2, a3, a4, a5, a6, a7, a8, a9, a10, a11, a12, a13, a14, a15, a16, a17, a18, a19, a20, a21, a22, a23, a24, a25, a26, a27, a28) x :=
  ⟨pk_in t 32 ht, nm_r (cc_ix (by omega)) ⟨pk_in t 32 ht, nm_r (cc_ix (by omega)) (nm_r (nI_1 t) hp)⟩⟩
theorem cc_push {post : St2 → Prop} {p0 p1 : Int32} {v : Nat} (hv : v < 1600) (hp : post (c, h, sz, pe, ta, nI (v + 1), fr, cl, ca, en, fc, fe, cr, a1, a2, a3, a4, a5, a6, a7, a8, a9, a10, a11, a12, a13, a14, a15, a16, a17, upd a18 v p0, upd a19 v p1, a20, a21, a22, a23, a24, a25, a26, a27, a28)) : wpX_push post (c, h, sz, pe, ta, nI v, fr, cl, ca, en, fc, fe, cr, a1, a2, a3, a4, a5, a6, a7, a8, a9, a10, a11, a12, a13, a14, a15, a16, a17, a18, a19, a20, a21, a22, a23, a24, a25, a26, a27, a28) p0 p1 :=
  ⟨pk_in v 1600 hv, nm_r (cc_ix (by omega)) ⟨pk_in v 1600 hv, nm_r (cc_ix (by omega)) (nm_r (nI_1 v) hp)⟩⟩
/-- the function around x is w, and its argument is v -/
theorem cc_lk95 {post : St2 → Prop} {J : Int32 → Int32 → Prop} {v x4 : Int32} {w : Nat} (hw : w < 24) (k7 : a1 w = 7) (hn : a5 w &&& 3 = v) (hp : post (c, h, sz, pe, ta, va, fr, cl, ca, en, 12, v, -1, a1, a2, a3, a4, a5, a6, a7, a8, a9, a10, a11, a12, a13, a14, a15, a16, a17, a18, a19, a20, a21, a22, a23, a24, a25, a26, a27, a28)) : wX_lookOut_95 post J v x4 (nI w) c h sz pe ta va fr cl ca en fc fe cr a1 a2 a3 a4 a5 a6 a7 a8 a9 a10 a11 a12 a13 a14 a15 a16 a17 a18 a19 a20 a21 a22 a23 a24 a25 a26 a27 a28 :=
  ⟨pk_in w 24 hw, br_t (cc_rd (by omega) k7) ⟨pk_in w 24 hw, br_t (cc_p (P := fun y => y &&& 3 = v) (by omega) hn) ⟨pk_in w 24 hw, br_c (fun _ => br_f (by decide) (br_f (by decide) hp)) (fun _ => br_f (by decide) (br_f (by decide) hp))⟩⟩⟩
end
/-- looking out from x for v finds the instruction F with the number E, crossing nothing -/
def cc_LK (a1 a5 a6 a7 : Nat → Int32) (x : Nat) (v F E : Int32) : Prop := ∀ (post : St2 → Prop) (c h sz pe ta va fr cl ca en fc fe cr : Int32) (a2 a3 a4 a8 a9 a10 a11 a12 a13 a14 a15 a16 a17 a18 a19 a20 a21 a22 a23 a24 a25 a26 a27 a28 : Nat → Int32), post (c, h, sz, pe, ta, va, fr, cl, ca, en, F, E, -1, a1, a2, a3, a4, a5, a6, a7, a8, a9, a10, a11, a12, a13, a14, a15, a16, a17, a18, a19, a20, a21, a22, a23, a24, a25, a26, a27, a28) → wpX_lookOut post (c, h, sz, pe, ta, va, fr, cl, ca, en, fc, fe, cr, a1, a2, a3, a4, a5, a6, a7, a8, a9, a10, a11, a12, a13, a14, a15, a16, a17, a18, a19, a20, a21, a22, a23, a24, a25, a26, a27, a28) (nI x) v
/-- the program x, of no parts in the same code, compiles to the instruction C with the number E -/
def cc_CL (a1 a5 a6 a7 : Nat → Int32) (x : Nat) (C E : Int32) : Prop := ∀ (post : St2 → Prop) (s : Nat) (c h pe ta va fr cl ca en fc fe cr : Int32) (a2 a3 a4 a8 a9 a10 a11 a12 a13 a14 a15 a16 a17 a18 a19 a20 a21 a22 a23 a24 a25 a26 a27 a28 : Nat → Int32), s < 128 → (∀ fc fe cr : Int32, post (c, h, nI (s + 1), pe, ta, va, fr, cl, ca, en, fc, fe, cr, a1, a2, a3, a4, a5, a6, a7, a8, upd a9 s C, upd a10 s E, a11, a12, a13, a14, a15, a16, a17, a18, a19, a20, a21, a22, a23, a24, a25, a26, a27, a28)) → wpX_compileLeaf post (c, h, nI s, pe, ta, va, fr, cl, ca, en, fc, fe, cr, a1, a2, a3, a4, a5, a6, a7, a8, a9, a10, a11, a12, a13, a14, a15, a16, a17, a18, a19, a20, a21, a22, a23, a24, a25, a26, a27, a28) (nI x)
section
variable {a1 a5 a6 a7 : Nat → Int32}
theorem cc_lk_no {x : Nat} {v : Int32} (hx : x < 24) (hw : a6 x < 0) : cc_LK a1 a5 a6 a7 x v 15 0 :=
  fun post c h sz pe ta va fr cl ca en fc fe cr a2 a3 a4 a8 a9 a10 a11 a12 a13 a14 a15 a16 a17 a18 a19 a20 a21 a22 a23 a24 a25 a26 a27 a28 hp => ⟨1, br_f (by decide) ⟨pk_in x 24 hx, br_t (cc_p (P := fun y => y < 0) (by omega) hw) hp⟩⟩
theorem cc_lk_fn {x w : Nat} {v : Int32} (hx : x < 24) (hw : w < 24) (e : a6 x = nI w) (k7 : a1 w = 7) (hn : a5 w &&& 3 = v) : cc_LK a1 a5 a6 a7 x v 12 v :=
  fun post c h sz pe ta va fr cl ca en fc fe cr a2 a3 a4 a8 a9 a10 a11 a12 a13 a14 a15 a16 a17 a18 a19 a20 a21 a22 a23 a24 a25 a26 a27 a28 hp => ⟨1, br_f (by decide) ⟨pk_in x 24 hx, br_f (cc_p (P := fun y => ¬ y < 0) (by omega) (by rw [e]; exact nI_pos (by omega))) ⟨pk_in x 24 hx, nm_r (cc_rd (by omega) e) ⟨pk_in w 24 hw, br_f (cc_p (P := fun y => ¬ y = 6) (by omega) (by rw [k7]; decide)) (cc_lk95 hw k7 hn hp)⟩⟩⟩⟩
theorem cc_lk_tno {x t : Nat} {v : Int32} (hx : x < 24) (ht : t < 24) (e : a6 x = nI t) (k6 : ¬ a1 t = 6) (k7 : ¬ a1 t = 7) (hw : a6 t < 0) : cc_LK a1 a5 a6 a7 x v 15 0 :=
  fun post c h sz pe ta va fr cl ca en fc fe cr a2 a3 a4 a8 a9 a10 a11 a12 a13 a14 a15 a16 a17 a18 a19 a20 a21 a22 a23 a24 a25 a26 a27 a28 hp => ⟨2, br_f (by decide) ⟨pk_in x 24 hx, br_f (cc_p (P := fun y => ¬ y < 0) (by omega) (by rw [e]; exact nI_pos (by omega))) ⟨pk_in x 24 hx, nm_r (cc_rd (by omega) e) ⟨pk_in t 24 ht, br_f (cc_p (P := fun y => ¬ y = 6) (by omega) k6) ⟨pk_in t 24 ht, br_f (cc_p (P := fun y => ¬ y = 7) (by omega) k7) (nm_e (br_f (by decide) ⟨pk_in t 24 ht, br_t (cc_p (P := fun y => y < 0) (by omega) hw) hp⟩))⟩⟩⟩⟩⟩
theorem cc_lk_tfn {x t w : Nat} {v : Int32} (hx : x < 24) (ht : t < 24) (hw : w < 24) (e : a6 x = nI t) (k6 : ¬ a1 t = 6) (k7 : ¬ a1 t = 7) (e' : a6 t = nI w) (kw : a1 w = 7) (hn : a5 w &&& 3 = v) : cc_LK a1 a5 a6 a7 x v 12 v :=
  fun post c h sz pe ta va fr cl ca en fc fe cr a2 a3 a4 a8 a9 a10 a11 a12 a13 a14 a15 a16 a17 a18 a19 a20 a21 a22 a23 a24 a25 a26 a27 a28 hp => ⟨2, br_f (by decide) ⟨pk_in x 24 hx, br_f (cc_p (P := fun y => ¬ y < 0) (by omega) (by rw [e]; exact nI_pos (by omega))) ⟨pk_in x 24 hx, nm_r (cc_rd (by omega) e) ⟨pk_in t 24 ht, br_f (cc_p (P := fun y => ¬ y = 6) (by omega) k6) ⟨pk_in t 24 ht, br_f (cc_p (P := fun y => ¬ y = 7) (by omega) k7) (nm_e (br_f (by decide) ⟨pk_in t 24 ht, br_f (cc_p (P := fun y => ¬ y < 0) (by omega) (by rw [e']; exact nI_pos (by omega))) ⟨pk_in t 24 ht, nm_r (cc_rd (by omega) e') ⟨pk_in w 24 hw, br_f (cc_p (P := fun y => ¬ y = 6) (by omega) (by rw [kw]; decide)) (cc_lk95 hw kw hn hp)⟩⟩⟩))⟩⟩⟩⟩⟩
theorem cc_cl_const {x : Nat} (hx : x < 24) (hk : a1 x = 8) : cc_CL a1 a5 a6 a7 x 10 (a5 x) :=
  fun post s c h pe ta va fr cl ca en fc fe cr a2 a3 a4 a8 a9 a10 a11 a12 a13 a14 a15 a16 a17 a18 a19 a20 a21 a22 a23 a24 a25 a26 a27 a28 hs hp => ⟨pk_in x 24 hx, br_t (cc_rd (by omega) hk) ⟨pk_in x 24 hx, ek_v (P := fun y => wpX_emit _ (c, h, nI s, pe, ta, va, fr, cl, ca, en, fc, fe, cr, a1, a2, a3, a4, a5, a6, a7, a8, a9, a10, a11, a12, a13, a14, a15, a16, a17, a18, a19, a20, a21, a22, a23, a24, a25, a26, a27, a28) 10 y) (cc_rd (by omega) rfl) (cc_emit hs (hp _ _ _))⟩⟩
end
section
variable {c h sz pe ta va fr cl ca en fc fe cr : Int32} {a1 a2 a3 a4 a5 a6 a7 a8 a9 a10 a11 a12 a13 a14 a15 a16 a17 a18 a19 a20 a21 a22 a23 a24 a25 a26 a27 a28 : Nat → Int32}
theorem cc_capture {post : St2 → Prop} {x : Nat} {v F E : Int32} (H : cc_LK a1 a5 a6 a7 x v F E) (hp : post (c, h, sz, pe, ta, va, fr, cl, ca, en, F, E, -1, a1, a2, a3, a4, a5, a6, a7, a8, a9, a10, a11, a12, a13, a14, a15, a16, a17, a18, a19, a20, a21, a22, a23, a24, a25, a26, a27, a28)) : wpX_capture post (c, h, sz, pe, ta, va, fr, cl, ca, en, fc, fe, cr, a1, a2, a3, a4, a5, a6, a7, a8, a9, a10, a11, a12, a13, a14, a15, a16, a17, a18, a19, a20, a21, a22, a23, a24, a25, a26, a27, a28) (nI x) v :=
  H _ c h sz pe ta va fr cl ca en fc fe cr a2 a3 a4 a8 a9 a10 a11 a12 a13 a14 a15 a16 a17 a18 a19 a20 a21 a22 a23 a24 a25 a26 a27 a28 ⟨1, br_f (by decide) (br_t (by decide) hp)⟩
end
section
variable {a1 a5 a6 a7 : Nat → Int32}
theorem cc_cl_name {x : Nat} {v F E : Int32} (hx : x < 24) (hk : a1 x = 9) (hv : a5 x = v) (H : cc_LK a1 a5 a6 a7 x v F E) : cc_CL a1 a5 a6 a7 x F E :=
  fun post s c h pe ta va fr cl ca en fc fe cr a2 a3 a4 a8 a9 a10 a11 a12 a13 a14 a15 a16 a17 a18 a19 a20 a21 a22 a23 a24 a25 a26 a27 a28 hs hp => ⟨pk_in x 24 hx, br_f (cc_p (P := fun y => ¬ y = 8) (by omega) (by rw [hk]; decide)) ⟨pk_in x 24 hx, br_t (cc_rd (by omega) hk) ⟨pk_in x 24 hx, ek_v (P := fun y => wpX_capture _ (c, h, nI s, pe, ta, va, fr, cl, ca, en, fc, fe, cr, a1, a2, a3, a4, a5, a6, a7, a8, a9, a10, a11, a12, a13, a14, a15, a16, a17, a18, a19, a20, a21, a22, a23, a24, a25, a26, a27, a28) (nI x) y) (cc_rd (by omega) hv) (cc_capture H (cc_emit hs (hp _ _ _)))⟩⟩⟩
end
end
section
/-! one step of the compiler; a program compiled whole; all compiled -/
section
variable {c h sz pe ta va fr cl ca en fc fe cr : Int32} {a1 a2 a3 a4 a5 a6 a7 a8 a9 a10 a11 a12 a13 a14 a15 a16 a17 a18 a19 a20 a21 a22 a23 a24 a25 a26 a27 a28 : Nat → Int32}
theorem cc_stLeaf {post : St2 → Prop} {t s x : Nat} {C E : Int32} (ht : t < 32) (hs : s < 128) (hx : x < 24) (e : a15 t = nI x) (hk : ¬ a1 x < 7) (H : cc_CL a1 a5 a6 a7 x C E)
    (hp : ∀ fc fe cr : Int32, post (c, h, nI (s + 1), pe, nI t, va, fr, cl, ca, en, fc, fe, cr, a1, a2, a3, a4, a5, a6, a7, a8, upd a9 s C, upd a10 s E, a11, a12, a13, a14, a15, upd a16 t (a16 t + 1), a17, a18, a19, a20, a21, a22, a23, a24, a25, a26, a27, a28)) : wpX_compileStep post (c, h, nI s, pe, nI (t + 1), va, fr, cl, ca, en, fc, fe, cr, a1, a2, a3, a4, a5, a6, a7, a8, a9, a10, a11, a12, a13, a14, a15, a16, a17, a18, a19, a20, a21, a22, a23, a24, a25, a26, a27, a28) :=
  nm_r (nI_pred t) ⟨pk_in t 32 ht, nm_r (cc_rd (by omega) e) ⟨pk_in t 32 ht, nm_r (cc_rd (by omega) rfl) ⟨pk_in t 32 ht, nm_r (cc_ix (by omega)) ⟨pk_in x 24 hx, br_f (cc_p (P := fun y => ¬ y < 7) (by omega) hk) (H _ s _ _ _ _ _ _ _ _ _ _ _ _ _ _ _ _ _ _ _ _ _ _ _ _ _ _ _ _ _ _ _ _ _ _ _ _ hs (fun _ _ _ => hp _ _ _))⟩⟩⟩⟩
theorem cc_stFn {post : St2 → Prop} {t s x p : Nat} (ht : t < 32) (hs : s < 128) (hx : x < 24) (hq : p < 24) (e : a15 t = nI x) (hk : a1 x = 7)
    (hp : post (c, h, nI (s + 1), nI (p + 1), nI t, va, fr, cl, ca, en, fc, fe, cr, a1, a2, a3, a4, a5, a6, a7, a8, upd a9 s 17, upd a10 s (nI x), a11, a12, a13, upd a14 p (nI x), a15, upd a16 t (a16 t + 1), a17, a18, a19, a20, a21, a22, a23, a24, a25, a26, a27, a28)) : wpX_compileStep post (c, h, nI s, nI p, nI (t + 1), va, fr, cl, ca, en, fc, fe, cr, a1, a2, a3, a4, a5, a6, a7, a8, a9, a10, a11, a12, a13, a14, a15, a16, a17, a18, a19, a20, a21, a22, a23, a24, a25, a26, a27, a28) :=
  nm_r (nI_pred t) ⟨pk_in t 32 ht, nm_r (cc_rd (by omega) e) ⟨pk_in t 32 ht, nm_r (cc_rd (by omega) rfl) ⟨pk_in t 32 ht, nm_r (cc_ix (by omega)) ⟨pk_in x 24 hx, br_f (cc_p (P := fun y => ¬ y < 7) (by omega) (by rw [hk]; decide))
    ⟨pk_in x 24 hx, br_f (cc_p (P := fun y => ¬ y = 8) (by omega) (by rw [hk]; decide)) ⟨pk_in x 24 hx, br_f (cc_p (P := fun y => ¬ y = 9) (by omega) (by rw [hk]; decide)) (cc_emit hs ⟨pk_in p 24 hq, nm_r (cc_ix (by omega)) (nm_r (nI_1 p) hp)⟩)⟩⟩⟩⟩⟩⟩
theorem cc_stTwo0 {post : St2 → Prop} {t x y : Nat} (ht : t + 1 < 32) (hx : x < 24) (e : a15 t = nI x) (ep : a16 t = 0) (k7 : a1 x < 7) (k5 : ¬ a1 x = 5) (ey : a2 x = nI y)
    (hp : post (c, h, sz, pe, nI (t + 1 + 1), va, fr, cl, ca, en, fc, fe, cr, a1, a2, a3, a4, a5, a6, a7, a8, a9, a10, a11, a12, a13, a14, upd a15 (t + 1) (nI y), upd (upd a16 t 1) (t + 1) 0, a17, a18, a19, a20, a21, a22, a23, a24, a25, a26, a27, a28)) : wpX_compileStep post (c, h, sz, pe, nI (t + 1), va, fr, cl, ca, en, fc, fe, cr, a1, a2, a3, a4, a5, a6, a7, a8, a9, a10, a11, a12, a13, a14, a15, a16, a17, a18, a19, a20, a21, a22, a23, a24, a25, a26, a27, a28) :=
  nm_r (nI_pred t) ⟨pk_in t 32 (by omega), nm_r (cc_rd (by omega) e) ⟨pk_in t 32 (by omega), nm_r (cc_rd (by omega) ep) ⟨pk_in t 32 (by omega), nm_r (cc_ix (by omega)) ⟨pk_in x 24 hx, br_t (cc_p (P := fun y => y < 7) (by omega) k7)
    ⟨pk_in x 24 hx, br_f (cc_p (P := fun y => ¬ y = 5) (by omega) k5) (br_t rfl ⟨pk_in x 24 hx, ek_v (P := fun y => wpX_begin _ (c, h, sz, pe, nI (t + 1), va, fr, cl, ca, en, fc, fe, cr, a1, a2, a3, a4, a5, a6, a7, a8, a9, a10, a11, a12, a13, a14, a15, upd a16 t 1, a17, a18, a19, a20, a21, a22, a23, a24, a25, a26, a27, a28) y) (cc_rd (by omega) ey) (cc_begin ht hp)⟩)⟩⟩⟩⟩⟩
theorem cc_stTwo1 {post : St2 → Prop} {t x y : Nat} (ht : t + 1 < 32) (hx : x < 24) (e : a15 t = nI x) (ep : a16 t = 1) (k7 : a1 x < 7) (k5 : ¬ a1 x = 5) (k6 : ¬ a1 x = 6) (ey : a3 x = nI y)
    (hp : post (c, h, sz, pe, nI (t + 1 + 1), va, fr, cl, ca, en, fc, fe, cr, a1, a2, a3, a4, a5, a6, a7, a8, a9, a10, a11, a12, a13, a14, upd a15 (t + 1) (nI y), upd (upd a16 t 2) (t + 1) 0, a17, a18, a19, a20, a21, a22, a23, a24, a25, a26, a27, a28)) : wpX_compileStep post (c, h, sz, pe, nI (t + 1), va, fr, cl, ca, en, fc, fe, cr, a1, a2, a3, a4, a5, a6, a7, a8, a9, a10, a11, a12, a13, a14, a15, a16, a17, a18, a19, a20, a21, a22, a23, a24, a25, a26, a27, a28) :=
  nm_r (nI_pred t) ⟨pk_in t 32 (by omega), nm_r (cc_rd (by omega) e) ⟨pk_in t 32 (by omega), nm_r (cc_rd (by omega) ep) ⟨pk_in t 32 (by omega), nm_r (cc_ix (by omega)) ⟨pk_in x 24 hx, br_t (cc_p (P := fun y => y < 7) (by omega) k7)
    ⟨pk_in x 24 hx, br_f (cc_p (P := fun y => ¬ y = 5) (by omega) k5) (br_f (by decide) (br_t rfl ⟨pk_in x 24 hx, br_f (cc_p (P := fun y => ¬ y = 6) (by omega) k6) ⟨pk_in x 24 hx, ek_v (P := fun y => wpX_begin _ (c, h, sz, pe, nI (t + 1), va, fr, cl, ca, en, fc, fe, cr, a1, a2, a3, a4, a5, a6, a7, a8, a9, a10, a11, a12, a13, a14, a15, upd a16 t 2, a17, a18, a19, a20, a21, a22, a23, a24, a25, a26, a27, a28) y) (cc_rd (by omega) ey) (cc_begin ht hp)⟩⟩))⟩⟩⟩⟩⟩
theorem cc_stTwo2 {post : St2 → Prop} {t s x : Nat} (ht : t < 32) (hs : s < 128) (hx : x < 24) (e : a15 t = nI x) (ep : a16 t = 2) (k7 : a1 x < 7) (k5 : ¬ a1 x = 5) (k6 : ¬ a1 x = 6)
    (hp : post (c, h, nI (s + 1), pe, nI t, va, fr, cl, ca, en, fc, fe, cr, a1, a2, a3, a4, a5, a6, a7, a8, upd a9 s (a1 x), upd a10 s 0, a11, a12, a13, a14, a15, upd a16 t 3, a17, a18, a19, a20, a21, a22, a23, a24, a25, a26, a27, a28)) : wpX_compileStep post (c, h, nI s, pe, nI (t + 1), va, fr, cl, ca, en, fc, fe, cr, a1, a2, a3, a4, a5, a6, a7, a8, a9, a10, a11, a12, a13, a14, a15, a16, a17, a18, a19, a20, a21, a22, a23, a24, a25, a26, a27, a28) :=
  nm_r (nI_pred t) ⟨pk_in t 32 ht, nm_r (cc_rd (by omega) e) ⟨pk_in t 32 ht, nm_r (cc_rd (by omega) ep) ⟨pk_in t 32 ht, nm_r (cc_ix (by omega)) ⟨pk_in x 24 hx, br_t (cc_p (P := fun y => y < 7) (by omega) k7)
    ⟨pk_in x 24 hx, br_f (cc_p (P := fun y => ¬ y = 5) (by omega) k5) (br_f (by decide) (br_f (by decide) ⟨pk_in x 24 hx, br_f (cc_p (P := fun y => ¬ y = 6) (by omega) k6) ⟨pk_in x 24 hx, ek_v (P := fun y => wpX_emit _ (c, h, nI s, pe, nI (t + 1), va, fr, cl, ca, en, fc, fe, cr, a1, a2, a3, a4, a5, a6, a7, a8, a9, a10, a11, a12, a13, a14, a15, upd a16 t 3, a17, a18, a19, a20, a21, a22, a23, a24, a25, a26, a27, a28) y 0) (cc_rd (by omega) rfl) (cc_emit hs hp)⟩⟩))⟩⟩⟩⟩⟩
theorem cc_cmLeaf {post : St2 → Prop} {s x : Nat} {C E : Int32} (hs : s + 1 < 128) (hx : x < 24) (hk : ¬ a1 x < 7) (H : cc_CL a1 a5 a6 a7 x C E)
    (hp : ∀ (ta fc fe cr : Int32) (a15 a16 : Nat → Int32), post (c, h, nI (s + 1 + 1), pe, ta, va, fr, cl, ca, en, fc, fe, cr, a1, a2, a3, a4, a5, a6, a7, a8, upd (upd a9 s C) (s + 1) 20, upd (upd a10 s E) (s + 1) 0, a11, a12, a13, a14, a15, a16, a17, a18, a19, a20, a21, a22, a23, a24, a25, a26, a27, a28)) : wpX_compile post (c, h, nI s, pe, ta, va, fr, cl, ca, en, fc, fe, cr, a1, a2, a3, a4, a5, a6, a7, a8, a9, a10, a11, a12, a13, a14, a15, a16, a17, a18, a19, a20, a21, a22, a23, a24, a25, a26, a27, a28) (nI x) := by
  unfold wpX_compile
  dsimp only
  exact cc_begin (t := 0) (by decide) ⟨2, br_f (by decide) (br_f (by dsimp only; decide) (cc_stLeaf (t := 0) (by decide) (by omega) hx rfl hk H (fun _ _ _ => nm_e (br_f (by decide) (br_t (by decide) (cc_emit hs (hp _ _ _ _ _ _)))))))⟩
theorem cc_cmFn {post : St2 → Prop} {s x p : Nat} (hs : s + 1 < 128) (hx : x < 24) (hq : p < 24) (hk : a1 x = 7)
    (hp : ∀ (ta : Int32) (a15 a16 : Nat → Int32), post (c, h, nI (s + 1 + 1), nI (p + 1), ta, va, fr, cl, ca, en, fc, fe, cr, a1, a2, a3, a4, a5, a6, a7, a8, upd (upd a9 s 17) (s + 1) 20, upd (upd a10 s (nI x)) (s + 1) 0, a11, a12, a13, upd a14 p (nI x), a15, a16, a17, a18, a19, a20, a21, a22, a23, a24, a25, a26, a27, a28)) : wpX_compile post (c, h, nI s, nI p, ta, va, fr, cl, ca, en, fc, fe, cr, a1, a2, a3, a4, a5, a6, a7, a8, a9, a10, a11, a12, a13, a14, a15, a16, a17, a18, a19, a20, a21, a22, a23, a24, a25, a26, a27, a28) (nI x) := by
  unfold wpX_compile
  dsimp only
  exact cc_begin (t := 0) (by decide) ⟨2, br_f (by decide) (br_f (by dsimp only; decide) (cc_stFn (t := 0) (by decide) (by omega) hx hq rfl hk (nm_e (br_f (by decide) (br_t (by decide) (cc_emit hs (hp _ _ _)))))))⟩
theorem cc_cmTwo {post : St2 → Prop} {s x y z : Nat} {C E C' E' : Int32} (hs : s + 1 + 1 + 1 < 128) (hx : x < 24) (hy : y < 24) (hz : z < 24) (k7 : a1 x < 7) (k5 : ¬ a1 x = 5) (k6 : ¬ a1 x = 6) (ey : a2 x = nI y) (ez : a3 x = nI z)
    (ky : ¬ a1 y < 7) (kz : ¬ a1 z < 7) (H : cc_CL a1 a5 a6 a7 y C E) (H' : cc_CL a1 a5 a6 a7 z C' E')
    (hp : ∀ (ta fc fe cr : Int32) (a15 a16 : Nat → Int32), post (c, h, nI (s + 1 + 1 + 1 + 1), pe, ta, va, fr, cl, ca, en, fc, fe, cr, a1, a2, a3, a4, a5, a6, a7, a8, upd (upd (upd (upd a9 s C) (s + 1) C') (s + 1 + 1) (a1 x)) (s + 1 + 1 + 1) 20, upd (upd (upd (upd a10 s E) (s + 1) E') (s + 1 + 1) 0) (s + 1 + 1 + 1) 0, a11, a12, a13, a14, a15, a16, a17, a18, a19, a20, a21, a22, a23, a24, a25, a26, a27, a28)) : wpX_compile post (c, h, nI s, pe, ta, va, fr, cl, ca, en, fc, fe, cr, a1, a2, a3, a4, a5, a6, a7, a8, a9, a10, a11, a12, a13, a14, a15, a16, a17, a18, a19, a20, a21, a22, a23, a24, a25, a26, a27, a28) (nI x) := by
  unfold wpX_compile
  dsimp only
  exact cc_begin (t := 0) (by decide) ⟨6, br_f (by decide) (br_f (by dsimp only; decide) (cc_stTwo0 (t := 0) (by decide) hx rfl rfl k7 k5 ey (nm_e
    (br_f (by decide) (br_f (by decide) (cc_stLeaf (t := 1) (by decide) (by omega) hy rfl ky H (fun _ _ _ => nm_e
    (br_f (by decide) (br_f (by decide) (cc_stTwo1 (t := 0) (by decide) hx rfl rfl k7 k5 k6 ez (nm_e
    (br_f (by decide) (br_f (by decide) (cc_stLeaf (t := 1) (by decide) (by omega) hz rfl kz H' (fun _ _ _ => nm_e
    (br_f (by decide) (br_f (by decide) (cc_stTwo2 (t := 0) (by decide) (by omega) hx rfl rfl k7 k5 k6 (nm_e
    (br_f (by decide) (br_t (by decide) (cc_emit hs (hp _ _ _ _ _ _)))))))))))))))))))))))⟩
theorem cc_fill {s : Nat → Int32} {i : Nat} {v : Int32} (h : ∀ j, j < i → s j = v) : ∀ j, j < i + 1 → upd s i v j = v := by
  intro j hj
  by_cases e : j = i
  · rw [e, pk_us]
  · rw [pk_un e]
    exact h j (by omega)
theorem cc_all {post : St2 → Prop} {x : Int32} (H : ∀ (n : Nat) (a12 : Nat → Int32), (∀ j, j < 96 → a12 j = -1) → wX_compileAll_12 post x c h 0 0 ta va fr cl ca en fc fe cr (n + 1) (nI 96) a1 a2 a3 a4 a5 a6 a7 a8 a9 a10 a11 a12 a13 a14 a15 a16 a17 a18 a19 a20 a21 a22 a23 a24 a25 a26 a27 a28) : wpX_compileAll post (c, h, sz, pe, ta, va, fr, cl, ca, en, fc, fe, cr, a1, a2, a3, a4, a5, a6, a7, a8, a9, a10, a11, a12, a13, a14, a15, a16, a17, a18, a19, a20, a21, a22, a23, a24, a25, a26, a27, a28) x :=
  pk_loop (fun n i s => wX_compileAll_12 post x c h 0 0 ta va fr cl ca en fc fe cr n (nI i) a1 a2 a3 a4 a5 a6 a7 a8 a9 a10 a11 s a13 a14 a15 a16 a17 a18 a19 a20 a21 a22 a23 a24 a25 a26 a27 a28) (fun i s => ∀ j, j < i → s j = -1) 96 0 a12 (by omega) lt_0 (fun n s hI => H n s hI)
    (fun n i s hi hI hw => pk_le 96 i (fun z => absurd z (by omega)) (fun _ => ⟨pk_in i 96 hi, nm_r (cc_ix (by omega)) (nm_r (nI_1 i) (hw _ (cc_fill hI)))⟩))
end
/-- all of x is compiled: the first instruction is C with E, the second C'; nothing is captured -/
def cc_CA (a1 a2 a3 a4 a5 a6 a7 a8 : Nat → Int32) (x : Nat) (C E C' : Int32) : Prop := ∀ (post : St2 → Prop) (c h sz pe ta va fr cl ca en fc fe cr : Int32) (a9 a10 a11 a12 a13 a14 a15 a16 a17 a18 a19 a20 a21 a22 a23 a24 a25 a26 a27 a28 : Nat → Int32),
  (∀ (sz pe ta fc fe cr : Int32) (a9 a10 a11 a12 a14 a15 a16 : Nat → Int32), a9 0 = C → a10 0 = E → a9 1 = C' → (∀ j, j < 96 → a12 j = -1) → post (c, h, sz, pe, ta, va, fr, cl, ca, en, fc, fe, cr, a1, a2, a3, a4, a5, a6, a7, a8, a9, a10, a11, a12, a13, a14, a15, a16, a17, a18, a19, a20, a21, a22, a23, a24, a25, a26, a27, a28)) → wpX_compileAll post (c, h, sz, pe, ta, va, fr, cl, ca, en, fc, fe, cr, a1, a2, a3, a4, a5, a6, a7, a8, a9, a10, a11, a12, a13, a14, a15, a16, a17, a18, a19, a20, a21, a22, a23, a24, a25, a26, a27, a28) (nI x)
section
variable {a1 a2 a3 a4 a5 a6 a7 a8 : Nat → Int32}
theorem cc_caLeaf {x : Nat} {C E : Int32} (hx : x < 24) (hk : ¬ a1 x < 7) (H : cc_CL a1 a5 a6 a7 x C E) : cc_CA a1 a2 a3 a4 a5 a6 a7 a8 x C E 20 :=
  fun post c h sz pe ta va fr cl ca en fc fe cr a9 a10 a11 a12 a13 a14 a15 a16 a17 a18 a19 a20 a21 a22 a23 a24 a25 a26 a27 a28 hp => cc_all (fun n b hb => br_t (by decide) (cc_cmLeaf (s := 0) (by decide) hx hk H (fun _ _ _ _ _ _ => ⟨1, br_t (by decide) (hp _ _ _ _ _ _ _ _ _ _ _ _ _ rfl rfl rfl hb)⟩)))
theorem cc_caTwo {x y z : Nat} {C E C' E' : Int32} (hx : x < 24) (hy : y < 24) (hz : z < 24) (k7 : a1 x < 7) (k5 : ¬ a1 x = 5) (k6 : ¬ a1 x = 6) (ey : a2 x = nI y) (ez : a3 x = nI z)
    (ky : ¬ a1 y < 7) (kz : ¬ a1 z < 7) (H : cc_CL a1 a5 a6 a7 y C E) (H' : cc_CL a1 a5 a6 a7 z C' E') : cc_CA a1 a2 a3 a4 a5 a6 a7 a8 x C E C' :=
  fun post c h sz pe ta va fr cl ca en fc fe cr a9 a10 a11 a12 a13 a14 a15 a16 a17 a18 a19 a20 a21 a22 a23 a24 a25 a26 a27 a28 hp => cc_all (fun n b hb => br_t (by decide) (cc_cmTwo (s := 0) (by decide) hx hy hz k7 k5 k6 ey ez ky kz H H' (fun _ _ _ _ _ _ => ⟨1, br_t (by decide) (hp _ _ _ _ _ _ _ _ _ _ _ _ _ rfl rfl rfl hb)⟩)))
theorem cc_caFnLeaf {x y : Nat} {C E : Int32} (hx : x < 24) (hy : y < 24) (hk : a1 x = 7) (ey : a2 x = nI y) (ky : ¬ a1 y < 7) (H : cc_CL a1 a5 a6 a7 y C E) : cc_CA a1 a2 a3 a4 a5 a6 a7 a8 x 17 (nI x) 20 :=
  fun post c h sz pe ta va fr cl ca en fc fe cr a9 a10 a11 a12 a13 a14 a15 a16 a17 a18 a19 a20 a21 a22 a23 a24 a25 a26 a27 a28 hp => cc_all (fun n b hb => br_t (by decide) (cc_cmFn (s := 0) (p := 0) (by decide) hx (by decide) hk (fun _ _ _ => ⟨2, br_f (by decide) ⟨pk_in 0 24 (by decide), nm_r (show _ = nI x from rfl) ⟨pk_in x 24 hx, nm_r (cc_ix (by omega)) ⟨pk_in x 24 hx,
    ek_v (P := fun y => wpX_compile _ _ y) (cc_rd (by omega) ey) (cc_cmLeaf (s := 2) (by decide) hy ky H (fun _ _ _ _ _ _ => nm_e (br_t (by decide) (hp _ _ _ _ _ _ _ _ _ _ _ _ _ rfl rfl rfl hb))))⟩⟩⟩⟩)))
theorem cc_caFnTwo {w x y z : Nat} {C E C' E' : Int32} (hw : w < 24) (hx : x < 24) (hy : y < 24) (hz : z < 24) (hk : a1 w = 7) (ew : a2 w = nI x) (k7 : a1 x < 7) (k5 : ¬ a1 x = 5) (k6 : ¬ a1 x = 6) (ey : a2 x = nI y) (ez : a3 x = nI z)
    (ky : ¬ a1 y < 7) (kz : ¬ a1 z < 7) (H : cc_CL a1 a5 a6 a7 y C E) (H' : cc_CL a1 a5 a6 a7 z C' E') : cc_CA a1 a2 a3 a4 a5 a6 a7 a8 w 17 (nI w) 20 :=
  fun post c h sz pe ta va fr cl ca en fc fe cr a9 a10 a11 a12 a13 a14 a15 a16 a17 a18 a19 a20 a21 a22 a23 a24 a25 a26 a27 a28 hp => cc_all (fun n b hb => br_t (by decide) (cc_cmFn (s := 0) (p := 0) (by decide) hw (by decide) hk (fun _ _ _ => ⟨2, br_f (by decide) ⟨pk_in 0 24 (by decide), nm_r (show _ = nI w from rfl) ⟨pk_in w 24 hw, nm_r (cc_ix (by omega)) ⟨pk_in w 24 hw,
    ek_v (P := fun y => wpX_compile _ _ y) (cc_rd (by omega) ew) (cc_cmTwo (s := 2) (by decide) hx hy hz k7 k5 k6 ey ez ky kz H H' (fun _ _ _ _ _ _ => nm_e (br_t (by decide) (hp _ _ _ _ _ _ _ _ _ _ _ _ _ rfl rfl rfl hb))))⟩⟩⟩⟩)))
end
end
section
/-! running; names that are free -/
section
variable {c h sz pe ta va fr cl ca en fc fe cr : Int32} {a1 a2 a3 a4 a5 a6 a7 a8 a9 a10 a11 a12 a13 a14 a15 a16 a17 a18 a19 a20 a21 a22 a23 a24 a25 a26 a27 a28 : Nat → Int32}
theorem cc_x4 (x i : Nat) : nI x * 4 + nI i = nI (x * 4 + i) := by
  rw [show (4 : Int32) = nI 4 from rfl, pk_mul, nI_add]
theorem cc_sLoad {post : Int32 → St2 → Prop} {k v : Nat} {d : Int32} (hk : k < 128) (hv : v < 1600) (e : a9 k = 10) (e' : a10 k = d)
    (hp : post (nI (k + 1)) (c, h, sz, pe, ta, nI (v + 1), fr, cl, ca, en, fc, fe, cr, a1, a2, a3, a4, a5, a6, a7, a8, a9, a10, a11, a12, a13, a14, a15, a16, a17, upd a18 v 0, upd a19 v d, a20, a21, a22, a23, a24, a25, a26, a27, a28)) : wpX_step post (c, h, sz, pe, ta, nI v, fr, cl, ca, en, fc, fe, cr, a1, a2, a3, a4, a5, a6, a7, a8, a9, a10, a11, a12, a13, a14, a15, a16, a17, a18, a19, a20, a21, a22, a23, a24, a25, a26, a27, a28) (nI k) :=
  ⟨pk_in k 128 hk, nm_r (cc_rd (by omega) e) (br_t (by decide) (br_f (by decide) (br_f (by decide) (br_f (by decide) (br_f (by decide) (br_f (by decide) (br_f (by decide) ⟨pk_in k 128 hk,
    ek_v (P := fun y => wpX_loadName _ (c, h, sz, pe, ta, nI v, fr, cl, ca, en, fc, fe, cr, a1, a2, a3, a4, a5, a6, a7, a8, a9, a10, a11, a12, a13, a14, a15, a16, a17, a18, a19, a20, a21, a22, a23, a24, a25, a26, a27, a28) 10 y) (cc_rd (by omega) e') (nm_e (br_t rfl (cc_push hv ⟨ek_v (P := fun y => vp_in y 1600) (nI_pred v) (pk_in v 1600 hv),
      br_f (ek_v (P := fun y => ¬ upd a18 v 0 y.toNatClampNeg = 2) (nI_pred v) (cc_p (P := fun y => ¬ y = 2) (by omega) (by rw [pk_us]; decide))) (ek_v (P := fun r => post r _) (nI_1 k) hp)⟩)))⟩)))))))⟩
theorem cc_sMiss {post : Int32 → St2 → Prop} {k v : Nat} (hk : k < 128) (hv : v < 1600) (e : a9 k = 15)
    (hp : post (nI (k + 1)) (c, h, sz, pe, ta, nI (v + 1), fr, cl, ca, 2, fc, fe, cr, a1, a2, a3, a4, a5, a6, a7, a8, a9, a10, a11, a12, a13, a14, a15, a16, a17, upd a18 v 2, upd a19 v 0, a20, a21, a22, a23, a24, a25, a26, a27, a28)) : wpX_step post (c, h, sz, pe, ta, nI v, fr, cl, ca, en, fc, fe, cr, a1, a2, a3, a4, a5, a6, a7, a8, a9, a10, a11, a12, a13, a14, a15, a16, a17, a18, a19, a20, a21, a22, a23, a24, a25, a26, a27, a28) (nI k) :=
  ⟨pk_in k 128 hk, nm_r (cc_rd (by omega) e) (br_t (by decide) (br_f (by decide) (br_f (by decide) (br_f (by decide) (br_f (by decide) (br_f (by decide) (br_f (by decide) ⟨pk_in k 128 hk,
    nm_e (br_f (by decide) (br_f (by decide) (br_f (by decide) (br_f (by decide) (br_f (by decide) (cc_push hv ⟨ek_v (P := fun y => vp_in y 1600) (nI_pred v) (pk_in v 1600 hv),
      br_t (ek_v (P := fun y => upd a18 v 2 y.toNatClampNeg = 2) (nI_pred v) (cc_p (P := fun y => y = 2) (by omega) pk_us)) (ek_v (P := fun r => post r _) (nI_1 k) hp)⟩))))))⟩)))))))⟩
theorem cc_sRet {post : Int32 → St2 → Prop} {k v : Nat} {r : Int32} (hk : k < 128) (hv : v < 1600) (e : a9 k = 20) (er : a18 v = r)
    (hp : ∀ y, post y (c, h, sz, pe, ta, nI (v + 1), 0, cl, ca, r, fc, fe, cr, a1, a2, a3, a4, a5, a6, a7, a8, a9, a10, a11, a12, a13, a14, a15, a16, a17, a18, a19, a20, a21, a22, a23, a24, a25, a26, a27, a28)) : wpX_step post (c, h, sz, pe, ta, nI (v + 1), 1, cl, ca, en, fc, fe, cr, a1, a2, a3, a4, a5, a6, a7, a8, a9, a10, a11, a12, a13, a14, a15, a16, a17, a18, a19, a20, a21, a22, a23, a24, a25, a26, a27, a28) (nI k) :=
  ⟨pk_in k 128 hk, nm_r (cc_rd (by omega) e) (br_t (by decide) (br_f (by decide) (br_f (by decide) (br_f (by decide) (br_f (by decide) (br_f (by decide) (br_t rfl
    (nm_r (show (1 : Int32) - 1 = 0 by decide) (br_t rfl ⟨ek_v (P := fun y => vp_in y 1600) (nI_pred v) (pk_in v 1600 hv), nm_r (ek_v (P := fun y => a18 y.toNatClampNeg = r) (nI_pred v) (cc_rd (by omega) er)) ⟨pk_in 0 61 (by decide), hp _⟩⟩)))))))))⟩
theorem cc_mkS {post : St2 → Prop} {n x i : Nat} (hx : x < 24) (hi : i < 4) (hg : ∀ j, j < 96 → a12 j = -1)
    (hw : ∀ s : Nat → Int32, wX_makeClosure_24 post (nI x) 0 n (nI (i + 1)) c h sz pe ta va fr cl ca en fc fe cr a1 a2 a3 a4 a5 a6 a7 a8 a9 a10 a11 a12 a13 a14 a15 a16 a17 a18 a19 a20 a21 a22 a23 a24 a25 a26 s a28) : wX_makeClosure_24 post (nI x) 0 (n + 1) (nI i) c h sz pe ta va fr cl ca en fc fe cr a1 a2 a3 a4 a5 a6 a7 a8 a9 a10 a11 a12 a13 a14 a15 a16 a17 a18 a19 a20 a21 a22 a23 a24 a25 a26 a27 a28 := by
  have i0 : vp_in ((0 : Int32) * 4 + nI i) 2944 := by
    rw [show (0 : Int32) = nI 0 from rfl, cc_x4]
    exact vp_in_nI (by omega) (by decide)
  have i1 : vp_in (nI x * 4 + nI i) 96 := by
    rw [cc_x4]
    exact vp_in_nI (by omega) (by decide)
  have i2 : a12 (nI x * 4 + nI i).toNatClampNeg < 0 := by
    rw [cc_x4, nI_clamp (by omega), hg _ (by omega)]
    decide
  unfold wX_makeClosure_24
  refine br_f (nI_ge (b := 4) hi (by decide)) ⟨i0, nm_e ⟨i1, br_t i2 (nm_r (nI_1 i) ?_)⟩⟩
  exact hw _
theorem cc_mk {post : St2 → Prop} {x v : Nat} (hx : x < 24) (hv : v < 1600) (hg : ∀ j, j < 96 → a12 j = -1)
    (hp : ∀ a27 : Nat → Int32, post (c, h, sz, pe, ta, nI (v + 1), fr, 1, ca, en, fc, fe, cr, a1, a2, a3, a4, a5, a6, a7, a8, a9, a10, a11, a12, a13, a14, a15, a16, a17, upd a18 v 1, upd a19 v 0, a20, a21, a22, a23, a24, a25, upd a26 0 (nI x), a27, a28)) : wpX_makeClosure post (c, h, sz, pe, ta, nI v, fr, 0, ca, en, fc, fe, cr, a1, a2, a3, a4, a5, a6, a7, a8, a9, a10, a11, a12, a13, a14, a15, a16, a17, a18, a19, a20, a21, a22, a23, a24, a25, a26, a27, a28) (nI x) :=
  nm_r (show (0 : Int32) + 1 = 1 by decide) ⟨pk_in 0 736 (by decide), nm_r (cc_ix (s := 0) (by decide))
    ⟨5, cc_mkS (i := 0) hx (by decide) hg (fun _ => cc_mkS (i := 1) hx (by decide) hg (fun _ => cc_mkS (i := 2) hx (by decide) hg (fun _ => cc_mkS (i := 3) hx (by decide) hg (fun _ => br_t (by decide) (cc_push hv (hp _))))))⟩⟩
theorem cc_sMake {post : Int32 → St2 → Prop} {k v x : Nat} (hk : k < 128) (hv : v < 1600) (hx : x < 24) (e : a9 k = 17) (e' : a10 k = nI x) (hg : ∀ j, j < 96 → a12 j = -1)
    (hp : ∀ a27 : Nat → Int32, post (nI (k + 1)) (c, h, sz, pe, ta, nI (v + 1), fr, 1, ca, en, fc, fe, cr, a1, a2, a3, a4, a5, a6, a7, a8, a9, a10, a11, a12, a13, a14, a15, a16, a17, upd a18 v 1, upd a19 v 0, a20, a21, a22, a23, a24, a25, upd a26 0 (nI x), a27, a28)) : wpX_step post (c, h, sz, pe, ta, nI v, fr, 0, ca, en, fc, fe, cr, a1, a2, a3, a4, a5, a6, a7, a8, a9, a10, a11, a12, a13, a14, a15, a16, a17, a18, a19, a20, a21, a22, a23, a24, a25, a26, a27, a28) (nI k) :=
  ⟨pk_in k 128 hk, nm_r (cc_rd (by omega) e) (br_t (by decide) (br_f (by decide) (br_f (by decide) (br_t rfl ⟨pk_in k 128 hk,
    ek_v (P := fun y => wpX_makeClosure _ (c, h, sz, pe, ta, nI v, fr, 0, ca, en, fc, fe, cr, a1, a2, a3, a4, a5, a6, a7, a8, a9, a10, a11, a12, a13, a14, a15, a16, a17, a18, a19, a20, a21, a22, a23, a24, a25, a26, a27, a28) y) (cc_rd (by omega) e') (cc_mk hx hv hg (fun _ => ek_v (P := fun r => post r _) (nI_1 k) (hp _)))⟩))))⟩
end
/-- code that begins with C (and E), C' ends with R -/
def cc_EX (C E C' R : Int32) : Prop := ∀ (post : St2 → Prop) (c h sz pe ta fc fe cr : Int32) (a1 a2 a3 a4 a5 a6 a7 a8 a9 a10 a11 a12 a13 a14 a15 a16 a17 a18 a19 a20 a21 a22 a23 a24 a25 a26 a27 a28 : Nat → Int32), a9 0 = C → a10 0 = E → a9 1 = C' → (∀ j, j < 96 → a12 j = -1) →
  (∀ (va fr cl ca : Int32) (a18 a19 a20 a21 a22 a23 a24 a25 a26 a27 a28 : Nat → Int32), post (c, h, sz, pe, ta, va, fr, cl, ca, R, fc, fe, cr, a1, a2, a3, a4, a5, a6, a7, a8, a9, a10, a11, a12, a13, a14, a15, a16, a17, a18, a19, a20, a21, a22, a23, a24, a25, a26, a27, a28)) → ∃ n, wX_execute_58 post n 0 0 c h sz pe ta 0 1 0 0 (-1) fc fe cr a1 a2 a3 a4 a5 a6 a7 a8 a9 a10 a11 a12 a13 a14 a15 a16 a17 a18 a19 a20 a21 a22 a23 a24 a25 a26 a27 a28
theorem cc_exNum (n : Int32) : cc_EX 10 n 20 0 :=
  fun post c h sz pe ta fc fe cr a1 a2 a3 a4 a5 a6 a7 a8 a9 a10 a11 a12 a13 a14 a15 a16 a17 a18 a19 a20 a21 a22 a23 a24 a25 a26 a27 a28 e0 e1 e2 _ hp => ⟨3, br_f (by decide) (br_f (by decide) (cc_sLoad (k := 0) (v := 0) (by decide) (by decide) e0 e1 (nm_e (br_f (by decide) (br_f (by decide) (cc_sRet (k := 1) (v := 0) (r := 0) (by decide) (by decide) e2 rfl (fun _ => nm_e (br_f (by decide) (br_t (by decide) (hp _ _ _ _ _ _ _ _ _ _ _ _ _ _ _)))))))))) ⟩
theorem cc_exMiss (E C : Int32) : cc_EX 15 E C 2 :=
  fun post c h sz pe ta fc fe cr a1 a2 a3 a4 a5 a6 a7 a8 a9 a10 a11 a12 a13 a14 a15 a16 a17 a18 a19 a20 a21 a22 a23 a24 a25 a26 a27 a28 e0 e1 e2 _ hp => ⟨2, br_f (by decide) (br_f (by decide) (cc_sMiss (k := 0) (v := 0) (by decide) (by decide) e0 (nm_e (br_f (by decide) (br_t (by decide) (hp _ _ _ _ _ _ _ _ _ _ _ _ _ _ _))))))⟩
theorem cc_exNumMiss (n : Int32) : cc_EX 10 n 15 2 :=
  fun post c h sz pe ta fc fe cr a1 a2 a3 a4 a5 a6 a7 a8 a9 a10 a11 a12 a13 a14 a15 a16 a17 a18 a19 a20 a21 a22 a23 a24 a25 a26 a27 a28 e0 e1 e2 _ hp => ⟨3, br_f (by decide) (br_f (by decide) (cc_sLoad (k := 0) (v := 0) (by decide) (by decide) e0 e1 (nm_e (br_f (by decide) (br_f (by decide) (cc_sMiss (k := 1) (v := 1) (by decide) (by decide) e2 (nm_e (br_f (by decide) (br_t (by decide) (hp _ _ _ _ _ _ _ _ _ _ _ _ _ _ _))))))))))⟩
theorem cc_exMake {x : Nat} (hx : x < 24) : cc_EX 17 (nI x) 20 1 :=
  fun post c h sz pe ta fc fe cr a1 a2 a3 a4 a5 a6 a7 a8 a9 a10 a11 a12 a13 a14 a15 a16 a17 a18 a19 a20 a21 a22 a23 a24 a25 a26 a27 a28 e0 e1 e2 hg hp => ⟨3, br_f (by decide) (br_f (by decide) (cc_sMake (k := 0) (v := 0) (by decide) (by decide) hx e0 e1 hg (fun _ => nm_e (br_f (by decide) (br_f (by decide) (cc_sRet (k := 1) (v := 0) (r := 1) (by decide) (by decide) e2 rfl (fun _ => nm_e (br_f (by decide) (br_t (by decide) (hp _ _ _ _ _ _ _ _ _ _ _ _ _ _ _))))))))))⟩
/-- run answers R and leaves the programs as they are -/
def cc_RUN (R c h : Int32) (a1 a2 a3 a4 a5 a6 a7 a8 : Nat → Int32) : Prop := ∀ (post : Int32 → St2 → Prop) (sz pe ta va fr cl ca en fc fe cr : Int32) (a9 a10 a11 a12 a13 a14 a15 a16 a17 a18 a19 a20 a21 a22 a23 a24 a25 a26 a27 a28 : Nat → Int32), (∀ (sz pe ta va fr cl ca fc fe cr : Int32) (a9 a10 a11 a12 a13 a14 a15 a16 a17 a18 a19 a20 a21 a22 a23 a24 a25 a26 a27 a28 : Nat → Int32), post R (c, h, sz, pe, ta, va, fr, cl, ca, R, fc, fe, cr, a1, a2, a3, a4, a5, a6, a7, a8, a9, a10, a11, a12, a13, a14, a15, a16, a17, a18, a19, a20, a21, a22, a23, a24, a25, a26, a27, a28)) → wpX_run post (c, h, sz, pe, ta, va, fr, cl, ca, en, fc, fe, cr, a1, a2, a3, a4, a5, a6, a7, a8, a9, a10, a11, a12, a13, a14, a15, a16, a17, a18, a19, a20, a21, a22, a23, a24, a25, a26, a27, a28)
/-- free answers R and leaves the programs as they are -/
def cc_FR (R c h : Int32) (a1 a2 a3 a4 a5 a6 a7 a8 : Nat → Int32) : Prop := ∀ (post : Int32 → St2 → Prop) (sz pe ta va fr cl ca en fc fe cr : Int32) (a9 a10 a11 a12 a13 a14 a15 a16 a17 a18 a19 a20 a21 a22 a23 a24 a25 a26 a27 a28 : Nat → Int32), (∀ fc fe cr : Int32, post R (c, h, sz, pe, ta, va, fr, cl, ca, en, fc, fe, cr, a1, a2, a3, a4, a5, a6, a7, a8, a9, a10, a11, a12, a13, a14, a15, a16, a17, a18, a19, a20, a21, a22, a23, a24, a25, a26, a27, a28)) → wpX_free post (c, h, sz, pe, ta, va, fr, cl, ca, en, fc, fe, cr, a1, a2, a3, a4, a5, a6, a7, a8, a9, a10, a11, a12, a13, a14, a15, a16, a17, a18, a19, a20, a21, a22, a23, a24, a25, a26, a27, a28)
/-- x lies inside of top -/
def cc_IN (a6 : Nat → Int32) (x top : Nat) : Prop := ∀ (post : Int32 → Prop) (c h sz pe ta va fr cl ca en fc fe cr : Int32) (a1 a2 a3 a4 a5 a7 a8 a9 a10 a11 a12 a13 a14 a15 a16 a17 a18 a19 a20 a21 a22 a23 a24 a25 a26 a27 a28 : Nat → Int32), post 1 → wpX_inside post (c, h, sz, pe, ta, va, fr, cl, ca, en, fc, fe, cr, a1, a2, a3, a4, a5, a6, a7, a8, a9, a10, a11, a12, a13, a14, a15, a16, a17, a18, a19, a20, a21, a22, a23, a24, a25, a26, a27, a28) (nI x) (nI top)
section
variable {c : Int32} {a1 a2 a3 a4 a5 a6 a7 a8 : Nat → Int32}
theorem cc_run {k x : Nat} {C E C' R : Int32} (hk : k < 6) (e : a8 k = nI x) (H : cc_CA a1 a2 a3 a4 a5 a6 a7 a8 x C E C') (G : cc_EX C E C' R) : cc_RUN R c (nI (k + 1)) a1 a2 a3 a4 a5 a6 a7 a8 :=
  fun post sz pe ta va fr cl ca en fc fe cr a9 a10 a11 a12 a13 a14 a15 a16 a17 a18 a19 a20 a21 a22 a23 a24 a25 a26 a27 a28 hp => br_f (nI_ne0 (by omega) (by omega)) ⟨ek_v (P := fun y => vp_in y 6) (nI_pred k) (pk_in k 6 hk),
    ek_v (P := fun y => wpX_compileAll _ (c, nI (k + 1), sz, pe, ta, va, fr, cl, ca, en, fc, fe, cr, a1, a2, a3, a4, a5, a6, a7, a8, a9, a10, a11, a12, a13, a14, a15, a16, a17, a18, a19, a20, a21, a22, a23, a24, a25, a26, a27, a28) y) (ek_v (P := fun y => a8 y.toNatClampNeg = nI x) (nI_pred k) (cc_rd (by omega) e))
      (H _ c (nI (k + 1)) _ _ _ _ _ _ _ _ _ _ _ _ _ _ _ _ _ _ _ _ _ _ _ _ _ _ _ _ _ _ _ (fun sz pe ta fc fe cr a9 a10 a11 a12 a14 a15 a16 e0 e1 e2 hg => nm_e (nm_e (G _ _ _ _ _ _ _ _ _ _ _ _ _ _ _ _ _ _ _ _ _ _ _ _ _ _ _ _ _ _ _ _ _ _ _ _ _ e0 e1 e2 hg (fun va fr cl ca a18 a19 a20 a21 a22 a23 a24 a25 a26 a27 a28 => hp _ _ _ _ _ _ _ _ _ _ _ _ _ _ _ _ _ _ _ _ _ _ _ _ _ _ _ _ _ _)))))⟩
theorem cc_in0 {x : Nat} : cc_IN a6 x x :=
  fun post c h sz pe ta va fr cl ca en fc fe cr a1 a2 a3 a4 a5 a7 a8 a9 a10 a11 a12 a13 a14 a15 a16 a17 a18 a19 a20 a21 a22 a23 a24 a25 a26 a27 a28 hp => ⟨1, br_f (by decide) (br_t rfl (br_t rfl hp))⟩
theorem cc_in1 {x y : Nat} (hx : x < 24) (hy : y < 24) (n : x ≠ y) (e : a6 x = nI y) : cc_IN a6 x y :=
  fun post c h sz pe ta va fr cl ca en fc fe cr a1 a2 a3 a4 a5 a7 a8 a9 a10 a11 a12 a13 a14 a15 a16 a17 a18 a19 a20 a21 a22 a23 a24 a25 a26 a27 a28 hp => ⟨2, br_f (by decide) (br_f (fun z => n ((nI_eq (by omega) (by omega)).mp z)) ⟨pk_in x 24 hx, br_f (cc_p (P := fun y => ¬ y < 0) (by omega) (by rw [e]; exact nI_pos (by omega))) ⟨pk_in x 24 hx, nm_r (cc_rd (by omega) e) (nm_e (br_f (by decide) (br_t rfl (br_t rfl hp))))⟩⟩)⟩
theorem cc_in2 {x y z : Nat} (hx : x < 24) (hy : y < 24) (hz : z < 24) (n : x ≠ z) (n' : y ≠ z) (e : a6 x = nI y) (e' : a6 y = nI z) : cc_IN a6 x z :=
  fun post c h sz pe ta va fr cl ca en fc fe cr a1 a2 a3 a4 a5 a7 a8 a9 a10 a11 a12 a13 a14 a15 a16 a17 a18 a19 a20 a21 a22 a23 a24 a25 a26 a27 a28 hp => ⟨3, br_f (by decide) (br_f (fun z => n ((nI_eq (by omega) (by omega)).mp z)) ⟨pk_in x 24 hx, br_f (cc_p (P := fun y => ¬ y < 0) (by omega) (by rw [e]; exact nI_pos (by omega))) ⟨pk_in x 24 hx, nm_r (cc_rd (by omega) e) (nm_e
    (br_f (by decide) (br_f (fun z => n' ((nI_eq (by omega) (by omega)).mp z)) ⟨pk_in y 24 hy, br_f (cc_p (P := fun y => ¬ y < 0) (by omega) (by rw [e']; exact nI_pos (by omega))) ⟨pk_in y 24 hy, nm_r (cc_rd (by omega) e') (nm_e (br_f (by decide) (br_t rfl (br_t rfl hp))))⟩⟩)))⟩⟩)⟩
end
section
variable {c h sz pe ta va fr cl ca en fc fe cr : Int32} {a1 a2 a3 a4 a5 a6 a7 a8 a9 a10 a11 a12 a13 a14 a15 a16 a17 a18 a19 a20 a21 a22 a23 a24 a25 a26 a27 a28 : Nat → Int32}
theorem cc_frEnd {post : Int32 → St2 → Prop} {n x top : Nat} {s : Int32} (hx : x < 2 ^ 31) (ht : top < x) (hp : post s (c, h, sz, pe, ta, va, fr, cl, ca, en, fc, fe, cr, a1, a2, a3, a4, a5, a6, a7, a8, a9, a10, a11, a12, a13, a14, a15, a16, a17, a18, a19, a20, a21, a22, a23, a24, a25, a26, a27, a28)) : wX_free_26 post (nI top) (n + 1) s (nI x) c h sz pe ta va fr cl ca en fc fe cr a1 a2 a3 a4 a5 a6 a7 a8 a9 a10 a11 a12 a13 a14 a15 a16 a17 a18 a19 a20 a21 a22 a23 a24 a25 a26 a27 a28 :=
  br_t (nI_lt ht hx) hp
theorem cc_frSkip {post : Int32 → St2 → Prop} {n x top : Nat} {s : Int32} (hx : x < 24) (ht : x ≤ top) (h2 : top < 24) (k : ¬ a1 x = 9) (hp : wX_free_26 post (nI top) n s (nI (x + 1)) c h sz pe ta va fr cl ca en fc fe cr a1 a2 a3 a4 a5 a6 a7 a8 a9 a10 a11 a12 a13 a14 a15 a16 a17 a18 a19 a20 a21 a22 a23 a24 a25 a26 a27 a28) : wX_free_26 post (nI top) (n + 1) s (nI x) c h sz pe ta va fr cl ca en fc fe cr a1 a2 a3 a4 a5 a6 a7 a8 a9 a10 a11 a12 a13 a14 a15 a16 a17 a18 a19 a20 a21 a22 a23 a24 a25 a26 a27 a28 :=
  br_f (nI_nlt ht (by omega)) ⟨pk_in x 24 hx, br_f (cc_p (P := fun y => ¬ y = 9) (by omega) k) (nm_r (nI_1 x) hp)⟩
theorem cc_frFree {post : Int32 → St2 → Prop} {n x top : Nat} {s v E : Int32} (hx : x < 24) (ht : x ≤ top) (h2 : top < 24) (k : a1 x = 9) (ev : a5 x = v) (HI : cc_IN a6 x top) (H : cc_LK a1 a5 a6 a7 x v 15 E)
    (hp : wX_free_26 post (nI top) n (s ||| ((1 : Int32) <<< (v &&& 31))) (nI (x + 1)) c h sz pe ta va fr cl ca en 15 E (-1) a1 a2 a3 a4 a5 a6 a7 a8 a9 a10 a11 a12 a13 a14 a15 a16 a17 a18 a19 a20 a21 a22 a23 a24 a25 a26 a27 a28) : wX_free_26 post (nI top) (n + 1) s (nI x) c h sz pe ta va fr cl ca en fc fe cr a1 a2 a3 a4 a5 a6 a7 a8 a9 a10 a11 a12 a13 a14 a15 a16 a17 a18 a19 a20 a21 a22 a23 a24 a25 a26 a27 a28 :=
  br_f (nI_nlt ht (by omega)) ⟨pk_in x 24 hx, br_t (cc_rd (by omega) k) (HI _ c h sz pe ta va fr cl ca en fc fe cr a1 a2 a3 a4 a5 a7 a8 a9 a10 a11 a12 a13 a14 a15 a16 a17 a18 a19 a20 a21 a22 a23 a24 a25 a26 a27 a28 (br_f (by decide) ⟨pk_in x 24 hx, ek_v (P := fun y => wpX_lookOut _ (c, h, sz, pe, ta, va, fr, cl, ca, en, fc, fe, cr, a1, a2, a3, a4, a5, a6, a7, a8, a9, a10, a11, a12, a13, a14, a15, a16, a17, a18, a19, a20, a21, a22, a23, a24, a25, a26, a27, a28) (nI x) y) (cc_rd (by omega) ev)
    (H _ c h sz pe ta va fr cl ca en fc fe cr a2 a3 a4 a8 a9 a10 a11 a12 a13 a14 a15 a16 a17 a18 a19 a20 a21 a22 a23 a24 a25 a26 a27 a28 ⟨1, br_f (by decide) (br_t (by decide) (br_t rfl ⟨pk_in x 24 hx, nm_r (cc_p (P := fun y => (s ||| ((1 : Int32) <<< (y &&& 31))) = s ||| ((1 : Int32) <<< (v &&& 31))) (by omega) (by rw [ev])) (nm_r (nI_1 x) hp)⟩))⟩)⟩))⟩
theorem cc_frArg {post : Int32 → St2 → Prop} {n x top : Nat} {s v E : Int32} (hx : x < 24) (ht : x ≤ top) (h2 : top < 24) (k : a1 x = 9) (ev : a5 x = v) (HI : cc_IN a6 x top) (H : cc_LK a1 a5 a6 a7 x v 12 E)
    (hp : wX_free_26 post (nI top) n s (nI (x + 1)) c h sz pe ta va fr cl ca en 12 E (-1) a1 a2 a3 a4 a5 a6 a7 a8 a9 a10 a11 a12 a13 a14 a15 a16 a17 a18 a19 a20 a21 a22 a23 a24 a25 a26 a27 a28) : wX_free_26 post (nI top) (n + 1) s (nI x) c h sz pe ta va fr cl ca en fc fe cr a1 a2 a3 a4 a5 a6 a7 a8 a9 a10 a11 a12 a13 a14 a15 a16 a17 a18 a19 a20 a21 a22 a23 a24 a25 a26 a27 a28 :=
  br_f (nI_nlt ht (by omega)) ⟨pk_in x 24 hx, br_t (cc_rd (by omega) k) (HI _ c h sz pe ta va fr cl ca en fc fe cr a1 a2 a3 a4 a5 a7 a8 a9 a10 a11 a12 a13 a14 a15 a16 a17 a18 a19 a20 a21 a22 a23 a24 a25 a26 a27 a28 (br_f (by decide) ⟨pk_in x 24 hx, ek_v (P := fun y => wpX_lookOut _ (c, h, sz, pe, ta, va, fr, cl, ca, en, fc, fe, cr, a1, a2, a3, a4, a5, a6, a7, a8, a9, a10, a11, a12, a13, a14, a15, a16, a17, a18, a19, a20, a21, a22, a23, a24, a25, a26, a27, a28) (nI x) y) (cc_rd (by omega) ev)
    (H _ c h sz pe ta va fr cl ca en fc fe cr a2 a3 a4 a8 a9 a10 a11 a12 a13 a14 a15 a16 a17 a18 a19 a20 a21 a22 a23 a24 a25 a26 a27 a28 ⟨1, br_f (by decide) (br_t (by decide) (br_f (by decide) (nm_r (nI_1 x) hp)))⟩)⟩))⟩
theorem cc_free {post : Int32 → St2 → Prop} {k top : Nat} (hk : k < 6) (e : a8 k = nI top) (hp : ∃ n, wX_free_26 post (nI top) n 0 0 c (nI (k + 1)) sz pe ta va fr cl ca en fc fe cr a1 a2 a3 a4 a5 a6 a7 a8 a9 a10 a11 a12 a13 a14 a15 a16 a17 a18 a19 a20 a21 a22 a23 a24 a25 a26 a27 a28) : wpX_free post (c, nI (k + 1), sz, pe, ta, va, fr, cl, ca, en, fc, fe, cr, a1, a2, a3, a4, a5, a6, a7, a8, a9, a10, a11, a12, a13, a14, a15, a16, a17, a18, a19, a20, a21, a22, a23, a24, a25, a26, a27, a28) :=
  br_f (nI_ne0 (by omega) (by omega)) ⟨ek_v (P := fun y => vp_in y 6) (nI_pred k) (pk_in k 6 hk), nm_r (ek_v (P := fun y => a8 y.toNatClampNeg = nI top) (nI_pred k) (cc_rd (by omega) e)) hp⟩
end
end
section
/-! making programs -/
theorem cc_nlt {a b : Int32} : a ≤ b ↔ ¬ b < a := by
  rw [Int32.le_iff_toInt_le, Int32.lt_iff_toInt_lt]
  omega
theorem cc_lt4 (v : Int32) : v < 4 ↔ ¬ 3 < v := by
  rw [Int32.lt_iff_toInt_lt, Int32.lt_iff_toInt_lt, show (4 : Int32).toInt = 4 by decide, show (3 : Int32).toInt = 3 by decide]
  omega
theorem cc_bOut {p q A B : Prop} (h : p ∨ q) (a : A) : (p → A) ∧ (¬ p → ((q → A) ∧ (¬ q → B))) :=
  ⟨fun _ => a, fun np => ⟨fun _ => a, fun nq => absurd h (fun z => z.elim np nq)⟩⟩
theorem cc_bIn {p q A B : Prop} (hp : ¬ p) (hq : ¬ q) (b : B) : (p → A) ∧ (¬ p → ((q → A) ∧ (¬ q → B))) :=
  ⟨fun z => absurd z hp, fun _ => ⟨fun z => absurd z hq, fun _ => b⟩⟩
theorem cc_cOut {p q A B : Prop} (h : p ∨ ¬ q) (a : A) : (p → A) ∧ (¬ p → ((q → B) ∧ (¬ q → A))) :=
  ⟨fun _ => a, fun np => ⟨fun q => absurd h (fun z => z.elim np (fun nq => nq q)), fun _ => a⟩⟩
theorem cc_cIn {p q A B : Prop} (hp : ¬ p) (hq : q) (b : B) : (p → A) ∧ (¬ p → ((q → B) ∧ (¬ q → A))) :=
  ⟨fun z => absurd z hp, fun _ => ⟨fun _ => b, fun z => absurd hq z⟩⟩
theorem cc_ne {q m : Nat} {y : Int32} (e : y = nI m) (h : q < m) (hm : m < 2 ^ 31) : ¬ nI q = y := by
  rw [e, nI_eq (by omega) hm]
  omega
theorem cc_ixp {k : Nat} {f : Nat → Int32} {p : Int32} (hk : k < 2 ^ 31) : upd f (nI (k + 1) - 1).toNatClampNeg p = upd f k p := by rw [nI_pred, nI_clamp hk]
theorem cc_rdp {k : Nat} {f : Nat → Int32} {y : Int32} (hk : k < 2 ^ 31) (e : f k = y) : f (nI (k + 1) - 1).toNatClampNeg = y := by rw [nI_pred, nI_clamp hk]; exact e
theorem cc_inp {k N : Nat} (hk : k < N) (hN : N < 2 ^ 31) : vp_in (nI (k + 1) - 1) N := by rw [nI_pred]; exact vp_in_nI hk hN
section
variable {c h sz pe ta va fr cl ca en fc fe cr : Int32} {a1 a2 a3 a4 a5 a6 a7 a8 a9 a10 a11 a12 a13 a14 a15 a16 a17 a18 a19 a20 a21 a22 a23 a24 a25 a26 a27 a28 : Nat → Int32}
theorem cc_adN {post : St2 → Prop} {w : Int32} (hp : post (c, h, sz, pe, ta, va, fr, cl, ca, en, fc, fe, cr, a1, a2, a3, a4, a5, a6, a7, a8, a9, a10, a11, a12, a13, a14, a15, a16, a17, a18, a19, a20, a21, a22, a23, a24, a25, a26, a27, a28)) : wpX_adopt post (c, h, sz, pe, ta, va, fr, cl, ca, en, fc, fe, cr, a1, a2, a3, a4, a5, a6, a7, a8, a9, a10, a11, a12, a13, a14, a15, a16, a17, a18, a19, a20, a21, a22, a23, a24, a25, a26, a27, a28) (-1) w := br_t (by decide) hp
theorem cc_adY {post : St2 → Prop} {x : Nat} {w : Int32} (hx : x < 24) (hp : post (c, h, sz, pe, ta, va, fr, cl, ca, en, fc, fe, cr, a1, a2, a3, a4, a5, upd a6 x c, upd a7 x w, a8, a9, a10, a11, a12, a13, a14, a15, a16, a17, a18, a19, a20, a21, a22, a23, a24, a25, a26, a27, a28)) : wpX_adopt post (c, h, sz, pe, ta, va, fr, cl, ca, en, fc, fe, cr, a1, a2, a3, a4, a5, a6, a7, a8, a9, a10, a11, a12, a13, a14, a15, a16, a17, a18, a19, a20, a21, a22, a23, a24, a25, a26, a27, a28) (nI x) w :=
  br_f (nI_pos (by omega)) ⟨pk_in x 24 hx, nm_r (cc_ix (by omega)) ⟨pk_in x 24 hx, nm_r (cc_ix (by omega)) hp⟩⟩
theorem cc_adN2 {post : St2 → Prop} {w : Int32} (hp : post (c, h, sz, pe, ta, va, fr, cl, ca, en, fc, fe, cr, a1, a2, a3, a4, a5, a6, a7, a8, a9, a10, a11, a12, a13, a14, a15, a16, a17, a18, a19, a20, a21, a22, a23, a24, a25, a26, a27, a28)) : wpX_adopt_2 post (c, h, sz, pe, ta, va, fr, cl, ca, en, fc, fe, cr, a1, a2, a3, a4, a5, a6, a7, a8, a9, a10, a11, a12, a13, a14, a15, a16, a17, a18, a19, a20, a21, a22, a23, a24, a25, a26, a27, a28) (-1) w := br_t (by decide) hp
theorem cc_adY2 {post : St2 → Prop} {x : Nat} {w : Int32} (hx : x < 24) (hp : post (c, h, sz, pe, ta, va, fr, cl, ca, en, fc, fe, cr, a1, a2, a3, a4, a5, upd a6 x c, upd a7 x w, a8, a9, a10, a11, a12, a13, a14, a15, a16, a17, a18, a19, a20, a21, a22, a23, a24, a25, a26, a27, a28)) : wpX_adopt_2 post (c, h, sz, pe, ta, va, fr, cl, ca, en, fc, fe, cr, a1, a2, a3, a4, a5, a6, a7, a8, a9, a10, a11, a12, a13, a14, a15, a16, a17, a18, a19, a20, a21, a22, a23, a24, a25, a26, a27, a28) (nI x) w :=
  br_f (nI_pos (by omega)) ⟨pk_in x 24 hx, nm_r (cc_ix (by omega)) ⟨pk_in x 24 hx, nm_r (cc_ix (by omega)) hp⟩⟩
theorem cc_mkLeaf {post : Int32 → St2 → Prop} {q : Nat} {w : Int32} (hq : q < 24) (hp : post (nI q) (nI (q + 1), h, sz, pe, ta, va, fr, cl, ca, en, fc, fe, cr, upd a1 q w, upd a2 q (-1), upd a3 q (-1), upd a4 q (-1), a5, upd a6 q (-1), a7, a8, a9, a10, a11, a12, a13, a14, a15, a16, a17, a18, a19, a20, a21, a22, a23, a24, a25, a26, a27, a28)) : wpX_make post (nI q, h, sz, pe, ta, va, fr, cl, ca, en, fc, fe, cr, a1, a2, a3, a4, a5, a6, a7, a8, a9, a10, a11, a12, a13, a14, a15, a16, a17, a18, a19, a20, a21, a22, a23, a24, a25, a26, a27, a28) w (-1) (-1) (-1) :=
  ⟨pk_in q 24 hq, nm_r (cc_ix (by omega)) ⟨pk_in q 24 hq, nm_r (cc_ix (by omega)) ⟨pk_in q 24 hq, nm_r (cc_ix (by omega)) ⟨pk_in q 24 hq, nm_r (cc_ix (by omega)) ⟨pk_in q 24 hq, nm_r (cc_ix (by omega))
    (cc_adN (cc_adN (cc_adN (nm_r (nI_1 q) (ek_v (P := fun r => post r _) (nI_pred q) hp)))))⟩⟩⟩⟩⟩
theorem cc_mkFn {post : Int32 → St2 → Prop} {q x : Nat} {w : Int32} (hq : q < 24) (hx : x < 24) (hp : post (nI q) (nI (q + 1), h, sz, pe, ta, va, fr, cl, ca, en, fc, fe, cr, upd a1 q w, upd a2 q (nI x), upd a3 q (-1), upd a4 q (-1), a5, upd (upd a6 q (-1)) x (nI q), upd a7 x 0, a8, a9, a10, a11, a12, a13, a14, a15, a16, a17, a18, a19, a20, a21, a22, a23, a24, a25, a26, a27, a28)) : wpX_make post (nI q, h, sz, pe, ta, va, fr, cl, ca, en, fc, fe, cr, a1, a2, a3, a4, a5, a6, a7, a8, a9, a10, a11, a12, a13, a14, a15, a16, a17, a18, a19, a20, a21, a22, a23, a24, a25, a26, a27, a28) w (nI x) (-1) (-1) :=
  ⟨pk_in q 24 hq, nm_r (cc_ix (by omega)) ⟨pk_in q 24 hq, nm_r (cc_ix (by omega)) ⟨pk_in q 24 hq, nm_r (cc_ix (by omega)) ⟨pk_in q 24 hq, nm_r (cc_ix (by omega)) ⟨pk_in q 24 hq, nm_r (cc_ix (by omega))
    (cc_adY hx (cc_adN (cc_adN (nm_r (nI_1 q) (ek_v (P := fun r => post r _) (nI_pred q) hp)))))⟩⟩⟩⟩⟩
theorem cc_mkTwo {post : Int32 → St2 → Prop} {q x y : Nat} {w : Int32} (hq : q < 24) (hx : x < 24) (hy : y < 24) (hp : post (nI q) (nI (q + 1), h, sz, pe, ta, va, fr, cl, ca, en, fc, fe, cr, upd a1 q w, upd a2 q (nI x), upd a3 q (nI y), upd a4 q (-1), a5, upd (upd (upd a6 q (-1)) x (nI q)) y (nI q), upd (upd a7 x 0) y 1, a8, a9, a10, a11, a12, a13, a14, a15, a16, a17, a18, a19, a20, a21, a22, a23, a24, a25, a26, a27, a28)) : wpX_make_2 post (nI q, h, sz, pe, ta, va, fr, cl, ca, en, fc, fe, cr, a1, a2, a3, a4, a5, a6, a7, a8, a9, a10, a11, a12, a13, a14, a15, a16, a17, a18, a19, a20, a21, a22, a23, a24, a25, a26, a27, a28) w (nI x) (nI y) (-1) :=
  ⟨pk_in q 24 hq, nm_r (cc_ix (by omega)) ⟨pk_in q 24 hq, nm_r (cc_ix (by omega)) ⟨pk_in q 24 hq, nm_r (cc_ix (by omega)) ⟨pk_in q 24 hq, nm_r (cc_ix (by omega)) ⟨pk_in q 24 hq, nm_r (cc_ix (by omega))
    (cc_adY2 hx (cc_adY2 hy (cc_adN2 (nm_r (nI_1 q) (ek_v (P := fun r => post r _) (nI_pred q) hp)))))⟩⟩⟩⟩⟩
theorem cc_leaf {post : Int32 → St2 → Prop} {q k : Nat} {w n : Int32} (hq : q < 24) (hk : k < 6) (hp : post (nI (k + 1)) (nI (q + 1), nI (k + 1), sz, pe, ta, va, fr, cl, ca, en, fc, fe, cr, upd a1 q w, upd a2 q (-1), upd a3 q (-1), upd a4 q (-1), upd a5 q n, upd a6 q (-1), a7, upd a8 k (nI q), a9, a10, a11, a12, a13, a14, a15, a16, a17, a18, a19, a20, a21, a22, a23, a24, a25, a26, a27, a28)) : wpX_leaf post (nI q, nI k, sz, pe, ta, va, fr, cl, ca, en, fc, fe, cr, a1, a2, a3, a4, a5, a6, a7, a8, a9, a10, a11, a12, a13, a14, a15, a16, a17, a18, a19, a20, a21, a22, a23, a24, a25, a26, a27, a28) w n :=
  br_f (cc_ne (m := 24) rfl hq (by omega)) (br_f (cc_ne (m := 6) rfl hk (by omega)) (cc_mkLeaf hq ⟨pk_in q 24 hq, nm_r (cc_ix (by omega)) ⟨pk_in k 6 hk, nm_r (cc_ix (by omega)) (nm_r (nI_1 k) hp)⟩⟩))
theorem cc_numIn {post : Int32 → St2 → Prop} {q k : Nat} {n : Int32} (h1 : ¬ n < -9) (h2 : n ≤ 9) (hq : q < 24) (hk : k < 6) (hp : post (nI (k + 1)) (nI (q + 1), nI (k + 1), sz, pe, ta, va, fr, cl, ca, en, fc, fe, cr, upd a1 q 8, upd a2 q (-1), upd a3 q (-1), upd a4 q (-1), upd a5 q n, upd a6 q (-1), a7, upd a8 k (nI q), a9, a10, a11, a12, a13, a14, a15, a16, a17, a18, a19, a20, a21, a22, a23, a24, a25, a26, a27, a28)) : wpX_number post (nI q, nI k, sz, pe, ta, va, fr, cl, ca, en, fc, fe, cr, a1, a2, a3, a4, a5, a6, a7, a8, a9, a10, a11, a12, a13, a14, a15, a16, a17, a18, a19, a20, a21, a22, a23, a24, a25, a26, a27, a28) n :=
  cc_cIn h1 h2 (cc_leaf hq hk hp)
theorem cc_numOut {post : Int32 → St2 → Prop} {n : Int32} (h1 : n < -9 ∨ ¬ n ≤ 9) (hp : post (-1) (c, h, sz, pe, ta, va, fr, cl, ca, en, fc, fe, cr, a1, a2, a3, a4, a5, a6, a7, a8, a9, a10, a11, a12, a13, a14, a15, a16, a17, a18, a19, a20, a21, a22, a23, a24, a25, a26, a27, a28)) : wpX_number post (c, h, sz, pe, ta, va, fr, cl, ca, en, fc, fe, cr, a1, a2, a3, a4, a5, a6, a7, a8, a9, a10, a11, a12, a13, a14, a15, a16, a17, a18, a19, a20, a21, a22, a23, a24, a25, a26, a27, a28) n := cc_cOut h1 hp
theorem cc_bnIn {post : Int32 → Prop} {v : Int32} (h1 : ¬ v < 0) (h2 : v < 4) (hp : post 0) : wpX_badName post (c, h, sz, pe, ta, va, fr, cl, ca, en, fc, fe, cr, a1, a2, a3, a4, a5, a6, a7, a8, a9, a10, a11, a12, a13, a14, a15, a16, a17, a18, a19, a20, a21, a22, a23, a24, a25, a26, a27, a28) v := cc_cIn h1 h2 hp
theorem cc_bnOut {post : Int32 → Prop} {v : Int32} (h1 : v < 0 ∨ ¬ v < 4) (hp : post 1) : wpX_badName post (c, h, sz, pe, ta, va, fr, cl, ca, en, fc, fe, cr, a1, a2, a3, a4, a5, a6, a7, a8, a9, a10, a11, a12, a13, a14, a15, a16, a17, a18, a19, a20, a21, a22, a23, a24, a25, a26, a27, a28) v := cc_cOut h1 hp
theorem cc_nameIn {post : Int32 → St2 → Prop} {q k : Nat} {n : Int32} (h1 : ¬ n < 0) (h2 : n < 4) (hq : q < 24) (hk : k < 6) (hp : post (nI (k + 1)) (nI (q + 1), nI (k + 1), sz, pe, ta, va, fr, cl, ca, en, fc, fe, cr, upd a1 q 9, upd a2 q (-1), upd a3 q (-1), upd a4 q (-1), upd a5 q n, upd a6 q (-1), a7, upd a8 k (nI q), a9, a10, a11, a12, a13, a14, a15, a16, a17, a18, a19, a20, a21, a22, a23, a24, a25, a26, a27, a28)) : wpX_name post (nI q, nI k, sz, pe, ta, va, fr, cl, ca, en, fc, fe, cr, a1, a2, a3, a4, a5, a6, a7, a8, a9, a10, a11, a12, a13, a14, a15, a16, a17, a18, a19, a20, a21, a22, a23, a24, a25, a26, a27, a28) n := by
  unfold wpX_name
  dsimp only
  exact cc_bnIn h1 h2 (br_t rfl (cc_leaf hq hk hp))
theorem cc_nameOut {post : Int32 → St2 → Prop} {n : Int32} (h1 : n < 0 ∨ ¬ n < 4) (hp : post (-1) (c, h, sz, pe, ta, va, fr, cl, ca, en, fc, fe, cr, a1, a2, a3, a4, a5, a6, a7, a8, a9, a10, a11, a12, a13, a14, a15, a16, a17, a18, a19, a20, a21, a22, a23, a24, a25, a26, a27, a28)) : wpX_name post (c, h, sz, pe, ta, va, fr, cl, ca, en, fc, fe, cr, a1, a2, a3, a4, a5, a6, a7, a8, a9, a10, a11, a12, a13, a14, a15, a16, a17, a18, a19, a20, a21, a22, a23, a24, a25, a26, a27, a28) n := by
  unfold wpX_name
  dsimp only
  exact cc_bnOut h1 (br_f (by decide) hp)
theorem cc_twoOut {post : Int32 → St2 → Prop} {n : Int32} (h1 : n < 0 ∨ ¬ n ≤ 4) (hp : post (-1) (c, h, sz, pe, ta, va, fr, cl, ca, en, fc, fe, cr, a1, a2, a3, a4, a5, a6, a7, a8, a9, a10, a11, a12, a13, a14, a15, a16, a17, a18, a19, a20, a21, a22, a23, a24, a25, a26, a27, a28)) : wpX_two post (c, h, sz, pe, ta, va, fr, cl, ca, en, fc, fe, cr, a1, a2, a3, a4, a5, a6, a7, a8, a9, a10, a11, a12, a13, a14, a15, a16, a17, a18, a19, a20, a21, a22, a23, a24, a25, a26, a27, a28) n := cc_cOut h1 hp
theorem cc_twoFew {post : Int32 → St2 → Prop} {q k : Nat} {n : Int32} (h1 : ¬ n < 0) (h2 : n ≤ 4) (hq : q < 24) (hk : k < 2) (hp : post (-3) (nI q, nI k, sz, pe, ta, va, fr, cl, ca, en, fc, fe, cr, a1, a2, a3, a4, a5, a6, a7, a8, a9, a10, a11, a12, a13, a14, a15, a16, a17, a18, a19, a20, a21, a22, a23, a24, a25, a26, a27, a28)) : wpX_two post (nI q, nI k, sz, pe, ta, va, fr, cl, ca, en, fc, fe, cr, a1, a2, a3, a4, a5, a6, a7, a8, a9, a10, a11, a12, a13, a14, a15, a16, a17, a18, a19, a20, a21, a22, a23, a24, a25, a26, a27, a28) n :=
  cc_cIn h1 h2 (br_f (cc_ne (m := 24) rfl hq (by omega)) (br_f (nI_ge (b := 2) hk (by decide)) hp))
theorem cc_twoIn {post : Int32 → St2 → Prop} {q k x y : Nat} {n : Int32} (h1 : ¬ n < 0) (h2 : n ≤ 4) (hq : q < 24) (hk : k + 1 < 6) (hx : x < 24) (hy : y < 24) (ex : a8 k = nI x) (ey : a8 (k + 1) = nI y)
    (hp : post (nI (k + 1)) (nI (q + 1), nI (k + 1), sz, pe, ta, va, fr, cl, ca, en, fc, fe, cr, upd a1 q n, upd a2 q (nI x), upd a3 q (nI y), upd a4 q (-1), a5, upd (upd (upd a6 q (-1)) x (nI q)) y (nI q), upd (upd a7 x 0) y 1, upd a8 k (nI q), a9, a10, a11, a12, a13, a14, a15, a16, a17, a18, a19, a20, a21, a22, a23, a24, a25, a26, a27, a28)) : wpX_two post (nI q, nI (k + 1 + 1), sz, pe, ta, va, fr, cl, ca, en, fc, fe, cr, a1, a2, a3, a4, a5, a6, a7, a8, a9, a10, a11, a12, a13, a14, a15, a16, a17, a18, a19, a20, a21, a22, a23, a24, a25, a26, a27, a28) n :=
  cc_cIn h1 h2 (br_f (cc_ne (m := 24) rfl hq (by omega)) (br_t (nI_le (a := 2) (by omega) (by omega)) (nm_r (nI_pred (k + 1)) ⟨cc_inp (by omega) (by decide), pk_in (k + 1) 6 hk,
    ek_v (P := fun r => wpX_make_2 _ (nI q, nI (k + 1), sz, pe, ta, va, fr, cl, ca, en, fc, fe, cr, a1, a2, a3, a4, a5, a6, a7, a8, a9, a10, a11, a12, a13, a14, a15, a16, a17, a18, a19, a20, a21, a22, a23, a24, a25, a26, a27, a28) n r _ (-1)) (cc_rdp (by omega) ex) (ek_v (P := fun r => wpX_make_2 _ (nI q, nI (k + 1), sz, pe, ta, va, fr, cl, ca, en, fc, fe, cr, a1, a2, a3, a4, a5, a6, a7, a8, a9, a10, a11, a12, a13, a14, a15, a16, a17, a18, a19, a20, a21, a22, a23, a24, a25, a26, a27, a28) n (nI x) r (-1)) (cc_rd (by omega) ey)
      (cc_mkTwo hq hx hy ⟨cc_inp (by omega) (by decide), nm_r (cc_ixp (by omega)) hp⟩))⟩)))
theorem cc_fnOut {post : Int32 → St2 → Prop} {f v : Int32} (hq : (f < 0 ∨ ¬ f < 4) ∨ (¬ f < 0 ∧ f < 4 ∧ (v < 0 ∨ ¬ v < 4))) (hp : post (-1) (c, h, sz, pe, ta, va, fr, cl, ca, en, fc, fe, cr, a1, a2, a3, a4, a5, a6, a7, a8, a9, a10, a11, a12, a13, a14, a15, a16, a17, a18, a19, a20, a21, a22, a23, a24, a25, a26, a27, a28)) : wpX_function post (c, h, sz, pe, ta, va, fr, cl, ca, en, fc, fe, cr, a1, a2, a3, a4, a5, a6, a7, a8, a9, a10, a11, a12, a13, a14, a15, a16, a17, a18, a19, a20, a21, a22, a23, a24, a25, a26, a27, a28) f v := by
  unfold wpX_function
  dsimp only
  exact hq.elim (fun z => cc_bnOut z (br_f (by decide) hp)) (fun z => cc_bnIn z.1 z.2.1 (br_t rfl (cc_bnOut z.2.2 (br_f (by decide) hp))))
theorem cc_fnIn {post : Int32 → St2 → Prop} {q k x : Nat} {f v : Int32} (h1 : ¬ f < 0) (h2 : f < 4) (h3 : ¬ v < 0) (h4 : v < 4) (hq : q < 24) (hk : k < 6) (hx : x < 24) (ex : a8 k = nI x)
    (hp : post (nI (k + 1)) (nI (q + 1), nI (k + 1), sz, pe, ta, va, fr, cl, ca, en, fc, fe, cr, upd a1 q 7, upd a2 q (nI x), upd a3 q (-1), upd a4 q (-1), upd a5 q (4 * f + v), upd (upd a6 q (-1)) x (nI q), upd a7 x 0, upd a8 k (nI q), a9, a10, a11, a12, a13, a14, a15, a16, a17, a18, a19, a20, a21, a22, a23, a24, a25, a26, a27, a28)) : wpX_function post (nI q, nI (k + 1), sz, pe, ta, va, fr, cl, ca, en, fc, fe, cr, a1, a2, a3, a4, a5, a6, a7, a8, a9, a10, a11, a12, a13, a14, a15, a16, a17, a18, a19, a20, a21, a22, a23, a24, a25, a26, a27, a28) f v := by
  unfold wpX_function
  dsimp only
  exact cc_bnIn h1 h2 (br_t rfl (cc_bnIn h3 h4 (br_t rfl (br_f (cc_ne (m := 24) rfl hq (by omega)) (br_f (nI_ne0 (by omega) (by omega)) ⟨cc_inp hk (by decide),
    ek_v (P := fun r => wpX_make _ (nI q, nI (k + 1), sz, pe, ta, va, fr, cl, ca, en, fc, fe, cr, a1, a2, a3, a4, a5, a6, a7, a8, a9, a10, a11, a12, a13, a14, a15, a16, a17, a18, a19, a20, a21, a22, a23, a24, a25, a26, a27, a28) 7 r (-1) (-1)) (cc_rdp (by omega) ex) (cc_mkFn hq hx ⟨pk_in q 24 hq, nm_r (cc_ix (by omega)) ⟨cc_inp hk (by decide), nm_r (cc_ixp (by omega)) hp⟩⟩)⟩)))))
theorem cc_init {post : St2 → Prop} {Z : Nat → Int32} (hZ : Z = fun _ => 0) (hp : post (0, 0, 0, 0, 0, 0, 0, 0, 0, 0, 0, 0, 0, Z, Z, Z, Z, Z, Z, Z, Z, Z, Z, Z, Z, Z, Z, Z, Z, Z, Z, Z, Z, Z, Z, Z, Z, Z, Z, Z, Z)) : wpX_init post 28 12176 (0, 0, 0, 0, 0, 0, 0, 0, 0, 0, 0, 0, 0) := by
  subst hZ
  unfold wpX_init
  dsimp only
  refine ⟨by decide, by decide, by decide, by decide, by decide, by decide, by decide, by decide, by decide, by decide, by decide, by decide, by decide, by decide, by decide, by decide, by decide, by decide, by decide, by decide, by decide, by decide, by decide, by decide, by decide, by decide, by decide, by decide, by decide, by decide, by decide, by decide, by decide, by decide, by decide, by decide, by decide, by decide, by decide, by decide, by decide, by decide, by decide, by decide, by decide, by decide, by decide, by decide, by decide, by decide, by decide, by decide, by decide, by decide, by decide, by decide, hp⟩
end
end
section
/-! the shapes that the law makes: run and free -/
theorem cc_opk {w : Int32} (h1 : ¬ w < 0) (h2 : w ≤ 4) : w < 7 ∧ ¬ w = 5 ∧ ¬ w = 6 ∧ ¬ w = 7 ∧ ¬ w = 9 := by
  obtain ⟨j, hj, rfl⟩ := nI_of2 (M := 4) (n := 4) (by decide) h1 h2
  have t : ∀ j, j < 5 → (nI j < 7 ∧ ¬ nI j = 5 ∧ ¬ nI j = 6 ∧ ¬ nI j = 7 ∧ ¬ nI j = 9) := by decide
  exact t j (by omega)
theorem cc_v4 {v : Int32} (h1 : ¬ v < 0) (h2 : v < 4) : ∃ j : Nat, j < 4 ∧ v = nI j := by
  obtain ⟨j, hj, e⟩ := nI_of2 (x := v) (M := 3) (n := 3) (by decide) h1 (cc_nlt.mpr ((cc_lt4 v).mp h2))
  exact ⟨j, by omega, e⟩
theorem cc_bit {v : Int32} (h1 : ¬ v < 0) (h2 : v < 4) : (0 : Int32) ||| ((1 : Int32) <<< (v &&& 31)) = (1 : Int32) <<< ((v &&& 3) &&& 31) := by
  obtain ⟨j, hj, rfl⟩ := cc_v4 h1 h2
  have t : ∀ j, j < 4 → (0 : Int32) ||| ((1 : Int32) <<< (nI j &&& 31)) = (1 : Int32) <<< ((nI j &&& 3) &&& 31) := by decide
  exact t j hj
theorem cc_arg {f v : Int32} (h1 : ¬ f < 0) (h2 : f < 4) (h3 : ¬ v < 0) (h4 : v < 4) : (4 * f + v) &&& 3 = v := by
  obtain ⟨i, hi, rfl⟩ := cc_v4 h1 h2
  obtain ⟨j, hj, rfl⟩ := cc_v4 h3 h4
  have t : ∀ i, i < 4 → ∀ j, j < 4 → (4 * nI i + nI j) &&& 3 = nI j := by decide
  exact t i hi j hj
section
variable {c : Int32} {a1 a2 a3 a4 a5 a6 a7 a8 : Nat → Int32}
/-- a number on top -/
theorem cc_runB (e8 : a8 0 = nI 0) (k0 : a1 0 = 8) : cc_RUN 0 c (nI (0 + 1)) a1 a2 a3 a4 a5 a6 a7 a8 :=
  cc_run (x := 0) (by decide) e8 (cc_caLeaf (by decide) (by rw [k0]; decide) (cc_cl_const (by decide) k0)) (cc_exNum _)
theorem cc_frB (e8 : a8 0 = nI 0) (k0 : a1 0 = 8) : cc_FR 0 c (nI (0 + 1)) a1 a2 a3 a4 a5 a6 a7 a8 :=
  fun post sz pe ta va fr cl ca en fc fe cr a9 a10 a11 a12 a13 a14 a15 a16 a17 a18 a19 a20 a21 a22 a23 a24 a25 a26 a27 a28 hp => cc_free (by decide) e8 ⟨2, cc_frSkip (x := 0) (by decide) (by decide) (by decide) (by rw [k0]; decide) (cc_frEnd (x := 1) (by decide) (by decide) (hp _ _ _))⟩
/-- a name on top -/
theorem cc_runN {k x : Nat} {v : Int32} (hk : k < 6) (hx : x < 24) (e8 : a8 k = nI x) (kx : a1 x = 9) (ev : a5 x = v) (ew : a6 x < 0) : cc_RUN 2 c (nI (k + 1)) a1 a2 a3 a4 a5 a6 a7 a8 :=
  cc_run hk e8 (cc_caLeaf hx (by rw [kx]; decide) (cc_cl_name hx kx ev (cc_lk_no hx ew))) (cc_exMiss _ _)
theorem cc_frC {v : Int32} (h1 : ¬ v < 0) (h2 : v < 4) (e8 : a8 0 = nI 0) (kx : a1 0 = 9) (ev : a5 0 = v) (ew : a6 0 < 0) : cc_FR ((1 : Int32) <<< ((v &&& 3) &&& 31)) c (nI (0 + 1)) a1 a2 a3 a4 a5 a6 a7 a8 :=
  fun post sz pe ta va fr cl ca en fc fe cr a9 a10 a11 a12 a13 a14 a15 a16 a17 a18 a19 a20 a21 a22 a23 a24 a25 a26 a27 a28 hp => cc_free (by decide) e8 ⟨2, cc_frFree (x := 0) (by decide) (by decide) (by decide) kx ev cc_in0 (cc_lk_no (by decide) ew) (cc_frEnd (x := 1) (by decide) (by decide) (ek_v (P := fun r => post r _) (cc_bit h1 h2) (hp _ _ _)))⟩
theorem cc_frD {v : Int32} (h1 : ¬ v < 0) (h2 : v < 4) (e8 : a8 1 = nI 1) (k0 : a1 0 = 8) (kx : a1 1 = 9) (ev : a5 1 = v) (ew : a6 1 < 0) : cc_FR ((1 : Int32) <<< ((v &&& 3) &&& 31)) c (nI (1 + 1)) a1 a2 a3 a4 a5 a6 a7 a8 :=
  fun post sz pe ta va fr cl ca en fc fe cr a9 a10 a11 a12 a13 a14 a15 a16 a17 a18 a19 a20 a21 a22 a23 a24 a25 a26 a27 a28 hp => cc_free (by decide) e8 ⟨3, cc_frSkip (x := 0) (by decide) (by decide) (by decide) (by rw [k0]; decide) (cc_frFree (x := 1) (by decide) (by decide) (by decide) kx ev cc_in0 (cc_lk_no (by decide) ew) (cc_frEnd (x := 2) (by decide) (by decide) (ek_v (P := fun r => post r _) (cc_bit h1 h2) (hp _ _ _))))⟩
/-- two of a number and a name on top -/
theorem cc_runE {v w : Int32} (hw : w < 7 ∧ ¬ w = 5 ∧ ¬ w = 6 ∧ ¬ w = 7 ∧ ¬ w = 9) (e8 : a8 0 = nI 2) (k0 : a1 0 = 8) (k1 : a1 1 = 9) (k2 : a1 2 = w) (p0 : a2 2 = nI 0) (p1 : a3 2 = nI 1) (ev : a5 1 = v) (e1 : a6 1 = nI 2) (e2 : a6 2 < 0) : cc_RUN 2 c (nI (0 + 1)) a1 a2 a3 a4 a5 a6 a7 a8 := by
  subst k2
  exact cc_run (x := 2) (by decide) e8 (cc_caTwo (by decide) (by decide) (by decide) hw.1 hw.2.1 hw.2.2.1 p0 p1 (by rw [k0]; decide) (by rw [k1]; decide) (cc_cl_const (by decide) k0) (cc_cl_name (by decide) k1 ev (cc_lk_tno (by decide) (by decide) e1 hw.2.2.1 hw.2.2.2.1 e2))) (cc_exNumMiss _)
theorem cc_frE {v w : Int32} (h1 : ¬ v < 0) (h2 : v < 4) (hw : w < 7 ∧ ¬ w = 5 ∧ ¬ w = 6 ∧ ¬ w = 7 ∧ ¬ w = 9) (e8 : a8 0 = nI 2) (k0 : a1 0 = 8) (k1 : a1 1 = 9) (k2 : a1 2 = w) (ev : a5 1 = v) (e1 : a6 1 = nI 2) (e2 : a6 2 < 0) : cc_FR ((1 : Int32) <<< ((v &&& 3) &&& 31)) c (nI (0 + 1)) a1 a2 a3 a4 a5 a6 a7 a8 := by
  subst k2
  exact fun post sz pe ta va fr cl ca en fc fe cr a9 a10 a11 a12 a13 a14 a15 a16 a17 a18 a19 a20 a21 a22 a23 a24 a25 a26 a27 a28 hp => cc_free (by decide) e8 ⟨4, cc_frSkip (x := 0) (by decide) (by decide) (by decide) (by rw [k0]; decide) (cc_frFree (x := 1) (by decide) (by decide) (by decide) k1 ev (cc_in1 (by decide) (by decide) (by decide) e1) (cc_lk_tno (by decide) (by decide) e1 hw.2.2.1 hw.2.2.2.1 e2)
    (cc_frSkip (x := 2) (by decide) (by decide) (by decide) hw.2.2.2.2 (cc_frEnd (x := 3) (by decide) (by decide) (ek_v (P := fun r => post r _) (cc_bit h1 h2) (hp _ _ _)))))⟩
/-- a function of a name on top -/
theorem cc_runF {k x y : Nat} {v : Int32} (hk : k < 6) (hx : x < 24) (hy : y < 24) (e8 : a8 k = nI x) (kx : a1 x = 7) (ky : a1 y = 9) (p : a2 x = nI y) (ev : a5 y = v) (ea : a5 x &&& 3 = v) (ew : a6 y = nI x) : cc_RUN 1 c (nI (k + 1)) a1 a2 a3 a4 a5 a6 a7 a8 :=
  cc_run hk e8 (cc_caFnLeaf hx hy kx p (by rw [ky]; decide) (cc_cl_name hy ky ev (cc_lk_fn hy hx ew kx ea))) (cc_exMake hx)
theorem cc_frF {v : Int32} (e8 : a8 0 = nI 1) (k0 : a1 0 = 9) (k1 : a1 1 = 7) (ev : a5 0 = v) (ea : a5 1 &&& 3 = v) (ew : a6 0 = nI 1) : cc_FR 0 c (nI (0 + 1)) a1 a2 a3 a4 a5 a6 a7 a8 :=
  fun post sz pe ta va fr cl ca en fc fe cr a9 a10 a11 a12 a13 a14 a15 a16 a17 a18 a19 a20 a21 a22 a23 a24 a25 a26 a27 a28 hp => cc_free (by decide) e8 ⟨3, cc_frArg (x := 0) (by decide) (by decide) (by decide) k0 ev (cc_in1 (by decide) (by decide) (by decide) ew) (cc_lk_fn (by decide) (by decide) ew k1 ea)
    (cc_frSkip (x := 1) (by decide) (by decide) (by decide) (by rw [k1]; decide) (cc_frEnd (x := 2) (by decide) (by decide) (hp _ _ _)))⟩
theorem cc_frG {v : Int32} (e8 : a8 1 = nI 2) (k0 : a1 0 = 8) (k1 : a1 1 = 9) (k2 : a1 2 = 7) (ev : a5 1 = v) (ea : a5 2 &&& 3 = v) (ew : a6 1 = nI 2) : cc_FR 0 c (nI (1 + 1)) a1 a2 a3 a4 a5 a6 a7 a8 :=
  fun post sz pe ta va fr cl ca en fc fe cr a9 a10 a11 a12 a13 a14 a15 a16 a17 a18 a19 a20 a21 a22 a23 a24 a25 a26 a27 a28 hp => cc_free (by decide) e8 ⟨4, cc_frSkip (x := 0) (by decide) (by decide) (by decide) (by rw [k0]; decide) (cc_frArg (x := 1) (by decide) (by decide) (by decide) k1 ev (cc_in1 (by decide) (by decide) (by decide) ew) (cc_lk_fn (by decide) (by decide) ew k2 ea)
    (cc_frSkip (x := 2) (by decide) (by decide) (by decide) (by rw [k2]; decide) (cc_frEnd (x := 3) (by decide) (by decide) (hp _ _ _))))⟩
/-- a function of two on top -/
theorem cc_runH {v w : Int32} (hw : w < 7 ∧ ¬ w = 5 ∧ ¬ w = 6 ∧ ¬ w = 7 ∧ ¬ w = 9) (e8 : a8 0 = nI 3) (k0 : a1 0 = 8) (k1 : a1 1 = 9) (k2 : a1 2 = w) (k3 : a1 3 = 7) (p3 : a2 3 = nI 2) (p0 : a2 2 = nI 0) (p1 : a3 2 = nI 1) (ev : a5 1 = v) (ea : a5 3 &&& 3 = v) (e1 : a6 1 = nI 2) (e2 : a6 2 = nI 3) : cc_RUN 1 c (nI (0 + 1)) a1 a2 a3 a4 a5 a6 a7 a8 := by
  subst k2
  exact cc_run (x := 3) (by decide) e8 (cc_caFnTwo (by decide) (by decide) (by decide) (by decide) k3 p3 hw.1 hw.2.1 hw.2.2.1 p0 p1 (by rw [k0]; decide) (by rw [k1]; decide) (cc_cl_const (by decide) k0) (cc_cl_name (by decide) k1 ev (cc_lk_tfn (by decide) (by decide) (by decide) e1 hw.2.2.1 hw.2.2.2.1 e2 k3 ea))) (cc_exMake (by decide))
theorem cc_frH {v w : Int32} (hw : w < 7 ∧ ¬ w = 5 ∧ ¬ w = 6 ∧ ¬ w = 7 ∧ ¬ w = 9) (e8 : a8 0 = nI 3) (k0 : a1 0 = 8) (k1 : a1 1 = 9) (k2 : a1 2 = w) (k3 : a1 3 = 7) (ev : a5 1 = v) (ea : a5 3 &&& 3 = v) (e1 : a6 1 = nI 2) (e2 : a6 2 = nI 3) : cc_FR 0 c (nI (0 + 1)) a1 a2 a3 a4 a5 a6 a7 a8 := by
  subst k2
  exact fun post sz pe ta va fr cl ca en fc fe cr a9 a10 a11 a12 a13 a14 a15 a16 a17 a18 a19 a20 a21 a22 a23 a24 a25 a26 a27 a28 hp => cc_free (by decide) e8 ⟨5, cc_frSkip (x := 0) (by decide) (by decide) (by decide) (by rw [k0]; decide) (cc_frArg (x := 1) (by decide) (by decide) (by decide) k1 ev (cc_in2 (by decide) (by decide) (by decide) (by decide) (by decide) e1 e2) (cc_lk_tfn (by decide) (by decide) (by decide) e1 hw.2.2.1 hw.2.2.2.1 e2 k3 ea)
    (cc_frSkip (x := 2) (by decide) (by decide) (by decide) hw.2.2.2.2 (cc_frSkip (x := 3) (by decide) (by decide) (by decide) (by rw [k3]; decide) (cc_frEnd (x := 4) (by decide) (by decide) (hp _ _ _)))))⟩
end
end
section
/-! the sixteen cases; the law -/
section
variable {n v w f : Int32}
theorem cc_law1111 (n1 : ¬ n < -9) (n2 : n ≤ 9) (n3 : ¬ 9 < n) (v1 : ¬ v < 0) (v2 : v < 4) (v3 : ¬ 3 < v) (w1 : ¬ w < 0) (w2 : w ≤ 4) (w3 : ¬ 4 < w) (f1 : ¬ f < 0) (f2 : f < 4) (f3 : ¬ 3 < f) : wpL_lawOf (fun r _ => r = 1) 29 12217 () n v w f := by
  refine ⟨by decide, by decide, 28, 12176, by decide, by decide, cc_init rfl ?_⟩
  refine cc_numIn (q := 0) (k := 0) n1 n2 (by decide) (by decide) ?_
  refine cc_nameIn (q := 1) (k := 1) v1 v2 (by decide) (by decide) ?_
  refine cc_twoIn (q := 2) (k := 0) (x := 0) (y := 1) w1 w2 (by decide) (by decide) (by decide) (by decide) (by rfl) (by rfl) ?_
  refine cc_fnIn (q := 3) (k := 0) (x := 2) f1 f2 v1 v2 (by decide) (by decide) (by decide) (by rfl) ?_
  refine cc_runH (v := v) (w := w) (cc_opk w1 w2) (by rfl) (by rfl) (by rfl) (by rfl) (by rfl) (by rfl) (by rfl) (by rfl) (by rfl) (by exact cc_arg f1 f2 v1 v2) (by rfl) (by rfl) _ _ _ _ _ _ _ _ _ _ _ _ _ _ _ _ _ _ _ _ _ _ _ _ _ _ _ _ _ _ _ _ (fun sz pe ta va fr cl ca fc fe cr a9 a10 a11 a12 a13 a14 a15 a16 a17 a18 a19 a20 a21 a22 a23 a24 a25 a26 a27 a28 => ?_)
  refine cc_frH (v := v) (w := w) (cc_opk w1 w2) (by rfl) (by rfl) (by rfl) (by rfl) (by rfl) (by rfl) (by exact cc_arg f1 f2 v1 v2) (by rfl) (by rfl) _ _ _ _ _ _ _ _ _ _ _ _ _ _ _ _ _ _ _ _ _ _ _ _ _ _ _ _ _ _ _ _ (fun _ _ _ => ?_)
  refine cc_bIn n1 n3 (cc_bIn v1 v3 (cc_bIn w1 w3 (cc_bIn f1 f3 ?_)))
  repeat (first | exact rfl | refine br_t (by first | rfl | decide) ?_ | refine br_f (by decide) ?_)
theorem cc_law1110 (n1 : ¬ n < -9) (n2 : n ≤ 9) (n3 : ¬ 9 < n) (v1 : ¬ v < 0) (v2 : v < 4) (v3 : ¬ 3 < v) (w1 : ¬ w < 0) (w2 : w ≤ 4) (w3 : ¬ 4 < w) (f1 : f < 0 ∨ ¬ f < 4) (f3 : f < 0 ∨ 3 < f) : wpL_lawOf (fun r _ => r = 1) 29 12217 () n v w f := by
  refine ⟨by decide, by decide, 28, 12176, by decide, by decide, cc_init rfl ?_⟩
  refine cc_numIn (q := 0) (k := 0) n1 n2 (by decide) (by decide) ?_
  refine cc_nameIn (q := 1) (k := 1) v1 v2 (by decide) (by decide) ?_
  refine cc_twoIn (q := 2) (k := 0) (x := 0) (y := 1) w1 w2 (by decide) (by decide) (by decide) (by decide) (by rfl) (by rfl) ?_
  refine cc_fnOut (.inl f1) ?_
  refine cc_runE (v := v) (w := w) (cc_opk w1 w2) (by rfl) (by rfl) (by rfl) (by rfl) (by rfl) (by rfl) (by rfl) (by rfl) (by exact (show (-1 : Int32) < 0 by decide)) _ _ _ _ _ _ _ _ _ _ _ _ _ _ _ _ _ _ _ _ _ _ _ _ _ _ _ _ _ _ _ _ (fun sz pe ta va fr cl ca fc fe cr a9 a10 a11 a12 a13 a14 a15 a16 a17 a18 a19 a20 a21 a22 a23 a24 a25 a26 a27 a28 => ?_)
  refine cc_frE (v := v) (w := w) v1 v2 (cc_opk w1 w2) (by rfl) (by rfl) (by rfl) (by rfl) (by rfl) (by rfl) (by exact (show (-1 : Int32) < 0 by decide)) _ _ _ _ _ _ _ _ _ _ _ _ _ _ _ _ _ _ _ _ _ _ _ _ _ _ _ _ _ _ _ _ (fun _ _ _ => ?_)
  refine cc_bIn n1 n3 (cc_bIn v1 v3 (cc_bIn w1 w3 (cc_bOut f3 ?_)))
  repeat (first | exact rfl | refine br_t (by first | rfl | decide) ?_ | refine br_f (by decide) ?_)
theorem cc_law1101 (n1 : ¬ n < -9) (n2 : n ≤ 9) (n3 : ¬ 9 < n) (v1 : ¬ v < 0) (v2 : v < 4) (v3 : ¬ 3 < v) (w1 : w < 0 ∨ ¬ w ≤ 4) (w3 : w < 0 ∨ 4 < w) (f1 : ¬ f < 0) (f2 : f < 4) (f3 : ¬ 3 < f) : wpL_lawOf (fun r _ => r = 1) 29 12217 () n v w f := by
  refine ⟨by decide, by decide, 28, 12176, by decide, by decide, cc_init rfl ?_⟩
  refine cc_numIn (q := 0) (k := 0) n1 n2 (by decide) (by decide) ?_
  refine cc_nameIn (q := 1) (k := 1) v1 v2 (by decide) (by decide) ?_
  refine cc_twoOut w1 ?_
  refine cc_fnIn (q := 2) (k := 1) (x := 1) f1 f2 v1 v2 (by decide) (by decide) (by decide) (by rfl) ?_
  refine cc_runF (k := 1) (x := 2) (y := 1) (v := v) (by decide) (by decide) (by decide) (by rfl) (by rfl) (by rfl) (by rfl) (by rfl) (by exact cc_arg f1 f2 v1 v2) (by rfl) _ _ _ _ _ _ _ _ _ _ _ _ _ _ _ _ _ _ _ _ _ _ _ _ _ _ _ _ _ _ _ _ (fun sz pe ta va fr cl ca fc fe cr a9 a10 a11 a12 a13 a14 a15 a16 a17 a18 a19 a20 a21 a22 a23 a24 a25 a26 a27 a28 => ?_)
  refine cc_frG (v := v) (by rfl) (by rfl) (by rfl) (by rfl) (by rfl) (by exact cc_arg f1 f2 v1 v2) (by rfl) _ _ _ _ _ _ _ _ _ _ _ _ _ _ _ _ _ _ _ _ _ _ _ _ _ _ _ _ _ _ _ _ (fun _ _ _ => ?_)
  refine cc_bIn n1 n3 (cc_bIn v1 v3 (cc_bOut w3 (cc_bIn f1 f3 ?_)))
  repeat (first | exact rfl | refine br_t (by first | rfl | decide) ?_ | refine br_f (by decide) ?_)
theorem cc_law1100 (n1 : ¬ n < -9) (n2 : n ≤ 9) (n3 : ¬ 9 < n) (v1 : ¬ v < 0) (v2 : v < 4) (v3 : ¬ 3 < v) (w1 : w < 0 ∨ ¬ w ≤ 4) (w3 : w < 0 ∨ 4 < w) (f1 : f < 0 ∨ ¬ f < 4) (f3 : f < 0 ∨ 3 < f) : wpL_lawOf (fun r _ => r = 1) 29 12217 () n v w f := by
  refine ⟨by decide, by decide, 28, 12176, by decide, by decide, cc_init rfl ?_⟩
  refine cc_numIn (q := 0) (k := 0) n1 n2 (by decide) (by decide) ?_
  refine cc_nameIn (q := 1) (k := 1) v1 v2 (by decide) (by decide) ?_
  refine cc_twoOut w1 ?_
  refine cc_fnOut (.inl f1) ?_
  refine cc_runN (k := 1) (x := 1) (v := v) (by decide) (by decide) (by rfl) (by rfl) (by rfl) (by exact (show (-1 : Int32) < 0 by decide)) _ _ _ _ _ _ _ _ _ _ _ _ _ _ _ _ _ _ _ _ _ _ _ _ _ _ _ _ _ _ _ _ (fun sz pe ta va fr cl ca fc fe cr a9 a10 a11 a12 a13 a14 a15 a16 a17 a18 a19 a20 a21 a22 a23 a24 a25 a26 a27 a28 => ?_)
  refine cc_frD (v := v) v1 v2 (by rfl) (by rfl) (by rfl) (by rfl) (by exact (show (-1 : Int32) < 0 by decide)) _ _ _ _ _ _ _ _ _ _ _ _ _ _ _ _ _ _ _ _ _ _ _ _ _ _ _ _ _ _ _ _ (fun _ _ _ => ?_)
  refine cc_bIn n1 n3 (cc_bIn v1 v3 (cc_bOut w3 (cc_bOut f3 ?_)))
  repeat (first | exact rfl | refine br_t (by first | rfl | decide) ?_ | refine br_f (by decide) ?_)
theorem cc_law1011 (n1 : ¬ n < -9) (n2 : n ≤ 9) (n3 : ¬ 9 < n) (v1 : v < 0 ∨ ¬ v < 4) (v3 : v < 0 ∨ 3 < v) (w1 : ¬ w < 0) (w2 : w ≤ 4) (w3 : ¬ 4 < w) (f1 : ¬ f < 0) (f2 : f < 4) (f3 : ¬ 3 < f) : wpL_lawOf (fun r _ => r = 1) 29 12217 () n v w f := by
  refine ⟨by decide, by decide, 28, 12176, by decide, by decide, cc_init rfl ?_⟩
  refine cc_numIn (q := 0) (k := 0) n1 n2 (by decide) (by decide) ?_
  refine cc_nameOut v1 ?_
  refine cc_twoFew (q := 1) (k := 1) w1 w2 (by decide) (by decide) ?_
  refine cc_fnOut (.inr ⟨f1, f2, v1⟩) ?_
  refine cc_runB (by rfl) (by rfl) _ _ _ _ _ _ _ _ _ _ _ _ _ _ _ _ _ _ _ _ _ _ _ _ _ _ _ _ _ _ _ _ (fun sz pe ta va fr cl ca fc fe cr a9 a10 a11 a12 a13 a14 a15 a16 a17 a18 a19 a20 a21 a22 a23 a24 a25 a26 a27 a28 => ?_)
  refine cc_frB (by rfl) (by rfl) _ _ _ _ _ _ _ _ _ _ _ _ _ _ _ _ _ _ _ _ _ _ _ _ _ _ _ _ _ _ _ _ (fun _ _ _ => ?_)
  refine cc_bIn n1 n3 (cc_bOut v3 (cc_bIn w1 w3 (cc_bIn f1 f3 ?_)))
  repeat (first | exact rfl | refine br_t (by first | rfl | decide) ?_ | refine br_f (by decide) ?_)
theorem cc_law1010 (n1 : ¬ n < -9) (n2 : n ≤ 9) (n3 : ¬ 9 < n) (v1 : v < 0 ∨ ¬ v < 4) (v3 : v < 0 ∨ 3 < v) (w1 : ¬ w < 0) (w2 : w ≤ 4) (w3 : ¬ 4 < w) (f1 : f < 0 ∨ ¬ f < 4) (f3 : f < 0 ∨ 3 < f) : wpL_lawOf (fun r _ => r = 1) 29 12217 () n v w f := by
  refine ⟨by decide, by decide, 28, 12176, by decide, by decide, cc_init rfl ?_⟩
  refine cc_numIn (q := 0) (k := 0) n1 n2 (by decide) (by decide) ?_
  refine cc_nameOut v1 ?_
  refine cc_twoFew (q := 1) (k := 1) w1 w2 (by decide) (by decide) ?_
  refine cc_fnOut (.inl f1) ?_
  refine cc_runB (by rfl) (by rfl) _ _ _ _ _ _ _ _ _ _ _ _ _ _ _ _ _ _ _ _ _ _ _ _ _ _ _ _ _ _ _ _ (fun sz pe ta va fr cl ca fc fe cr a9 a10 a11 a12 a13 a14 a15 a16 a17 a18 a19 a20 a21 a22 a23 a24 a25 a26 a27 a28 => ?_)
  refine cc_frB (by rfl) (by rfl) _ _ _ _ _ _ _ _ _ _ _ _ _ _ _ _ _ _ _ _ _ _ _ _ _ _ _ _ _ _ _ _ (fun _ _ _ => ?_)
  refine cc_bIn n1 n3 (cc_bOut v3 (cc_bIn w1 w3 (cc_bOut f3 ?_)))
  repeat (first | exact rfl | refine br_t (by first | rfl | decide) ?_ | refine br_f (by decide) ?_)
theorem cc_law1001 (n1 : ¬ n < -9) (n2 : n ≤ 9) (n3 : ¬ 9 < n) (v1 : v < 0 ∨ ¬ v < 4) (v3 : v < 0 ∨ 3 < v) (w1 : w < 0 ∨ ¬ w ≤ 4) (w3 : w < 0 ∨ 4 < w) (f1 : ¬ f < 0) (f2 : f < 4) (f3 : ¬ 3 < f) : wpL_lawOf (fun r _ => r = 1) 29 12217 () n v w f := by
  refine ⟨by decide, by decide, 28, 12176, by decide, by decide, cc_init rfl ?_⟩
  refine cc_numIn (q := 0) (k := 0) n1 n2 (by decide) (by decide) ?_
  refine cc_nameOut v1 ?_
  refine cc_twoOut w1 ?_
  refine cc_fnOut (.inr ⟨f1, f2, v1⟩) ?_
  refine cc_runB (by rfl) (by rfl) _ _ _ _ _ _ _ _ _ _ _ _ _ _ _ _ _ _ _ _ _ _ _ _ _ _ _ _ _ _ _ _ (fun sz pe ta va fr cl ca fc fe cr a9 a10 a11 a12 a13 a14 a15 a16 a17 a18 a19 a20 a21 a22 a23 a24 a25 a26 a27 a28 => ?_)
  refine cc_frB (by rfl) (by rfl) _ _ _ _ _ _ _ _ _ _ _ _ _ _ _ _ _ _ _ _ _ _ _ _ _ _ _ _ _ _ _ _ (fun _ _ _ => ?_)
  refine cc_bIn n1 n3 (cc_bOut v3 (cc_bOut w3 (cc_bIn f1 f3 ?_)))
  repeat (first | exact rfl | refine br_t (by first | rfl | decide) ?_ | refine br_f (by decide) ?_)
theorem cc_law1000 (n1 : ¬ n < -9) (n2 : n ≤ 9) (n3 : ¬ 9 < n) (v1 : v < 0 ∨ ¬ v < 4) (v3 : v < 0 ∨ 3 < v) (w1 : w < 0 ∨ ¬ w ≤ 4) (w3 : w < 0 ∨ 4 < w) (f1 : f < 0 ∨ ¬ f < 4) (f3 : f < 0 ∨ 3 < f) : wpL_lawOf (fun r _ => r = 1) 29 12217 () n v w f := by
  refine ⟨by decide, by decide, 28, 12176, by decide, by decide, cc_init rfl ?_⟩
  refine cc_numIn (q := 0) (k := 0) n1 n2 (by decide) (by decide) ?_
  refine cc_nameOut v1 ?_
  refine cc_twoOut w1 ?_
  refine cc_fnOut (.inl f1) ?_
  refine cc_runB (by rfl) (by rfl) _ _ _ _ _ _ _ _ _ _ _ _ _ _ _ _ _ _ _ _ _ _ _ _ _ _ _ _ _ _ _ _ (fun sz pe ta va fr cl ca fc fe cr a9 a10 a11 a12 a13 a14 a15 a16 a17 a18 a19 a20 a21 a22 a23 a24 a25 a26 a27 a28 => ?_)
  refine cc_frB (by rfl) (by rfl) _ _ _ _ _ _ _ _ _ _ _ _ _ _ _ _ _ _ _ _ _ _ _ _ _ _ _ _ _ _ _ _ (fun _ _ _ => ?_)
  refine cc_bIn n1 n3 (cc_bOut v3 (cc_bOut w3 (cc_bOut f3 ?_)))
  repeat (first | exact rfl | refine br_t (by first | rfl | decide) ?_ | refine br_f (by decide) ?_)
theorem cc_law0111 (n1 : n < -9 ∨ ¬ n ≤ 9) (n3 : n < -9 ∨ 9 < n) (v1 : ¬ v < 0) (v2 : v < 4) (v3 : ¬ 3 < v) (w1 : ¬ w < 0) (w2 : w ≤ 4) (w3 : ¬ 4 < w) (f1 : ¬ f < 0) (f2 : f < 4) (f3 : ¬ 3 < f) : wpL_lawOf (fun r _ => r = 1) 29 12217 () n v w f := by
  refine ⟨by decide, by decide, 28, 12176, by decide, by decide, cc_init rfl ?_⟩
  refine cc_numOut n1 ?_
  refine cc_nameIn (q := 0) (k := 0) v1 v2 (by decide) (by decide) ?_
  refine cc_twoFew (q := 1) (k := 1) w1 w2 (by decide) (by decide) ?_
  refine cc_fnIn (q := 1) (k := 0) (x := 0) f1 f2 v1 v2 (by decide) (by decide) (by decide) (by rfl) ?_
  refine cc_runF (k := 0) (x := 1) (y := 0) (v := v) (by decide) (by decide) (by decide) (by rfl) (by rfl) (by rfl) (by rfl) (by rfl) (by exact cc_arg f1 f2 v1 v2) (by rfl) _ _ _ _ _ _ _ _ _ _ _ _ _ _ _ _ _ _ _ _ _ _ _ _ _ _ _ _ _ _ _ _ (fun sz pe ta va fr cl ca fc fe cr a9 a10 a11 a12 a13 a14 a15 a16 a17 a18 a19 a20 a21 a22 a23 a24 a25 a26 a27 a28 => ?_)
  refine cc_frF (v := v) (by rfl) (by rfl) (by rfl) (by rfl) (by exact cc_arg f1 f2 v1 v2) (by rfl) _ _ _ _ _ _ _ _ _ _ _ _ _ _ _ _ _ _ _ _ _ _ _ _ _ _ _ _ _ _ _ _ (fun _ _ _ => ?_)
  refine cc_bOut n3 (cc_bIn v1 v3 (cc_bIn w1 w3 (cc_bIn f1 f3 ?_)))
  repeat (first | exact rfl | refine br_t (by first | rfl | decide) ?_ | refine br_f (by decide) ?_)
theorem cc_law0110 (n1 : n < -9 ∨ ¬ n ≤ 9) (n3 : n < -9 ∨ 9 < n) (v1 : ¬ v < 0) (v2 : v < 4) (v3 : ¬ 3 < v) (w1 : ¬ w < 0) (w2 : w ≤ 4) (w3 : ¬ 4 < w) (f1 : f < 0 ∨ ¬ f < 4) (f3 : f < 0 ∨ 3 < f) : wpL_lawOf (fun r _ => r = 1) 29 12217 () n v w f := by
  refine ⟨by decide, by decide, 28, 12176, by decide, by decide, cc_init rfl ?_⟩
  refine cc_numOut n1 ?_
  refine cc_nameIn (q := 0) (k := 0) v1 v2 (by decide) (by decide) ?_
  refine cc_twoFew (q := 1) (k := 1) w1 w2 (by decide) (by decide) ?_
  refine cc_fnOut (.inl f1) ?_
  refine cc_runN (k := 0) (x := 0) (v := v) (by decide) (by decide) (by rfl) (by rfl) (by rfl) (by exact (show (-1 : Int32) < 0 by decide)) _ _ _ _ _ _ _ _ _ _ _ _ _ _ _ _ _ _ _ _ _ _ _ _ _ _ _ _ _ _ _ _ (fun sz pe ta va fr cl ca fc fe cr a9 a10 a11 a12 a13 a14 a15 a16 a17 a18 a19 a20 a21 a22 a23 a24 a25 a26 a27 a28 => ?_)
  refine cc_frC (v := v) v1 v2 (by rfl) (by rfl) (by rfl) (by exact (show (-1 : Int32) < 0 by decide)) _ _ _ _ _ _ _ _ _ _ _ _ _ _ _ _ _ _ _ _ _ _ _ _ _ _ _ _ _ _ _ _ (fun _ _ _ => ?_)
  refine cc_bOut n3 (cc_bIn v1 v3 (cc_bIn w1 w3 (cc_bOut f3 ?_)))
  repeat (first | exact rfl | refine br_t (by first | rfl | decide) ?_ | refine br_f (by decide) ?_)
theorem cc_law0101 (n1 : n < -9 ∨ ¬ n ≤ 9) (n3 : n < -9 ∨ 9 < n) (v1 : ¬ v < 0) (v2 : v < 4) (v3 : ¬ 3 < v) (w1 : w < 0 ∨ ¬ w ≤ 4) (w3 : w < 0 ∨ 4 < w) (f1 : ¬ f < 0) (f2 : f < 4) (f3 : ¬ 3 < f) : wpL_lawOf (fun r _ => r = 1) 29 12217 () n v w f := by
  refine ⟨by decide, by decide, 28, 12176, by decide, by decide, cc_init rfl ?_⟩
  refine cc_numOut n1 ?_
  refine cc_nameIn (q := 0) (k := 0) v1 v2 (by decide) (by decide) ?_
  refine cc_twoOut w1 ?_
  refine cc_fnIn (q := 1) (k := 0) (x := 0) f1 f2 v1 v2 (by decide) (by decide) (by decide) (by rfl) ?_
  refine cc_runF (k := 0) (x := 1) (y := 0) (v := v) (by decide) (by decide) (by decide) (by rfl) (by rfl) (by rfl) (by rfl) (by rfl) (by exact cc_arg f1 f2 v1 v2) (by rfl) _ _ _ _ _ _ _ _ _ _ _ _ _ _ _ _ _ _ _ _ _ _ _ _ _ _ _ _ _ _ _ _ (fun sz pe ta va fr cl ca fc fe cr a9 a10 a11 a12 a13 a14 a15 a16 a17 a18 a19 a20 a21 a22 a23 a24 a25 a26 a27 a28 => ?_)
  refine cc_frF (v := v) (by rfl) (by rfl) (by rfl) (by rfl) (by exact cc_arg f1 f2 v1 v2) (by rfl) _ _ _ _ _ _ _ _ _ _ _ _ _ _ _ _ _ _ _ _ _ _ _ _ _ _ _ _ _ _ _ _ (fun _ _ _ => ?_)
  refine cc_bOut n3 (cc_bIn v1 v3 (cc_bOut w3 (cc_bIn f1 f3 ?_)))
  repeat (first | exact rfl | refine br_t (by first | rfl | decide) ?_ | refine br_f (by decide) ?_)
theorem cc_law0100 (n1 : n < -9 ∨ ¬ n ≤ 9) (n3 : n < -9 ∨ 9 < n) (v1 : ¬ v < 0) (v2 : v < 4) (v3 : ¬ 3 < v) (w1 : w < 0 ∨ ¬ w ≤ 4) (w3 : w < 0 ∨ 4 < w) (f1 : f < 0 ∨ ¬ f < 4) (f3 : f < 0 ∨ 3 < f) : wpL_lawOf (fun r _ => r = 1) 29 12217 () n v w f := by
  refine ⟨by decide, by decide, 28, 12176, by decide, by decide, cc_init rfl ?_⟩
  refine cc_numOut n1 ?_
  refine cc_nameIn (q := 0) (k := 0) v1 v2 (by decide) (by decide) ?_
  refine cc_twoOut w1 ?_
  refine cc_fnOut (.inl f1) ?_
  refine cc_runN (k := 0) (x := 0) (v := v) (by decide) (by decide) (by rfl) (by rfl) (by rfl) (by exact (show (-1 : Int32) < 0 by decide)) _ _ _ _ _ _ _ _ _ _ _ _ _ _ _ _ _ _ _ _ _ _ _ _ _ _ _ _ _ _ _ _ (fun sz pe ta va fr cl ca fc fe cr a9 a10 a11 a12 a13 a14 a15 a16 a17 a18 a19 a20 a21 a22 a23 a24 a25 a26 a27 a28 => ?_)
  refine cc_frC (v := v) v1 v2 (by rfl) (by rfl) (by rfl) (by exact (show (-1 : Int32) < 0 by decide)) _ _ _ _ _ _ _ _ _ _ _ _ _ _ _ _ _ _ _ _ _ _ _ _ _ _ _ _ _ _ _ _ (fun _ _ _ => ?_)
  refine cc_bOut n3 (cc_bIn v1 v3 (cc_bOut w3 (cc_bOut f3 ?_)))
  repeat (first | exact rfl | refine br_t (by first | rfl | decide) ?_ | refine br_f (by decide) ?_)
theorem cc_law0011 (n1 : n < -9 ∨ ¬ n ≤ 9) (n3 : n < -9 ∨ 9 < n) (v1 : v < 0 ∨ ¬ v < 4) (v3 : v < 0 ∨ 3 < v) (w1 : ¬ w < 0) (w2 : w ≤ 4) (w3 : ¬ 4 < w) (f1 : ¬ f < 0) (f2 : f < 4) (f3 : ¬ 3 < f) : wpL_lawOf (fun r _ => r = 1) 29 12217 () n v w f := by
  refine ⟨by decide, by decide, 28, 12176, by decide, by decide, cc_init rfl ?_⟩
  refine cc_numOut n1 ?_
  refine cc_nameOut v1 ?_
  refine cc_twoFew (q := 0) (k := 0) w1 w2 (by decide) (by decide) ?_
  refine cc_fnOut (.inr ⟨f1, f2, v1⟩) ?_
  refine br_t (by rfl) (br_t (by rfl) ?_)
  refine cc_bOut n3 (cc_bOut v3 (cc_bIn w1 w3 (cc_bIn f1 f3 ?_)))
  repeat (first | exact rfl | refine br_t (by first | rfl | decide) ?_ | refine br_f (by decide) ?_)
theorem cc_law0010 (n1 : n < -9 ∨ ¬ n ≤ 9) (n3 : n < -9 ∨ 9 < n) (v1 : v < 0 ∨ ¬ v < 4) (v3 : v < 0 ∨ 3 < v) (w1 : ¬ w < 0) (w2 : w ≤ 4) (w3 : ¬ 4 < w) (f1 : f < 0 ∨ ¬ f < 4) (f3 : f < 0 ∨ 3 < f) : wpL_lawOf (fun r _ => r = 1) 29 12217 () n v w f := by
  refine ⟨by decide, by decide, 28, 12176, by decide, by decide, cc_init rfl ?_⟩
  refine cc_numOut n1 ?_
  refine cc_nameOut v1 ?_
  refine cc_twoFew (q := 0) (k := 0) w1 w2 (by decide) (by decide) ?_
  refine cc_fnOut (.inl f1) ?_
  refine br_t (by rfl) (br_t (by rfl) ?_)
  refine cc_bOut n3 (cc_bOut v3 (cc_bIn w1 w3 (cc_bOut f3 ?_)))
  repeat (first | exact rfl | refine br_t (by first | rfl | decide) ?_ | refine br_f (by decide) ?_)
theorem cc_law0001 (n1 : n < -9 ∨ ¬ n ≤ 9) (n3 : n < -9 ∨ 9 < n) (v1 : v < 0 ∨ ¬ v < 4) (v3 : v < 0 ∨ 3 < v) (w1 : w < 0 ∨ ¬ w ≤ 4) (w3 : w < 0 ∨ 4 < w) (f1 : ¬ f < 0) (f2 : f < 4) (f3 : ¬ 3 < f) : wpL_lawOf (fun r _ => r = 1) 29 12217 () n v w f := by
  refine ⟨by decide, by decide, 28, 12176, by decide, by decide, cc_init rfl ?_⟩
  refine cc_numOut n1 ?_
  refine cc_nameOut v1 ?_
  refine cc_twoOut w1 ?_
  refine cc_fnOut (.inr ⟨f1, f2, v1⟩) ?_
  refine br_t (by rfl) (br_t (by rfl) ?_)
  refine cc_bOut n3 (cc_bOut v3 (cc_bOut w3 (cc_bIn f1 f3 ?_)))
  repeat (first | exact rfl | refine br_t (by first | rfl | decide) ?_ | refine br_f (by decide) ?_)
theorem cc_law0000 (n1 : n < -9 ∨ ¬ n ≤ 9) (n3 : n < -9 ∨ 9 < n) (v1 : v < 0 ∨ ¬ v < 4) (v3 : v < 0 ∨ 3 < v) (w1 : w < 0 ∨ ¬ w ≤ 4) (w3 : w < 0 ∨ 4 < w) (f1 : f < 0 ∨ ¬ f < 4) (f3 : f < 0 ∨ 3 < f) : wpL_lawOf (fun r _ => r = 1) 29 12217 () n v w f := by
  refine ⟨by decide, by decide, 28, 12176, by decide, by decide, cc_init rfl ?_⟩
  refine cc_numOut n1 ?_
  refine cc_nameOut v1 ?_
  refine cc_twoOut w1 ?_
  refine cc_fnOut (.inl f1) ?_
  refine br_t (by rfl) (br_t (by rfl) ?_)
  refine cc_bOut n3 (cc_bOut v3 (cc_bOut w3 (cc_bOut f3 ?_)))
  repeat (first | exact rfl | refine br_t (by first | rfl | decide) ?_ | refine br_f (by decide) ?_)
theorem cc_split {lo hi x : Int32} : (¬ x < lo ∧ x ≤ hi ∧ ¬ hi < x) ∨ ((x < lo ∨ ¬ x ≤ hi) ∧ (x < lo ∨ hi < x)) := by
  by_cases a : x < lo
  · exact .inr ⟨.inl a, .inl a⟩
  · by_cases b : hi < x
    · exact .inr ⟨.inr (fun z => cc_nlt.mp z b), .inr b⟩
    · exact .inl ⟨a, cc_nlt.mpr b, b⟩
theorem cc_split4 {x : Int32} : (¬ x < 0 ∧ x < 4 ∧ ¬ 3 < x) ∨ ((x < 0 ∨ ¬ x < 4) ∧ (x < 0 ∨ 3 < x)) := by
  by_cases a : x < 0
  · exact .inr ⟨.inl a, .inl a⟩
  · by_cases b : 3 < x
    · exact .inr ⟨.inr (fun z => (cc_lt4 x).mp z b), .inr b⟩
    · exact .inl ⟨a, (cc_lt4 x).mpr b, b⟩
theorem cc_lawOf (n v w f : Int32) : wpL_lawOf (fun r _ => r = 1) 29 12217 () n v w f := by
  rcases cc_split (lo := -9) (hi := 9) (x := n) with ⟨n1, n2, n3⟩ | ⟨n1, n3⟩ <;> rcases cc_split4 (x := v) with ⟨v1, v2, v3⟩ | ⟨v1, v3⟩ <;> rcases cc_split (lo := 0) (hi := 4) (x := w) with ⟨w1, w2, w3⟩ | ⟨w1, w3⟩ <;> rcases cc_split4 (x := f) with ⟨f1, f2, f3⟩ | ⟨f1, f3⟩
  · exact cc_law1111 n1 n2 n3 v1 v2 v3 w1 w2 w3 f1 f2 f3
  · exact cc_law1110 n1 n2 n3 v1 v2 v3 w1 w2 w3 f1 f3
  · exact cc_law1101 n1 n2 n3 v1 v2 v3 w1 w3 f1 f2 f3
  · exact cc_law1100 n1 n2 n3 v1 v2 v3 w1 w3 f1 f3
  · exact cc_law1011 n1 n2 n3 v1 v3 w1 w2 w3 f1 f2 f3
  · exact cc_law1010 n1 n2 n3 v1 v3 w1 w2 w3 f1 f3
  · exact cc_law1001 n1 n2 n3 v1 v3 w1 w3 f1 f2 f3
  · exact cc_law1000 n1 n2 n3 v1 v3 w1 w3 f1 f3
  · exact cc_law0111 n1 n3 v1 v2 v3 w1 w2 w3 f1 f2 f3
  · exact cc_law0110 n1 n3 v1 v2 v3 w1 w2 w3 f1 f3
  · exact cc_law0101 n1 n3 v1 v2 v3 w1 w3 f1 f2 f3
  · exact cc_law0100 n1 n3 v1 v2 v3 w1 w3 f1 f3
  · exact cc_law0011 n1 n3 v1 v3 w1 w2 w3 f1 f2 f3
  · exact cc_law0010 n1 n3 v1 v3 w1 w2 w3 f1 f3
  · exact cc_law0001 n1 n3 v1 v3 w1 w3 f1 f2 f3
  · exact cc_law0000 n1 n3 v1 v3 w1 w3 f1 f3
end
end
section
theorem cc_cell {post : Int32 → Prop} {L : Nat} {xs : Nat → Int32} {i : Nat} (hL : L ≤ 4) (hi : i < 4) (hp : ∀ r, post r) : wpL_cellAt post L xs () (nI i) :=
  pk_le L i (fun _ => hp _) (fun z => ⟨pk_in i L z, hp _⟩)
theorem i_vc (xs : Nat → Int32) (L : Nat) (hL : L ≤ 4) : wpL_law (fun r => r = 1) L xs :=
  cc_cell (i := 0) hL (by decide) (fun n => cc_cell (i := 1) hL (by decide) (fun v => cc_cell (i := 2) hL (by decide) (fun w => cc_cell (i := 3) hL (by decide) (fun f => ⟨29, 12217, by decide, by decide, cc_lawOf n v w f⟩))))
end
