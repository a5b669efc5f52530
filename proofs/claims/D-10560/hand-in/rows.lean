section
section
variable {mk li lv : Int32} {a1 a2 a3 a4 a5 a6 a7 a8 a9 a10 a11 a12 a13 : Nat → Int32}
theorem lr_c0 : (0 : Int32).toNatClampNeg = 0 := by decide
theorem lr_c1 : (1 : Int32).toNatClampNeg = 1 := by decide
theorem lr_u0 {f : Nat → Int32} {x : Int32} : upd f (0 : Int32).toNatClampNeg x = upd f 0 x := by rw [lr_c0]
theorem lr_u1 {f : Nat → Int32} {x : Int32} : upd f (1 : Int32).toNatClampNeg x = upd f 1 x := by rw [lr_c1]
theorem lr_r0 {f : Nat → Int32} {x : Int32} (h : f 0 = x) : f (0 : Int32).toNatClampNeg = x := by rw [lr_c0, h]
theorem lr_r1 {f : Nat → Int32} {x : Int32} (h : f 1 = x) : f (1 : Int32).toNatClampNeg = x := by rw [lr_c1, h]
theorem lr_i0 : vp_in 0 24 := pk_in 0 24 (by decide)
theorem lr_i1 : vp_in 1 24 := pk_in 1 24 (by decide)
theorem lr_neg {x : Int32} (h : x = -1) : x < 0 := by rw [h]; decide
/-! topOf -/
theorem lr_top0 {post : Int32 → Prop} {x : Int32} (hx : x = 0) (h20 : a2 0 = -1) (H : post 0) :
    wpX_topOf post (mk, li, lv, a1, a2, a3, a4, a5, a6, a7, a8, a9, a10, a11, a12, a13) x := by
  subst hx
  exact ⟨1, br_f (by decide) ⟨lr_i0, br_t (lr_neg (lr_r0 h20)) H⟩⟩
theorem lr_top1n {post : Int32 → Prop} {x : Int32} (hx : x = 1) (h21 : a2 1 = -1) (H : post 1) :
    wpX_topOf post (mk, li, lv, a1, a2, a3, a4, a5, a6, a7, a8, a9, a10, a11, a12, a13) x := by
  subst hx
  exact ⟨1, br_f (by decide) ⟨lr_i1, br_t (lr_neg (lr_r1 h21)) H⟩⟩
theorem lr_top1l {post : Int32 → Prop} {x : Int32} (hx : x = 1) (h20 : a2 0 = -1) (h21 : a2 1 = 0) (H : post 0) :
    wpX_topOf post (mk, li, lv, a1, a2, a3, a4, a5, a6, a7, a8, a9, a10, a11, a12, a13) x := by
  subst hx
  exact ⟨2, br_f (by decide) ⟨lr_i1, br_f (by rw [lr_r1 h21]; decide) ⟨lr_i1, nm_r (lr_r1 h21) (nm_r (e' := 1) (by decide)
    (br_f (by decide) ⟨lr_i0, br_t (lr_neg (lr_r0 h20)) H⟩))⟩⟩⟩
/-! depthOf -/
theorem lr_dep0 {post : Int32 → Prop} {x : Int32} (hx : x = 0) (h20 : a2 0 = -1) (H : post 0) :
    wpX_depthOf post (mk, li, lv, a1, a2, a3, a4, a5, a6, a7, a8, a9, a10, a11, a12, a13) x := by
  subst hx
  exact ⟨lr_i0, nm_r (lr_r0 h20) ⟨1, br_f (by decide) (br_t (by decide) H)⟩⟩
theorem lr_dep1n {post : Int32 → Prop} {x : Int32} (hx : x = 1) (h21 : a2 1 = -1) (H : post 0) :
    wpX_depthOf post (mk, li, lv, a1, a2, a3, a4, a5, a6, a7, a8, a9, a10, a11, a12, a13) x := by
  subst hx
  exact ⟨lr_i1, nm_r (lr_r1 h21) ⟨1, br_f (by decide) (br_t (by decide) H)⟩⟩
theorem lr_dep1l {post : Int32 → Prop} {x : Int32} (hx : x = 1) (h20 : a2 0 = -1) (h21 : a2 1 = 0) (H : post 1) :
    wpX_depthOf post (mk, li, lv, a1, a2, a3, a4, a5, a6, a7, a8, a9, a10, a11, a12, a13) x := by
  subst hx
  exact ⟨lr_i1, nm_r (lr_r1 h21) ⟨2, br_f (by decide) (br_f (by decide) (nm_r (e' := 1) (by decide) ⟨lr_i0, nm_r (lr_r0 h20) (nm_r (e' := 1) (by decide)
    (br_f (by decide) (br_t (by decide) H)))⟩))⟩⟩
/-! following -/
theorem lr_fol0 {post : Int32 → Prop} {y : Int32} (h10 : a1 0 = 0) (h30 : a3 0 = 1) (H : post 1) :
    wpX_following post (mk, li, lv, a1, a2, a3, a4, a5, a6, a7, a8, a9, a10, a11, a12, a13) 0 y :=
  ⟨lr_i0, br_f (by rw [lr_r0 h10]; decide) ⟨lr_i0, br_f (by rw [lr_r0 h30]; decide) ⟨lr_i0, (lr_r0 h30).symm ▸ H⟩⟩⟩
theorem lr_fol1l {post : Int32 → Prop} (h11 : a1 1 = 1) (h21 : a2 1 = 0) (h41 : a4 1 = -1) (H : post (-1)) :
    wpX_following post (mk, li, lv, a1, a2, a3, a4, a5, a6, a7, a8, a9, a10, a11, a12, a13) 1 0 :=
  ⟨lr_i1, br_t (lr_r1 h11) ⟨2, br_f (by decide) (br_f (by decide) ⟨lr_i1, br_f (by rw [lr_r1 h41]; decide) ⟨lr_i1, nm_r (lr_r1 h21) (nm_r (e' := 1) (by decide)
    (br_f (by decide) (br_t rfl (br_t rfl H))))⟩⟩)⟩⟩
theorem lr_fol1n {post : Int32 → Prop} (h11 : a1 1 = 1) (H : post (-1)) :
    wpX_following post (mk, li, lv, a1, a2, a3, a4, a5, a6, a7, a8, a9, a10, a11, a12, a13) 1 1 :=
  ⟨lr_i1, br_t (lr_r1 h11) ⟨1, br_f (by decide) (br_t rfl (br_t rfl H))⟩⟩
/-! closeFrom -/
theorem lr_cloA {post : Int32 → St2 → Prop} {m : Int32} (H : post m (mk, li, lv, a1, a2, a3, a4, a5, a6, a7, a8, a9, a10, a11, a12, a13)) :
    wpX_closeFrom post (mk, li, lv, a1, a2, a3, a4, a5, a6, a7, a8, a9, a10, a11, a12, a13) 0 0 1 1 m :=
  ⟨1, br_f (by decide) (br_f (by decide) (br_f (by decide) (br_t (by decide) H)))⟩
theorem lr_cloB {post : Int32 → St2 → Prop} {m : Int32} (h20 : a2 0 = -1) (h21 : a2 1 = 0)
    (H : ∀ m' a12', post m' (mk, li, lv, a1, a2, a3, a4, a5, a6, a7, a8, a9, a10, a11, a12', a13)) :
    wpX_closeFrom post (mk, li, lv, a1, a2, a3, a4, a5, a6, a7, a8, a9, a10, a11, a12, a13) 1 1 0 0 m :=
  ⟨3, br_f (by decide) (br_f (by decide) (br_t rfl ⟨lr_i1, nm_e (nm_e ⟨lr_i1, nm_r (lr_r1 h21) (nm_r (e' := 0) (by decide) (nm_r (e' := 1) (by decide)
    (br_f (by decide) (br_f (by decide) (br_t rfl ⟨lr_i0, nm_e (nm_e ⟨lr_i0, nm_r (lr_r0 h20) (nm_r (e' := -1) (by decide) (nm_r (e' := 2) (by decide)
      (br_f (by decide) (br_t (by decide) (H _ _)))))⟩)⟩)))))⟩)⟩))⟩
theorem lr_cloC {post : Int32 → St2 → Prop} {m : Int32} (h21 : a2 1 = -1)
    (H : ∀ m' a12', post m' (mk, li, lv, a1, a2, a3, a4, a5, a6, a7, a8, a9, a10, a11, a12', a13)) :
    wpX_closeFrom post (mk, li, lv, a1, a2, a3, a4, a5, a6, a7, a8, a9, a10, a11, a12, a13) 1 0 0 0 m :=
  ⟨2, br_f (by decide) (br_f (by decide) (br_t rfl ⟨lr_i1, nm_e (nm_e ⟨lr_i1, nm_r (lr_r1 h21) (nm_r (e' := -1) (by decide) (nm_r (e' := 1) (by decide)
    (br_f (by decide) (br_t (by decide) (H _ _)))))⟩)⟩))⟩
/-! numberMarks -/
theorem lr_nm57l {post : St2 → Prop} (h10 : a1 0 = 0) (h11 : a1 1 = 1) (h20 : a2 0 = -1) (h21 : a2 1 = 0) (e0 : a10 0 = 0) (e1 : a10 1 = 1)
    (H : ∀ a11' a12', a11' 0 = 0 → a11' 1 = 1 → post (mk, 2, lv, a1, a2, a3, a4, a5, a6, a7, a8, a9, a10, a11', a12', a13)) :
    ∃ n, wX_numberMarks_57 post n 0 0 mk 2 lv a1 a2 a3 a4 a5 a6 a7 a8 a9 a10 a11 a12 a13 :=
  ⟨3, br_f (by decide) ⟨lr_i0, nm_r (lr_r0 e0) ⟨lr_i0, nm_r lr_u0 ⟨lr_i0, br_f (by rw [lr_r0 h10]; decide)
    (nm_r (e' := 1) (by decide) (lr_dep0 rfl h20 (br_f (by decide) ⟨pk_in 1 24 (by decide), lr_dep1l (lr_r1 e1) h20 h21
      (br_f (by decide) (lr_cloA (nm_r (e' := 1) (by decide)
        (br_f (by decide) ⟨lr_i1, nm_r (lr_r1 e1) ⟨lr_i1, nm_r lr_u1 ⟨lr_i1, br_t (lr_r1 h11) ⟨lr_i1,
          nm_e (lr_dep1l rfl h20 h21 (br_t (by decide) (br_t (by decide) (lr_cloB h20 h21 (fun m' a12' => nm_r (e' := 2) (by decide)
            (br_t (by decide) (H _ a12' (by simp [upd]) (by simp [upd]))))))))⟩⟩⟩⟩))))⟩)))⟩⟩⟩⟩
theorem lr_nm57n {post : St2 → Prop} (h11 : a1 1 = 1) (h21 : a2 1 = -1) (e0 : a10 0 = 1)
    (H : ∀ a11' a12', a11' 1 = 0 → post (mk, 1, lv, a1, a2, a3, a4, a5, a6, a7, a8, a9, a10, a11', a12', a13)) :
    ∃ n, wX_numberMarks_57 post n 0 0 mk 1 lv a1 a2 a3 a4 a5 a6 a7 a8 a9 a10 a11 a12 a13 :=
  ⟨2, br_f (by decide) ⟨lr_i0, nm_r (lr_r0 e0) ⟨lr_i1, nm_r lr_u1 ⟨lr_i1, br_t (lr_r1 h11) ⟨lr_i1,
    nm_e (lr_dep1n rfl h21 (br_t (by decide) (br_t (by decide) (lr_cloC h21 (fun m' a12' => nm_r (e' := 1) (by decide)
      (br_t (by decide) (H _ a12' (by simp [upd]))))))))⟩⟩⟩⟩⟩
theorem lr_nml {post : St2 → Prop} {x : Int32} (hx : x = 0) (h10 : a1 0 = 0) (h11 : a1 1 = 1) (h20 : a2 0 = -1) (h21 : a2 1 = 0) (h30 : a3 0 = 1) (h41 : a4 1 = -1)
    (H : ∀ a10' a11' a12', a10' 0 = 0 → a10' 1 = 1 → a11' 0 = 0 → a11' 1 = 1 → post (mk, 2, lv, a1, a2, a3, a4, a5, a6, a7, a8, a9, a10', a11', a12', a13)) :
    wpX_numberMarks post (mk, li, lv, a1, a2, a3, a4, a5, a6, a7, a8, a9, a10, a11, a12, a13) x := by
  subst hx
  exact ⟨3, br_f (by decide) (br_f (by decide) ⟨lr_i0, nm_r lr_u0 (nm_r (e' := 1) (by decide) (lr_fol0 h10 h30 (nm_r (e' := 1) (by decide)
    (br_f (by decide) (br_f (by decide) ⟨lr_i1, nm_r lr_u1 (nm_r (e' := 2) (by decide) (lr_fol1l h11 h21 h41 (nm_r (e' := 2) (by decide)
      (br_f (by decide) (br_t (by decide) (lr_nm57l h10 h11 h20 h21 (by simp [upd]) (by simp [upd])
        (fun a11' a12' g0 g1 => H _ a11' a12' (by simp [upd]) (by simp [upd]) g0 g1)))))))⟩)))))⟩)⟩
theorem lr_nmn {post : St2 → Prop} {x : Int32} (hx : x = 1) (h11 : a1 1 = 1) (h21 : a2 1 = -1)
    (H : ∀ a10' a11' a12', a10' 0 = 1 → a11' 1 = 0 → post (mk, 1, lv, a1, a2, a3, a4, a5, a6, a7, a8, a9, a10', a11', a12', a13)) :
    wpX_numberMarks post (mk, li, lv, a1, a2, a3, a4, a5, a6, a7, a8, a9, a10, a11, a12, a13) x := by
  subst hx
  exact ⟨2, br_f (by decide) (br_f (by decide) ⟨lr_i0, nm_r lr_u0 (nm_r (e' := 1) (by decide) (lr_fol1n h11 (nm_r (e' := 1) (by decide)
    (br_f (by decide) (br_t (by decide) (lr_nm57n h11 h21 (by simp [upd])
      (fun a11' a12' g1 => H _ a11' a12' (by simp [upd]) g1)))))))⟩)⟩
/-! gap -/
theorem lr_gof0 {post : Int32 → Prop} {x y : Int32} (hx : x = 0) (hy : y = 0) (g0 : a11 0 = 0) (H : post 0) :
    wpX_gapOf post (mk, li, lv, a1, a2, a3, a4, a5, a6, a7, a8, a9, a10, a11, a12, a13) x y := by
  subst hx hy
  exact br_t rfl ⟨lr_i0, (lr_r0 g0).symm ▸ H⟩
theorem lr_gof1 {post : Int32 → Prop} {x y : Int32} (s o : Nat) (hx : x = 1) (hy : y = nI s) (hs : s ≤ 4) (h11 : a1 1 = 1) (g1 : a11 1 = nI o) (H : post (nI (o + s))) :
    wpX_gapOf post (mk, li, lv, a1, a2, a3, a4, a5, a6, a7, a8, a9, a10, a11, a12, a13) x y := by
  subst hx hy
  refine pk_eq s 0 (fun z => ⟨lr_i1, ?_⟩) (fun z => ⟨lr_i1, br_t (lr_r1 h11) ⟨lr_i1, ?_⟩⟩)
  · rw [lr_r1 g1]
    rw [z] at H
    exact H
  · rw [lr_r1 g1, nI_add]
    exact H
theorem lr_gap0 {post : Int32 → Prop} {x : Int32} (j : Nat) (hx : x = nI j) (hj : j < 8) (h8 : a8 j = 0) (h9 : a9 j = 0) (g0 : a11 0 = 0) (H : post 0) :
    wpX_gap post (mk, li, lv, a1, a2, a3, a4, a5, a6, a7, a8, a9, a10, a11, a12, a13) x :=
  ⟨pk_in j 8 hj hx, pk_in j 8 hj hx, lr_gof0 (by rw [pk_cl j hx]; exact h8) (by rw [pk_cl j hx]; exact h9) g0 H⟩
theorem lr_gap1 {post : Int32 → Prop} {x : Int32} (j s o : Nat) (hx : x = nI j) (hj : j < 8) (hs : s ≤ 4) (h8 : a8 j = 1) (h9 : a9 j = nI s) (h11 : a1 1 = 1) (g1 : a11 1 = nI o) (H : post (nI (o + s))) :
    wpX_gap post (mk, li, lv, a1, a2, a3, a4, a5, a6, a7, a8, a9, a10, a11, a12, a13) x :=
  ⟨pk_in j 8 hj hx, pk_in j 8 hj hx, lr_gof1 s o (by rw [pk_cl j hx]; exact h8) (by rw [pk_cl j hx]; exact h9) hs h11 g1 H⟩
end
end
section
section
variable {mk li lv : Int32} {a1 a2 a3 a4 a5 a6 a7 a8 a9 a10 a11 a12 a13 : Nat → Int32}
theorem lr_2r (r : Nat) : 2 * nI r = nI (2 * r) := pk_mul 2 r
theorem lr_2r1 (r : Nat) : 2 * nI r + 1 = nI (2 * r + 1) := by rw [lr_2r, nI_1]
/-! isRange, isNode -/
theorem lr_rng1 {post : Int32 → Prop} {r : Nat} (hr : r < 4) (H : post 1) : wpX_isRange post () (nI r) :=
  br_f (nI_pos (by omega)) (pk_le 4 r (fun z => absurd z (by omega)) (fun _ => H))
theorem lr_rng0 {post : Int32 → Prop} {x : Int32} (hx : x < 0 ∨ 4 ≤ x) (H : post 0) : wpX_isRange post () x :=
  br_c (fun _ => H) (fun z => br_t (hx.resolve_left z) H)
theorem lr_node1 {post : Int32 → Prop} (H : post 1) :
    wpX_isNode post (2, li, lv, a1, a2, a3, a4, a5, a6, a7, a8, a9, a10, a11, a12, a13) 1 :=
  br_f (by decide) (br_f (by decide) H)
/-! setPlace -/
theorem lr_spl {post : Int32 → St2 → Prop} {x y : Int32} {r s : Nat} (hx : x = nI (2 * r + 1)) (hy : y = nI (2 * r)) (hr : r < 4) (hs : s ≤ 4)
    (h10 : a1 0 = 0) (h11 : a1 1 = 1) (h20 : a2 0 = -1) (h21 : a2 1 = 0) (h30 : a3 0 = 1) (h41 : a4 1 = -1) (h8 : a8 (2 * r) = 0) (h9 : a9 (2 * r) = 0)
    (H : ∀ li' a8' a9' a10' a11' a12', a8' (2 * r) = 0 → a9' (2 * r) = 0 → a8' (2 * r + 1) = 1 → a9' (2 * r + 1) = nI s →
      post 1 (mk, li', lv, a1, a2, a3, a4, a5, a6, a7, a8', a9', a10', a11', a12', a13)) :
    wpX_setPlace post (mk, li, lv, a1, a2, a3, a4, a5, a6, a7, a8, a9, a10, a11, a12, a13) x y 1 (nI s) := by
  have ex : x.toNatClampNeg = 2 * r + 1 := pk_cl (2 * r + 1) hx
  have ey : y.toNatClampNeg = 2 * r := pk_cl (2 * r) hy
  have ix : vp_in x 8 := pk_in (2 * r + 1) 8 (by omega) hx
  have iy : vp_in y 8 := pk_in (2 * r) 8 (by omega) hy
  have p1 : upd a8 (2 * r + 1) 1 (2 * r) = 0 := by rw [pk_un (by omega), h8]
  have p2 : upd a9 (2 * r + 1) (nI s) (2 * r) = 0 := by rw [pk_un (by omega), h9]
  refine ⟨ix, nm_r (e' := upd a8 (2 * r + 1) 1) (by rw [ex]) ⟨ix, nm_r (e' := upd a9 (2 * r + 1) (nI s)) (by rw [ex]) ?_⟩⟩
  refine lr_top1l rfl h20 h21 ⟨iy, lr_top0 (by rw [ey]; exact p1) h20 (br_t rfl (br_t rfl ?_))⟩
  refine lr_nml rfl h10 h11 h20 h21 h30 h41 (fun a10' a11' a12' e0 e1 g0 g1 => ?_)
  refine lr_gap1 (2 * r + 1) s 1 hx (by omega) hs pk_us pk_us h11 g1 ?_
  refine lr_gap0 (2 * r) hy (by omega) p1 p2 g0 ?_
  exact pk_le (2 * r) (2 * r + 1) (fun _ => br_t (nI_pos' (by omega)) (br_t rfl (H _ _ _ _ _ _ p1 p2 pk_us pk_us))) (fun z => absurd z (by omega)) hy hx
theorem lr_spn {post : Int32 → St2 → Prop} {x y : Int32} {r s : Nat} (hx : x = nI (2 * r + 1)) (hy : y = nI (2 * r)) (hr : r < 4)
    (h20 : a2 0 = -1) (h21 : a2 1 = -1) (h8 : a8 (2 * r) = 0)
    (H : ∀ li' a8' a9' a10' a11' a12', a8' (2 * r) = 1 → a9' (2 * r) = nI s → a8' (2 * r + 1) = 1 → a9' (2 * r + 1) = nI s →
      post 1 (mk, li', lv, a1, a2, a3, a4, a5, a6, a7, a8', a9', a10', a11', a12', a13)) :
    wpX_setPlace post (mk, li, lv, a1, a2, a3, a4, a5, a6, a7, a8, a9, a10, a11, a12, a13) x y 1 (nI s) := by
  have ex : x.toNatClampNeg = 2 * r + 1 := pk_cl (2 * r + 1) hx
  have ey : y.toNatClampNeg = 2 * r := pk_cl (2 * r) hy
  have ix : vp_in x 8 := pk_in (2 * r + 1) 8 (by omega) hx
  have iy : vp_in y 8 := pk_in (2 * r) 8 (by omega) hy
  have p1 : upd a8 (2 * r + 1) 1 (2 * r) = 0 := by rw [pk_un (by omega), h8]
  refine ⟨ix, nm_r (e' := upd a8 (2 * r + 1) 1) (by rw [ex]) ⟨ix, nm_r (e' := upd a9 (2 * r + 1) (nI s)) (by rw [ex]) ?_⟩⟩
  refine lr_top1n rfl h21 ⟨iy, lr_top0 (by rw [ey]; exact p1) h20 (br_f (by decide) (br_f (by decide) (br_f (by decide) ?_)))⟩
  refine ⟨iy, nm_r (e' := upd (upd a8 (2 * r + 1) 1) (2 * r) 1) (by rw [ey]) ⟨iy, nm_r (e' := upd (upd a9 (2 * r + 1) (nI s)) (2 * r) (nI s)) (by rw [ey]) ?_⟩⟩
  refine H _ _ _ _ _ _ pk_us pk_us ?_ ?_
  · rw [pk_un (by omega), pk_us]
  · rw [pk_un (by omega), pk_us]
/-! setEnd -/
theorem lr_sel {post : Int32 → St2 → Prop} {r s : Nat} (hr : r < 4) (hs : s ≤ 4)
    (h10 : a1 0 = 0) (h11 : a1 1 = 1) (h20 : a2 0 = -1) (h21 : a2 1 = 0) (h30 : a3 0 = 1) (h41 : a4 1 = -1) (h61 : a6 1 = nI s) (h8 : a8 (2 * r) = 0) (h9 : a9 (2 * r) = 0)
    (H : ∀ li' a8' a9' a10' a11' a12', a8' (2 * r) = 0 → a9' (2 * r) = 0 → a8' (2 * r + 1) = 1 → a9' (2 * r + 1) = nI s →
      post 1 (2, li', lv, a1, a2, a3, a4, a5, a6, a7, a8', a9', a10', a11', a12', a13)) :
    wpX_setEnd post (2, li, lv, a1, a2, a3, a4, a5, a6, a7, a8, a9, a10, a11, a12, a13) (nI r) 1 (nI s) := by
  unfold wpX_setEnd
  refine lr_rng1 hr (br_f (by decide) (lr_node1 (br_f (by decide) ?_)))
  refine br_f (nI_pos (by omega)) ⟨lr_i1, br_f (by rw [lr_r1 h61]; exact nI_nlt (Nat.le_refl s) (by omega)) (br_f (by decide) ?_)⟩
  exact lr_spl (lr_2r1 r) (lr_2r r) hr hs h10 h11 h20 h21 h30 h41 h8 h9 H
theorem lr_sen {post : Int32 → St2 → Prop} {r s : Nat} (hr : r < 4) (hs : s ≤ 4) (h20 : a2 0 = -1) (h21 : a2 1 = -1) (h61 : a6 1 = nI s) (h8 : a8 (2 * r) = 0)
    (H : ∀ li' a8' a9' a10' a11' a12', a8' (2 * r) = 1 → a9' (2 * r) = nI s → a8' (2 * r + 1) = 1 → a9' (2 * r + 1) = nI s →
      post 1 (2, li', lv, a1, a2, a3, a4, a5, a6, a7, a8', a9', a10', a11', a12', a13)) :
    wpX_setEnd post (2, li, lv, a1, a2, a3, a4, a5, a6, a7, a8, a9, a10, a11, a12, a13) (nI r) 1 (nI s) := by
  unfold wpX_setEnd
  refine lr_rng1 hr (br_f (by decide) (lr_node1 (br_f (by decide) ?_)))
  refine br_f (nI_pos (by omega)) ⟨lr_i1, br_f (by rw [lr_r1 h61]; exact nI_nlt (Nat.le_refl s) (by omega)) (br_f (by decide) ?_)⟩
  exact lr_spn (lr_2r1 r) (lr_2r r) hr h20 h21 h8 H
theorem lr_se0 {post : Int32 → St2 → Prop} {x y : Int32} (hx : x < 0 ∨ 4 ≤ x) (H : post (-1) (2, li, lv, a1, a2, a3, a4, a5, a6, a7, a8, a9, a10, a11, a12, a13)) : wpX_setEnd post (2, li, lv, a1, a2, a3, a4, a5, a6, a7, a8, a9, a10, a11, a12, a13) x 1 y := by
  unfold wpX_setEnd
  exact lr_rng0 hx (br_t rfl H)
/-! lettersBetween -/
theorem lr_betl {post : Int32 → Prop} {x : Int32} {s : Nat} (hx : x = 1) (hs : s ≤ 4) (g1 : a11 1 = 1) (h61 : a6 1 = nI s) (H : post (nI s)) :
    wpX_lettersBetween post (mk, li, lv, a1, a2, a3, a4, a5, a6, a7, a8, a9, a10, a11, a12, a13) x 0 (nI (1 + s)) := by
  subst hx
  refine ⟨lr_i1, br_f (by rw [lr_r1 g1]; decide) ⟨lr_i1, ⟨lr_i1, lr_i1, nm_r (e' := nI (1 + s)) ?_ (pk_le (1 + s) (1 + s) (fun _ => ?_) (fun z => absurd z (by omega)))⟩⟩⟩
  · rw [lr_r1 g1, lr_r1 h61]
    exact nI_add 1 s
  · refine pk_le (1 + s) 1 (fun z => ?_) (fun z => ?_) rfl (lr_r1 g1)
    · have e : s = 0 := by omega
      rw [e] at H
      exact H
    · have e : nI (1 + s) - 1 = nI s := (pk_sub (show 1 ≤ 1 + s by omega)).trans (by rw [Nat.add_sub_cancel_left])
      rw [lr_r1 g1, e]
      exact H
theorem lr_betn {post : Int32 → Prop} {x : Int32} {s : Nat} (hx : x = 1) (hs : s ≤ 4) (g1 : a11 1 = 0) (h61 : a6 1 = nI s) (H : post 0) :
    wpX_lettersBetween post (mk, li, lv, a1, a2, a3, a4, a5, a6, a7, a8, a9, a10, a11, a12, a13) x (nI s) (nI s) := by
  subst hx
  refine ⟨lr_i1, br_t (by rw [lr_r1 g1]; exact nI_pos' (by omega)) ⟨lr_i1, lr_i1, nm_r (e' := nI s) ?_ (pk_le s s (fun _ => ?_) (fun z => absurd z (by omega)))⟩⟩
  · rw [lr_r1 g1, lr_r1 h61]
    exact (nI_add 0 s).trans (by rw [Nat.zero_add])
  · exact pk_le s s (fun _ => H) (fun z => absurd z (by omega))
/-! letters -/
theorem lr_letl {post : Int32 → St2 → Prop} {r s : Nat} (hr : r < 4) (hs : s ≤ 4)
    (h10 : a1 0 = 0) (h11 : a1 1 = 1) (h20 : a2 0 = -1) (h21 : a2 1 = 0) (h30 : a3 0 = 1) (h41 : a4 1 = -1) (h61 : a6 1 = nI s)
    (h8 : a8 (2 * r) = 0) (h9 : a9 (2 * r) = 0) (k8 : a8 (2 * r + 1) = 1) (k9 : a9 (2 * r + 1) = nI s)
    (H : ∀ li' a10' a11' a12', post (nI s) (mk, li', lv, a1, a2, a3, a4, a5, a6, a7, a8, a9, a10', a11', a12', a13)) :
    wpX_letters post (mk, li, lv, a1, a2, a3, a4, a5, a6, a7, a8, a9, a10, a11, a12, a13) (nI r) := by
  have e2 : (2 * nI r).toNatClampNeg = 2 * r := pk_cl (2 * r) (lr_2r r)
  unfold wpX_letters
  refine lr_rng1 hr (br_f (by decide) ⟨pk_in (2 * r) 8 (by omega) (lr_2r r), ?_⟩)
  refine lr_top0 (by rw [e2]; exact h8) h20 ?_
  refine lr_nml rfl h10 h11 h20 h21 h30 h41 (fun a10' a11' a12' e0 e1 g0 g1 => ?_)
  refine lr_gap0 (2 * r) (lr_2r r) (by omega) h8 h9 g0 ?_
  refine lr_gap1 (2 * r + 1) s 1 (lr_2r1 r) (by omega) hs k8 k9 h11 g1 ?_
  refine ⟨3, br_f (by decide) ⟨lr_i0, ?_, br_f ?_ (nm_r (e' := 1) (by decide) (br_f (by decide) ⟨lr_i1, ?_, br_t ?_ ⟨lr_i1, ?_⟩⟩))⟩⟩
  · rw [lr_r0 e0]
    exact lr_i0
  · rw [lr_r0 e0, lr_r0 h10]
    decide
  · rw [lr_r1 e1]
    exact lr_i1
  · rw [lr_r1 e1, lr_r1 h11]
  · exact lr_betl (lr_r1 e1) hs g1 h61 (nm_r (e' := nI s) (Int32.zero_add _) (nm_r (e' := 2) (by decide) (br_t (by decide) (H _ _ _ _))))
theorem lr_letn {post : Int32 → St2 → Prop} {r s : Nat} (hr : r < 4) (hs : s ≤ 4) (h11 : a1 1 = 1) (h21 : a2 1 = -1) (h61 : a6 1 = nI s)
    (h8 : a8 (2 * r) = 1) (h9 : a9 (2 * r) = nI s) (k8 : a8 (2 * r + 1) = 1) (k9 : a9 (2 * r + 1) = nI s)
    (H : ∀ li' a10' a11' a12', post 0 (mk, li', lv, a1, a2, a3, a4, a5, a6, a7, a8, a9, a10', a11', a12', a13)) :
    wpX_letters post (mk, li, lv, a1, a2, a3, a4, a5, a6, a7, a8, a9, a10, a11, a12, a13) (nI r) := by
  have e2 : (2 * nI r).toNatClampNeg = 2 * r := pk_cl (2 * r) (lr_2r r)
  unfold wpX_letters
  refine lr_rng1 hr (br_f (by decide) ⟨pk_in (2 * r) 8 (by omega) (lr_2r r), ?_⟩)
  refine lr_top1n (by rw [e2]; exact h8) h21 ?_
  refine lr_nmn rfl h11 h21 (fun a10' a11' a12' e0 g1 => ?_)
  refine lr_gap1 (2 * r) s 0 (lr_2r r) (by omega) hs h8 h9 h11 g1 ?_
  refine lr_gap1 (2 * r + 1) s 0 (lr_2r1 r) (by omega) hs k8 k9 h11 g1 ?_
  rw [Nat.zero_add]
  refine ⟨2, br_f (by decide) ⟨lr_i0, ?_, br_t ?_ ⟨lr_i0, ?_⟩⟩⟩
  · rw [lr_r0 e0]
    exact lr_i1
  · rw [lr_r0 e0, lr_r1 h11]
  · exact lr_betn (lr_r0 e0) hs g1 h61 (nm_r (e' := 0) (by decide) (nm_r (e' := 1) (by decide) (br_t (by decide) (H _ _ _ _))))
theorem lr_let0 {post : Int32 → St2 → Prop} {x : Int32} (hx : x < 0 ∨ 4 ≤ x)
    (H : post (-1) (mk, li, lv, a1, a2, a3, a4, a5, a6, a7, a8, a9, a10, a11, a12, a13)) :
    wpX_letters post (mk, li, lv, a1, a2, a3, a4, a5, a6, a7, a8, a9, a10, a11, a12, a13) x := by
  unfold wpX_letters
  exact lr_rng0 hx (br_t rfl H)
/-! item -/
theorem lr_item0 {post : Int32 → Prop} (H : post (-2)) :
    wpX_item post (2, li, lv, a1, a2, a3, a4, a5, a6, a7, a8, a9, a10, a11, a12, a13) 1 (nI 0 - 1) := by
  unfold wpX_item
  exact lr_node1 (br_f (by decide) (br_t (by decide) H))
theorem lr_item1 {post : Int32 → Prop} {s : Nat} (hs : s < 4) (h11 : a1 1 = 1) (h61 : a6 1 = nI (s + 1)) (H : post (a7 (12 + s))) :
    wpX_item post (2, li, lv, a1, a2, a3, a4, a5, a6, a7, a8, a9, a10, a11, a12, a13) 1 (nI (s + 1) - 1) := by
  rw [nI_pred]
  have e : 12 * 1 + nI s = nI (12 + s) := nI_add 12 s
  unfold wpX_item
  refine lr_node1 (br_f (by decide) (br_f (nI_pos (by omega)) ⟨lr_i1, br_t ?_ ⟨lr_i1, br_t (lr_r1 h11) ⟨pk_in (12 + s) 288 (by omega) e, ?_⟩⟩⟩))
  · rw [lr_r1 h61]
    exact nI_lt (by omega) (by omega)
  · rw [pk_cl (12 + s) e]
    exact H
end
end
section
section
variable {mk li lv : Int32} {a1 a2 a3 a4 a5 a6 a7 a8 a9 a10 a11 a12 a13 : Nat → Int32}
/-! put -/
theorem lr_elem0 {post : Int32 → Prop} (h10 : a1 0 = 0) (H : post 1) :
    wpX_isElement post (2, li, lv, a1, a2, a3, a4, a5, a6, a7, a8, a9, a10, a11, a12, a13) 0 :=
  br_f (by decide) (br_f (by decide) (br_f (by decide) ⟨lr_i0, br_f (by rw [lr_r0 h10]; decide) H⟩))
theorem lr_within {post : Int32 → Prop} (h20 : a2 0 = -1) (H : post 0) :
    wpX_isWithin post (mk, li, lv, a1, a2, a3, a4, a5, a6, a7, a8, a9, a10, a11, a12, a13) 0 1 :=
  ⟨2, br_f (by decide) (br_f (by decide) (br_f (by decide) ⟨lr_i0, nm_r (lr_r0 h20) (nm_r (e' := 1) (by decide) (br_f (by decide) (br_t (by decide) H)))⟩))⟩
theorem lr_child {post : Int32 → Prop} (h30 : a3 0 = -1) (H : post (-1)) :
    wpX_childAt post (mk, li, lv, a1, a2, a3, a4, a5, a6, a7, a8, a9, a10, a11, a12, a13) 0 0 :=
  ⟨lr_i0, nm_r (lr_r0 h30) ⟨1, br_t (by decide) H⟩⟩
theorem lr_link {post : St2 → Prop} (h30 : a3 0 = -1) (h60 : a6 0 = 0)
    (H : post (mk, li, lv, a1, upd a2 1 0, upd a3 0 1, upd a4 1 (-1), upd a5 1 (-1), upd a6 0 1, a7, a8, a9, a10, a11, a12, a13)) :
    wpX_link post (mk, li, lv, a1, a2, a3, a4, a5, a6, a7, a8, a9, a10, a11, a12, a13) 0 1 0 := by
  unfold wpX_link
  exact lr_child h30 (br_t rfl ⟨lr_i1, nm_r lr_u1 ⟨lr_i1, nm_r lr_u1 ⟨lr_i1, nm_r lr_u1 (br_t (by decide) ⟨lr_i0, nm_r lr_u0 (br_t (by decide)
    ⟨lr_i0, lr_i0, nm_r (e' := upd a6 0 1) (by rw [lr_c0, h60]; rfl) H⟩)⟩)⟩⟩⟩)
theorem lr_putIn {post : St2 → Prop} (h30 : a3 0 = -1) (h60 : a6 0 = 0) (h8 : ∀ j, j < 8 → a8 j = 0) (h9 : ∀ j, j < 8 → a9 j = 0)
    (H : post (mk, li, lv, a1, upd a2 1 0, upd a3 0 1, upd a4 1 (-1), upd a5 1 (-1), upd a6 0 1, a7, a8, a9, a10, a11, a12, a13)) :
    wpX_putIn post (mk, li, lv, a1, a2, a3, a4, a5, a6, a7, a8, a9, a10, a11, a12, a13) 0 1 0 :=
  pk_loop (σ := Unit) (fun n i _ => wX_putIn_3 post 0 1 0 mk li lv n (nI i) a1 a2 a3 a4 a5 a6 a7 a8 a9 a10 a11 a12 a13) (fun _ _ => True) 8 0 () (by omega) trivial
    (fun n _ _ => pk_le 8 8 (fun _ => lr_link h30 h60 H) (fun z => absurd z (by omega)))
    (fun n i _ hi _ hw => pk_le 8 i (fun z => absurd z (by omega)) (fun _ => ⟨pk_in i 8 hi, br_t (by rw [nI_clamp (by omega)]; exact h8 i hi)
      ⟨pk_in i 8 hi, br_t (by rw [nI_clamp (by omega), h9 i hi]; decide) (nm_r (nI_1 i) (hw () trivial))⟩⟩))
theorem lr_put65 {post : Int32 → St2 → Prop} {x : Int32} (h10 : a1 0 = 0) (h20 : a2 0 = -1) (h21 : a2 1 = -1)
    (H : wX_put_65 post 0 1 x (a6 0) 2 li lv a1 a2 a3 a4 a5 a6 a7 a8 a9 a10 a11 a12 a13) :
    wpX_put post (2, li, lv, a1, a2, a3, a4, a5, a6, a7, a8, a9, a10, a11, a12, a13) 0 1 x := by
  unfold wpX_put
  exact lr_elem0 h10 (br_f (by decide) (lr_node1 (br_f (by decide) (lr_within h20 (br_f (by decide) (br_t rfl ⟨lr_i1, br_f (by rw [lr_r1 h21]; decide) ⟨lr_i0, H⟩⟩))))))
theorem lr_putn {post : Int32 → St2 → Prop} {x : Int32} (h10 : a1 0 = 0) (h20 : a2 0 = -1) (h21 : a2 1 = -1) (h60 : a6 0 = 0) (hx : ¬ x = 0)
    (H : post (-3) (2, li, lv, a1, a2, a3, a4, a5, a6, a7, a8, a9, a10, a11, a12, a13)) :
    wpX_put post (2, li, lv, a1, a2, a3, a4, a5, a6, a7, a8, a9, a10, a11, a12, a13) 0 1 x := by
  refine lr_put65 h10 h20 h21 ?_
  rw [h60]
  exact br_c (fun _ => H) (fun z => br_f (fun w => hx (Int32.le_antisymm w (Int32.not_lt.mp z))) H)
theorem lr_putl {post : Int32 → St2 → Prop} (h10 : a1 0 = 0) (h20 : a2 0 = -1) (h21 : a2 1 = -1) (h30 : a3 0 = -1) (h60 : a6 0 = 0) (h8 : ∀ j, j < 8 → a8 j = 0) (h9 : ∀ j, j < 8 → a9 j = 0)
    (H : post 1 (2, li, lv, a1, upd a2 1 0, upd a3 0 1, upd a4 1 (-1), upd a5 1 (-1), upd a6 0 1, a7, a8, a9, a10, a11, a12, a13)) :
    wpX_put post (2, li, lv, a1, a2, a3, a4, a5, a6, a7, a8, a9, a10, a11, a12, a13) 0 1 0 := by
  refine lr_put65 h10 h20 h21 ?_
  rw [h60]
  refine br_f (by decide) (br_t (by decide) ⟨lr_i1, br_t (lr_neg (lr_r1 h21)) ?_⟩)
  refine lr_putIn h30 h60 h8 h9 ⟨lr_i0, ?_⟩
  rw [lr_r0 (f := upd a6 0 1) pk_us]
  exact H
end
end
section
section
variable {mk li lv : Int32} {a1 a2 a3 a4 a5 a6 a7 a8 a9 a10 a11 a12 a13 : Nat → Int32}
/-! digits, twice -/
theorem lr_dig (x : Int32) : ∃ k : Nat, k ≤ 4 ∧ (∀ post : Int32 → Prop, post (nI k) → wpL_digits post () x) ∧ (∀ post : Int32 → Prop, post (nI k) → wpX_digitsOf post () x) ∧ (¬ 0 ≤ x → k = 0) ∧ (0 ≤ x → 0 < k) := by
  by_cases h0 : 0 ≤ x
  · by_cases h1 : 10 ≤ x
    · by_cases h2 : 100 ≤ x
      · by_cases h3 : 1000 ≤ x
        · exact ⟨4, by omega, fun post H => br_t h0 (br_t h1 (br_t h2 (br_t h3 H))), fun post H => br_t h0 (br_t h1 (br_t h2 (br_t h3 H))), fun z => absurd h0 z, fun _ => by omega⟩
        · exact ⟨3, by omega, fun post H => br_t h0 (br_t h1 (br_t h2 (br_f h3 H))), fun post H => br_t h0 (br_t h1 (br_t h2 (br_f h3 H))), fun z => absurd h0 z, fun _ => by omega⟩
      · exact ⟨2, by omega, fun post H => br_t h0 (br_t h1 (br_f h2 H)), fun post H => br_t h0 (br_t h1 (br_f h2 H)), fun z => absurd h0 z, fun _ => by omega⟩
    · exact ⟨1, by omega, fun post H => br_t h0 (br_f h1 H), fun post H => br_t h0 (br_f h1 H), fun z => absurd h0 z, fun _ => by omega⟩
  · exact ⟨0, by omega, fun post H => br_f h0 H, fun post H => br_f h0 H, fun _ => rfl, fun z => absurd z h0⟩
/-! replace -/
theorem lr_text1 {post : Int32 → Prop} (h11 : a1 1 = 1) (H : post 1) :
    wpX_isText post (2, li, lv, a1, a2, a3, a4, a5, a6, a7, a8, a9, a10, a11, a12, a13) 1 :=
  br_f (by decide) (br_f (by decide) (br_f (by decide) ⟨lr_i1, br_t (lr_r1 h11) H⟩))
theorem lr_text0 {post : Int32 → Prop} {x : Int32} (hx : ¬ x = 1) (h10 : a1 0 = 0) (H : post 0) :
    wpX_isText post (2, li, lv, a1, a2, a3, a4, a5, a6, a7, a8, a9, a10, a11, a12, a13) x := by
  refine br_c (fun _ => br_t rfl H) (fun z => br_c (fun _ => br_t rfl H) (fun w => br_f (by decide) ?_))
  obtain ⟨j, hj, e⟩ := nI_of z
  subst e
  have h2 : j < 2 := by
    rcases Nat.lt_or_ge j 2 with g | g
    · exact g
    · exact absurd (nI_le g hj) w
  have h0 : j = 0 := by
    rcases Nat.lt_or_ge j 1 with g | g
    · omega
    · exact absurd (show nI j = 1 by rw [show j = 1 by omega]; rfl) hx
  subst h0
  exact ⟨lr_i0, br_f (by rw [nI_clamp hj, h10]; decide) H⟩
theorem lr_shift {post : St2 → Prop} {p0 p1 p2 p3 : Int32} (h1 : p1 = 0) (h2 : p2 = 0) (H : post (mk, li, lv, a1, a2, a3, a4, a5, a6, a7, a8, a9, a10, a11, a12, a13)) :
    wpX_shift post (mk, li, lv, a1, a2, a3, a4, a5, a6, a7, a8, a9, a10, a11, a12, a13) p0 p1 p2 p3 := by
  subst h1 h2
  exact br_c (fun _ => ⟨1, br_t (by decide) H⟩) (fun _ => nm_r (e' := -1) (by decide) ⟨1, br_t (by decide) H⟩)
theorem lr_ex105 {post : St2 → Prop} {x3 x4 : Int32} : ∀ (k : Nat) (x6 x7 : Int32) (a7 : Nat → Int32), k ≤ 4 → x7 = nI k + (-1) →
    (∀ a7' : Nat → Int32, (0 < k → a7' (12 + (k - 1)) = x6 - x6 / 10 * 10) → (∀ j, 12 + k ≤ j → a7' j = a7 j) → post (mk, li, lv, a1, a2, a3, a4, a5, upd a6 1 (a6 1 + (x4 - x3)), a7', a8, a9, a10, a11, a12, a13)) →
    wX_exchange_105 post 1 0 x3 x4 mk li lv (k + 1) x6 x7 a1 a2 a3 a4 a5 a6 a7 a8 a9 a10 a11 a12 a13 := by
  intro k
  induction k with
  | zero =>
    intro x6 x7 a7 _ e H
    subst e
    exact br_t (by decide) ⟨lr_i1, lr_i1, nm_r (e' := upd a6 1 (a6 1 + (x4 - x3))) (by rw [lr_c1]) (H a7 (fun z => absurd z (by omega)) (fun _ _ => rfl))⟩
  | succ k ih =>
    intro x6 x7 a7 hk e H
    rw [pk_m1] at e
    subst e
    have ei : ((12 * 1 + 0 : Int32) + nI k) = nI (12 + k) := nI_add 12 k
    refine br_f (nI_pos (by omega)) ⟨by decide, pk_in (12 + k) 288 (by omega) ei, nm_r (e' := upd a7 (12 + k) (x6 - x6 / 10 * 10)) (by rw [pk_cl (12 + k) ei]) ⟨by decide, nm_e (nm_e ?_)⟩⟩
    refine ih _ _ _ (by omega) rfl (fun a7' _ g => H a7' (fun _ => ?_) (fun j hj => ?_))
    · rw [Nat.add_sub_cancel, g (12 + k) (by omega), pk_us]
    · rw [g j (by omega), pk_un (by omega)]
theorem lr_exch {post : St2 → Prop} {x5 : Int32} {k : Nat} (hk : k ≤ 4) (h61 : a6 1 = 0) (h8 : ∀ j, j < 8 → a8 j = 0)
    (H : ∀ a7' : Nat → Int32, (0 < k → a7' (12 + (k - 1)) = x5 - x5 / 10 * 10) → post (mk, li, lv, a1, a2, a3, a4, a5, upd a6 1 (nI k), a7', a8, a9, a10, a11, a12, a13)) :
    wpX_exchange post (mk, li, lv, a1, a2, a3, a4, a5, a6, a7, a8, a9, a10, a11, a12, a13) 1 0 0 (nI k) x5 := by
  refine pk_loop (σ := Unit) (fun n i _ => wX_exchange_3 post 1 0 0 (nI k) x5 mk li lv n (nI i) a1 a2 a3 a4 a5 a6 a7 a8 a9 a10 a11 a12 a13) (fun _ _ => True) 8 0 () (by omega) trivial ?_ ?_
  · refine fun n _ _ => pk_le 8 8 (fun _ => ⟨lr_i1, lr_shift (by decide) (lr_r1 h61) (nm_e ⟨k + 1, ?_⟩)⟩) (fun z => absurd z (by omega))
    refine lr_ex105 k x5 _ a7 hk (Int32.sub_eq_add_neg _ _) (fun a7' g _ => ?_)
    have e : a6 1 + (nI k - 0) = nI k := by rw [h61, Int32.sub_zero, Int32.zero_add]
    rw [e]
    exact H a7' g
  · exact fun n i _ hi _ hw => pk_le 8 i (fun z => absurd z (by omega)) (fun _ => ⟨pk_in i 8 hi, br_f (by rw [nI_clamp (by omega), h8 i hi]; decide) (nm_r (nI_1 i) (hw () trivial))⟩)
theorem lr_rep68 {post : Int32 → St2 → Prop} {x4 x5 z0 : Int32} {k : Nat} (h5 : x5 = 0) (hz : z0 = 0) (hk : k ≤ 4) (h61 : a6 1 = 0) (h8 : ∀ j, j < 8 → a8 j = 0)
    (D : ∀ post : Int32 → Prop, post (nI k) → wpX_digitsOf post () x4) (hn : ¬ 0 ≤ x4 → k = 0)
    (H : ∀ a7' : Nat → Int32, (0 < k → a7' (12 + (k - 1)) = x4 - x4 / 10 * 10) → post (nI k) (mk, li, lv, a1, a2, a3, a4, a5, upd a6 1 (nI k), a7', a8, a9, a10, a11, a12, a13)) :
    wX_replace_68 post 1 0 x4 x5 z0 mk li lv a1 a2 a3 a4 a5 a6 a7 a8 a9 a10 a11 a12 a13 := by
  subst h5 hz
  have e : ((0 : Int32) - 0) + nI k = nI k := Int32.zero_add _
  have e6 : upd a6 1 (nI k) (1 : Int32).toNatClampNeg = nI k := lr_r1 (f := upd a6 1 (nI k)) pk_us
  unfold wX_replace_68
  refine D _ (br_t (by rw [e]; exact nI_le (b := 12) (by omega) (by decide)) (br_c (fun _ => ?_) (fun z => ?_)))
  · unfold wX_replace_111
    refine lr_exch hk h61 h8 (fun a7' g => ⟨lr_i1, ?_⟩)
    rw [e6]
    exact H a7' g
  · unfold wX_replace_111
    refine lr_exch hk h61 h8 (fun a7' g => ⟨lr_i1, ?_⟩)
    rw [e6]
    exact H a7' (fun w => absurd w (by rw [hn z]; omega))
theorem lr_rep1 {post : Int32 → St2 → Prop} {p0 p1 p2 p3 : Int32} (hx : ¬ p0 = 1) (h10 : a1 0 = 0) (H : post (-1) (2, li, lv, a1, a2, a3, a4, a5, a6, a7, a8, a9, a10, a11, a12, a13)) :
    wpX_replace post (2, li, lv, a1, a2, a3, a4, a5, a6, a7, a8, a9, a10, a11, a12, a13) p0 p1 p2 p3 := by
  unfold wpX_replace
  exact lr_text0 hx h10 (br_t rfl H)
theorem lr_rep2 {post : Int32 → St2 → Prop} {p1 p2 p3 : Int32} (hx : ¬ p1 = 0 ∨ ¬ 0 ≤ p2) (h11 : a1 1 = 1) (h61 : a6 1 = 0) (H : post (-2) (2, li, lv, a1, a2, a3, a4, a5, a6, a7, a8, a9, a10, a11, a12, a13)) :
    wpX_replace post (2, li, lv, a1, a2, a3, a4, a5, a6, a7, a8, a9, a10, a11, a12, a13) 1 p1 p2 p3 := by
  unfold wpX_replace
  refine lr_text1 h11 (br_f (by decide) ⟨lr_i1, nm_r (lr_r1 h61) (br_c (fun _ => H) (fun z => br_c (fun _ => H) (fun w => ?_)))⟩)
  rcases hx with g | g
  · exact absurd (Int32.le_antisymm (Int32.not_lt.mp w) (Int32.not_lt.mp z)) g
  · exact br_f g H
theorem lr_rep3 {post : Int32 → St2 → Prop} {p2 p3 : Int32} (h2 : 0 ≤ p2) (hx : p3 < (-1) ∨ ¬ p3 ≤ 9999) (h11 : a1 1 = 1) (h61 : a6 1 = 0) (H : post (-3) (2, li, lv, a1, a2, a3, a4, a5, a6, a7, a8, a9, a10, a11, a12, a13)) :
    wpX_replace post (2, li, lv, a1, a2, a3, a4, a5, a6, a7, a8, a9, a10, a11, a12, a13) 1 0 p2 p3 := by
  unfold wpX_replace
  refine lr_text1 h11 (br_f (by decide) ⟨lr_i1, nm_r (lr_r1 h61) (br_f (by decide) (br_f (by decide) (br_t h2 (br_c (fun _ => H) (fun z => ?_)))))⟩)
  exact br_f (hx.resolve_left z) H
theorem lr_rep4 {post : Int32 → St2 → Prop} {p2 p3 : Int32} {k : Nat} (h2 : 0 ≤ p2) (h3 : ¬ p3 < (-1)) (h4 : p3 ≤ 9999) (hk : k ≤ 4) (h11 : a1 1 = 1) (h61 : a6 1 = 0) (h8 : ∀ j, j < 8 → a8 j = 0)
    (D : ∀ post : Int32 → Prop, post (nI k) → wpX_digitsOf post () p3) (hn : ¬ 0 ≤ p3 → k = 0)
    (H : ∀ a7' : Nat → Int32, (0 < k → a7' (12 + (k - 1)) = p3 - p3 / 10 * 10) → post (nI k) (2, li, lv, a1, a2, a3, a4, a5, upd a6 1 (nI k), a7', a8, a9, a10, a11, a12, a13)) :
    wpX_replace post (2, li, lv, a1, a2, a3, a4, a5, a6, a7, a8, a9, a10, a11, a12, a13) 1 0 p2 p3 := by
  unfold wpX_replace
  refine lr_text1 h11 (br_f (by decide) ⟨lr_i1, nm_r (lr_r1 h61) (br_f (by decide) (br_f (by decide) (br_t h2 (br_f h3 (br_t h4 (br_c (fun z => ?_) (fun z => ?_)))))))⟩)
  · exact lr_rep68 rfl (Int32.le_antisymm z h2) hk h61 h8 D hn H
  · exact lr_rep68 rfl (by decide) hk h61 h8 D hn H
end
end
section
section
variable {mk li lv : Int32} {a1 a2 a3 a4 a5 a6 a7 a8 a9 a10 a11 a12 a13 : Nat → Int32}
/-- what stands behind the replace: s letters, the last one x4's last digit; all places (0, 0); the text is linked iff x0 = 0 -/
def lr_K (x0 x4 : Int32) (s : Nat) (a1 a2 a3 a4 a6 a7 a8 a9 : Nat → Int32) : Prop :=
  s ≤ 4 ∧ a1 0 = 0 ∧ a1 1 = 1 ∧ a2 0 = -1 ∧ a4 1 = -1 ∧ a6 1 = nI s ∧ (0 < s → a7 (12 + (s - 1)) = x4 - x4 / 10 * 10) ∧ (∀ j, j < 8 → a8 j = 0) ∧ (∀ j, j < 8 → a9 j = 0) ∧
    ((x0 = 0 ∧ a2 1 = 0 ∧ a3 0 = 1) ∨ (¬ x0 = 0 ∧ a2 1 = -1))
theorem lr_203 {post : Int32 → St0 → Prop} {mc ms kc ks : Nat} {x4 z0 : Int32} {s : Nat} (hs : s ≤ 4) (h11 : a1 1 = 1) (h61 : a6 1 = nI s)
    (h7 : 0 < s → a7 (12 + (s - 1)) = x4 - x4 / 10 * 10) (H : post 1 ()) :
    wL_lawOf_203 post mc ms x4 (nI s) z0 z0 kc ks 2 li lv a1 a2 a3 a4 a5 a6 a7 a8 a9 a10 a11 a12 a13 := by
  refine br_t rfl ?_
  cases s with
  | zero => exact lr_item0 (br_t (by decide) (br_t rfl H))
  | succ s => exact lr_item1 (by omega) h11 h61 (br_f (nI_nle (by omega) (by omega)) ⟨by decide, br_t (h7 (by omega)) H⟩)
theorem lr_out {post : Int32 → St0 → Prop} {mc ms kc ks : Nat} {x0 x4 x5 : Int32} {s : Nat} (K : lr_K x0 x4 s a1 a2 a3 a4 a6 a7 a8 a9) (hx : x5 < 0 ∨ 4 ≤ x5) (H : post 1 ()) :
    wL_lawOf_140 post mc ms x0 x4 x5 (nI s) kc ks 2 li lv a1 a2 a3 a4 a5 a6 a7 a8 a9 a10 a11 a12 a13 := by
  obtain ⟨hs, h10, h11, h20, h41, h61, h7, h8, h9, hl⟩ := K
  unfold wL_lawOf_140 wL_lawOf_141
  refine lr_se0 hx (br_t rfl (br_t rfl (br_c (fun _ => br_t rfl ?_) (fun _ => ?_))))
  · unfold wL_lawOf_182 wL_lawOf_183
    exact lr_let0 hx (br_t rfl (lr_203 hs h11 h61 h7 H))
  · unfold wL_lawOf_182 wL_lawOf_183
    exact lr_let0 hx (br_t rfl (lr_203 hs h11 h61 h7 H))
theorem lr_ins {post : Int32 → St0 → Prop} {mc ms kc ks : Nat} {x0 x4 : Int32} {r s : Nat} (K : lr_K x0 x4 s a1 a2 a3 a4 a6 a7 a8 a9) (hr : r < 4) (H : post 1 ()) :
    wL_lawOf_141 post mc ms x0 x4 (nI r) (nI s) 1 kc ks 2 li lv a1 a2 a3 a4 a5 a6 a7 a8 a9 a10 a11 a12 a13 := by
  obtain ⟨hs, h10, h11, h20, h41, h61, h7, h8, h9, hl⟩ := K
  unfold wL_lawOf_141
  rcases hl with ⟨e0, h21, h30⟩ | ⟨e0, h21⟩
  · refine lr_sel hr hs h10 h11 h20 h21 h30 h41 h61 (h8 _ (by omega)) (h9 _ (by omega)) (fun li' b8 b9 b10 b11 b12 k0 k1 k2 k3 => ?_)
    refine br_f (by decide) (br_t rfl (br_t e0 (br_f (by decide) ?_)))
    unfold wL_lawOf_183
    exact lr_letl hr hs h10 h11 h20 h21 h30 h41 h61 k0 k1 k2 k3 (fun li2 c10 c11 c12 => br_f (by decide) (lr_203 hs h11 h61 h7 H))
  · refine lr_sen hr hs h20 h21 h61 (h8 _ (by omega)) (fun li' b8 b9 b10 b11 b12 k0 k1 k2 k3 => ?_)
    refine br_f (by decide) (br_t rfl (br_f e0 ?_))
    unfold wL_lawOf_182 wL_lawOf_183
    exact lr_letn hr hs h11 h21 h61 k0 k1 k2 k3 (fun li2 c10 c11 c12 => br_f (by decide) (lr_203 hs h11 h61 h7 H))
theorem lr_tail {post : Int32 → St0 → Prop} {mc ms kc ks : Nat} {x0 x4 x5 : Int32} {s : Nat} (K : lr_K x0 x4 s a1 a2 a3 a4 a6 a7 a8 a9) (H : post 1 ()) :
    wL_lawOf_123 post mc ms x0 x4 x5 (nI s) kc ks 2 li lv a1 a2 a3 a4 a5 a6 a7 a8 a9 a10 a11 a12 a13 := by
  rcases pk_ix x5 (n := 4) (by omega) with h | h | ⟨r, hr, e⟩
  · exact br_t h (lr_out K (Or.inl h) H)
  · exact br_c (fun _ => lr_out K (Or.inr h) H) (fun _ => br_t (Int32.lt_of_lt_of_le (show (3 : Int32) < 4 by decide) h) (lr_out K (Or.inr h) H))
  · subst e
    exact br_f (nI_pos (by omega)) (br_f (nI_nlt (a := 3) (by omega) (by omega)) (lr_ins K hr H))
theorem lr_38 {post : Int32 → St0 → Prop} {mc ms kc ks : Nat} {x0 x1 x2 x3 x4 x5 z0 : Int32} (K : lr_K x0 x4 0 a1 a2 a3 a4 a6 a7 a8 a9) (H : post 1 ()) :
    wL_lawOf_38 post mc ms x0 x1 x2 x3 x4 x5 z0 z0 kc ks 2 li lv a1 a2 a3 a4 a5 a6 a7 a8 a9 a10 a11 a12 a13 := by
  obtain ⟨k, hk, D1, D2, hn, hp⟩ := lr_dig x4
  have K' := K
  obtain ⟨hs, h10, h11, h20, h41, h61, h7, h8, h9, hl⟩ := K'
  refine br_t rfl (D1 _ (br_c (fun e1 => ?_) (fun e1 => ?_)))
  · subst e1
    refine br_c (fun e2 => ?_) (fun e2 => ?_)
    · subst e2
      refine br_c (fun e3 => ?_) (fun e3 => ?_)
      · refine br_c (fun e4 => ?_) (fun e4 => br_c (fun e5 => ?_) (fun e5 => ?_))
        · unfold wL_lawOf_86 wL_lawOf_93
          exact lr_rep3 e3 (Or.inl e4) h11 h61 (br_t rfl (br_t (by decide) (lr_tail K H)))
        · unfold wL_lawOf_93
          refine lr_rep4 e3 e4 e5 hk h11 h61 h8 D2 hn (fun a7' g => br_t rfl ?_)
          have K2 : lr_K x0 x4 k a1 a2 a3 a4 (upd a6 1 (nI k)) a7' a8 a9 := ⟨hk, h10, h11, h20, h41, pk_us, g, h8, h9, hl⟩
          refine pk_le k 0 (fun z => ?_) (fun z => lr_tail K2 H)
          have e : k = 0 := by omega
          subst e
          exact lr_tail K2 H
        · unfold wL_lawOf_86 wL_lawOf_93
          exact lr_rep3 e3 (Or.inr e5) h11 h61 (br_t rfl (br_t (by decide) (lr_tail K H)))
      · unfold wL_lawOf_67 wL_lawOf_93
        exact lr_rep2 (Or.inr e3) h11 h61 (br_t rfl (br_t (by decide) (lr_tail K H)))
    · unfold wL_lawOf_67 wL_lawOf_93
      exact lr_rep2 (Or.inl e2) h11 h61 (br_t rfl (br_t (by decide) (lr_tail K H)))
  · unfold wL_lawOf_93
    exact lr_rep1 e1 h10 (br_t rfl (br_t (by decide) (lr_tail K H)))
theorem lr_make {post : Int32 → St2 → Prop} {x : Int32} (m : Nat) (hm : mk = nI m) (h : m < 24)
    (H : post (nI m) (nI (m + 1), li, lv, upd a1 m x, upd a2 m (-1), upd a3 m (-1), upd a4 m (-1), upd a5 m (-1), a6, a7, a8, a9, a10, a11, a12, a13)) :
    wpX_make post (mk, li, lv, a1, a2, a3, a4, a5, a6, a7, a8, a9, a10, a11, a12, a13) x := by
  subst hm
  have e : (nI m).toNatClampNeg = m := nI_clamp (by omega)
  have i : vp_in (nI m) 24 := pk_in m 24 h
  exact nm_r (nI_1 m) ⟨i, nm_r (e' := upd a1 m x) (by rw [e]) ⟨i, nm_r (e' := upd a2 m (-1)) (by rw [e]) ⟨i, nm_r (e' := upd a3 m (-1)) (by rw [e])
    ⟨i, nm_r (e' := upd a4 m (-1)) (by rw [e]) ⟨i, nm_r (e' := upd a5 m (-1)) (by rw [e]) H⟩⟩⟩⟩⟩
theorem lr_init {post : St2 → Prop}
    (H : post (1, 0, 0, upd (fun _ => 0) 0 0, upd (fun _ => 0) 0 (-1), upd (fun _ => 0) 0 (-1), upd (fun _ => 0) 0 (-1), upd (fun _ => 0) 0 (-1), (fun _ => 0), (fun _ => 0), (fun _ => 0), (fun _ => 0), (fun _ => 0), (fun _ => 0), (fun _ => 0), (fun _ => 0))) :
    wpX_init post 13 544 (0, 0, 0) := by
  refine ⟨by decide, by decide, by decide, by decide, by decide, by decide, by decide, by decide, by decide, by decide, by decide, by decide, by decide, by decide, by decide, by decide, by decide, by decide, by decide, by decide, by decide, by decide, by decide, by decide, by decide, by decide, ?_⟩
  exact lr_make 0 rfl (by decide) H
theorem lr_law (p0 p1 p2 p3 p4 p5 : Int32) : wpL_lawOf (fun r _ => r = 1) 14 560 () p0 p1 p2 p3 p4 p5 := by
  refine ⟨by decide, by decide, 13, 544, by decide, by decide, lr_init (br_t (by decide) (lr_make 1 rfl (by decide) (br_t rfl ?_)))⟩
  by_cases h : p0 = 0
  · subst h
    refine lr_putl ?_ ?_ ?_ ?_ ?_ ?_ ?_ (br_t rfl (lr_38 ⟨by omega, ?_, ?_, ?_, ?_, ?_, fun z => absurd z (by omega), ?_, ?_, Or.inl ⟨rfl, ?_, ?_⟩⟩ rfl))
    all_goals first | rfl | exact fun _ _ => rfl
  · refine lr_putn ?_ ?_ ?_ ?_ h (br_f h (lr_38 ⟨by omega, ?_, ?_, ?_, ?_, ?_, fun z => absurd z (by omega), ?_, ?_, Or.inr ⟨h, ?_⟩⟩ rfl))
    all_goals first | rfl | exact fun _ _ => rfl
theorem lr_cell {post : Int32 → Prop} {L : Nat} {xs : Nat → Int32} {x : Int32} (i : Nat) (hx : x = nI i) (hi : i < 6) (hL : L ≤ 6) (H : ∀ r, post r) : wpL_cellAt post L xs () x :=
  pk_le L i (fun _ => H 0) (fun z => ⟨pk_in i L z hx, H _⟩) rfl hx
end
theorem i_vc (xs : Nat → Int32) (L : Nat) (hL : L ≤ 6) : wpL_law (fun r => r = 1) L xs :=
  lr_cell 0 rfl (by decide) hL (fun r1 => lr_cell 1 rfl (by decide) hL (fun r2 => lr_cell 2 rfl (by decide) hL (fun r3 => lr_cell 3 rfl (by decide) hL (fun r4 => lr_cell 4 rfl (by decide) hL (fun r5 => lr_cell 5 rfl (by decide) hL (fun r6 =>
    ⟨14, 560, by decide, by decide, lr_law r1 r2 r3 r4 r5 r6⟩))))))
end
