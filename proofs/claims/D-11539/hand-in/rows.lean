section
/-- an input: one of -8 .. 7 -/
def mr_g (x : Int32) : Prop := ∃ k : Nat, k < 16 ∧ x = nI k - 8
theorem mr_gof {P : Int32 → Prop} (h : ∀ k : Nat, k < 16 → P (nI k - 8)) {x : Int32} (hx : mr_g x) : P x := by
  obtain ⟨k, hk, rfl⟩ := hx
  exact h k hk
theorem mr_xlo {x : Int32} (hx : mr_g x) : ¬ x < (-1000) := mr_gof (P := fun x => ¬ x < (-1000)) (by decide +kernel) hx
theorem mr_xhi {x : Int32} (hx : mr_g x) : x ≤ 1000 := mr_gof (P := fun x => x ≤ 1000) (by decide +kernel) hx
theorem mr_qlo {x : Int32} (hx : mr_g x) : ¬ x * x < (-1000) := mr_gof (P := fun x => ¬ x * x < (-1000)) (by decide +kernel) hx
theorem mr_qhi {x : Int32} (hx : mr_g x) : x * x ≤ 1000 := mr_gof (P := fun x => x * x ≤ 1000) (by decide +kernel) hx
theorem mr_dlo {x : Int32} (hx : mr_g x) : ¬ x + x < (-1000) := mr_gof (P := fun x => ¬ x + x < (-1000)) (by decide +kernel) hx
theorem mr_dhi {x : Int32} (hx : mr_g x) : x + x ≤ 1000 := mr_gof (P := fun x => x + x ≤ 1000) (by decide +kernel) hx
theorem mr_x2 {x : Int32} (hx : mr_g x) : x + x = 2 * x := mr_gof (P := fun x => x + x = 2 * x) (by decide +kernel) hx
theorem mr_xx {x : Int32} (hx : mr_g x) : x - x = 0 := mr_gof (P := fun x => x - x = 0) (by decide +kernel) hx
theorem mr_le {x : Int32} (hx : mr_g x) : x ≤ x := mr_gof (P := fun x => x ≤ x) (by decide +kernel) hx
theorem mr_b1 {x : Int32} (hx : mr_g x) : ¬ x < (-8) := mr_gof (P := fun x => ¬ x < (-8)) (by decide +kernel) hx
theorem mr_b2 {x : Int32} (hx : mr_g x) : x ≤ 7 := mr_gof (P := fun x => x ≤ 7) (by decide +kernel) hx
theorem mr_m8 : ∀ k : Nat, k < 16 → nI k - 8 + 8 = nI k := by decide +kernel
theorem mr_gmask (p : Int32) : mr_g ((p &&& 15) - 8) := by
  obtain ⟨j, hj, e⟩ := pk_andE p (m := 15) 4 (by decide)
  exact ⟨j, hj, by rw [e]⟩
theorem mr_c0 : (0 : Int32).toNatClampNeg = 0 := by decide
theorem mr_c1 : (1 : Int32).toNatClampNeg = 1 := by decide
theorem mr_c2 : (2 : Int32).toNatClampNeg = 2 := by decide
theorem mr_c3 : (3 : Int32).toNatClampNeg = 3 := by decide
theorem mr_c4 : (4 : Int32).toNatClampNeg = 4 := by decide
theorem mr_d1 : ((1 : Int32) - 1).toNatClampNeg = 0 := by decide
theorem mr_e01 : ((0 : Int32) + 1).toNatClampNeg = 1 := by decide
theorem mr_m6 : ((1 : Int32) * 6 + 0).toNatClampNeg = 6 := by decide
theorem mr_m12 : ((2 : Int32) * 6 + 0).toNatClampNeg = 12 := by decide
theorem mr_m13 : ((2 : Int32) * 6 + 1).toNatClampNeg = 13 := by decide
/-- the program: IN, DUP, TIMES -/
def mr_Pg (a1 : Nat → Int32) : Prop := a1 0 = 1 ∧ a1 1 = 6 ∧ a1 2 = 4
/-- its five mutants -/
def mr_Mt (a4 a5 a6 : Nat → Int32) : Prop := (a4 0 = 0 ∧ a4 1 = 1 ∧ a4 2 = 2 ∧ a4 3 = 2 ∧ a4 4 = 2) ∧ (a5 0 = 0 ∧ a5 1 = 1 ∧ a5 2 = 2 ∧ a5 3 = 3 ∧ a5 4 = 5) ∧ a6 0 = 0
/-- what a whole run on x leaves noted -/
def mr_Sn (x : Int32) (a10 a11 a12 a13 : Nat → Int32) : Prop := (a10 0 = 1 ∧ a10 1 = 1 ∧ a10 2 = 1) ∧ (a11 0 = 0 ∧ a11 1 = 1 ∧ a11 2 = 2) ∧ (a12 0 = 0 ∧ a12 1 = 1 ∧ a12 2 = 2) ∧ a13 6 = x ∧ a13 12 = x ∧ a13 13 = x
/-- the outcome of mutant m on x -/
def mr_f (m : Nat) (x : Int32) : Int32 := if m = 1 then x * x else if m = 2 then x + x else 0
/-- the inputs below k that tell f from the square -/
def mr_tk (f : Int32 → Int32) : Nat → Int32
  | 0 => 0
  | k + 1 => if f (nI k - 8) = (nI k - 8) * (nI k - 8) then mr_tk f k else mr_tk f k ||| ((1 : Int32) <<< (nI k &&& 31))
theorem mr_tk_t {f : Int32 → Int32} {k : Nat} (h : f (nI k - 8) = (nI k - 8) * (nI k - 8)) : mr_tk f (k + 1) = mr_tk f k := by
  rw [mr_tk, if_pos h]
theorem mr_tk_f {f : Int32 → Int32} {k : Nat} (h : ¬ f (nI k - 8) = (nI k - 8) * (nI k - 8)) : mr_tk f (k + 1) = mr_tk f k ||| ((1 : Int32) <<< (nI k &&& 31)) := by
  rw [mr_tk, if_neg h]
end
section
theorem mr_put {post : St2 → Prop} {sz tr rd mu pl dn ht ip tp ch co cn : Int32} {a1 a2 a3 a4 a5 a6 a7 a8 a9 a10 a11 a12 a13 : Nat → Int32} {v w ht' : Int32} {k : Nat} (hw : w = v) (h6 : ¬ ht = 6) (hi : vp_in ht 6) (hk : ht.toNatClampNeg = k) (hh : ht + 1 = ht') (lo : ¬ v < (-1000)) (hi2 : v ≤ 1000)
    (hp : post (sz, tr, rd, mu, pl, dn, ht', ip, tp, ch, co, cn, a1, a2, a3, a4, a5, a6, a7, a8, upd a9 k v, a10, a11, a12, a13)) : wpX_put post (sz, tr, rd, mu, pl, dn, ht, ip, tp, ch, co, cn, a1, a2, a3, a4, a5, a6, a7, a8, a9, a10, a11, a12, a13) w := by
  subst hw
  exact br_f h6 (br_f lo (br_t hi2 ⟨hi, nm_r (by rw [hk]) (nm_r hh hp)⟩))
theorem mr_e0 {post : St2 → Prop} {sz tr rd mu pl dn ip tp ch co cn : Int32} {a1 a2 a3 a4 a5 a6 a7 a8 a9 a10 a11 a12 a13 : Nat → Int32} {p w v pl' dn' : Int32} (hop : p = 0) (hw : w = v) (hpl : pl + 1 = pl') (hdn : dn + 1 = dn') (lo : ¬ v < (-1000)) (hi : v ≤ 1000)
    (hp : post (sz, tr, rd, mu, pl', dn', 1, ip, tp, ch, co, cn, a1, a2, a3, a4, a5, a6, a7, a8, upd a9 0 v, a10, a11, a12, a13)) : wpX_execute post (sz, tr, rd, mu, pl, dn, 0, ip, tp, ch, co, cn, a1, a2, a3, a4, a5, a6, a7, a8, a9, a10, a11, a12, a13) p w := by
  subst hop
  exact nm_r hdn (br_f (by decide) (br_t (by decide) (nm_r hpl (br_t rfl (mr_put hw (by decide) (vp_in_iff.mpr (by decide)) (by decide) (by decide) lo hi hp)))))
theorem mr_e1 {post : St2 → Prop} {sz tr rd mu pl dn ht ip tp ch co cn : Int32} {a1 a2 a3 a4 a5 a6 a7 a8 a9 a10 a11 a12 a13 : Nat → Int32} {p n pl' dn' ht' : Int32} {k : Nat} (hop : p = 1) (h0 : 0 ≤ ht) (h6 : ¬ ht = 6) (hin : vp_in ht 6) (hk : ht.toNatClampNeg = k) (hh : ht + 1 = ht') (hpl : pl + 1 = pl') (hdn : dn + 1 = dn') (lo : ¬ ip < (-1000)) (hi : ip ≤ 1000)
    (hp : post (sz, tr, rd, mu, pl', dn', ht', ip, tp, ch, co, cn, a1, a2, a3, a4, a5, a6, a7, a8, upd a9 k ip, a10, a11, a12, a13)) : wpX_execute post (sz, tr, rd, mu, pl, dn, ht, ip, tp, ch, co, cn, a1, a2, a3, a4, a5, a6, a7, a8, a9, a10, a11, a12, a13) p n := by
  subst hop
  exact nm_r hdn (br_f (by decide) (br_t h0 (nm_r hpl (br_f (by decide) (br_t rfl (mr_put rfl h6 hin hk hh lo hi hp))))))
theorem mr_e6 {post : St2 → Prop} {sz tr rd mu pl dn ip tp ch co cn : Int32} {a1 a2 a3 a4 a5 a6 a7 a8 a9 a10 a11 a12 a13 : Nat → Int32} {p n v pl' dn' : Int32} (hop : p = 6) (hv : a9 0 = v) (hpl : pl + 1 = pl') (hdn : dn + 1 = dn') (lo : ¬ v < (-1000)) (hi : v ≤ 1000)
    (hp : post (sz, tr, rd, mu, pl', dn', 2, ip, tp, ch, co, cn, a1, a2, a3, a4, a5, a6, a7, a8, upd a9 1 v, a10, a11, a12, a13)) : wpX_execute post (sz, tr, rd, mu, pl, dn, 1, ip, tp, ch, co, cn, a1, a2, a3, a4, a5, a6, a7, a8, a9, a10, a11, a12, a13) p n := by
  subst hop
  have hv' : a9 ((1 : Int32) - 1).toNatClampNeg = v := by rw [mr_d1]; exact hv
  exact nm_r hdn (br_t (by decide) (br_f (by decide) (br_f (by decide) (br_t (by decide) (nm_r hpl (br_f (by decide) (br_f (by decide) (br_t (by decide) (br_t rfl ⟨(vp_in_iff.mpr (by decide)), mr_put hv' (by decide) (vp_in_iff.mpr (by decide)) (by decide) (by decide) lo hi hp⟩)))))))))
theorem mr_ea {post : St2 → Prop} {sz tr rd mu pl dn ip tp ch co cn : Int32} {a1 a2 a3 a4 a5 a6 a7 a8 a9 a10 a11 a12 a13 : Nat → Int32} {p q n v pl' dn' : Int32} (hop : p = q) (h2 : 2 ≤ q) (h5 : q ≤ 5) (n0 : ¬ q = 0) (n1 : ¬ q = 1) (n5 : ¬ 5 < q)
    (hc : ∀ (f : Int32 → Prop) (u : St2), f v → wpX_combined f u q (a9 0) (a9 1)) (hpl : pl + 1 = pl') (hdn : dn + 1 = dn') (lo : ¬ v < (-1000)) (hi : v ≤ 1000)
    (hp : post (sz, tr, rd, mu, pl', dn', 1, ip, tp, ch, co, cn, a1, a2, a3, a4, a5, a6, a7, a8, upd a9 0 v, a10, a11, a12, a13)) : wpX_execute post (sz, tr, rd, mu, pl, dn, 2, ip, tp, ch, co, cn, a1, a2, a3, a4, a5, a6, a7, a8, a9, a10, a11, a12, a13) p n := by
  subst hop
  have hc' : ∀ (f : Int32 → Prop) (u : St2), f v → wpX_combined f u p (a9 (0 : Int32).toNatClampNeg) (a9 ((0 : Int32) + 1).toNatClampNeg) := by
    rw [mr_c0, mr_e01]
    exact hc
  exact nm_r hdn (br_t h2 (br_t h5 (br_t (by decide) (nm_r hpl (br_f n0 (br_f n1 (br_f n5 (nm_r (show (2 : Int32) - 2 = 0 by decide) ⟨(vp_in_iff.mpr (by decide)), (vp_in_iff.mpr (by decide)), hc' _ _ (mr_put rfl (by decide) (vp_in_iff.mpr (by decide)) (by decide) (by decide) lo hi hp)⟩))))))))
theorem mr_n0 {post : St2 → Prop} {sz tr rd mu dn ip tp ch co cn : Int32} {a1 a2 a3 a4 a5 a6 a7 a8 a9 a10 a11 a12 a13 : Nat → Int32} (hp : post (sz, tr, rd, mu, 0, dn, 0, ip, tp, ch, co, cn, a1, a2, a3, a4, a5, a6, a7, a8, a9, upd a10 0 1, upd a11 0 dn, upd a12 0 0, a13)) : wpX_note post (sz, tr, rd, mu, 0, dn, 0, ip, tp, ch, co, cn, a1, a2, a3, a4, a5, a6, a7, a8, a9, a10, a11, a12, a13) :=
  ⟨(vp_in_iff.mpr (by decide)), nm_r (by rw [mr_c0]) ⟨(vp_in_iff.mpr (by decide)), nm_r (by rw [mr_c0]) ⟨(vp_in_iff.mpr (by decide)), nm_r (by rw [mr_c0]) ⟨1, br_t (by decide) hp⟩⟩⟩⟩
theorem mr_n1 {post : St2 → Prop} {sz tr rd mu dn ip tp ch co cn : Int32} {a1 a2 a3 a4 a5 a6 a7 a8 a9 a10 a11 a12 a13 : Nat → Int32} {x : Int32} (h0 : a9 0 = x) (hp : post (sz, tr, rd, mu, 1, dn, 1, ip, tp, ch, co, cn, a1, a2, a3, a4, a5, a6, a7, a8, a9, upd a10 1 1, upd a11 1 dn, upd a12 1 1, upd a13 6 x)) : wpX_note post (sz, tr, rd, mu, 1, dn, 1, ip, tp, ch, co, cn, a1, a2, a3, a4, a5, a6, a7, a8, a9, a10, a11, a12, a13) :=
  ⟨(vp_in_iff.mpr (by decide)), nm_r (by rw [mr_c1]) ⟨(vp_in_iff.mpr (by decide)), nm_r (by rw [mr_c1]) ⟨(vp_in_iff.mpr (by decide)), nm_r (by rw [mr_c1]) ⟨2, br_f (by decide) ⟨(vp_in_iff.mpr (by decide)), (vp_in_iff.mpr (by decide)), nm_r (by rw [mr_m6, mr_c0, h0]) (nm_r (show (0 : Int32) + 1 = 1 by decide) (br_t (by decide) hp))⟩⟩⟩⟩⟩
theorem mr_n2 {post : St2 → Prop} {sz tr rd mu dn ip tp ch co cn : Int32} {a1 a2 a3 a4 a5 a6 a7 a8 a9 a10 a11 a12 a13 : Nat → Int32} {x : Int32} (h0 : a9 0 = x) (h1 : a9 1 = x) (hp : post (sz, tr, rd, mu, 2, dn, 2, ip, tp, ch, co, cn, a1, a2, a3, a4, a5, a6, a7, a8, a9, upd a10 2 1, upd a11 2 dn, upd a12 2 2, upd (upd a13 12 x) 13 x)) : wpX_note post (sz, tr, rd, mu, 2, dn, 2, ip, tp, ch, co, cn, a1, a2, a3, a4, a5, a6, a7, a8, a9, a10, a11, a12, a13) :=
  ⟨(vp_in_iff.mpr (by decide)), nm_r (by rw [mr_c2]) ⟨(vp_in_iff.mpr (by decide)), nm_r (by rw [mr_c2]) ⟨(vp_in_iff.mpr (by decide)), nm_r (by rw [mr_c2]) ⟨3, br_f (by decide) ⟨(vp_in_iff.mpr (by decide)), (vp_in_iff.mpr (by decide)), nm_r (by rw [mr_m12, mr_c0, h0]) (nm_r (show (0 : Int32) + 1 = 1 by decide) (br_f (by decide) ⟨(vp_in_iff.mpr (by decide)), (vp_in_iff.mpr (by decide)), nm_r (by rw [mr_m13, mr_c1, h1]) (nm_r (show (1 : Int32) + 1 = 2 by decide) (br_t (by decide) hp))⟩))⟩⟩⟩⟩⟩
theorem mr_s1 {post : Int32 → St2 → Prop} {n : Nat} {i : Int32} {tr rd mu pl dn ht ip ch co cn : Int32} {a1 a2 a3 a4 a5 a6 a7 a8 a9 a10 a11 a12 a13 : Nat → Int32} (h1 : ¬ 40 ≤ i) (h2 : ¬ 40 ≤ dn) (h3 : ¬ 3 ≤ pl) (h4 : vp_in pl 10) (h5 : a10 pl.toNatClampNeg = 0)
    (hp : wpX_note (fun u => match u with | (sz, tr, rd, mu, pl, dn, ht, ip, tp, ch, co, cn, a1, a2, a3, a4, a5, a6, a7, a8, a9, a10, a11, a12, a13) => wX_finish_60 post (wX_finish_7 post 1 n) 1 i sz tr rd mu pl dn ht ip tp ch co cn a1 a2 a3 a4 a5 a6 a7 a8 a9 a10 a11 a12 a13) (3, tr, rd, mu, pl, dn, ht, ip, 0, ch, co, cn, a1, a2, a3, a4, a5, a6, a7, a8, a9, a10, a11, a12, a13)) : wX_finish_7 post 1 (n + 1) i 3 tr rd mu pl dn ht ip 0 ch co cn a1 a2 a3 a4 a5 a6 a7 a8 a9 a10 a11 a12 a13 :=
  br_f h1 (br_f h2 (br_f h3 (br_t rfl (br_f (by decide) ⟨h4, br_t h5 hp⟩))))
theorem mr_end {post : Int32 → St2 → Prop} {n : Nat} {i y r : Int32} {tr rd mu ip ch co cn : Int32} {a1 a2 a3 a4 a5 a6 a7 a8 a9 a10 a11 a12 a13 : Nat → Int32} (h1 : ¬ 40 ≤ i) (h : a9 0 = r) (hp : post r (3, tr, rd, mu, 3, 3, 1, ip, 0, ch, co, cn, a1, a2, a3, a4, a5, a6, a7, a8, a9, a10, a11, a12, a13)) : wX_finish_7 post y (n + 1) i 3 tr rd mu 3 3 1 ip 0 ch co cn a1 a2 a3 a4 a5 a6 a7 a8 a9 a10 a11 a12 a13 := by
  refine br_f h1 (br_f (by decide) (br_t (by decide) (br_t rfl (br_t (by decide) (br_f (by decide) ⟨(vp_in_iff.mpr (by decide)), ?_⟩)))))
  rw [mr_d1, h]
  exact hp
theorem mr_fin {post : Int32 → St2 → Prop} {x : Int32} {tr rd mu tp co cn : Int32} {a1 a2 a3 a4 a5 a6 a7 a8 a9 a10 a11 a12 a13 : Nat → Int32} (hx : mr_g x) (q : mr_Pg a1) (z0 : a10 0 = 0) (z1 : a10 1 = 0) (z2 : a10 2 = 0)
    (hp : post (x * x) (3, tr, rd, mu, 3, 3, 1, x, 0, (-1), co, cn, a1, a2, a3, a4, a5, a6, a7, a8, upd (upd (upd a9 0 x) 1 x) 0 (x * x), upd (upd (upd a10 0 1) 1 1) 2 1, upd (upd (upd a11 0 0) 1 1) 2 2, upd (upd (upd a12 0 0) 1 1) 2 2, upd (upd (upd a13 6 x) 12 x) 13 x)) :
    wpX_finish post (3, tr, rd, mu, 0, 0, 0, x, tp, (-1), co, cn, a1, a2, a3, a4, a5, a6, a7, a8, a9, a10, a11, a12, a13) 1 := by
  obtain ⟨q0, q1, q2⟩ := q
  refine ⟨4, ?_⟩
  refine mr_s1 (by decide) (by decide) (by decide) (vp_in_iff.mpr (by decide)) (by rw [mr_c0]; exact z0) (mr_n0 ?_)
  refine br_f (by decide) ⟨(vp_in_iff.mpr (by decide)), (vp_in_iff.mpr (by decide)), mr_e1 (k := 0) (ht' := 1) (pl' := 1) (dn' := 1) (by rw [mr_c0]; exact q0) (by decide) (by decide) (vp_in_iff.mpr (by decide)) (by decide) (by decide) (by decide) (by decide) (mr_xlo hx) (mr_xhi hx) (nm_r (show (0 : Int32) + 1 = 1 by decide) ?_)⟩
  refine mr_s1 (by decide) (by decide) (by decide) (vp_in_iff.mpr (by decide)) (by rw [mr_c1, pk_un (by decide)]; exact z1) (mr_n1 (x := x) pk_us ?_)
  refine br_f (by decide) ⟨(vp_in_iff.mpr (by decide)), (vp_in_iff.mpr (by decide)), mr_e6 (v := x) (pl' := 2) (dn' := 2) (by rw [mr_c1]; exact q1) pk_us (by decide) (by decide) (mr_xlo hx) (mr_xhi hx) (nm_r (show (1 : Int32) + 1 = 2 by decide) ?_)⟩
  have e0 : upd (upd a9 0 x) 1 x 0 = x := by rw [pk_un (by decide), pk_us]
  have e1 : upd (upd a9 0 x) 1 x 1 = x := pk_us
  refine mr_s1 (by decide) (by decide) (by decide) (vp_in_iff.mpr (by decide)) (by rw [mr_c2, pk_un (by decide), pk_un (by decide)]; exact z2) (mr_n2 (x := x) e0 e1 ?_)
  refine br_f (by decide) ⟨(vp_in_iff.mpr (by decide)), (vp_in_iff.mpr (by decide)), mr_ea (q := 4) (v := x * x) (pl' := 3) (dn' := 3) (by rw [mr_c2]; exact q2) (by decide) (by decide) (by decide) (by decide) (by decide) (fun f u h => ?_) (by decide) (by decide) (mr_qlo hx) (mr_qhi hx) (nm_r (show (2 : Int32) + 1 = 3 by decide) ?_)⟩
  · rw [e0, e1]
    obtain ⟨sz, tr, rd, mu, pl, dn, ht, ip, tp, ch, co, cn, a1, a2, a3, a4, a5, a6, a7, a8, a9, a10, a11, a12, a13⟩ := u
    exact br_f (by decide) (br_f (by decide) (br_t rfl h))
  · exact mr_end (by decide) pk_us hp
theorem mr_rw {post : Int32 → St2 → Prop} {x : Int32} {tr rd mu pl dn ht ip tp ch co cn : Int32} {a1 a2 a3 a4 a5 a6 a7 a8 a9 a11 a12 a13 : Nat → Int32} (hx : mr_g x) (q : mr_Pg a1)
    (hp : ∀ (pl dn ht tp ch : Int32) (b9 b10 b11 b12 b13 : Nat → Int32), mr_Sn x b10 b11 b12 b13 → post (x * x) (3, tr, rd, mu, pl, dn, ht, x, tp, ch, co, cn, a1, a2, a3, a4, a5, a6, a7, a8, b9, b10, b11, b12, b13)) :
    ∀ (d k : Nat) (a10 : Nat → Int32), k + d = 10 → (∀ j, j < k → a10 j = 0) → wX_runWhole_2 post x 3 tr rd mu pl dn ht ip tp ch co cn (d + 1) (nI k) a1 a2 a3 a4 a5 a6 a7 a8 a9 a10 a11 a12 a13 := by
  intro d
  induction d with
  | zero =>
    intro k a10 hk hz
    have e : k = 10 := by omega
    subst e
    refine br_t (nI_le (a := 10) (b := 10) (by decide) (by decide)) (mr_fin hx q (hz 0 (by decide)) (hz 1 (by decide)) (hz 2 (by decide)) ?_)
    exact hp _ _ _ _ _ _ _ _ _ _ ⟨⟨rfl, rfl, rfl⟩, ⟨rfl, rfl, rfl⟩, ⟨rfl, rfl, rfl⟩, rfl, rfl, rfl⟩
  | succ d ih =>
    intro k a10 hk hz
    refine br_f (nI_ge (b := 10) (by omega) (by decide)) ⟨vp_in_nI (by omega) (by decide), nm_r (e' := upd a10 k 0) (by rw [nI_clamp (by omega)]) (nm_r (nI_1 k) (ih (k + 1) _ (by omega) (fun j hj => ?_)))⟩
    by_cases ej : j = k
    · rw [ej, pk_us]
    · rw [pk_un ej]
      exact hz j (by omega)
/-- a whole run on x answers the square and notes the three places -/
theorem mr_whole {post : Int32 → St2 → Prop} {x : Int32} {tr rd mu pl dn ht ip tp ch co cn : Int32} {a1 a2 a3 a4 a5 a6 a7 a8 a9 a10 a11 a12 a13 : Nat → Int32} (hx : mr_g x) (q : mr_Pg a1)
    (hp : ∀ (pl dn ht tp ch : Int32) (b9 b10 b11 b12 b13 : Nat → Int32), mr_Sn x b10 b11 b12 b13 → post (x * x) (3, tr, rd, mu, pl, dn, ht, x, tp, ch, co, cn, a1, a2, a3, a4, a5, a6, a7, a8, b9, b10, b11, b12, b13)) :
    wpX_runWhole post (3, tr, rd, mu, pl, dn, ht, ip, tp, ch, co, cn, a1, a2, a3, a4, a5, a6, a7, a8, a9, a10, a11, a12, a13) x :=
  ⟨11, mr_rw hx q hp 10 0 a10 (by decide) (fun j hj => absurd hj (by omega))⟩
theorem mr_put_2 {post : St2 → Prop} {sz tr rd mu pl dn ht ip tp ch co cn : Int32} {a1 a2 a3 a4 a5 a6 a7 a8 a9 a10 a11 a12 a13 : Nat → Int32} {v w ht' : Int32} {k : Nat} (hw : w = v) (h6 : ¬ ht = 6) (hi : vp_in ht 6) (hk : ht.toNatClampNeg = k) (hh : ht + 1 = ht') (lo : ¬ v < (-1000)) (hi2 : v ≤ 1000)
    (hp : post (sz, tr, rd, mu, pl, dn, ht', ip, tp, ch, co, cn, a1, a2, a3, a4, a5, a6, a7, a8, upd a9 k v, a10, a11, a12, a13)) : wpX_put_2 post (sz, tr, rd, mu, pl, dn, ht, ip, tp, ch, co, cn, a1, a2, a3, a4, a5, a6, a7, a8, a9, a10, a11, a12, a13) w := by
  subst hw
  exact br_f h6 (br_f lo (br_t hi2 ⟨hi, nm_r (by rw [hk]) (nm_r hh hp)⟩))
theorem mr_e0_2 {post : St2 → Prop} {sz tr rd mu pl dn ip tp ch co cn : Int32} {a1 a2 a3 a4 a5 a6 a7 a8 a9 a10 a11 a12 a13 : Nat → Int32} {p w v pl' dn' : Int32} (hop : p = 0) (hw : w = v) (hpl : pl + 1 = pl') (hdn : dn + 1 = dn') (lo : ¬ v < (-1000)) (hi : v ≤ 1000)
    (hp : post (sz, tr, rd, mu, pl', dn', 1, ip, tp, ch, co, cn, a1, a2, a3, a4, a5, a6, a7, a8, upd a9 0 v, a10, a11, a12, a13)) : wpX_execute_2 post (sz, tr, rd, mu, pl, dn, 0, ip, tp, ch, co, cn, a1, a2, a3, a4, a5, a6, a7, a8, a9, a10, a11, a12, a13) p w := by
  subst hop
  exact nm_r hdn (br_f (by decide) (br_t (by decide) (nm_r hpl (br_t rfl (mr_put_2 hw (by decide) (vp_in_iff.mpr (by decide)) (by decide) (by decide) lo hi hp)))))
theorem mr_e1_2 {post : St2 → Prop} {sz tr rd mu pl dn ht ip tp ch co cn : Int32} {a1 a2 a3 a4 a5 a6 a7 a8 a9 a10 a11 a12 a13 : Nat → Int32} {p n pl' dn' ht' : Int32} {k : Nat} (hop : p = 1) (h0 : 0 ≤ ht) (h6 : ¬ ht = 6) (hin : vp_in ht 6) (hk : ht.toNatClampNeg = k) (hh : ht + 1 = ht') (hpl : pl + 1 = pl') (hdn : dn + 1 = dn') (lo : ¬ ip < (-1000)) (hi : ip ≤ 1000)
    (hp : post (sz, tr, rd, mu, pl', dn', ht', ip, tp, ch, co, cn, a1, a2, a3, a4, a5, a6, a7, a8, upd a9 k ip, a10, a11, a12, a13)) : wpX_execute_2 post (sz, tr, rd, mu, pl, dn, ht, ip, tp, ch, co, cn, a1, a2, a3, a4, a5, a6, a7, a8, a9, a10, a11, a12, a13) p n := by
  subst hop
  exact nm_r hdn (br_f (by decide) (br_t h0 (nm_r hpl (br_f (by decide) (br_t rfl (mr_put_2 rfl h6 hin hk hh lo hi hp))))))
theorem mr_e6_2 {post : St2 → Prop} {sz tr rd mu pl dn ip tp ch co cn : Int32} {a1 a2 a3 a4 a5 a6 a7 a8 a9 a10 a11 a12 a13 : Nat → Int32} {p n v pl' dn' : Int32} (hop : p = 6) (hv : a9 0 = v) (hpl : pl + 1 = pl') (hdn : dn + 1 = dn') (lo : ¬ v < (-1000)) (hi : v ≤ 1000)
    (hp : post (sz, tr, rd, mu, pl', dn', 2, ip, tp, ch, co, cn, a1, a2, a3, a4, a5, a6, a7, a8, upd a9 1 v, a10, a11, a12, a13)) : wpX_execute_2 post (sz, tr, rd, mu, pl, dn, 1, ip, tp, ch, co, cn, a1, a2, a3, a4, a5, a6, a7, a8, a9, a10, a11, a12, a13) p n := by
  subst hop
  have hv' : a9 ((1 : Int32) - 1).toNatClampNeg = v := by rw [mr_d1]; exact hv
  exact nm_r hdn (br_t (by decide) (br_f (by decide) (br_f (by decide) (br_t (by decide) (nm_r hpl (br_f (by decide) (br_f (by decide) (br_t (by decide) (br_t rfl ⟨(vp_in_iff.mpr (by decide)), mr_put_2 hv' (by decide) (vp_in_iff.mpr (by decide)) (by decide) (by decide) lo hi hp⟩)))))))))
theorem mr_ea_2 {post : St2 → Prop} {sz tr rd mu pl dn ip tp ch co cn : Int32} {a1 a2 a3 a4 a5 a6 a7 a8 a9 a10 a11 a12 a13 : Nat → Int32} {p q n v pl' dn' : Int32} (hop : p = q) (h2 : 2 ≤ q) (h5 : q ≤ 5) (n0 : ¬ q = 0) (n1 : ¬ q = 1) (n5 : ¬ 5 < q)
    (hc : ∀ (f : Int32 → Prop) (u : St2), f v → wpX_combined f u q (a9 0) (a9 1)) (hpl : pl + 1 = pl') (hdn : dn + 1 = dn') (lo : ¬ v < (-1000)) (hi : v ≤ 1000)
    (hp : post (sz, tr, rd, mu, pl', dn', 1, ip, tp, ch, co, cn, a1, a2, a3, a4, a5, a6, a7, a8, upd a9 0 v, a10, a11, a12, a13)) : wpX_execute_2 post (sz, tr, rd, mu, pl, dn, 2, ip, tp, ch, co, cn, a1, a2, a3, a4, a5, a6, a7, a8, a9, a10, a11, a12, a13) p n := by
  subst hop
  have hc' : ∀ (f : Int32 → Prop) (u : St2), f v → wpX_combined f u p (a9 (0 : Int32).toNatClampNeg) (a9 ((0 : Int32) + 1).toNatClampNeg) := by
    rw [mr_c0, mr_e01]
    exact hc
  exact nm_r hdn (br_t h2 (br_t h5 (br_t (by decide) (nm_r hpl (br_f n0 (br_f n1 (br_f n5 (nm_r (show (2 : Int32) - 2 = 0 by decide) ⟨(vp_in_iff.mpr (by decide)), (vp_in_iff.mpr (by decide)), hc' _ _ (mr_put_2 rfl (by decide) (vp_in_iff.mpr (by decide)) (by decide) (by decide) lo hi hp)⟩))))))))
theorem mr_n0_2 {post : St2 → Prop} {sz tr rd mu dn ip tp ch co cn : Int32} {a1 a2 a3 a4 a5 a6 a7 a8 a9 a10 a11 a12 a13 : Nat → Int32} (hp : post (sz, tr, rd, mu, 0, dn, 0, ip, tp, ch, co, cn, a1, a2, a3, a4, a5, a6, a7, a8, a9, upd a10 0 1, upd a11 0 dn, upd a12 0 0, a13)) : wpX_note_2 post (sz, tr, rd, mu, 0, dn, 0, ip, tp, ch, co, cn, a1, a2, a3, a4, a5, a6, a7, a8, a9, a10, a11, a12, a13) :=
  ⟨(vp_in_iff.mpr (by decide)), nm_r (by rw [mr_c0]) ⟨(vp_in_iff.mpr (by decide)), nm_r (by rw [mr_c0]) ⟨(vp_in_iff.mpr (by decide)), nm_r (by rw [mr_c0]) ⟨1, br_t (by decide) hp⟩⟩⟩⟩
theorem mr_n1_2 {post : St2 → Prop} {sz tr rd mu dn ip tp ch co cn : Int32} {a1 a2 a3 a4 a5 a6 a7 a8 a9 a10 a11 a12 a13 : Nat → Int32} {x : Int32} (h0 : a9 0 = x) (hp : post (sz, tr, rd, mu, 1, dn, 1, ip, tp, ch, co, cn, a1, a2, a3, a4, a5, a6, a7, a8, a9, upd a10 1 1, upd a11 1 dn, upd a12 1 1, upd a13 6 x)) : wpX_note_2 post (sz, tr, rd, mu, 1, dn, 1, ip, tp, ch, co, cn, a1, a2, a3, a4, a5, a6, a7, a8, a9, a10, a11, a12, a13) :=
  ⟨(vp_in_iff.mpr (by decide)), nm_r (by rw [mr_c1]) ⟨(vp_in_iff.mpr (by decide)), nm_r (by rw [mr_c1]) ⟨(vp_in_iff.mpr (by decide)), nm_r (by rw [mr_c1]) ⟨2, br_f (by decide) ⟨(vp_in_iff.mpr (by decide)), (vp_in_iff.mpr (by decide)), nm_r (by rw [mr_m6, mr_c0, h0]) (nm_r (show (0 : Int32) + 1 = 1 by decide) (br_t (by decide) hp))⟩⟩⟩⟩⟩
theorem mr_n2_2 {post : St2 → Prop} {sz tr rd mu dn ip tp ch co cn : Int32} {a1 a2 a3 a4 a5 a6 a7 a8 a9 a10 a11 a12 a13 : Nat → Int32} {x : Int32} (h0 : a9 0 = x) (h1 : a9 1 = x) (hp : post (sz, tr, rd, mu, 2, dn, 2, ip, tp, ch, co, cn, a1, a2, a3, a4, a5, a6, a7, a8, a9, upd a10 2 1, upd a11 2 dn, upd a12 2 2, upd (upd a13 12 x) 13 x)) : wpX_note_2 post (sz, tr, rd, mu, 2, dn, 2, ip, tp, ch, co, cn, a1, a2, a3, a4, a5, a6, a7, a8, a9, a10, a11, a12, a13) :=
  ⟨(vp_in_iff.mpr (by decide)), nm_r (by rw [mr_c2]) ⟨(vp_in_iff.mpr (by decide)), nm_r (by rw [mr_c2]) ⟨(vp_in_iff.mpr (by decide)), nm_r (by rw [mr_c2]) ⟨3, br_f (by decide) ⟨(vp_in_iff.mpr (by decide)), (vp_in_iff.mpr (by decide)), nm_r (by rw [mr_m12, mr_c0, h0]) (nm_r (show (0 : Int32) + 1 = 1 by decide) (br_f (by decide) ⟨(vp_in_iff.mpr (by decide)), (vp_in_iff.mpr (by decide)), nm_r (by rw [mr_m13, mr_c1, h1]) (nm_r (show (1 : Int32) + 1 = 2 by decide) (br_t (by decide) hp))⟩))⟩⟩⟩⟩⟩
theorem mr_s1_2 {post : Int32 → St2 → Prop} {n : Nat} {i : Int32} {tr rd mu pl dn ht ip ch co cn : Int32} {a1 a2 a3 a4 a5 a6 a7 a8 a9 a10 a11 a12 a13 : Nat → Int32} (h1 : ¬ 40 ≤ i) (h2 : ¬ 40 ≤ dn) (h3 : ¬ 3 ≤ pl) (h4 : vp_in pl 10) (h5 : a10 pl.toNatClampNeg = 0)
    (hp : wpX_note_2 (fun u => match u with | (sz, tr, rd, mu, pl, dn, ht, ip, tp, ch, co, cn, a1, a2, a3, a4, a5, a6, a7, a8, a9, a10, a11, a12, a13) => wX_finish_2_60 post (wX_finish_2_7 post 1 n) 1 i sz tr rd mu pl dn ht ip tp ch co cn a1 a2 a3 a4 a5 a6 a7 a8 a9 a10 a11 a12 a13) (3, tr, rd, mu, pl, dn, ht, ip, 0, ch, co, cn, a1, a2, a3, a4, a5, a6, a7, a8, a9, a10, a11, a12, a13)) : wX_finish_2_7 post 1 (n + 1) i 3 tr rd mu pl dn ht ip 0 ch co cn a1 a2 a3 a4 a5 a6 a7 a8 a9 a10 a11 a12 a13 :=
  br_f h1 (br_f h2 (br_f h3 (br_t rfl (br_f (by decide) ⟨h4, br_t h5 hp⟩))))
theorem mr_end_2 {post : Int32 → St2 → Prop} {n : Nat} {i y r : Int32} {tr rd mu ip ch co cn : Int32} {a1 a2 a3 a4 a5 a6 a7 a8 a9 a10 a11 a12 a13 : Nat → Int32} (h1 : ¬ 40 ≤ i) (h : a9 0 = r) (hp : post r (3, tr, rd, mu, 3, 3, 1, ip, 0, ch, co, cn, a1, a2, a3, a4, a5, a6, a7, a8, a9, a10, a11, a12, a13)) : wX_finish_2_7 post y (n + 1) i 3 tr rd mu 3 3 1 ip 0 ch co cn a1 a2 a3 a4 a5 a6 a7 a8 a9 a10 a11 a12 a13 := by
  refine br_f h1 (br_f (by decide) (br_t (by decide) (br_t rfl (br_t (by decide) (br_f (by decide) ⟨(vp_in_iff.mpr (by decide)), ?_⟩)))))
  rw [mr_d1, h]
  exact hp
theorem mr_fin_2 {post : Int32 → St2 → Prop} {x : Int32} {tr rd mu tp co cn : Int32} {a1 a2 a3 a4 a5 a6 a7 a8 a9 a10 a11 a12 a13 : Nat → Int32} (hx : mr_g x) (q : mr_Pg a1) (z0 : a10 0 = 0) (z1 : a10 1 = 0) (z2 : a10 2 = 0)
    (hp : post (x * x) (3, tr, rd, mu, 3, 3, 1, x, 0, (-1), co, cn, a1, a2, a3, a4, a5, a6, a7, a8, upd (upd (upd a9 0 x) 1 x) 0 (x * x), upd (upd (upd a10 0 1) 1 1) 2 1, upd (upd (upd a11 0 0) 1 1) 2 2, upd (upd (upd a12 0 0) 1 1) 2 2, upd (upd (upd a13 6 x) 12 x) 13 x)) :
    wpX_finish_2 post (3, tr, rd, mu, 0, 0, 0, x, tp, (-1), co, cn, a1, a2, a3, a4, a5, a6, a7, a8, a9, a10, a11, a12, a13) 1 := by
  obtain ⟨q0, q1, q2⟩ := q
  refine ⟨4, ?_⟩
  refine mr_s1_2 (by decide) (by decide) (by decide) (vp_in_iff.mpr (by decide)) (by rw [mr_c0]; exact z0) (mr_n0_2 ?_)
  refine br_f (by decide) ⟨(vp_in_iff.mpr (by decide)), (vp_in_iff.mpr (by decide)), mr_e1_2 (k := 0) (ht' := 1) (pl' := 1) (dn' := 1) (by rw [mr_c0]; exact q0) (by decide) (by decide) (vp_in_iff.mpr (by decide)) (by decide) (by decide) (by decide) (by decide) (mr_xlo hx) (mr_xhi hx) (nm_r (show (0 : Int32) + 1 = 1 by decide) ?_)⟩
  refine mr_s1_2 (by decide) (by decide) (by decide) (vp_in_iff.mpr (by decide)) (by rw [mr_c1, pk_un (by decide)]; exact z1) (mr_n1_2 (x := x) pk_us ?_)
  refine br_f (by decide) ⟨(vp_in_iff.mpr (by decide)), (vp_in_iff.mpr (by decide)), mr_e6_2 (v := x) (pl' := 2) (dn' := 2) (by rw [mr_c1]; exact q1) pk_us (by decide) (by decide) (mr_xlo hx) (mr_xhi hx) (nm_r (show (1 : Int32) + 1 = 2 by decide) ?_)⟩
  have e0 : upd (upd a9 0 x) 1 x 0 = x := by rw [pk_un (by decide), pk_us]
  have e1 : upd (upd a9 0 x) 1 x 1 = x := pk_us
  refine mr_s1_2 (by decide) (by decide) (by decide) (vp_in_iff.mpr (by decide)) (by rw [mr_c2, pk_un (by decide), pk_un (by decide)]; exact z2) (mr_n2_2 (x := x) e0 e1 ?_)
  refine br_f (by decide) ⟨(vp_in_iff.mpr (by decide)), (vp_in_iff.mpr (by decide)), mr_ea_2 (q := 4) (v := x * x) (pl' := 3) (dn' := 3) (by rw [mr_c2]; exact q2) (by decide) (by decide) (by decide) (by decide) (by decide) (fun f u h => ?_) (by decide) (by decide) (mr_qlo hx) (mr_qhi hx) (nm_r (show (2 : Int32) + 1 = 3 by decide) ?_)⟩
  · rw [e0, e1]
    obtain ⟨sz, tr, rd, mu, pl, dn, ht, ip, tp, ch, co, cn, a1, a2, a3, a4, a5, a6, a7, a8, a9, a10, a11, a12, a13⟩ := u
    exact br_f (by decide) (br_f (by decide) (br_t rfl h))
  · exact mr_end_2 (by decide) pk_us hp
theorem mr_rw_2 {post : Int32 → St2 → Prop} {x : Int32} {tr rd mu pl dn ht ip tp ch co cn : Int32} {a1 a2 a3 a4 a5 a6 a7 a8 a9 a11 a12 a13 : Nat → Int32} (hx : mr_g x) (q : mr_Pg a1)
    (hp : ∀ (pl dn ht tp ch : Int32) (b9 b10 b11 b12 b13 : Nat → Int32), mr_Sn x b10 b11 b12 b13 → post (x * x) (3, tr, rd, mu, pl, dn, ht, x, tp, ch, co, cn, a1, a2, a3, a4, a5, a6, a7, a8, b9, b10, b11, b12, b13)) :
    ∀ (d k : Nat) (a10 : Nat → Int32), k + d = 10 → (∀ j, j < k → a10 j = 0) → wX_runWhole_2_2 post x 3 tr rd mu pl dn ht ip tp ch co cn (d + 1) (nI k) a1 a2 a3 a4 a5 a6 a7 a8 a9 a10 a11 a12 a13 := by
  intro d
  induction d with
  | zero =>
    intro k a10 hk hz
    have e : k = 10 := by omega
    subst e
    refine br_t (nI_le (a := 10) (b := 10) (by decide) (by decide)) (mr_fin_2 hx q (hz 0 (by decide)) (hz 1 (by decide)) (hz 2 (by decide)) ?_)
    exact hp _ _ _ _ _ _ _ _ _ _ ⟨⟨rfl, rfl, rfl⟩, ⟨rfl, rfl, rfl⟩, ⟨rfl, rfl, rfl⟩, rfl, rfl, rfl⟩
  | succ d ih =>
    intro k a10 hk hz
    refine br_f (nI_ge (b := 10) (by omega) (by decide)) ⟨vp_in_nI (by omega) (by decide), nm_r (e' := upd a10 k 0) (by rw [nI_clamp (by omega)]) (nm_r (nI_1 k) (ih (k + 1) _ (by omega) (fun j hj => ?_)))⟩
    by_cases ej : j = k
    · rw [ej, pk_us]
    · rw [pk_un ej]
      exact hz j (by omega)
/-- a whole run on x answers the square and notes the three places -/
theorem mr_whole_2 {post : Int32 → St2 → Prop} {x : Int32} {tr rd mu pl dn ht ip tp ch co cn : Int32} {a1 a2 a3 a4 a5 a6 a7 a8 a9 a10 a11 a12 a13 : Nat → Int32} (hx : mr_g x) (q : mr_Pg a1)
    (hp : ∀ (pl dn ht tp ch : Int32) (b9 b10 b11 b12 b13 : Nat → Int32), mr_Sn x b10 b11 b12 b13 → post (x * x) (3, tr, rd, mu, pl, dn, ht, x, tp, ch, co, cn, a1, a2, a3, a4, a5, a6, a7, a8, b9, b10, b11, b12, b13)) :
    wpX_runWhole_2 post (3, tr, rd, mu, pl, dn, ht, ip, tp, ch, co, cn, a1, a2, a3, a4, a5, a6, a7, a8, a9, a10, a11, a12, a13) x :=
  ⟨11, mr_rw_2 hx q hp 10 0 a10 (by decide) (fun j hj => absurd hj (by omega))⟩
end
section
theorem mr_r0 {post : Int32 → St2 → Prop} {sz tr rd mu pl dn ht ip tp ch co cn : Int32} {a1 a2 a3 a4 a5 a6 a7 a8 a9 a10 a11 a12 a13 : Nat → Int32} {x p y o w : Int32} {m : Nat} (hv : vp_in p 30) (hm : p.toNatClampNeg = m) (h4 : a4 m = 0) (h5 : a5 m = o) (h6 : a6 m = w) (s : mr_Sn x a10 a11 a12 a13)
    (hp : wpX_finish_2 (fun r u => match u with | (sz, tr, rd, mu, pl, dn, ht, ip, tp, ch, co, cn, a1, a2, a3, a4, a5, a6, a7, a8, a9, a10, a11, a12, a13) => post r (sz, tr, rd, mu, pl, dn, ht, ip, tp, ch, co, cn, a1, a2, a3, a4, a5, a6, a7, a8, a9, a10, a11, a12, a13)) (sz, tr, rd, mu, 0, 0, 0, ip, tp, 0, o, w, a1, a2, a3, a4, a5, a6, a7, a8, a9, a10, a11, a12, a13) 0) : wpX_runFrom post (sz, tr, rd, mu, pl, dn, ht, ip, tp, ch, co, cn, a1, a2, a3, a4, a5, a6, a7, a8, a9, a10, a11, a12, a13) p y := by
  obtain ⟨⟨s1, _, _⟩, ⟨s2, _, _⟩, ⟨s3, _, _⟩, _⟩ := s
  refine ⟨hv, nm_r (e' := 0) (by rw [hm, h4]) ⟨(vp_in_iff.mpr (by decide)), br_f (by rw [mr_c0, s1]; decide) ⟨(vp_in_iff.mpr (by decide)), nm_r (e' := 0) (by rw [mr_c0, s2]) ⟨(vp_in_iff.mpr (by decide)), nm_r (e' := 0) (by rw [mr_c0, s3]) ⟨1, ?_⟩⟩⟩⟩⟩
  exact br_t (by decide) ⟨hv, nm_r (e' := o) (by rw [hm, h5]) ⟨hv, nm_r (e' := w) (by rw [hm, h6]) hp⟩⟩
theorem mr_r1 {post : Int32 → St2 → Prop} {sz tr rd mu pl dn ht ip tp ch co cn : Int32} {a1 a2 a3 a4 a5 a6 a7 a8 a9 a10 a11 a12 a13 : Nat → Int32} {x p y o w : Int32} {m : Nat} (hv : vp_in p 30) (hm : p.toNatClampNeg = m) (h4 : a4 m = 1) (h5 : a5 m = o) (h6 : a6 m = w) (s : mr_Sn x a10 a11 a12 a13)
    (hp : wpX_finish_2 (fun r u => match u with | (sz, tr, rd, mu, pl, dn, ht, ip, tp, ch, co, cn, a1, a2, a3, a4, a5, a6, a7, a8, a9, a10, a11, a12, a13) => post r (sz, tr, rd, mu, pl, dn, ht, ip, tp, ch, co, cn, a1, a2, a3, a4, a5, a6, a7, a8, a9, a10, a11, a12, a13)) (sz, tr, rd, mu, 1, 1, 1, ip, tp, 1, o, w, a1, a2, a3, a4, a5, a6, a7, a8, upd a9 0 x, a10, a11, a12, a13) 0) : wpX_runFrom post (sz, tr, rd, mu, pl, dn, ht, ip, tp, ch, co, cn, a1, a2, a3, a4, a5, a6, a7, a8, a9, a10, a11, a12, a13) p y := by
  obtain ⟨⟨_, s1, _⟩, ⟨_, s2, _⟩, ⟨_, s3, _⟩, s4, _⟩ := s
  refine ⟨hv, nm_r (e' := 1) (by rw [hm, h4]) ⟨(vp_in_iff.mpr (by decide)), br_f (by rw [mr_c1, s1]; decide) ⟨(vp_in_iff.mpr (by decide)), nm_r (e' := 1) (by rw [mr_c1, s2]) ⟨(vp_in_iff.mpr (by decide)), nm_r (e' := 1) (by rw [mr_c1, s3]) ⟨2, ?_⟩⟩⟩⟩⟩
  refine br_f (by decide) ⟨(vp_in_iff.mpr (by decide)), (vp_in_iff.mpr (by decide)), nm_r (e' := upd a9 0 x) (by rw [mr_m6, mr_c0, s4]) (nm_r (show (0 : Int32) + 1 = 1 by decide) ?_)⟩
  exact br_t (by decide) ⟨hv, nm_r (e' := o) (by rw [hm, h5]) ⟨hv, nm_r (e' := w) (by rw [hm, h6]) hp⟩⟩
theorem mr_r2 {post : Int32 → St2 → Prop} {sz tr rd mu pl dn ht ip tp ch co cn : Int32} {a1 a2 a3 a4 a5 a6 a7 a8 a9 a10 a11 a12 a13 : Nat → Int32} {x p y o w : Int32} {m : Nat} (hv : vp_in p 30) (hm : p.toNatClampNeg = m) (h4 : a4 m = 2) (h5 : a5 m = o) (h6 : a6 m = w) (s : mr_Sn x a10 a11 a12 a13)
    (hp : wpX_finish_2 (fun r u => match u with | (sz, tr, rd, mu, pl, dn, ht, ip, tp, ch, co, cn, a1, a2, a3, a4, a5, a6, a7, a8, a9, a10, a11, a12, a13) => post r (sz, tr, rd, mu, pl, dn, ht, ip, tp, ch, co, cn, a1, a2, a3, a4, a5, a6, a7, a8, a9, a10, a11, a12, a13)) (sz, tr, rd, mu, 2, 2, 2, ip, tp, 2, o, w, a1, a2, a3, a4, a5, a6, a7, a8, upd (upd a9 0 x) 1 x, a10, a11, a12, a13) 0) : wpX_runFrom post (sz, tr, rd, mu, pl, dn, ht, ip, tp, ch, co, cn, a1, a2, a3, a4, a5, a6, a7, a8, a9, a10, a11, a12, a13) p y := by
  obtain ⟨⟨_, _, s1⟩, ⟨_, _, s2⟩, ⟨_, _, s3⟩, _, s4, s5⟩ := s
  refine ⟨hv, nm_r (e' := 2) (by rw [hm, h4]) ⟨(vp_in_iff.mpr (by decide)), br_f (by rw [mr_c2, s1]; decide) ⟨(vp_in_iff.mpr (by decide)), nm_r (e' := 2) (by rw [mr_c2, s2]) ⟨(vp_in_iff.mpr (by decide)), nm_r (e' := 2) (by rw [mr_c2, s3]) ⟨3, ?_⟩⟩⟩⟩⟩
  refine br_f (by decide) ⟨(vp_in_iff.mpr (by decide)), (vp_in_iff.mpr (by decide)), nm_r (e' := upd a9 0 x) (by rw [mr_m12, mr_c0, s4]) (nm_r (show (0 : Int32) + 1 = 1 by decide) ?_)⟩
  refine br_f (by decide) ⟨(vp_in_iff.mpr (by decide)), (vp_in_iff.mpr (by decide)), nm_r (e' := upd (upd a9 0 x) 1 x) (by rw [mr_m13, mr_c1, s5]) (nm_r (show (1 : Int32) + 1 = 2 by decide) ?_)⟩
  exact br_t (by decide) ⟨hv, nm_r (e' := o) (by rw [hm, h5]) ⟨hv, nm_r (e' := w) (by rw [hm, h6]) hp⟩⟩
theorem mr_s0 {post : Int32 → St2 → Prop} {n : Nat} {i : Int32} {tr rd mu pl dn ht ip ch co cn : Int32} {a1 a2 a3 a4 a5 a6 a7 a8 a9 a10 a11 a12 a13 : Nat → Int32} (h1 : ¬ 40 ≤ i) (h2 : ¬ 40 ≤ dn) (h3 : ¬ 3 ≤ pl)
    (hp : wX_finish_2_60 post (wX_finish_2_7 post 0 n) 0 i 3 tr rd mu pl dn ht ip 0 ch co cn a1 a2 a3 a4 a5 a6 a7 a8 a9 a10 a11 a12 a13) : wX_finish_2_7 post 0 (n + 1) i 3 tr rd mu pl dn ht ip 0 ch co cn a1 a2 a3 a4 a5 a6 a7 a8 a9 a10 a11 a12 a13 :=
  br_f h1 (br_f h2 (br_f h3 (br_t rfl (br_t rfl hp))))
theorem mr_q2 {f : Int32 → Prop} {u : St2} {a b v : Int32} (e : a + b = v) (h : f v) : wpX_combined f u 2 a b := by
  subst e
  obtain ⟨sz, tr, rd, mu, pl, dn, ht, ip, tp, ch, co, cn, a1, a2, a3, a4, a5, a6, a7, a8, a9, a10, a11, a12, a13⟩ := u
  exact br_t rfl h
theorem mr_q3 {f : Int32 → Prop} {u : St2} {a b v : Int32} (e : a - b = v) (h : f v) : wpX_combined f u 3 a b := by
  subst e
  obtain ⟨sz, tr, rd, mu, pl, dn, ht, ip, tp, ch, co, cn, a1, a2, a3, a4, a5, a6, a7, a8, a9, a10, a11, a12, a13⟩ := u
  exact br_f (by decide) (br_t rfl h)
theorem mr_q4 {f : Int32 → Prop} {u : St2} {a b v : Int32} (e : a * b = v) (h : f v) : wpX_combined f u 4 a b := by
  subst e
  obtain ⟨sz, tr, rd, mu, pl, dn, ht, ip, tp, ch, co, cn, a1, a2, a3, a4, a5, a6, a7, a8, a9, a10, a11, a12, a13⟩ := u
  exact br_f (by decide) (br_f (by decide) (br_t rfl h))
theorem mr_q5 {f : Int32 → Prop} {u : St2} {a b : Int32} (e : b ≤ a) (h : f 0) : wpX_combined f u 5 a b := by
  obtain ⟨sz, tr, rd, mu, pl, dn, ht, ip, tp, ch, co, cn, a1, a2, a3, a4, a5, a6, a7, a8, a9, a10, a11, a12, a13⟩ := u
  exact br_f (by decide) (br_f (by decide) (br_f (by decide) (br_t e h)))
/-- mutant m on the same input: its outcome is mr_f m x -/
theorem mr_from {post : Int32 → St2 → Prop} {x y : Int32} {tr rd mu pl dn ht tp ch co cn : Int32} {a1 a2 a3 a4 a5 a6 a7 a8 a9 a10 a11 a12 a13 : Nat → Int32} (m : Nat) (hm : m < 5) (hx : mr_g x) (q : mr_Pg a1) (mt : mr_Mt a4 a5 a6) (s : mr_Sn x a10 a11 a12 a13)
    (hp : ∀ (pl dn ht tp ch co cn : Int32) (b9 : Nat → Int32), post (mr_f m x) (3, tr, rd, mu, pl, dn, ht, x, tp, ch, co, cn, a1, a2, a3, a4, a5, a6, a7, a8, b9, a10, a11, a12, a13)) : wpX_runFrom post (3, tr, rd, mu, pl, dn, ht, x, tp, ch, co, cn, a1, a2, a3, a4, a5, a6, a7, a8, a9, a10, a11, a12, a13) (nI m) y := by
  obtain ⟨q0, q1, q2⟩ := q
  obtain ⟨⟨t0, t1, t2, t3, t4⟩, ⟨o0, o1, o2, o3, o4⟩, w0⟩ := mt
  have e0 : ∀ v : Int32, upd (upd a9 0 v) 1 v 0 = v := fun v => by rw [pk_un (by decide), pk_us]
  have e1 : ∀ v : Int32, upd (upd a9 0 v) 1 v 1 = v := fun v => pk_us
  match m, hm, hp with
  | 0, _, hp =>
    refine mr_r0 (vp_in_nI (by decide) (by decide)) (nI_clamp (by decide)) t0 o0 w0 s ⟨4, ?_⟩
    refine mr_s0 (by decide) (by decide) (by decide) (br_t rfl (mr_e0_2 (v := 0) (pl' := 1) (dn' := 1) rfl rfl (by decide) (by decide) (by decide) (by decide) (nm_r (show (0 : Int32) + 1 = 1 by decide) ?_)))
    refine mr_s0 (by decide) (by decide) (by decide) (br_f (by decide) ⟨(vp_in_iff.mpr (by decide)), (vp_in_iff.mpr (by decide)), mr_e6_2 (v := 0) (pl' := 2) (dn' := 2) (by rw [mr_c1]; exact q1) pk_us (by decide) (by decide) (by decide) (by decide) (nm_r (show (1 : Int32) + 1 = 2 by decide) ?_)⟩)
    refine mr_s0 (by decide) (by decide) (by decide) (br_f (by decide) ⟨(vp_in_iff.mpr (by decide)), (vp_in_iff.mpr (by decide)), mr_ea_2 (q := 4) (v := 0) (pl' := 3) (dn' := 3) (by rw [mr_c2]; exact q2) (by decide) (by decide) (by decide) (by decide) (by decide) (fun f u h => mr_q4 (by rw [e0, e1]; decide) h) (by decide) (by decide) (by decide) (by decide) (nm_r (show (2 : Int32) + 1 = 3 by decide) ?_)⟩)
    exact mr_end_2 (r := 0) (by decide) pk_us (hp _ _ _ _ _ _ _ _)
  | 1, _, hp =>
    refine mr_r1 (vp_in_nI (by decide) (by decide)) (nI_clamp (by decide)) t1 o1 rfl s ⟨3, ?_⟩
    refine mr_s0 (by decide) (by decide) (by decide) (br_t rfl (mr_e1_2 (k := 1) (ht' := 2) (pl' := 2) (dn' := 2) rfl (by decide) (by decide) (vp_in_iff.mpr (by decide)) (by decide) (by decide) (by decide) (by decide) (mr_xlo hx) (mr_xhi hx) (nm_r (show (0 : Int32) + 1 = 1 by decide) ?_)))
    refine mr_s0 (by decide) (by decide) (by decide) (br_f (by decide) ⟨(vp_in_iff.mpr (by decide)), (vp_in_iff.mpr (by decide)), mr_ea_2 (q := 4) (v := x * x) (pl' := 3) (dn' := 3) (by rw [mr_c2]; exact q2) (by decide) (by decide) (by decide) (by decide) (by decide) (fun f u h => mr_q4 (by rw [e0, e1]) h) (by decide) (by decide) (mr_qlo hx) (mr_qhi hx) (nm_r (show (1 : Int32) + 1 = 2 by decide) ?_)⟩)
    exact mr_end_2 (r := x * x) (by decide) pk_us (hp _ _ _ _ _ _ _ _)
  | 2, _, hp =>
    refine mr_r2 (vp_in_nI (by decide) (by decide)) (nI_clamp (by decide)) t2 o2 rfl s ⟨2, ?_⟩
    refine mr_s0 (by decide) (by decide) (by decide) (br_t rfl (mr_ea_2 (q := 2) (v := x + x) (pl' := 3) (dn' := 3) rfl (by decide) (by decide) (by decide) (by decide) (by decide) (fun f u h => mr_q2 (by rw [e0, e1]) h) (by decide) (by decide) (mr_dlo hx) (mr_dhi hx) (nm_r (show (0 : Int32) + 1 = 1 by decide) ?_)))
    exact mr_end_2 (r := x + x) (by decide) pk_us (hp _ _ _ _ _ _ _ _)
  | 3, _, hp =>
    refine mr_r2 (vp_in_nI (by decide) (by decide)) (nI_clamp (by decide)) t3 o3 rfl s ⟨2, ?_⟩
    refine mr_s0 (by decide) (by decide) (by decide) (br_t rfl (mr_ea_2 (q := 3) (v := 0) (pl' := 3) (dn' := 3) rfl (by decide) (by decide) (by decide) (by decide) (by decide) (fun f u h => mr_q3 (by rw [e0, e1]; exact mr_xx hx) h) (by decide) (by decide) (by decide) (by decide) (nm_r (show (0 : Int32) + 1 = 1 by decide) ?_)))
    exact mr_end_2 (r := 0) (by decide) pk_us (hp _ _ _ _ _ _ _ _)
  | 4, _, hp =>
    refine mr_r2 (vp_in_nI (by decide) (by decide)) (nI_clamp (by decide)) t4 o4 rfl s ⟨2, ?_⟩
    refine mr_s0 (by decide) (by decide) (by decide) (br_t rfl (mr_ea_2 (q := 5) (v := 0) (pl' := 3) (dn' := 3) rfl (by decide) (by decide) (by decide) (by decide) (by decide) (fun f u h => mr_q5 (by rw [e0, e1]; exact mr_le hx) h) (by decide) (by decide) (by decide) (by decide) (nm_r (show (0 : Int32) + 1 = 1 by decide) ?_)))
    exact mr_end_2 (r := 0) (by decide) pk_us (hp _ _ _ _ _ _ _ _)
end
section
theorem mr_add {post : St2 → Prop} {sz tr rd mu pl dn ht ip tp ch co cn : Int32} {a1 a2 a3 a4 a5 a6 a7 a8 a9 a10 a11 a12 a13 : Nat → Int32} {p q w mu' : Int32} {k : Nat} (hi : vp_in mu 30) (hk : mu.toNatClampNeg = k) (hm : mu + 1 = mu')
    (hp : post (sz, tr, rd, mu', pl, dn, ht, ip, tp, ch, co, cn, a1, a2, a3, upd a4 k p, upd a5 k q, upd a6 k w, a7, a8, a9, a10, a11, a12, a13)) : wpX_add post (sz, tr, rd, mu, pl, dn, ht, ip, tp, ch, co, cn, a1, a2, a3, a4, a5, a6, a7, a8, a9, a10, a11, a12, a13) p q w :=
  ⟨hi, nm_r (by rw [hk]) ⟨hi, nm_r (by rw [hk]) ⟨hi, nm_r (by rw [hk]) (nm_r hm hp)⟩⟩⟩
theorem mr_p15 {post : St2 → Prop} {tr rd pl dn ht ip tp ch co cn : Int32} {a1 a2 a3 a4 a5 a6 a7 a8 a9 a10 a11 a12 a13 : Nat → Int32} (q : mr_Pg a1)
    (hp : ∃ fu : Nat, wX_prepare_36 post 3 tr rd 5 pl dn ht ip tp ch co cn fu 0 a1 a2 a3 (upd (upd (upd (upd (upd a4 0 0) 1 1) 2 2) 3 2) 4 2) (upd (upd (upd (upd (upd a5 0 0) 1 1) 2 2) 3 3) 4 5) (upd (upd (upd (upd (upd a6 0 0) 1 0) 2 0) 3 0) 4 0) a7 a8 a9 a10 a11 a12 a13) :
    ∃ fu : Nat, wX_prepare_15 post fu 0 3 tr rd 0 pl dn ht ip tp ch co cn a1 a2 a3 a4 a5 a6 a7 a8 a9 a10 a11 a12 a13 := by
  obtain ⟨q0, q1, q2⟩ := q
  refine ⟨4, ?_⟩
  refine br_f (by decide) ⟨(vp_in_iff.mpr (by decide)), nm_r (e' := 1) (by rw [mr_c0]; exact q0) ⟨(vp_in_iff.mpr (by decide)), nm_e (br_f (by decide) (br_t rfl (mr_add (k := 0) (mu' := 1) (vp_in_iff.mpr (by decide)) (by decide) (by decide) (nm_r (show (0 : Int32) + 1 = 1 by decide) ?_))))⟩⟩
  refine br_f (by decide) ⟨(vp_in_iff.mpr (by decide)), nm_r (e' := 6) (by rw [mr_c1]; exact q1) ⟨(vp_in_iff.mpr (by decide)), nm_e (br_f (by decide) (br_f (by decide) (br_t (by decide) (br_t rfl (mr_add (k := 1) (mu' := 2) (vp_in_iff.mpr (by decide)) (by decide) (by decide) (nm_r (show (1 : Int32) + 1 = 2 by decide) ?_))))))⟩⟩
  refine br_f (by decide) ⟨(vp_in_iff.mpr (by decide)), nm_r (e' := 4) (by rw [mr_c2]; exact q2) ⟨(vp_in_iff.mpr (by decide)), nm_e (br_f (by decide) (br_f (by decide) (br_f (by decide) ⟨5, ?_⟩)))⟩⟩
  refine br_f (by decide) (br_f (by decide) (mr_add (k := 2) (mu' := 3) (vp_in_iff.mpr (by decide)) (by decide) (by decide) (nm_r (show (2 : Int32) + 1 = 3 by decide) ?_)))
  refine br_f (by decide) (br_f (by decide) (mr_add (k := 3) (mu' := 4) (vp_in_iff.mpr (by decide)) (by decide) (by decide) (nm_r (show (3 : Int32) + 1 = 4 by decide) ?_)))
  refine br_f (by decide) (br_t rfl (nm_r (show (4 : Int32) + 1 = 5 by decide) ?_))
  refine br_f (by decide) (br_f (by decide) (mr_add (k := 4) (mu' := 5) (vp_in_iff.mpr (by decide)) (by decide) (by decide) (nm_r (show (5 : Int32) + 1 = 6 by decide) ?_)))
  refine br_t (by decide) (nm_r (show (2 : Int32) + 1 = 3 by decide) ?_)
  exact br_t (by decide) hp
theorem mr_p36 {post : St2 → Prop} {tr rd pl dn ht ip tp ch co cn : Int32} {a1 a2 a3 a4 a5 a6 a7 a8 a9 a10 a11 a12 a13 : Nat → Int32} (hp : ∃ fu : Nat, wX_prepare_59 post fu 0 3 tr rd 5 pl dn ht ip tp ch co cn a1 a2 a3 a4 a5 a6 (upd (upd (upd (upd (upd a7 0 0) 1 0) 2 0) 3 0) 4 0) a8 a9 a10 a11 a12 a13) :
    ∃ fu : Nat, wX_prepare_36 post 3 tr rd 5 pl dn ht ip tp ch co cn fu 0 a1 a2 a3 a4 a5 a6 a7 a8 a9 a10 a11 a12 a13 := by
  refine ⟨6, ?_⟩
  refine br_f (by decide) ⟨(vp_in_iff.mpr (by decide)), nm_r (e' := upd a7 0 0) (by rw [mr_c0]) (nm_r (show (0 : Int32) + 1 = 1 by decide) ?_)⟩
  refine br_f (by decide) ⟨(vp_in_iff.mpr (by decide)), nm_r (e' := upd (upd a7 0 0) 1 0) (by rw [mr_c1]) (nm_r (show (1 : Int32) + 1 = 2 by decide) ?_)⟩
  refine br_f (by decide) ⟨(vp_in_iff.mpr (by decide)), nm_r (e' := upd (upd (upd a7 0 0) 1 0) 2 0) (by rw [mr_c2]) (nm_r (show (2 : Int32) + 1 = 3 by decide) ?_)⟩
  refine br_f (by decide) ⟨(vp_in_iff.mpr (by decide)), nm_r (e' := upd (upd (upd (upd a7 0 0) 1 0) 2 0) 3 0) (by rw [mr_c3]) (nm_r (show (3 : Int32) + 1 = 4 by decide) ?_)⟩
  refine br_f (by decide) ⟨(vp_in_iff.mpr (by decide)), nm_r (e' := upd (upd (upd (upd (upd a7 0 0) 1 0) 2 0) 3 0) 4 0) (by rw [mr_c4]) (nm_r (show (4 : Int32) + 1 = 5 by decide) ?_)⟩
  exact br_t (by decide) hp
theorem mr_p81 {post : St2 → Prop} {J : Int32 → Int32 → Int32 → Int32 → Int32 → Int32 → Int32 → Int32 → Int32 → Int32 → Int32 → Int32 → Int32 → (Nat → Int32) → (Nat → Int32) → (Nat → Int32) → (Nat → Int32) → (Nat → Int32) → (Nat → Int32) → (Nat → Int32) → (Nat → Int32) → (Nat → Int32) → (Nat → Int32) → (Nat → Int32) → (Nat → Int32) → (Nat → Int32) → Prop} {tr rd : Int32} {a1 a2 a3 a4 a5 a6 a8 a10 a11 a12 a13 : Nat → Int32} {k : Nat} (hk : k < 16) (q : mr_Pg a1) (mt : mr_Mt a4 a5 a6) (s : mr_Sn (nI k - 8) a10 a11 a12 a13) (h8 : a8 k = (nI k - 8) * (nI k - 8))
    (hJ : ∀ (pl dn ht tp ch co cn : Int32) (b7 b9 : Nat → Int32), (∀ j, j < 5 → b7 j = mr_tk (mr_f j) (k + 1)) → J (nI (k + 1)) 3 tr rd 5 pl dn ht (nI k - 8) tp ch co cn a1 a2 a3 a4 a5 a6 b7 a8 b9 a10 a11 a12 a13) :
    ∀ (d m : Nat) (pl dn ht tp ch co cn : Int32) (b7 b9 : Nat → Int32), m + d = 5 → (∀ j, j < m → b7 j = mr_tk (mr_f j) (k + 1)) → (∀ j, m ≤ j → j < 5 → b7 j = mr_tk (mr_f j) k) →
      wX_prepare_81 post J (nI k) (d + 1) (nI m) 3 tr rd 5 pl dn ht (nI k - 8) tp ch co cn a1 a2 a3 a4 a5 a6 b7 a8 b9 a10 a11 a12 a13 := by
  have g : mr_g (nI k - 8) := ⟨k, hk, rfl⟩
  intro d
  induction d with
  | zero =>
    intro m pl dn ht tp ch co cn b7 b9 hm h1 _
    have e : m = 5 := by omega
    subst e
    exact br_t (nI_le (a := 5) (b := 5) (by decide) (by decide)) (nm_r (nI_1 k) (hJ _ _ _ _ _ _ _ _ _ h1))
  | succ d ih =>
    intro m pl dn ht tp ch co cn b7 b9 hm h1 h2
    refine br_f (nI_ge (b := 5) (by omega) (by decide)) ⟨vp_in_nI hk (by decide), mr_from m (by omega) g q mt s (fun pl dn ht tp ch co cn c9 => ⟨vp_in_nI hk (by decide), ?_⟩)⟩
    rw [nI_clamp (show k < 2 ^ 31 by omega), h8]
    refine br_c (fun e => nm_r (nI_1 m) (ih (m + 1) _ _ _ _ _ _ _ _ _ (by omega) (fun j hj => ?_) (fun j hj hj2 => h2 j (by omega) hj2))) (fun e => ⟨vp_in_nI (by omega) (by decide), vp_in_nI (by omega) (by decide), nm_r (e' := upd b7 m (b7 m ||| ((1 : Int32) <<< (nI k &&& 31)))) (by rw [nI_clamp (show m < 2 ^ 31 by omega)]) (nm_r (nI_1 m) (ih (m + 1) _ _ _ _ _ _ _ _ _ (by omega) (fun j hj => ?_) (fun j hj hj2 => ?_)))⟩)
    · by_cases ej : j = m
      · rw [ej, h2 m (Nat.le_refl m) (by omega), mr_tk_t e]
      · exact h1 j (by omega)
    · by_cases ej : j = m
      · rw [ej, pk_us, h2 m (Nat.le_refl m) (by omega), mr_tk_f e]
      · rw [pk_un ej]
        exact h1 j (by omega)
    · rw [pk_un (by omega)]
      exact h2 j (by omega) hj2
theorem mr_p59 {post : St2 → Prop} {tr rd : Int32} {a1 a2 a3 a4 a5 a6 : Nat → Int32} (q : mr_Pg a1) (mt : mr_Mt a4 a5 a6)
    (hp : ∀ (pl dn ht ip tp ch co cn : Int32) (a7 a8 a9 a10 a11 a12 a13 : Nat → Int32), (∀ j, j < 5 → a7 j = mr_tk (mr_f j) 16) → (∀ j, j < 16 → a8 j = (nI j - 8) * (nI j - 8)) → post (3, tr, 1, 5, pl, dn, ht, ip, tp, ch, co, cn, a1, a2, a3, a4, a5, a6, a7, a8, a9, a10, a11, a12, a13)) :
    ∀ (d k : Nat) (pl dn ht ip tp ch co cn : Int32) (a7 a8 a9 a10 a11 a12 a13 : Nat → Int32), k + d = 16 → (∀ j, j < 5 → a7 j = mr_tk (mr_f j) k) → (∀ j, j < k → a8 j = (nI j - 8) * (nI j - 8)) →
      wX_prepare_59 post (d + 1) (nI k) 3 tr rd 5 pl dn ht ip tp ch co cn a1 a2 a3 a4 a5 a6 a7 a8 a9 a10 a11 a12 a13 := by
  intro d
  induction d with
  | zero =>
    intro k pl dn ht ip tp ch co cn a7 a8 a9 a10 a11 a12 a13 hk h7 h8
    have e : k = 16 := by omega
    subst e
    exact br_t (nI_le (a := 16) (b := 16) (by decide) (by decide)) (hp _ _ _ _ _ _ _ _ _ _ _ _ _ _ _ h7 h8)
  | succ d ih =>
    intro k pl dn ht ip tp ch co cn a7 a8 a9 a10 a11 a12 a13 hk h7 h8
    refine br_f (nI_ge (b := 16) (by omega) (by decide)) (mr_whole (x := nI k - 8) ⟨k, by omega, rfl⟩ q (fun pl dn ht tp ch b9 b10 b11 b12 b13 s => ⟨vp_in_nI (by omega) (by decide), nm_r (e' := upd a8 k ((nI k - 8) * (nI k - 8))) (by rw [nI_clamp (by omega)]) ⟨6, ?_⟩⟩))
    refine mr_p81 (by omega) q mt s pk_us (fun pl dn ht tp ch co cn b7 b9 h => ih (k + 1) _ _ _ _ _ _ _ _ _ _ _ _ _ _ _ (by omega) h (fun j hj => ?_)) 5 0 _ _ _ _ _ _ _ _ _ (by omega) (fun j hj => absurd hj (by omega)) (fun j _ hj => h7 j hj)
    by_cases ej : j = k
    · rw [ej, pk_us]
    · rw [pk_un ej]
      exact h8 j (by omega)
/-- prepare, the first time: the five mutants, what tells them, the squares -/
theorem mr_prep0 {post : St2 → Prop} {tr mu pl dn ht ip tp ch co cn : Int32} {a1 a2 a3 a4 a5 a6 a7 a8 a9 a10 a11 a12 a13 : Nat → Int32} (q : mr_Pg a1)
    (hp : ∀ (pl dn ht ip tp ch co cn : Int32) (a4 a5 a6 a7 a8 a9 a10 a11 a12 a13 : Nat → Int32), mr_Mt a4 a5 a6 → (∀ j, j < 5 → a7 j = mr_tk (mr_f j) 16) → (∀ j, j < 16 → a8 j = (nI j - 8) * (nI j - 8)) → post (3, tr, 1, 5, pl, dn, ht, ip, tp, ch, co, cn, a1, a2, a3, a4, a5, a6, a7, a8, a9, a10, a11, a12, a13)) :
    wpX_prepare post (3, tr, 0, mu, pl, dn, ht, ip, tp, ch, co, cn, a1, a2, a3, a4, a5, a6, a7, a8, a9, a10, a11, a12, a13) := by
  refine br_t rfl (mr_p15 q (mr_p36 ⟨17, ?_⟩))
  have mt : mr_Mt (upd (upd (upd (upd (upd a4 0 0) 1 1) 2 2) 3 2) 4 2) (upd (upd (upd (upd (upd a5 0 0) 1 1) 2 2) 3 3) 4 5) (upd (upd (upd (upd (upd a6 0 0) 1 0) 2 0) 3 0) 4 0) :=
    ⟨⟨rfl, rfl, rfl, rfl, rfl⟩, ⟨rfl, rfl, rfl, rfl, rfl⟩, rfl⟩
  refine mr_p59 q mt (fun pl dn ht ip tp ch co cn a7 a8 a9 a10 a11 a12 a13 h7 h8 => hp _ _ _ _ _ _ _ _ _ _ _ _ _ _ _ _ _ _ mt h7 h8) 16 0 _ _ _ _ _ _ _ _ _ _ _ _ _ _ _ (by omega) (fun j hj => ?_) (fun j hj => absurd hj (by omega))
  match j, hj with
  | 0, _ => rfl
  | 1, _ => rfl
  | 2, _ => rfl
  | 3, _ => rfl
  | 4, _ => rfl
end
section
/-- the trials (d of them, from i on) that T holds, joined to s -/
def mr_ko (T : Int32) (a3 : Nat → Int32) : Nat → Nat → Int32 → Int32
  | 0, _, s => s
  | d + 1, i, s => if ((T >>> ((a3 i + 8) &&& 31)) &&& 1) = 1 then mr_ko T a3 d (i + 1) (s ||| ((1 : Int32) <<< (nI i &&& 31))) else mr_ko T a3 d (i + 1) s
/-- the five mutants' killers -/
def mr_K (S M : Int32) (m : Nat) : Int32 := if m = 1 then 0 else if m = 2 then M else S
/-- a prepared object: t trials, killers S, 0, M, S, S -/
def mr_Rd (t : Nat) (S M : Int32) (u : St2) : Prop := match u with
  | (sz, tr, rd, mu, pl, dn, ht, ip, tp, ch, co, cn, a1, a2, a3, a4, a5, a6, a7, a8, a9, a10, a11, a12, a13) => (sz = 3 ∧ tr = nI t ∧ rd = 1 ∧ mu = 5) ∧ (t = 1 ∨ t = 2) ∧ mr_Pg a1 ∧ mr_Mt a4 a5 a6 ∧ (∀ j, j < 5 → a7 j = mr_tk (mr_f j) 16) ∧ (∀ j, j < 16 → a8 j = (nI j - 8) * (nI j - 8)) ∧ (∀ m, m < 5 → mr_ko (mr_tk (mr_f m) 16) a3 t 0 0 = mr_K S M m)
theorem mr_prep {post : St2 → Prop} {t : Nat} {S M : Int32} {u : St2} (hu : mr_Rd t S M u) (hp : post u) : wpX_prepare post u := by
  obtain ⟨sz, tr, rd, mu, pl, dn, ht, ip, tp, ch, co, cn, a1, a2, a3, a4, a5, a6, a7, a8, a9, a10, a11, a12, a13⟩ := u
  obtain ⟨⟨rfl, rfl, rfl, rfl⟩, _⟩ := hu
  exact br_f (by decide) hp
theorem mr_badI {post : Int32 → Prop} {u : St2} {x : Int32} (hx : mr_g x) (hp : post 0) : wpX_badInput post u x := by
  obtain ⟨sz, tr, rd, mu, pl, dn, ht, ip, tp, ch, co, cn, a1, a2, a3, a4, a5, a6, a7, a8, a9, a10, a11, a12, a13⟩ := u
  exact br_f (mr_b1 hx) (br_t (mr_b2 hx) hp)
theorem mr_noM {post : Int32 → St2 → Prop} {t : Nat} {S M p : Int32} {u : St2} (m : Nat) (hm : m < 5) (e : p = nI m) (hu : mr_Rd t S M u) (hp : post 0 u) : wpX_noMutant post u p := by
  subst e
  obtain ⟨sz, tr, rd, mu, pl, dn, ht, ip, tp, ch, co, cn, a1, a2, a3, a4, a5, a6, a7, a8, a9, a10, a11, a12, a13⟩ := u
  have hu' := hu
  obtain ⟨⟨rfl, rfl, rfl, rfl⟩, _⟩ := hu'
  exact mr_prep hu (br_f (nI_pos (by omega)) (br_t (nI_lt (b := 5) hm (by decide)) hp))
theorem mr_noM5 {post : Int32 → St2 → Prop} {t : Nat} {S M : Int32} {u : St2} (hu : mr_Rd t S M u) (hp : post 1 u) : wpX_noMutant post u 5 := by
  obtain ⟨sz, tr, rd, mu, pl, dn, ht, ip, tp, ch, co, cn, a1, a2, a3, a4, a5, a6, a7, a8, a9, a10, a11, a12, a13⟩ := u
  have hu' := hu
  obtain ⟨⟨rfl, rfl, rfl, rfl⟩, _⟩ := hu'
  exact mr_prep hu (br_f (by decide) (br_f (by decide) hp))
theorem mr_mutants0 {post : Int32 → St2 → Prop} {t : Nat} {S M : Int32} {mu pl dn ht ip tp ch co cn : Int32} {a1 a2 a3 a4 a5 a6 a7 a8 a9 a10 a11 a12 a13 : Nat → Int32} (q : mr_Pg a1) (ht2 : t = 1 ∨ t = 2) (hk : ∀ m, m < 5 → mr_ko (mr_tk (mr_f m) 16) a3 t 0 0 = mr_K S M m)
    (hp : ∀ u, mr_Rd t S M u → post 5 u) : wpX_mutants post (3, nI t, 0, mu, pl, dn, ht, ip, tp, ch, co, cn, a1, a2, a3, a4, a5, a6, a7, a8, a9, a10, a11, a12, a13) :=
  mr_prep0 q (fun pl dn ht ip tp ch co cn a4 a5 a6 a7 a8 a9 a10 a11 a12 a13 mt h7 h8 => hp _ ⟨⟨rfl, rfl, rfl, rfl⟩, ht2, q, mt, h7, h8, hk⟩)
theorem mr_outcome {post : Int32 → St2 → Prop} {t : Nat} {S M x : Int32} {u : St2} (hu : mr_Rd t S M u) (hx : mr_g x) (hp : post (x * x) u) : wpX_outcome post u x := by
  have hx' := hx
  obtain ⟨k, hk, e⟩ := hx'
  have e8 : x + 8 = nI k := by rw [e]; exact mr_m8 k hk
  obtain ⟨sz, tr, rd, mu, pl, dn, ht, ip, tp, ch, co, cn, a1, a2, a3, a4, a5, a6, a7, a8, a9, a10, a11, a12, a13⟩ := u
  have hu' := hu
  obtain ⟨_, _, _, _, _, h8, _⟩ := hu'
  unfold wpX_outcome
  refine mr_badI hx (br_t rfl (mr_prep hu ⟨?_, ?_⟩))
  · rw [e8]
    exact vp_in_nI hk (by decide)
  · rw [e8, nI_clamp (by omega), h8 k hk, ← e]
    exact hp
theorem mr_outcomeOf {post : Int32 → St2 → Prop} {t : Nat} {S M x p : Int32} {u : St2} (m : Nat) (hm : m < 5) (e : p = nI m) (hu : mr_Rd t S M u) (hx : mr_g x) (hp : ∀ v, mr_Rd t S M v → post (mr_f m x) v) : wpX_outcomeOf post u p x := by
  obtain ⟨sz, tr, rd, mu, pl, dn, ht, ip, tp, ch, co, cn, a1, a2, a3, a4, a5, a6, a7, a8, a9, a10, a11, a12, a13⟩ := u
  unfold wpX_outcomeOf
  refine mr_badI hx (br_t rfl (mr_noM m hm e hu (br_t rfl ?_)))
  obtain ⟨⟨rfl, rfl, rfl, rfl⟩, ht2, q, mt, h7, h8, hk⟩ := hu
  subst e
  exact mr_whole_2 hx q (fun pl dn ht tp ch b9 b10 b11 b12 b13 s => mr_from m hm hx q mt s (fun pl dn ht tp ch co cn c9 => hp _ ⟨⟨rfl, rfl, rfl, rfl⟩, ht2, q, mt, h7, h8, hk⟩))
theorem mr_at {post : Int32 → St2 → Prop} {t : Nat} {S M : Int32} {u : St2} (hu : mr_Rd t S M u) (hp : post 1 u) : wpX_mutantAt post u 1 := by
  obtain ⟨sz, tr, rd, mu, pl, dn, ht, ip, tp, ch, co, cn, a1, a2, a3, a4, a5, a6, a7, a8, a9, a10, a11, a12, a13⟩ := u
  unfold wpX_mutantAt
  refine mr_noM 1 (by decide) rfl hu (br_t rfl ⟨(vp_in_iff.mpr (by decide)), ?_⟩)
  obtain ⟨_, _, _, ⟨⟨_, e, _⟩, _⟩, _⟩ := hu
  rw [mr_c1, e]
  exact hp
theorem mr_at5 {post : Int32 → St2 → Prop} {t : Nat} {S M : Int32} {u : St2} (hu : mr_Rd t S M u) (hp : post (-10004) u) : wpX_mutantAt post u 5 := by
  obtain ⟨sz, tr, rd, mu, pl, dn, ht, ip, tp, ch, co, cn, a1, a2, a3, a4, a5, a6, a7, a8, a9, a10, a11, a12, a13⟩ := u
  unfold wpX_mutantAt
  exact mr_noM5 hu (br_f (by decide) hp)
theorem mr_op1 {post : Int32 → St2 → Prop} {t : Nat} {S M : Int32} {u : St2} (hu : mr_Rd t S M u) (hp : post 1 u) : wpX_mutantOp post u 1 := by
  obtain ⟨sz, tr, rd, mu, pl, dn, ht, ip, tp, ch, co, cn, a1, a2, a3, a4, a5, a6, a7, a8, a9, a10, a11, a12, a13⟩ := u
  unfold wpX_mutantOp
  refine mr_noM 1 (by decide) rfl hu (br_t rfl ⟨(vp_in_iff.mpr (by decide)), ?_⟩)
  obtain ⟨_, _, _, ⟨_, ⟨_, e, _⟩, _⟩, _⟩ := hu
  rw [mr_c1, e]
  exact hp
theorem mr_op2 {post : Int32 → St2 → Prop} {t : Nat} {S M : Int32} {u : St2} (hu : mr_Rd t S M u) (hp : post 2 u) : wpX_mutantOp post u 2 := by
  obtain ⟨sz, tr, rd, mu, pl, dn, ht, ip, tp, ch, co, cn, a1, a2, a3, a4, a5, a6, a7, a8, a9, a10, a11, a12, a13⟩ := u
  unfold wpX_mutantOp
  refine mr_noM 2 (by decide) rfl hu (br_t rfl ⟨(vp_in_iff.mpr (by decide)), ?_⟩)
  obtain ⟨_, _, _, ⟨_, ⟨_, _, e, _⟩, _⟩, _⟩ := hu
  rw [mr_c2, e]
  exact hp
theorem mr_op4 {post : Int32 → St2 → Prop} {t : Nat} {S M : Int32} {u : St2} (hu : mr_Rd t S M u) (hp : post 5 u) : wpX_mutantOp post u 4 := by
  obtain ⟨sz, tr, rd, mu, pl, dn, ht, ip, tp, ch, co, cn, a1, a2, a3, a4, a5, a6, a7, a8, a9, a10, a11, a12, a13⟩ := u
  unfold wpX_mutantOp
  refine mr_noM 4 (by decide) rfl hu (br_t rfl ⟨(vp_in_iff.mpr (by decide)), ?_⟩)
  obtain ⟨_, _, _, ⟨_, ⟨_, _, _, _, e⟩, _⟩, _⟩ := hu
  rw [mr_c4, e]
  exact hp
theorem mr_k4 {post : Int32 → Prop} {t m : Nat} {sz rd mu pl dn ht ip tp ch co cn : Int32} {a1 a2 a3 a4 a5 a6 a7 a8 a9 a10 a11 a12 a13 : Nat → Int32} (ht6 : t ≤ 6) (hm : m < 30) :
    ∀ (d i : Nat) (s : Int32), i + d = t → post (mr_ko (a7 m) a3 d i s) → wX_killersOf_4 post (nI m) sz (nI t) rd mu pl dn ht ip tp ch co cn a1 a2 a3 a4 a5 a6 a7 a8 a9 a10 a11 a12 a13 (d + 1) s (nI i) := by
  intro d
  induction d with
  | zero =>
    intro i s hi hp
    have e : i = t := by omega
    subst e
    exact br_t (nI_le (Nat.le_refl _) (by omega)) hp
  | succ d ih =>
    intro i s hi hp
    refine br_f (nI_ge (by omega) (by omega)) ⟨vp_in_nI hm (by decide), vp_in_nI (by omega) (by decide), ?_⟩
    rw [nI_clamp (show m < 2 ^ 31 by omega), nI_clamp (show i < 2 ^ 31 by omega)]
    rw [mr_ko] at hp
    refine br_c (fun h => ?_) (fun h => ?_)
    · rw [if_pos h] at hp
      exact nm_e (nm_r (nI_1 i) (ih (i + 1) _ (by omega) hp))
    · rw [if_neg h] at hp
      exact nm_r (nI_1 i) (ih (i + 1) _ (by omega) hp)
theorem mr_kof {post : Int32 → Prop} {t : Nat} {S M : Int32} {u : St2} (m : Nat) (hm : m < 5) (hu : mr_Rd t S M u) (hp : post (mr_K S M m)) : wpX_killersOf post u (nI m) := by
  obtain ⟨sz, tr, rd, mu, pl, dn, ht, ip, tp, ch, co, cn, a1, a2, a3, a4, a5, a6, a7, a8, a9, a10, a11, a12, a13⟩ := u
  obtain ⟨⟨rfl, rfl, rfl, rfl⟩, ht2, _, _, h7, _, hk⟩ := hu
  refine ⟨t + 1, mr_k4 (by omega) (by omega) t 0 0 (by omega) ?_⟩
  rw [h7 m hm, hk m hm]
  exact hp
theorem mr_killers {post : Int32 → St2 → Prop} {t : Nat} {S M p : Int32} {u : St2} (m : Nat) (hm : m < 5) (e : p = nI m) (hu : mr_Rd t S M u) (hp : post (mr_K S M m) u) : wpX_killers post u p := by
  obtain ⟨sz, tr, rd, mu, pl, dn, ht, ip, tp, ch, co, cn, a1, a2, a3, a4, a5, a6, a7, a8, a9, a10, a11, a12, a13⟩ := u
  unfold wpX_killers
  refine mr_noM m hm e hu (br_t rfl ?_)
  subst e
  exact mr_kof m hm hu hp
end
section
def mr_kl (T : Int32) : Nat → Nat → Int32
  | 0, _ => (-10004)
  | d + 1, i => if ((T >>> (nI i &&& 31)) &&& 1) = 1 then nI i - 8 else mr_kl T d (i + 1)
def mr_cn (K : Nat → Int32) : Nat → Nat → Nat → Nat
  | 0, _, n => n
  | d + 1, m, n => if K m = 0 then mr_cn K d (m + 1) n else mr_cn K d (m + 1) (n + 1)
def mr_ce (K : Nat → Int32) : Nat → Nat → Nat → Nat
  | 0, _, n => n
  | d + 1, m, n => if K m = 0 then mr_ce K d (m + 1) (n + 1) else mr_ce K d (m + 1) n
def mr_sz (x : Int32) : Nat → Nat → Int32 → Int32
  | 0, _, n => n
  | d + 1, i, n => mr_sz x d (i + 1) (n + ((x >>> (nI i &&& 31)) &&& 1))
def mr_en (K : Nat → Int32) (x : Int32) : Nat → Nat → Int32
  | 0, _ => 1
  | d + 1, m => if K m = 0 then mr_en K x d (m + 1) else if (K m &&& x) = 0 then 0 else mr_en K x d (m + 1)
def mr_nd (K : Nat → Int32) : Nat → Nat → Int32 → Int32
  | 0, _, b => b
  | d + 1, s, b => if b ≤ mr_sz (nI s) 6 0 0 then mr_nd K d (s + 1) b else if mr_en K (nI s) 5 0 = 0 then mr_nd K d (s + 1) b else mr_nd K d (s + 1) (mr_sz (nI s) 6 0 0)
def mr_ld (K : Nat → Int32) (x : Int32) : Nat → Nat → Int32
  | 0, _ => 1
  | d + 1, k => if K k = 0 then mr_ld K x d (k + 1) else if K k = x then mr_ld K x d (k + 1) else if (K k &&& (x ^^^ (-1))) = 0 then 0 else mr_ld K x d (k + 1)
def mr_l1 (K : Nat → Int32) (m : Nat) : Int32 := if K m = 0 then 0 else mr_ld K (K m) 5 0
def mr_lg (K : Nat → Int32) : Nat → Nat → Nat → Nat
  | 0, _, n => n
  | d + 1, m, n => if mr_l1 K m = 0 then mr_lg K d (m + 1) n else mr_lg K d (m + 1) (n + 1)
theorem mr_kl14 {post : Int32 → St2 → Prop} {m : Nat} {sz tr rd mu pl dn ht ip tp ch co cn : Int32} {a1 a2 a3 a4 a5 a6 a7 a8 a9 a10 a11 a12 a13 : Nat → Int32} (hm : m < 30) :
    ∀ (d i : Nat), i + d = 16 → post (mr_kl (a7 m) d i) (sz, tr, rd, mu, pl, dn, ht, ip, tp, ch, co, cn, a1, a2, a3, a4, a5, a6, a7, a8, a9, a10, a11, a12, a13) → wX_killer_14 post (nI m) sz tr rd mu pl dn ht ip tp ch co cn a1 a2 a3 a4 a5 a6 a7 a8 a9 a10 a11 a12 a13 (d + 1) (nI i) := by
  intro d
  induction d with
  | zero =>
    intro i hi hp
    have e : i = 16 := by omega
    subst e
    exact br_t (nI_le (a := 16) (b := 16) (by decide) (by decide)) hp
  | succ d ih =>
    intro i hi hp
    refine br_f (nI_ge (b := 16) (by omega) (by decide)) ⟨vp_in_nI hm (by decide), ?_⟩
    rw [nI_clamp (show m < 2 ^ 31 by omega)]
    rw [mr_kl] at hp
    refine br_c (fun h => ?_) (fun h => ?_)
    · rw [if_pos h] at hp
      exact hp
    · rw [if_neg h] at hp
      exact nm_r (nI_1 i) (ih (i + 1) (by omega) hp)
theorem mr_killer {post : Int32 → St2 → Prop} {t : Nat} {S M p v : Int32} {u : St2} (m : Nat) (hm : m < 5) (e : p = nI m) (hv : mr_kl (mr_tk (mr_f m) 16) 16 0 = v) (hu : mr_Rd t S M u) (hp : post v u) : wpX_killer post u p := by
  subst hv
  obtain ⟨sz, tr, rd, mu, pl, dn, ht, ip, tp, ch, co, cn, a1, a2, a3, a4, a5, a6, a7, a8, a9, a10, a11, a12, a13⟩ := u
  unfold wpX_killer
  refine mr_noM m hm e hu (br_t rfl ⟨17, ?_⟩)
  subst e
  obtain ⟨_, _, _, _, h7, _, _⟩ := hu
  refine mr_kl14 (by omega) 16 0 (by omega) ?_
  rw [h7 m hm]
  exact hp
theorem mr_kd8 {post : Int32 → St2 → Prop} {K : Nat → Int32} {sz tr rd pl dn ht ip tp ch co cn : Int32} {a1 a2 a3 a4 a5 a6 a7 a8 a9 a10 a11 a12 a13 : Nat → Int32} (H : ∀ (m : Nat) (f : Int32 → Prop), m < 5 → f (K m) → wpX_killersOf f (sz, tr, rd, 5, pl, dn, ht, ip, tp, ch, co, cn, a1, a2, a3, a4, a5, a6, a7, a8, a9, a10, a11, a12, a13) (nI m)) :
    ∀ (d m n : Nat), m + d = 5 → post (nI (mr_cn K d m n)) (sz, tr, rd, 5, pl, dn, ht, ip, tp, ch, co, cn, a1, a2, a3, a4, a5, a6, a7, a8, a9, a10, a11, a12, a13) → wX_killed_8 post sz tr rd 5 pl dn ht ip tp ch co cn a1 a2 a3 a4 a5 a6 a7 a8 a9 a10 a11 a12 a13 (d + 1) (nI n) (nI m) := by
  intro d
  induction d with
  | zero =>
    intro m n hm hp
    have e : m = 5 := by omega
    subst e
    exact br_t (nI_le (a := 5) (b := 5) (by decide) (by decide)) hp
  | succ d ih =>
    intro m n hm hp
    rw [mr_cn] at hp
    refine br_f (nI_ge (b := 5) (by omega) (by decide)) (H m _ (by omega) (br_c (fun h => ?_) (fun h => ?_)))
    · rw [if_pos h] at hp
      exact nm_r (nI_1 m) (ih (m + 1) n (by omega) hp)
    · rw [if_neg h] at hp
      exact nm_r (nI_1 n) (nm_r (nI_1 m) (ih (m + 1) (n + 1) (by omega) hp))
theorem mr_killed {post : Int32 → St2 → Prop} {t : Nat} {S M v : Int32} {u : St2} (hv : nI (mr_cn (mr_K S M) 5 0 0) = v) (hu : mr_Rd t S M u) (hp : post v u) : wpX_killed post u := by
  subst hv
  obtain ⟨sz, tr, rd, mu, pl, dn, ht, ip, tp, ch, co, cn, a1, a2, a3, a4, a5, a6, a7, a8, a9, a10, a11, a12, a13⟩ := u
  have H : ∀ (m : Nat) (f : Int32 → Prop), m < 5 → f (mr_K S M m) → wpX_killersOf f (sz, tr, rd, mu, pl, dn, ht, ip, tp, ch, co, cn, a1, a2, a3, a4, a5, a6, a7, a8, a9, a10, a11, a12, a13) (nI m) := fun m f hm h => mr_kof m hm hu h
  unfold wpX_killed
  refine mr_prep hu ⟨6, ?_⟩
  obtain ⟨⟨rfl, rfl, rfl, rfl⟩, _⟩ := hu
  exact mr_kd8 H 5 0 0 (by omega) hp
theorem mr_eq8 {post : Int32 → St2 → Prop} {K : Nat → Int32} {sz tr rd pl dn ht ip tp ch co cn : Int32} {a1 a2 a3 a4 a5 a6 a7 a8 a9 a10 a11 a12 a13 : Nat → Int32} (H : ∀ m : Nat, m < 5 → a7 m = K m) :
    ∀ (d m n : Nat), m + d = 5 → post (nI (mr_ce K d m n)) (sz, tr, rd, 5, pl, dn, ht, ip, tp, ch, co, cn, a1, a2, a3, a4, a5, a6, a7, a8, a9, a10, a11, a12, a13) → wX_equalOnes_8 post sz tr rd 5 pl dn ht ip tp ch co cn a1 a2 a3 a4 a5 a6 a7 a8 a9 a10 a11 a12 a13 (d + 1) (nI n) (nI m) := by
  intro d
  induction d with
  | zero =>
    intro m n hm hp
    have e : m = 5 := by omega
    subst e
    exact br_t (nI_le (a := 5) (b := 5) (by decide) (by decide)) hp
  | succ d ih =>
    intro m n hm hp
    rw [mr_ce] at hp
    refine br_f (nI_ge (b := 5) (by omega) (by decide)) ⟨vp_in_nI (by omega) (by decide), ?_⟩
    rw [nI_clamp (show m < 2 ^ 31 by omega), H m (by omega)]
    refine br_c (fun h => ?_) (fun h => ?_)
    · rw [if_pos h] at hp
      exact nm_r (nI_1 n) (nm_r (nI_1 m) (ih (m + 1) (n + 1) (by omega) hp))
    · rw [if_neg h] at hp
      exact nm_r (nI_1 m) (ih (m + 1) n (by omega) hp)
theorem mr_eq1 : nI (mr_ce (fun m => mr_tk (mr_f m) 16) 5 0 0) = 1 := by decide +kernel
theorem mr_equal {post : Int32 → St2 → Prop} {t : Nat} {S M : Int32} {u : St2} (hu : mr_Rd t S M u) (hp : post 1 u) : wpX_equalOnes post u := by
  obtain ⟨sz, tr, rd, mu, pl, dn, ht, ip, tp, ch, co, cn, a1, a2, a3, a4, a5, a6, a7, a8, a9, a10, a11, a12, a13⟩ := u
  unfold wpX_equalOnes
  refine mr_prep hu ⟨6, ?_⟩
  obtain ⟨⟨rfl, rfl, rfl, rfl⟩, _, _, _, h7, _, _⟩ := hu
  refine mr_eq8 (K := fun m => mr_tk (mr_f m) 16) h7 5 0 0 (by omega) ?_
  rw [mr_eq1]
  exact hp
theorem mr_sz4 {post : Int32 → Prop} {x : Int32} {sz tr rd mu pl dn ht ip tp ch co cn : Int32} {a1 a2 a3 a4 a5 a6 a7 a8 a9 a10 a11 a12 a13 : Nat → Int32} :
    ∀ (d i : Nat) (n : Int32), i + d = 6 → post (mr_sz x d i n) → wX_sizeOf_4 post x sz tr rd mu pl dn ht ip tp ch co cn a1 a2 a3 a4 a5 a6 a7 a8 a9 a10 a11 a12 a13 (d + 1) n (nI i) := by
  intro d
  induction d with
  | zero =>
    intro i n hi hp
    have e : i = 6 := by omega
    subst e
    exact br_t (nI_le (a := 6) (b := 6) (by decide) (by decide)) hp
  | succ d ih =>
    intro i n hi hp
    rw [mr_sz] at hp
    exact br_f (nI_ge (b := 6) (by omega) (by decide)) (nm_e (nm_r (nI_1 i) (ih (i + 1) _ (by omega) hp)))
theorem mr_en2 {post : Int32 → Prop} {K : Nat → Int32} {x : Int32} {sz tr rd pl dn ht ip tp ch co cn : Int32} {a1 a2 a3 a4 a5 a6 a7 a8 a9 a10 a11 a12 a13 : Nat → Int32} (H : ∀ (m : Nat) (f : Int32 → Prop), m < 5 → f (K m) → wpX_killersOf f (sz, tr, rd, 5, pl, dn, ht, ip, tp, ch, co, cn, a1, a2, a3, a4, a5, a6, a7, a8, a9, a10, a11, a12, a13) (nI m)) :
    ∀ (d m : Nat), m + d = 5 → post (mr_en K x d m) → wX_enough_2 post x sz tr rd 5 pl dn ht ip tp ch co cn a1 a2 a3 a4 a5 a6 a7 a8 a9 a10 a11 a12 a13 (d + 1) (nI m) := by
  intro d
  induction d with
  | zero =>
    intro m hm hp
    have e : m = 5 := by omega
    subst e
    exact br_t (nI_le (a := 5) (b := 5) (by decide) (by decide)) hp
  | succ d ih =>
    intro m hm hp
    rw [mr_en] at hp
    refine br_f (nI_ge (b := 5) (by omega) (by decide)) (H m _ (by omega) (br_c (fun h => ?_) (fun h => br_c (fun h2 => ?_) (fun h2 => ?_))))
    · rw [if_pos h] at hp
      exact nm_r (nI_1 m) (ih (m + 1) (by omega) hp)
    · rw [if_neg h, if_pos h2] at hp
      exact hp
    · rw [if_neg h, if_neg h2] at hp
      exact nm_r (nI_1 m) (ih (m + 1) (by omega) hp)
theorem mr_nd11 {post : Int32 → St2 → Prop} {K : Nat → Int32} {t e : Nat} {sz rd pl dn ht ip tp ch co cn : Int32} {a1 a2 a3 a4 a5 a6 a7 a8 a9 a10 a11 a12 a13 : Nat → Int32} (he : (1 : Int32) <<< (nI t &&& 31) = nI e) (he2 : e < 2 ^ 31) (H : ∀ (m : Nat) (f : Int32 → Prop), m < 5 → f (K m) → wpX_killersOf f (sz, nI t, rd, 5, pl, dn, ht, ip, tp, ch, co, cn, a1, a2, a3, a4, a5, a6, a7, a8, a9, a10, a11, a12, a13) (nI m)) :
    ∀ (d s : Nat) (b : Int32), s + d = e → post (mr_nd K d s b) (sz, nI t, rd, 5, pl, dn, ht, ip, tp, ch, co, cn, a1, a2, a3, a4, a5, a6, a7, a8, a9, a10, a11, a12, a13) → wX_needed_11 post sz (nI t) rd 5 pl dn ht ip tp ch co cn a1 a2 a3 a4 a5 a6 a7 a8 a9 a10 a11 a12 a13 (d + 1) b (nI s) := by
  intro d
  induction d with
  | zero =>
    intro s b hs hp
    have es : s = e := by omega
    subst es
    exact br_t (by rw [he]; exact nI_le (Nat.le_refl _) he2) hp
  | succ d ih =>
    intro s b hs hp
    rw [mr_nd] at hp
    refine br_f (by rw [he]; exact nI_ge (by omega) he2) ⟨7, mr_sz4 6 0 0 (by omega) (br_c (fun h => ?_) (fun h => ⟨6, mr_en2 H 5 0 (by omega) (br_c (fun h2 => ?_) (fun h2 => ?_))⟩))⟩
    · rw [if_pos h] at hp
      exact nm_r (nI_1 s) (ih (s + 1) _ (by omega) hp)
    · rw [if_neg h, if_pos h2] at hp
      exact nm_r (nI_1 s) (ih (s + 1) _ (by omega) hp)
    · rw [if_neg h, if_neg h2] at hp
      exact nm_r (nI_1 s) (ih (s + 1) _ (by omega) hp)
theorem mr_sh1 : (1 : Int32) <<< (nI 1 &&& 31) = nI 2 := by decide
theorem mr_sh2 : (1 : Int32) <<< (nI 2 &&& 31) = nI 4 := by decide
theorem mr_needed {post : Int32 → St2 → Prop} {t : Nat} {S M v : Int32} {u : St2} (hv : mr_nd (mr_K S M) (2 ^ t) 0 (nI t) = v) (hu : mr_Rd t S M u) (hp : post v u) : wpX_needed post u := by
  subst hv
  obtain ⟨sz, tr, rd, mu, pl, dn, ht, ip, tp, ch, co, cn, a1, a2, a3, a4, a5, a6, a7, a8, a9, a10, a11, a12, a13⟩ := u
  have H : ∀ (m : Nat) (f : Int32 → Prop), m < 5 → f (mr_K S M m) → wpX_killersOf f (sz, tr, rd, mu, pl, dn, ht, ip, tp, ch, co, cn, a1, a2, a3, a4, a5, a6, a7, a8, a9, a10, a11, a12, a13) (nI m) := fun m f hm h => mr_kof m hm hu h
  unfold wpX_needed
  refine mr_prep hu ⟨2 ^ t + 1, ?_⟩
  obtain ⟨⟨rfl, rfl, rfl, rfl⟩, ht2, _⟩ := hu
  have he : (1 : Int32) <<< (nI t &&& 31) = nI (2 ^ t) ∧ 2 ^ t < 2 ^ 31 := by
    rcases ht2 with rfl | rfl
    · exact ⟨mr_sh1, (by decide)⟩
    · exact ⟨mr_sh2, (by decide)⟩
  exact mr_nd11 he.1 he.2 H (2 ^ t) 0 (nI t) (by omega) hp
theorem mr_ld14 {post : Int32 → Prop} {K : Nat → Int32} {x : Int32} {sz tr rd pl dn ht ip tp ch co cn : Int32} {a1 a2 a3 a4 a5 a6 a7 a8 a9 a10 a11 a12 a13 : Nat → Int32} (H : ∀ (m : Nat) (f : Int32 → Prop), m < 5 → f (K m) → wpX_killersOf f (sz, tr, rd, 5, pl, dn, ht, ip, tp, ch, co, cn, a1, a2, a3, a4, a5, a6, a7, a8, a9, a10, a11, a12, a13) (nI m)) :
    ∀ (d m : Nat), m + d = 5 → post (mr_ld K x d m) → wX_leads_14 post x sz tr rd 5 pl dn ht ip tp ch co cn a1 a2 a3 a4 a5 a6 a7 a8 a9 a10 a11 a12 a13 (d + 1) (nI m) := by
  intro d
  induction d with
  | zero =>
    intro m hm hp
    have e : m = 5 := by omega
    subst e
    exact br_t (nI_le (a := 5) (b := 5) (by decide) (by decide)) hp
  | succ d ih =>
    intro m hm hp
    rw [mr_ld] at hp
    refine br_f (nI_ge (b := 5) (by omega) (by decide)) (H m _ (by omega) (br_c (fun h => ?_) (fun h => br_c (fun h2 => ?_) (fun h2 => br_c (fun h3 => ?_) (fun h3 => ?_)))))
    · rw [if_pos h] at hp
      exact nm_r (nI_1 m) (ih (m + 1) (by omega) hp)
    · rw [if_neg h, if_pos h2] at hp
      exact nm_r (nI_1 m) (ih (m + 1) (by omega) hp)
    · rw [if_neg h, if_neg h2, if_pos h3] at hp
      exact hp
    · rw [if_neg h, if_neg h2, if_neg h3] at hp
      exact nm_r (nI_1 m) (ih (m + 1) (by omega) hp)
theorem mr_l1w {post : Int32 → Prop} {K : Nat → Int32} {m : Nat} {sz tr rd pl dn ht ip tp ch co cn : Int32} {a1 a2 a3 a4 a5 a6 a7 a8 a9 a10 a11 a12 a13 : Nat → Int32} (H : ∀ (m : Nat) (f : Int32 → Prop), m < 5 → f (K m) → wpX_killersOf f (sz, tr, rd, 5, pl, dn, ht, ip, tp, ch, co, cn, a1, a2, a3, a4, a5, a6, a7, a8, a9, a10, a11, a12, a13) (nI m)) (hm : m < 5) (hp : post (mr_l1 K m)) : wpX_leads post (sz, tr, rd, 5, pl, dn, ht, ip, tp, ch, co, cn, a1, a2, a3, a4, a5, a6, a7, a8, a9, a10, a11, a12, a13) (nI m) := by
  unfold mr_l1 at hp
  unfold wpX_leads
  refine H m _ hm (br_c (fun h => ?_) (fun h => ⟨6, ?_⟩))
  · rw [if_pos h] at hp
    exact hp
  · rw [if_neg h] at hp
    exact mr_ld14 H 5 0 (by omega) hp
theorem mr_lg8 {post : Int32 → St2 → Prop} {K : Nat → Int32} {sz tr rd pl dn ht ip tp ch co cn : Int32} {a1 a2 a3 a4 a5 a6 a7 a8 a9 a10 a11 a12 a13 : Nat → Int32} (H : ∀ (m : Nat) (f : Int32 → Prop), m < 5 → f (K m) → wpX_killersOf f (sz, tr, rd, 5, pl, dn, ht, ip, tp, ch, co, cn, a1, a2, a3, a4, a5, a6, a7, a8, a9, a10, a11, a12, a13) (nI m)) :
    ∀ (d m n : Nat), m + d = 5 → post (nI (mr_lg K d m n)) (sz, tr, rd, 5, pl, dn, ht, ip, tp, ch, co, cn, a1, a2, a3, a4, a5, a6, a7, a8, a9, a10, a11, a12, a13) → wX_leading_8 post sz tr rd 5 pl dn ht ip tp ch co cn a1 a2 a3 a4 a5 a6 a7 a8 a9 a10 a11 a12 a13 (d + 1) (nI n) (nI m) := by
  intro d
  induction d with
  | zero =>
    intro m n hm hp
    have e : m = 5 := by omega
    subst e
    exact br_t (nI_le (a := 5) (b := 5) (by decide) (by decide)) hp
  | succ d ih =>
    intro m n hm hp
    rw [mr_lg] at hp
    refine br_f (nI_ge (b := 5) (by omega) (by decide)) (mr_l1w H (by omega) (br_c (fun h => ?_) (fun h => ?_)))
    · rw [if_pos h] at hp
      exact nm_r (nI_1 m) (ih (m + 1) n (by omega) hp)
    · rw [if_neg h] at hp
      exact nm_r (nI_1 n) (nm_r (nI_1 m) (ih (m + 1) (n + 1) (by omega) hp))
theorem mr_leading {post : Int32 → St2 → Prop} {t : Nat} {S M v : Int32} {u : St2} (hv : nI (mr_lg (mr_K S M) 5 0 0) = v) (hu : mr_Rd t S M u) (hp : post v u) : wpX_leading post u := by
  subst hv
  obtain ⟨sz, tr, rd, mu, pl, dn, ht, ip, tp, ch, co, cn, a1, a2, a3, a4, a5, a6, a7, a8, a9, a10, a11, a12, a13⟩ := u
  have H : ∀ (m : Nat) (f : Int32 → Prop), m < 5 → f (mr_K S M m) → wpX_killersOf f (sz, tr, rd, mu, pl, dn, ht, ip, tp, ch, co, cn, a1, a2, a3, a4, a5, a6, a7, a8, a9, a10, a11, a12, a13) (nI m) := fun m f hm h => mr_kof m hm hu h
  unfold wpX_leading
  refine mr_prep hu ⟨6, ?_⟩
  obtain ⟨⟨rfl, rfl, rfl, rfl⟩, _⟩ := hu
  exact mr_lg8 H 5 0 0 (by omega) hp
theorem mr_qn : ∀ k : Nat, k < 16 → ¬ 1000 < (nI k - 8) * (nI k - 8) := by decide +kernel
theorem mr_nu8 {post : Int32 → St2 → Prop} {sz tr rd mu pl dn ht ip tp ch co cn : Int32} {a1 a2 a3 a4 a5 a6 a7 a8 a9 a10 a11 a12 a13 : Nat → Int32} (h8 : ∀ j, j < 16 → a8 j = (nI j - 8) * (nI j - 8)) (hp : post (nI 16) (sz, tr, rd, mu, pl, dn, ht, ip, tp, ch, co, cn, a1, a2, a3, a4, a5, a6, a7, a8, a9, a10, a11, a12, a13)) :
    ∀ (d i : Nat), i + d = 16 → wX_numbers_8 post sz tr rd mu pl dn ht ip tp ch co cn a1 a2 a3 a4 a5 a6 a7 a8 a9 a10 a11 a12 a13 (d + 1) (nI i) (nI i) := by
  intro d
  induction d with
  | zero =>
    intro i hi
    have e : i = 16 := by omega
    subst e
    exact br_t (nI_le (a := 16) (b := 16) (by decide) (by decide)) hp
  | succ d ih =>
    intro i hi
    refine br_f (nI_ge (b := 16) (by omega) (by decide)) ⟨vp_in_nI (by omega) (by decide), br_f ?_ (nm_r (nI_1 i) (nm_r (nI_1 i) (ih (i + 1) (by omega))))⟩
    rw [nI_clamp (show i < 2 ^ 31 by omega), h8 i (by omega)]
    exact mr_qn i (by omega)
theorem mr_numbers {post : Int32 → St2 → Prop} {t : Nat} {S M : Int32} {u : St2} (hu : mr_Rd t S M u) (hp : post 16 u) : wpX_numbers post u := by
  obtain ⟨sz, tr, rd, mu, pl, dn, ht, ip, tp, ch, co, cn, a1, a2, a3, a4, a5, a6, a7, a8, a9, a10, a11, a12, a13⟩ := u
  unfold wpX_numbers
  refine mr_prep hu ⟨17, ?_⟩
  obtain ⟨_, _, _, _, _, h8, _⟩ := hu
  exact mr_nu8 h8 hp 16 0 (by omega)
end
section
def mr_Tm (m : Nat) : Int32 := if m = 1 then 0 else if m = 2 then 64255 else 65279
theorem mr_Tme : ∀ m : Nat, m < 5 → mr_tk (mr_f m) 16 = mr_Tm m := by decide +kernel
def mr_S1 (a : Int32) : Int32 := if a = 0 then 0 else 1
def mr_M1 (a : Int32) : Int32 := if a = 0 then 0 else if a = 2 then 0 else 1
def mr_S2 (a b : Int32) : Int32 := mr_S1 a ||| (if b = 0 then 0 else 2)
def mr_M2 (a b : Int32) : Int32 := mr_M1 a ||| (if b = 0 then 0 else if b = 2 then 0 else 2)
theorem mr_hk1c : ∀ k : Nat, k < 16 → ∀ m : Nat, m < 5 → mr_ko (mr_Tm m) (fun _ => nI k - 8) 1 0 0 = mr_K (mr_S1 (nI k - 8)) (mr_M1 (nI k - 8)) m := by decide +kernel
theorem mr_hk2c : ∀ k : Nat, k < 16 → ∀ l : Nat, l < 16 → ∀ m : Nat, m < 5 → mr_ko (mr_Tm m) (fun i => if i = 0 then nI k - 8 else nI l - 8) 2 0 0 = mr_K (mr_S2 (nI k - 8) (nI l - 8)) (mr_M2 (nI k - 8) (nI l - 8)) m := by decide +kernel
theorem mr_ko1 (T : Int32) (a3 : Nat → Int32) : mr_ko T a3 1 0 0 = mr_ko T (fun _ => a3 0) 1 0 0 := rfl
theorem mr_ko2 (T : Int32) (a3 : Nat → Int32) : mr_ko T a3 2 0 0 = mr_ko T (fun i => if i = 0 then a3 0 else a3 1) 2 0 0 := rfl
theorem mr_hk1 {S M a : Int32} {a3 : Nat → Int32} (ga : mr_g a) (h0 : a3 0 = a) (hS : mr_S1 a = S) (hM : mr_M1 a = M) : ∀ m, m < 5 → mr_ko (mr_tk (mr_f m) 16) a3 1 0 0 = mr_K S M m := by
  subst hS hM h0
  obtain ⟨k, hk, e⟩ := ga
  intro m hm
  rw [mr_Tme m hm, mr_ko1, e]
  exact mr_hk1c k hk m hm
theorem mr_hk2 {S M a b : Int32} {a3 : Nat → Int32} (ga : mr_g a) (gb : mr_g b) (h0 : a3 0 = a) (h1 : a3 1 = b) (hS : mr_S2 a b = S) (hM : mr_M2 a b = M) : ∀ m, m < 5 → mr_ko (mr_tk (mr_f m) 16) a3 2 0 0 = mr_K S M m := by
  subst hS hM h0 h1
  obtain ⟨k, hk, e⟩ := ga
  obtain ⟨l, hl, e2⟩ := gb
  intro m hm
  rw [mr_Tme m hm, mr_ko2, e, e2]
  exact mr_hk2c k hk l hl m hm
theorem mr_kl0 : mr_kl (mr_tk (mr_f 0) 16) 16 0 = (-8) := by decide +kernel
theorem mr_kl1 : mr_kl (mr_tk (mr_f 1) 16) 16 0 = (-10004) := by decide +kernel
theorem mr_kl2 : mr_kl (mr_tk (mr_f 2) 16) 16 0 = (-8) := by decide +kernel
theorem mr_475 {post : Int32 → St0 → Prop} {mc ms kc ks t : Nat} {S M ld z : Int32} {sz tr rd mu pl dn ht ip tp ch co cn : Int32} {a1 a2 a3 a4 a5 a6 a7 a8 a9 a10 a11 a12 a13 : Nat → Int32} (hl : nI (mr_lg (mr_K S M) 5 0 0) = ld) (hu : mr_Rd t S M (sz, tr, rd, mu, pl, dn, ht, ip, tp, ch, co, cn, a1, a2, a3, a4, a5, a6, a7, a8, a9, a10, a11, a12, a13)) (hp : post 1 ()) :
    wL_lawOf_475 post mc ms ld z z kc ks sz tr rd mu pl dn ht ip tp ch co cn a1 a2 a3 a4 a5 a6 a7 a8 a9 a10 a11 a12 a13 :=
  br_t rfl (mr_leading hl hu (br_t rfl (mr_numbers hu (br_t rfl hp))))
theorem mr_240 {post : Int32 → St0 → Prop} {mc ms kc ks t : Nat} {S M kd nd ld x z : Int32} {mu pl dn ht ip tp ch co cn : Int32} {a1 a2 a3 a4 a5 a6 a7 a8 a9 a10 a11 a12 a13 : Nat → Int32} (hx : mr_g x) (q : mr_Pg a1) (ht2 : t = 1 ∨ t = 2) (hk : ∀ m, m < 5 → mr_ko (mr_tk (mr_f m) 16) a3 t 0 0 = mr_K S M m)
    (hd : nI (mr_cn (mr_K S M) 5 0 0) = kd) (hn : mr_nd (mr_K S M) (2 ^ t) 0 (nI t) = nd) (hl : nI (mr_lg (mr_K S M) 5 0 0) = ld) (h01 : (S = 0 ∧ nd = 0) ∨ (¬ S = 0 ∧ nd = 1)) (hp : post 1 ()) :
    wL_lawOf_240 post mc ms x S M kd ld (x * x) z z kc ks 3 (nI t) 0 mu pl dn ht ip tp ch co cn a1 a2 a3 a4 a5 a6 a7 a8 a9 a10 a11 a12 a13 := by
  refine br_t rfl (mr_mutants0 q ht2 hk (fun u hu => ?_))
  obtain ⟨sz, tr, rd, mu, pl, dn, ht, ip, tp, ch, co, cn, a1, a2, a3, a4, a5, a6, a7, a8, a9, a10, a11, a12, a13⟩ := u
  refine br_t rfl (mr_outcome hu hx (br_t rfl (mr_outcomeOf 0 (by decide) rfl hu hx (fun u hu => ?_))))
  obtain ⟨sz, tr, rd, mu, pl, dn, ht, ip, tp, ch, co, cn, a1, a2, a3, a4, a5, a6, a7, a8, a9, a10, a11, a12, a13⟩ := u
  refine br_t rfl (mr_outcomeOf 1 (by decide) rfl hu hx (fun u hu => ?_))
  obtain ⟨sz, tr, rd, mu, pl, dn, ht, ip, tp, ch, co, cn, a1, a2, a3, a4, a5, a6, a7, a8, a9, a10, a11, a12, a13⟩ := u
  refine br_t rfl (mr_outcomeOf 2 (by decide) rfl hu hx (fun u hu => ?_))
  obtain ⟨sz, tr, rd, mu, pl, dn, ht, ip, tp, ch, co, cn, a1, a2, a3, a4, a5, a6, a7, a8, a9, a10, a11, a12, a13⟩ := u
  refine br_t (mr_x2 hx) (mr_outcomeOf 3 (by decide) rfl hu hx (fun u hu => ?_))
  obtain ⟨sz, tr, rd, mu, pl, dn, ht, ip, tp, ch, co, cn, a1, a2, a3, a4, a5, a6, a7, a8, a9, a10, a11, a12, a13⟩ := u
  refine br_t rfl (mr_outcomeOf 4 (by decide) rfl hu hx (fun u hu => ?_))
  obtain ⟨sz, tr, rd, mu, pl, dn, ht, ip, tp, ch, co, cn, a1, a2, a3, a4, a5, a6, a7, a8, a9, a10, a11, a12, a13⟩ := u
  refine br_t rfl (mr_at hu (br_t rfl (mr_op1 hu (br_t rfl (mr_op2 hu (br_t rfl (mr_op4 hu (br_t rfl (mr_at5 hu (br_t rfl ?_)))))))))) 
  refine mr_killers 0 (by decide) rfl hu (br_t rfl ?_)
  refine mr_killers 1 (by decide) rfl hu (br_t rfl ?_)
  refine mr_killers 2 (by decide) rfl hu (br_t rfl ?_)
  refine mr_killers 3 (by decide) rfl hu (br_t rfl ?_)
  refine mr_killers 4 (by decide) rfl hu (br_t rfl ?_)
  refine mr_killer 0 (by decide) rfl mr_kl0 hu (br_t rfl ?_)
  refine mr_killer 1 (by decide) rfl mr_kl1 hu (br_t rfl ?_)
  refine mr_killer 2 (by decide) rfl mr_kl2 hu (br_t rfl ?_)
  refine mr_killed hd hu (br_t rfl (mr_equal hu (br_t rfl (mr_needed hn hu ?_))))
  rcases h01 with ⟨h, e⟩ | ⟨h, e⟩
  · subst e
    exact br_t h (mr_475 hl hu hp)
  · subst e
    exact br_f h (mr_475 hl hu hp)
end
section
theorem mr_tail1 {post : Int32 → St0 → Prop} {mc ms kc ks : Nat} {a b x : Int32} {mu pl dn ht ip tp ch co cn : Int32} {a1 a2 a3 a4 a5 a6 a7 a8 a9 a10 a11 a12 a13 : Nat → Int32} (ga : mr_g a) (gb : mr_g b) (hx : mr_g x) (q : mr_Pg a1) (h0 : a3 0 = a) (hab : b = a) (hp : post 1 ()) :
    (a = 0 → wL_lawOf_88 post mc ms a b x 2 1 (-10004) 0 kc ks 3 1 0 mu pl dn ht ip tp ch co cn a1 a2 a3 a4 a5 a6 a7 a8 a9 a10 a11 a12 a13) ∧ (¬ a = 0 → wL_lawOf_88 post mc ms a b x 2 1 (-10004) 1 kc ks 3 1 0 mu pl dn ht ip tp ch co cn a1 a2 a3 a4 a5 a6 a7 a8 a9 a10 a11 a12 a13) := by
  by_cases ha0 : a = 0
  · have na0 := ha0
    have hb0 : b = 0 := hab.trans ha0
    exact br_t ha0 (br_t hb0 (nm_r (show (0 : Int32) ||| 0 = (0 : Int32) by decide) (br_t ha0 (br_t hb0 (nm_r (show (0 : Int32) ||| 0 = (0 : Int32) by decide) (br_t (by decide) (br_t (by decide) (nm_r (show (0 : Int32) + 0 = (0 : Int32) by decide) (br_t (by decide) (nm_e (br_t rfl (br_t rfl (br_t hab.symm (mr_240 (t := 1) (S := 0) (M := 0) (kd := 0) (nd := 0) (ld := 0) hx q (Or.inl rfl) (mr_hk1 (S := 0) (M := 0) ga h0 (by rw [mr_S1, if_pos ha0]) (by rw [mr_M1, if_pos ha0])) (by decide +kernel) (by decide +kernel) (by decide +kernel) (Or.inl ⟨rfl, rfl⟩) hp))))))))))))))
  · have na0 := ha0
    have nb0 : ¬ b = 0 := fun h => na0 (hab.symm.trans h)
    by_cases ha2 : a = 2
    · have hb2 : b = 2 := hab.trans ha2
      exact br_f na0 (br_f nb0 (br_t hab (nm_r (show (1 : Int32) ||| 0 = (1 : Int32) by decide) (br_f na0 (br_t ha2 (br_f nb0 (br_t hb2 (nm_r (show (0 : Int32) ||| 0 = (0 : Int32) by decide) (br_f (by decide) (br_t (by decide) (nm_r (show (3 : Int32) + 0 = (3 : Int32) by decide) (br_f (by decide) (br_t (by decide) (nm_e (br_t rfl (br_t rfl (br_t hab.symm (mr_240 (t := 1) (S := 1) (M := 0) (kd := 3) (nd := 1) (ld := 3) hx q (Or.inl rfl) (mr_hk1 (S := 1) (M := 0) ga h0 (by rw [mr_S1, if_neg na0]) (by rw [mr_M1, if_neg na0, if_pos ha2])) (by decide +kernel) (by decide +kernel) (by decide +kernel) (Or.inr ⟨(by decide), rfl⟩) hp))))))))))))))))))
    · have na2 := ha2
      have nb2 : ¬ b = 2 := fun h => na2 (hab.symm.trans h)
      exact br_f na0 (br_f nb0 (br_t hab (nm_r (show (1 : Int32) ||| 0 = (1 : Int32) by decide) (br_f na0 (br_f na2 (br_f nb0 (br_f nb2 (br_t hab (nm_r (show (1 : Int32) ||| 0 = (1 : Int32) by decide) (br_f (by decide) (br_f (by decide) (nm_r (show (3 : Int32) + 1 = (4 : Int32) by decide) (br_f (by decide) (br_f (by decide) (br_t (by decide) (nm_e (br_t rfl (br_t rfl (br_t hab.symm (mr_240 (t := 1) (S := 1) (M := 1) (kd := 4) (nd := 1) (ld := 4) hx q (Or.inl rfl) (mr_hk1 (S := 1) (M := 1) ga h0 (by rw [mr_S1, if_neg na0]) (by rw [mr_M1, if_neg na0, if_neg na2])) (by decide +kernel) (by decide +kernel) (by decide +kernel) (Or.inr ⟨(by decide), rfl⟩) hp))))))))))))))))))))
theorem mr_tail2 {post : Int32 → St0 → Prop} {mc ms kc ks : Nat} {a b x : Int32} {mu pl dn ht ip tp ch co cn : Int32} {a1 a2 a3 a4 a5 a6 a7 a8 a9 a10 a11 a12 a13 : Nat → Int32} (ga : mr_g a) (gb : mr_g b) (hx : mr_g x) (q : mr_Pg a1) (h0 : a3 0 = a) (h1 : a3 1 = b) (nab : ¬ b = a) (hp : post 1 ()) :
    (a = 0 → wL_lawOf_88 post mc ms a b x 2 1 2 0 kc ks 3 2 0 mu pl dn ht ip tp ch co cn a1 a2 a3 a4 a5 a6 a7 a8 a9 a10 a11 a12 a13) ∧ (¬ a = 0 → wL_lawOf_88 post mc ms a b x 2 1 2 1 kc ks 3 2 0 mu pl dn ht ip tp ch co cn a1 a2 a3 a4 a5 a6 a7 a8 a9 a10 a11 a12 a13) := by
  by_cases ha0 : a = 0
  · have _ := ha0
    by_cases hb0 : b = 0
    · have _ := hb0
      exact absurd (hb0.trans ha0.symm) nab
    · have nb0 := hb0
      by_cases hb2 : b = 2
      · have _ := hb2
        exact br_t ha0 (br_f nb0 (br_f nab (nm_r (show (0 : Int32) ||| 2 = (2 : Int32) by decide) (br_t ha0 (br_f nb0 (br_t hb2 (nm_r (show (0 : Int32) ||| 0 = (0 : Int32) by decide) (br_f (by decide) (br_t (by decide) (nm_r (show (3 : Int32) + 0 = (3 : Int32) by decide) (br_f (by decide) (br_t (by decide) (nm_e (br_t rfl (br_t rfl (br_f (fun h => nab h.symm) (mr_240 (t := 2) (S := 2) (M := 0) (kd := 3) (nd := 1) (ld := 3) hx q (Or.inr rfl) (mr_hk2 (S := 2) (M := 0) ga gb h0 h1 (by rw [mr_S2, mr_S1, if_pos ha0, if_neg nb0]; decide) (by rw [mr_M2, mr_M1, if_pos ha0, if_neg nb0, if_pos hb2]; decide)) (by decide +kernel) (by decide +kernel) (by decide +kernel) (Or.inr ⟨(by decide), rfl⟩) hp)))))))))))))))))
      · have nb2 := hb2
        exact br_t ha0 (br_f nb0 (br_f nab (nm_r (show (0 : Int32) ||| 2 = (2 : Int32) by decide) (br_t ha0 (br_f nb0 (br_f nb2 (br_f nab (nm_r (show (0 : Int32) ||| 2 = (2 : Int32) by decide) (br_f (by decide) (br_f (by decide) (nm_r (show (3 : Int32) + 1 = (4 : Int32) by decide) (br_f (by decide) (br_f (by decide) (br_t (by decide) (nm_e (br_t rfl (br_t rfl (br_f (fun h => nab h.symm) (mr_240 (t := 2) (S := 2) (M := 2) (kd := 4) (nd := 1) (ld := 4) hx q (Or.inr rfl) (mr_hk2 (S := 2) (M := 2) ga gb h0 h1 (by rw [mr_S2, mr_S1, if_pos ha0, if_neg nb0]; decide) (by rw [mr_M2, mr_M1, if_pos ha0, if_neg nb0, if_neg nb2]; decide)) (by decide +kernel) (by decide +kernel) (by decide +kernel) (Or.inr ⟨(by decide), rfl⟩) hp)))))))))))))))))))
  · have na0 := ha0
    by_cases ha2 : a = 2
    · have _ := ha2
      by_cases hb0 : b = 0
      · have _ := hb0
        exact br_f na0 (br_t hb0 (nm_r (show (1 : Int32) ||| 0 = (1 : Int32) by decide) (br_f na0 (br_t ha2 (br_t hb0 (nm_r (show (0 : Int32) ||| 0 = (0 : Int32) by decide) (br_f (by decide) (br_t (by decide) (nm_r (show (3 : Int32) + 0 = (3 : Int32) by decide) (br_f (by decide) (br_t (by decide) (nm_e (br_t rfl (br_t rfl (br_f (fun h => nab h.symm) (mr_240 (t := 2) (S := 1) (M := 0) (kd := 3) (nd := 1) (ld := 3) hx q (Or.inr rfl) (mr_hk2 (S := 1) (M := 0) ga gb h0 h1 (by rw [mr_S2, mr_S1, if_neg na0, if_pos hb0]; decide) (by rw [mr_M2, mr_M1, if_neg na0, if_pos ha2, if_pos hb0]; decide)) (by decide +kernel) (by decide +kernel) (by decide +kernel) (Or.inr ⟨(by decide), rfl⟩) hp))))))))))))))))
      · have nb0 := hb0
        by_cases hb2 : b = 2
        · have _ := hb2
          exact absurd (hb2.trans ha2.symm) nab
        · have nb2 := hb2
          exact br_f na0 (br_f nb0 (br_f nab (nm_r (show (1 : Int32) ||| 2 = (3 : Int32) by decide) (br_f na0 (br_t ha2 (br_f nb0 (br_f nb2 (br_f nab (nm_r (show (0 : Int32) ||| 2 = (2 : Int32) by decide) (br_f (by decide) (br_f (by decide) (nm_r (show (3 : Int32) + 1 = (4 : Int32) by decide) (br_f (by decide) (br_f (by decide) (br_f (by decide) (nm_e (br_t rfl (br_t rfl (br_f (fun h => nab h.symm) (mr_240 (t := 2) (S := 3) (M := 2) (kd := 4) (nd := 1) (ld := 1) hx q (Or.inr rfl) (mr_hk2 (S := 3) (M := 2) ga gb h0 h1 (by rw [mr_S2, mr_S1, if_neg na0, if_neg nb0]; decide) (by rw [mr_M2, mr_M1, if_neg na0, if_pos ha2, if_neg nb0, if_neg nb2]; decide)) (by decide +kernel) (by decide +kernel) (by decide +kernel) (Or.inr ⟨(by decide), rfl⟩) hp))))))))))))))))))))
    · have na2 := ha2
      by_cases hb0 : b = 0
      · have _ := hb0
        exact br_f na0 (br_t hb0 (nm_r (show (1 : Int32) ||| 0 = (1 : Int32) by decide) (br_f na0 (br_f na2 (br_t hb0 (nm_r (show (1 : Int32) ||| 0 = (1 : Int32) by decide) (br_f (by decide) (br_f (by decide) (nm_r (show (3 : Int32) + 1 = (4 : Int32) by decide) (br_f (by decide) (br_f (by decide) (br_t (by decide) (nm_e (br_t rfl (br_t rfl (br_f (fun h => nab h.symm) (mr_240 (t := 2) (S := 1) (M := 1) (kd := 4) (nd := 1) (ld := 4) hx q (Or.inr rfl) (mr_hk2 (S := 1) (M := 1) ga gb h0 h1 (by rw [mr_S2, mr_S1, if_neg na0, if_pos hb0]; decide) (by rw [mr_M2, mr_M1, if_neg na0, if_neg na2, if_pos hb0]; decide)) (by decide +kernel) (by decide +kernel) (by decide +kernel) (Or.inr ⟨(by decide), rfl⟩) hp)))))))))))))))))
      · have nb0 := hb0
        by_cases hb2 : b = 2
        · have _ := hb2
          exact br_f na0 (br_f nb0 (br_f nab (nm_r (show (1 : Int32) ||| 2 = (3 : Int32) by decide) (br_f na0 (br_f na2 (br_f nb0 (br_t hb2 (nm_r (show (1 : Int32) ||| 0 = (1 : Int32) by decide) (br_f (by decide) (br_f (by decide) (nm_r (show (3 : Int32) + 1 = (4 : Int32) by decide) (br_f (by decide) (br_f (by decide) (br_f (by decide) (nm_e (br_t rfl (br_t rfl (br_f (fun h => nab h.symm) (mr_240 (t := 2) (S := 3) (M := 1) (kd := 4) (nd := 1) (ld := 1) hx q (Or.inr rfl) (mr_hk2 (S := 3) (M := 1) ga gb h0 h1 (by rw [mr_S2, mr_S1, if_neg na0, if_neg nb0]; decide) (by rw [mr_M2, mr_M1, if_neg na0, if_neg na2, if_neg nb0, if_pos hb2]; decide)) (by decide +kernel) (by decide +kernel) (by decide +kernel) (Or.inr ⟨(by decide), rfl⟩) hp)))))))))))))))))))
        · have nb2 := hb2
          exact br_f na0 (br_f nb0 (br_f nab (nm_r (show (1 : Int32) ||| 2 = (3 : Int32) by decide) (br_f na0 (br_f na2 (br_f nb0 (br_f nb2 (br_f nab (nm_r (show (1 : Int32) ||| 2 = (3 : Int32) by decide) (br_f (by decide) (br_f (by decide) (nm_r (show (3 : Int32) + 1 = (4 : Int32) by decide) (br_f (by decide) (br_f (by decide) (br_t (by decide) (nm_e (br_t rfl (br_t rfl (br_f (fun h => nab h.symm) (mr_240 (t := 2) (S := 3) (M := 3) (kd := 4) (nd := 1) (ld := 4) hx q (Or.inr rfl) (mr_hk2 (S := 3) (M := 3) ga gb h0 h1 (by rw [mr_S2, mr_S1, if_neg na0, if_neg nb0]; decide) (by rw [mr_M2, mr_M1, if_neg na0, if_neg na2, if_neg nb0, if_neg nb2]; decide)) (by decide +kernel) (by decide +kernel) (by decide +kernel) (Or.inr ⟨(by decide), rfl⟩) hp))))))))))))))))))))
end
section
theorem mr_init {post : St2 → Prop} (hp : post (1, 0, 0, 0, 0, 0, 0, 0, 0, 0, 0, 0, upd (fun _ => 0) 0 1, (fun _ => 0), (fun _ => 0), (fun _ => 0), (fun _ => 0), (fun _ => 0), (fun _ => 0), (fun _ => 0), (fun _ => 0), (fun _ => 0), (fun _ => 0), (fun _ => 0), (fun _ => 0))) :
    wpX_init post 13 258 (0, 0, 0, 0, 0, 0, 0, 0, 0, 0, 0, 0) :=
  ⟨(by decide), (by decide), (by decide), (by decide), (by decide), (by decide), (by decide), (by decide), (by decide), (by decide), (by decide), (by decide), (by decide), (by decide), (by decide), (by decide), (by decide), (by decide), (by decide), (by decide), (by decide), (by decide), (by decide), (by decide), (by decide), (by decide), nm_e hp⟩
theorem mr_begin {post : St2 → Prop} {sz tr rd mu pl dn ht ip tp ch co cn : Int32} {a1 a2 a3 a4 a5 a6 a7 a8 a9 a10 a11 a12 a13 : Nat → Int32} (hp : post (0, tr, 0, mu, pl, dn, ht, ip, tp, ch, co, cn, a1, a2, a3, a4, a5, a6, a7, a8, a9, a10, a11, a12, a13)) : wpX_begin post (sz, tr, rd, mu, pl, dn, ht, ip, tp, ch, co, cn, a1, a2, a3, a4, a5, a6, a7, a8, a9, a10, a11, a12, a13) := hp
theorem mr_append {post : Int32 → St2 → Prop} {sz tr rd mu pl dn ht ip tp ch co cn : Int32} {a1 a2 a3 a4 a5 a6 a7 a8 a9 a10 a11 a12 a13 : Nat → Int32} {p r sz' : Int32} {k : Nat} (h1 : ¬ p < 0) (h2 : ¬ 9 < p) (n0 : ¬ p = 0) (n8 : ¬ p = 8) (n9 : ¬ p = 9) (l8 : p < 8) (s10 : ¬ sz = 10) (hi : vp_in sz 10) (hk : sz.toNatClampNeg = k) (hs : sz + 1 = sz') (hr : sz' - 1 = r)
    (hp : post r (sz', tr, 0, mu, pl, dn, ht, ip, tp, ch, co, cn, upd a1 k p, upd a2 k 0, a3, a4, a5, a6, a7, a8, a9, a10, a11, a12, a13)) : wpX_append post (sz, tr, rd, mu, pl, dn, ht, ip, tp, ch, co, cn, a1, a2, a3, a4, a5, a6, a7, a8, a9, a10, a11, a12, a13) p 0 := by
  subst hr
  exact br_f h1 (br_f h2 (br_f n0 (br_f n8 (br_f n9 (br_t rfl (br_f s10 ⟨hi, nm_r (by rw [hk]) (br_f n0 (br_t l8 ⟨hi, nm_r (by rw [hk]) (nm_r hs hp)⟩))⟩))))))
theorem mr_trial0 {post : Int32 → St2 → Prop} {sz rd mu pl dn ht ip tp ch co cn : Int32} {a1 a2 a3 a4 a5 a6 a7 a8 a9 a10 a11 a12 a13 : Nat → Int32} {x : Int32} (hx : mr_g x) (hp : post 1 (sz, 1, rd, mu, pl, dn, ht, ip, tp, ch, co, cn, a1, a2, upd a3 0 x, a4, a5, a6, a7, a8, a9, a10, a11, a12, a13)) : wpX_trial post (sz, 0, rd, mu, pl, dn, ht, ip, tp, ch, co, cn, a1, a2, a3, a4, a5, a6, a7, a8, a9, a10, a11, a12, a13) x := by
  unfold wpX_trial
  exact mr_badI hx (br_t rfl ⟨1, br_t (by decide) (br_f (by decide) ⟨(vp_in_iff.mpr (by decide)), nm_r (by rw [mr_c0]) (nm_r (show (0 : Int32) + 1 = 1 by decide) hp)⟩)⟩)
theorem mr_trialS {post : Int32 → St2 → Prop} {sz rd mu pl dn ht ip tp ch co cn : Int32} {a1 a2 a3 a4 a5 a6 a7 a8 a9 a10 a11 a12 a13 : Nat → Int32} {x : Int32} (hx : mr_g x) (h : a3 0 = x) (hp : post (-10004) (sz, 1, rd, mu, pl, dn, ht, ip, tp, ch, co, cn, a1, a2, a3, a4, a5, a6, a7, a8, a9, a10, a11, a12, a13)) : wpX_trial post (sz, 1, rd, mu, pl, dn, ht, ip, tp, ch, co, cn, a1, a2, a3, a4, a5, a6, a7, a8, a9, a10, a11, a12, a13) x := by
  unfold wpX_trial
  exact mr_badI hx (br_t rfl ⟨1, br_f (by decide) ⟨(vp_in_iff.mpr (by decide)), br_t (by rw [mr_c0]; exact h) hp⟩⟩)
theorem mr_trialN {post : Int32 → St2 → Prop} {sz rd mu pl dn ht ip tp ch co cn : Int32} {a1 a2 a3 a4 a5 a6 a7 a8 a9 a10 a11 a12 a13 : Nat → Int32} {x : Int32} (hx : mr_g x) (h : ¬ a3 0 = x) (hp : post 2 (sz, 2, rd, mu, pl, dn, ht, ip, tp, ch, co, cn, a1, a2, upd a3 1 x, a4, a5, a6, a7, a8, a9, a10, a11, a12, a13)) : wpX_trial post (sz, 1, rd, mu, pl, dn, ht, ip, tp, ch, co, cn, a1, a2, a3, a4, a5, a6, a7, a8, a9, a10, a11, a12, a13) x := by
  unfold wpX_trial
  exact mr_badI hx (br_t rfl ⟨2, br_f (by decide) ⟨(vp_in_iff.mpr (by decide)), br_f (by rw [mr_c0]; exact h) (nm_r (show (0 : Int32) + 1 = 1 by decide) (br_t (by decide) (br_f (by decide) ⟨(vp_in_iff.mpr (by decide)), nm_r (by rw [mr_c1]) (nm_r (show (1 : Int32) + 1 = 2 by decide) hp)⟩)))⟩⟩)
theorem mr_lawOf (p0 p1 p2 : Int32) {post : Int32 → St0 → Prop} (hp : post 1 ()) : wpL_lawOf post 14 283 () p0 p1 p2 := by
  refine ⟨(by decide), (by decide), 13, 258, (by decide), (by decide), mr_init ?_⟩
  intro a ea b eb x ex
  have ga : mr_g a := by rw [ea]; exact mr_gmask p0
  have gb : mr_g b := by rw [eb]; exact mr_gmask p1
  have gx : mr_g x := by rw [ex]; exact mr_gmask p2
  refine mr_begin ?_
  refine mr_append (k := 0) (sz' := 1) (r := 0) (by decide) (by decide) (by decide) (by decide) (by decide) (by decide) (by decide) (vp_in_iff.mpr (by decide)) (by decide) (by decide) (by decide) ?_
  refine mr_append (k := 1) (sz' := 2) (r := 1) (by decide) (by decide) (by decide) (by decide) (by decide) (by decide) (by decide) (vp_in_iff.mpr (by decide)) (by decide) (by decide) (by decide) ?_
  refine mr_append (k := 2) (sz' := 3) (r := 2) (by decide) (by decide) (by decide) (by decide) (by decide) (by decide) (by decide) (vp_in_iff.mpr (by decide)) (by decide) (by decide) (by decide) ?_
  refine mr_trial0 ga ?_
  by_cases hab : b = a
  · refine mr_trialS gb (by rw [pk_us]; exact hab.symm) ?_
    exact mr_tail1 ga gb gx ⟨rfl, rfl, rfl⟩ pk_us hab hp
  · refine mr_trialN gb (by rw [pk_us]; exact fun h => hab h.symm) ?_
    exact mr_tail2 ga gb gx ⟨rfl, rfl, rfl⟩ rfl rfl hab hp
theorem mr_cell {post : Int32 → Prop} {L : Nat} {xs : Nat → Int32} {p : Int32} (j : Nat) (hj : j < 3) (e : p = nI j) (hL : L ≤ 3) (hp : ∀ r, post r) : wpL_cellAt post L xs () p := by
  subst e
  refine br_c (fun _ => hp _) (fun h => ⟨vp_in_nI ?_ (by omega), hp _⟩)
  rcases Nat.lt_or_ge j L with z | z
  · exact z
  · exact absurd (nI_le z (by omega)) h
theorem i_vc (xs : Nat → Int32) (L : Nat) (hL : L ≤ 3) : wpL_law (fun r => r = 1) L xs :=
  mr_cell 0 (by decide) rfl hL (fun r1 => mr_cell 1 (by decide) rfl hL (fun r2 => mr_cell 2 (by decide) rfl hL (fun r3 => ⟨14, 283, (by decide), (by decide), mr_lawOf r1 r2 r3 rfl⟩)))
end
