section
/-! making programs: adopt, make, leaf, number, name, two, bind -/
section
variable {c0 c1 c2 c3 c4 c5 c6 c7 c8 c9 c10 c11 c12 : Int32} {a1 a2 a3 a4 a5 a6 a7 a8 a9 a10 a11 a12 a13 a14 a15 a16 a17 a18 a19 a20 a21 a22 a23 a24 a25 a26 a27 a28 : Nat → Int32}
theorem cc_nu {a : Nat → Int32} {k k' : Nat} {v v' : Int32} {P : (Nat → Int32) → Prop} (hk : k = k') (hv : v = v') (h : P (upd a k' v')) : ∀ x, x = upd a k v → P x := by
  subst hk
  subst hv
  exact nm_e h
theorem cc_cl {n : Nat} (h : n < 100000) : (nI n).toNatClampNeg = n := nI_clamp (by omega)
theorem cc_in {n N : Nat} (h : n < N) (hN : N < 100000) : vp_in (nI n) N := vp_in_nI h (by omega)
theorem cc_ad0 {post : St2 → Prop} {w : Int32} (hp : post (c0, c1, c2, c3, c4, c5, c6, c7, c8, c9, c10, c11, c12, a1, a2, a3, a4, a5, a6, a7, a8, a9, a10, a11, a12, a13, a14, a15, a16, a17, a18, a19, a20, a21, a22, a23, a24, a25, a26, a27, a28)) : wpX_adopt post (c0, c1, c2, c3, c4, c5, c6, c7, c8, c9, c10, c11, c12, a1, a2, a3, a4, a5, a6, a7, a8, a9, a10, a11, a12, a13, a14, a15, a16, a17, a18, a19, a20, a21, a22, a23, a24, a25, a26, a27, a28) (-1) w := br_t (by decide) hp
theorem cc_ad1 {post : St2 → Prop} {x w : Int32} (i : Nat) (hi : i < 24) (hx : x = nI i) (hp : post (c0, c1, c2, c3, c4, c5, c6, c7, c8, c9, c10, c11, c12, a1, a2, a3, a4, a5, upd a6 i c0, upd a7 i w, a8, a9, a10, a11, a12, a13, a14, a15, a16, a17, a18, a19, a20, a21, a22, a23, a24, a25, a26, a27, a28)) : wpX_adopt post (c0, c1, c2, c3, c4, c5, c6, c7, c8, c9, c10, c11, c12, a1, a2, a3, a4, a5, a6, a7, a8, a9, a10, a11, a12, a13, a14, a15, a16, a17, a18, a19, a20, a21, a22, a23, a24, a25, a26, a27, a28) x w := by
  subst hx
  have e : (nI i).toNatClampNeg = i := cc_cl (by omega)
  have iv : vp_in (nI i) 24 := cc_in hi (by decide)
  exact br_f (nI_pos (by omega)) ⟨iv, cc_nu e rfl ⟨iv, cc_nu e rfl hp⟩⟩
theorem cc_mkL {post : Int32 → St2 → Prop} {w : Int32} (n : Nat) (hn : n < 24) (hc : c0 = nI n) (hp : post (nI n) (nI (n + 1), c1, c2, c3, c4, c5, c6, c7, c8, c9, c10, c11, c12, upd a1 n w, upd a2 n (-1), upd a3 n (-1), upd a4 n (-1), a5, upd a6 n (-1), a7, a8, a9, a10, a11, a12, a13, a14, a15, a16, a17, a18, a19, a20, a21, a22, a23, a24, a25, a26, a27, a28)) : wpX_make post (c0, c1, c2, c3, c4, c5, c6, c7, c8, c9, c10, c11, c12, a1, a2, a3, a4, a5, a6, a7, a8, a9, a10, a11, a12, a13, a14, a15, a16, a17, a18, a19, a20, a21, a22, a23, a24, a25, a26, a27, a28) w (-1) (-1) (-1) := by
  subst hc
  have e : (nI n).toNatClampNeg = n := cc_cl (by omega)
  have iv : vp_in (nI n) 24 := cc_in hn (by decide)
  unfold wpX_make
  refine ⟨iv, cc_nu e rfl ⟨iv, cc_nu e rfl ⟨iv, cc_nu e rfl ⟨iv, cc_nu e rfl ⟨iv, cc_nu e rfl ?_⟩⟩⟩⟩⟩
  refine cc_ad0 ?_
  refine cc_ad0 ?_
  refine cc_ad0 ?_
  refine nm_r (nI_1 n) ?_
  rw [nI_pred n]
  exact hp
theorem cc_mk2 {post : Int32 → St2 → Prop} {w x y : Int32} (n i j : Nat) (hn : n < 24) (hi : i < 24) (hj : j < 24) (hc : c0 = nI n) (hx : x = nI i) (hy : y = nI j) (hp : post (nI n) (nI (n + 1), c1, c2, c3, c4, c5, c6, c7, c8, c9, c10, c11, c12, upd a1 n w, upd a2 n (nI i), upd a3 n (nI j), upd a4 n (-1), a5, upd (upd (upd a6 n (-1)) i (nI n)) j (nI n), upd (upd a7 i 0) j 1, a8, a9, a10, a11, a12, a13, a14, a15, a16, a17, a18, a19, a20, a21, a22, a23, a24, a25, a26, a27, a28)) : wpX_make post (c0, c1, c2, c3, c4, c5, c6, c7, c8, c9, c10, c11, c12, a1, a2, a3, a4, a5, a6, a7, a8, a9, a10, a11, a12, a13, a14, a15, a16, a17, a18, a19, a20, a21, a22, a23, a24, a25, a26, a27, a28) w x y (-1) := by
  subst hc
  subst hx
  subst hy
  have e : (nI n).toNatClampNeg = n := cc_cl (by omega)
  have iv : vp_in (nI n) 24 := cc_in hn (by decide)
  unfold wpX_make
  refine ⟨iv, cc_nu e rfl ⟨iv, cc_nu e rfl ⟨iv, cc_nu e rfl ⟨iv, cc_nu e rfl ⟨iv, cc_nu e rfl ?_⟩⟩⟩⟩⟩
  refine cc_ad1 i hi rfl ?_
  refine cc_ad1 j hj rfl ?_
  refine cc_ad0 ?_
  refine nm_r (nI_1 n) ?_
  rw [nI_pred n]
  exact hp
theorem cc_ad0_2 {post : St2 → Prop} {w : Int32} (hp : post (c0, c1, c2, c3, c4, c5, c6, c7, c8, c9, c10, c11, c12, a1, a2, a3, a4, a5, a6, a7, a8, a9, a10, a11, a12, a13, a14, a15, a16, a17, a18, a19, a20, a21, a22, a23, a24, a25, a26, a27, a28)) : wpX_adopt_2 post (c0, c1, c2, c3, c4, c5, c6, c7, c8, c9, c10, c11, c12, a1, a2, a3, a4, a5, a6, a7, a8, a9, a10, a11, a12, a13, a14, a15, a16, a17, a18, a19, a20, a21, a22, a23, a24, a25, a26, a27, a28) (-1) w := br_t (by decide) hp
theorem cc_ad1_2 {post : St2 → Prop} {x w : Int32} (i : Nat) (hi : i < 24) (hx : x = nI i) (hp : post (c0, c1, c2, c3, c4, c5, c6, c7, c8, c9, c10, c11, c12, a1, a2, a3, a4, a5, upd a6 i c0, upd a7 i w, a8, a9, a10, a11, a12, a13, a14, a15, a16, a17, a18, a19, a20, a21, a22, a23, a24, a25, a26, a27, a28)) : wpX_adopt_2 post (c0, c1, c2, c3, c4, c5, c6, c7, c8, c9, c10, c11, c12, a1, a2, a3, a4, a5, a6, a7, a8, a9, a10, a11, a12, a13, a14, a15, a16, a17, a18, a19, a20, a21, a22, a23, a24, a25, a26, a27, a28) x w := by
  subst hx
  have e : (nI i).toNatClampNeg = i := cc_cl (by omega)
  have iv : vp_in (nI i) 24 := cc_in hi (by decide)
  exact br_f (nI_pos (by omega)) ⟨iv, cc_nu e rfl ⟨iv, cc_nu e rfl hp⟩⟩
theorem cc_mkL_2 {post : Int32 → St2 → Prop} {w : Int32} (n : Nat) (hn : n < 24) (hc : c0 = nI n) (hp : post (nI n) (nI (n + 1), c1, c2, c3, c4, c5, c6, c7, c8, c9, c10, c11, c12, upd a1 n w, upd a2 n (-1), upd a3 n (-1), upd a4 n (-1), a5, upd a6 n (-1), a7, a8, a9, a10, a11, a12, a13, a14, a15, a16, a17, a18, a19, a20, a21, a22, a23, a24, a25, a26, a27, a28)) : wpX_make_2 post (c0, c1, c2, c3, c4, c5, c6, c7, c8, c9, c10, c11, c12, a1, a2, a3, a4, a5, a6, a7, a8, a9, a10, a11, a12, a13, a14, a15, a16, a17, a18, a19, a20, a21, a22, a23, a24, a25, a26, a27, a28) w (-1) (-1) (-1) := by
  subst hc
  have e : (nI n).toNatClampNeg = n := cc_cl (by omega)
  have iv : vp_in (nI n) 24 := cc_in hn (by decide)
  unfold wpX_make_2
  refine ⟨iv, cc_nu e rfl ⟨iv, cc_nu e rfl ⟨iv, cc_nu e rfl ⟨iv, cc_nu e rfl ⟨iv, cc_nu e rfl ?_⟩⟩⟩⟩⟩
  refine cc_ad0_2 ?_
  refine cc_ad0_2 ?_
  refine cc_ad0_2 ?_
  refine nm_r (nI_1 n) ?_
  rw [nI_pred n]
  exact hp
theorem cc_mk2_2 {post : Int32 → St2 → Prop} {w x y : Int32} (n i j : Nat) (hn : n < 24) (hi : i < 24) (hj : j < 24) (hc : c0 = nI n) (hx : x = nI i) (hy : y = nI j) (hp : post (nI n) (nI (n + 1), c1, c2, c3, c4, c5, c6, c7, c8, c9, c10, c11, c12, upd a1 n w, upd a2 n (nI i), upd a3 n (nI j), upd a4 n (-1), a5, upd (upd (upd a6 n (-1)) i (nI n)) j (nI n), upd (upd a7 i 0) j 1, a8, a9, a10, a11, a12, a13, a14, a15, a16, a17, a18, a19, a20, a21, a22, a23, a24, a25, a26, a27, a28)) : wpX_make_2 post (c0, c1, c2, c3, c4, c5, c6, c7, c8, c9, c10, c11, c12, a1, a2, a3, a4, a5, a6, a7, a8, a9, a10, a11, a12, a13, a14, a15, a16, a17, a18, a19, a20, a21, a22, a23, a24, a25, a26, a27, a28) w x y (-1) := by
  subst hc
  subst hx
  subst hy
  have e : (nI n).toNatClampNeg = n := cc_cl (by omega)
  have iv : vp_in (nI n) 24 := cc_in hn (by decide)
  unfold wpX_make_2
  refine ⟨iv, cc_nu e rfl ⟨iv, cc_nu e rfl ⟨iv, cc_nu e rfl ⟨iv, cc_nu e rfl ⟨iv, cc_nu e rfl ?_⟩⟩⟩⟩⟩
  refine cc_ad1_2 i hi rfl ?_
  refine cc_ad1_2 j hj rfl ?_
  refine cc_ad0_2 ?_
  refine nm_r (nI_1 n) ?_
  rw [nI_pred n]
  exact hp
theorem cc_leaf {post : Int32 → St2 → Prop} {w v : Int32} (n h : Nat) (hn : n < 24) (hh : h < 6) (hc0 : c0 = nI n) (hc1 : c1 = nI h) (hp : post (nI (h + 1)) (nI (n + 1), nI (h + 1), c2, c3, c4, c5, c6, c7, c8, c9, c10, c11, c12, upd a1 n w, upd a2 n (-1), upd a3 n (-1), upd a4 n (-1), upd a5 n v, upd a6 n (-1), a7, upd a8 h (nI n), a9, a10, a11, a12, a13, a14, a15, a16, a17, a18, a19, a20, a21, a22, a23, a24, a25, a26, a27, a28)) : wpX_leaf post (c0, c1, c2, c3, c4, c5, c6, c7, c8, c9, c10, c11, c12, a1, a2, a3, a4, a5, a6, a7, a8, a9, a10, a11, a12, a13, a14, a15, a16, a17, a18, a19, a20, a21, a22, a23, a24, a25, a26, a27, a28) w v := by
  subst hc0
  subst hc1
  unfold wpX_leaf
  refine br_f ?_ (br_f ?_ ?_)
  · exact fun z => absurd ((nI_eq (b := 24) (by omega) (by decide)).mp z) (by omega)
  · exact fun z => absurd ((nI_eq (b := 6) (by omega) (by decide)).mp z) (by omega)
  refine cc_mkL n hn rfl ?_
  refine ⟨cc_in hn (by decide), cc_nu (cc_cl (by omega)) rfl ⟨cc_in hh (by decide), cc_nu (cc_cl (by omega)) rfl (nm_r (nI_1 h) ?_)⟩⟩
  exact hp
theorem cc_number {post : Int32 → St2 → Prop} {v : Int32} (n h : Nat) (hn : n < 24) (hh : h < 6) (hv : ¬ v < -9) (hv2 : v ≤ 9) (hc0 : c0 = nI n) (hc1 : c1 = nI h) (hp : post (nI (h + 1)) (nI (n + 1), nI (h + 1), c2, c3, c4, c5, c6, c7, c8, c9, c10, c11, c12, upd a1 n 8, upd a2 n (-1), upd a3 n (-1), upd a4 n (-1), upd a5 n v, upd a6 n (-1), a7, upd a8 h (nI n), a9, a10, a11, a12, a13, a14, a15, a16, a17, a18, a19, a20, a21, a22, a23, a24, a25, a26, a27, a28)) : wpX_number post (c0, c1, c2, c3, c4, c5, c6, c7, c8, c9, c10, c11, c12, a1, a2, a3, a4, a5, a6, a7, a8, a9, a10, a11, a12, a13, a14, a15, a16, a17, a18, a19, a20, a21, a22, a23, a24, a25, a26, a27, a28) v := by
  unfold wpX_number
  refine br_f hv (br_t hv2 ?_)
  refine cc_leaf n h hn hh hc0 hc1 ?_
  exact hp
theorem cc_bad {post : Int32 → Prop} {v : Int32} (hv : ¬ v < 0) (hv2 : v < 4) (hp : post 0) : wpX_badName post (c0, c1, c2, c3, c4, c5, c6, c7, c8, c9, c10, c11, c12, a1, a2, a3, a4, a5, a6, a7, a8, a9, a10, a11, a12, a13, a14, a15, a16, a17, a18, a19, a20, a21, a22, a23, a24, a25, a26, a27, a28) v := br_f hv (br_t hv2 hp)
theorem cc_name {post : Int32 → St2 → Prop} {v : Int32} (n h : Nat) (hn : n < 24) (hh : h < 6) (hv : ¬ v < 0) (hv2 : v < 4) (hc0 : c0 = nI n) (hc1 : c1 = nI h) (hp : post (nI (h + 1)) (nI (n + 1), nI (h + 1), c2, c3, c4, c5, c6, c7, c8, c9, c10, c11, c12, upd a1 n 9, upd a2 n (-1), upd a3 n (-1), upd a4 n (-1), upd a5 n v, upd a6 n (-1), a7, upd a8 h (nI n), a9, a10, a11, a12, a13, a14, a15, a16, a17, a18, a19, a20, a21, a22, a23, a24, a25, a26, a27, a28)) : wpX_name post (c0, c1, c2, c3, c4, c5, c6, c7, c8, c9, c10, c11, c12, a1, a2, a3, a4, a5, a6, a7, a8, a9, a10, a11, a12, a13, a14, a15, a16, a17, a18, a19, a20, a21, a22, a23, a24, a25, a26, a27, a28) v := by
  unfold wpX_name
  refine cc_bad hv hv2 (br_t rfl ?_)
  refine cc_leaf n h hn hh hc0 hc1 ?_
  exact hp
theorem cc_two {post : Int32 → St2 → Prop} {w : Int32} (n h i j : Nat) (hn : n < 24) (hh : h < 4) (hi : i < 24) (hj : j < 24) (hw : ¬ w < 0) (hw2 : w ≤ 4) (hc0 : c0 = nI n) (hc1 : c1 = nI (h + 2)) (h8 : a8 h = nI i) (h8' : a8 (h + 1) = nI j) (hp : post (nI (h + 1)) (nI (n + 1), nI (h + 1), c2, c3, c4, c5, c6, c7, c8, c9, c10, c11, c12, upd a1 n w, upd a2 n (nI i), upd a3 n (nI j), upd a4 n (-1), a5, upd (upd (upd a6 n (-1)) i (nI n)) j (nI n), upd (upd a7 i 0) j 1, upd a8 h (nI n), a9, a10, a11, a12, a13, a14, a15, a16, a17, a18, a19, a20, a21, a22, a23, a24, a25, a26, a27, a28)) : wpX_two post (c0, c1, c2, c3, c4, c5, c6, c7, c8, c9, c10, c11, c12, a1, a2, a3, a4, a5, a6, a7, a8, a9, a10, a11, a12, a13, a14, a15, a16, a17, a18, a19, a20, a21, a22, a23, a24, a25, a26, a27, a28) w := by
  subst hc0
  subst hc1
  unfold wpX_two
  refine br_f hw (br_t hw2 (br_f ?_ (br_t ?_ ?_)))
  · exact fun z => absurd ((nI_eq (b := 24) (by omega) (by decide)).mp z) (by omega)
  · exact nI_le (a := 2) (by omega) (by omega)
  refine nm_r (nI_pred (h + 1)) ?_
  rw [nI_pred h, cc_cl (show h < 100000 by omega), cc_cl (show h + 1 < 100000 by omega)]
  refine ⟨cc_in (by omega) (by decide), cc_in (by omega) (by decide), ?_⟩
  refine cc_mk2_2 n i j hn hi hj rfl h8 h8' ?_
  refine ⟨cc_in (by omega) (by decide), nm_e ?_⟩
  exact hp
theorem cc_bind {post : Int32 → St2 → Prop} {v : Int32} (n h i j : Nat) (hn : n < 24) (hh : h < 4) (hi : i < 24) (hj : j < 24) (hv : ¬ v < 0) (hv2 : v < 4) (hc0 : c0 = nI n) (hc1 : c1 = nI (h + 2)) (h8 : a8 h = nI i) (h8' : a8 (h + 1) = nI j) (hp : post (nI (h + 1)) (nI (n + 1), nI (h + 1), c2, c3, c4, c5, c6, c7, c8, c9, c10, c11, c12, upd a1 n 6, upd a2 n (nI i), upd a3 n (nI j), upd a4 n (-1), upd a5 n v, upd (upd (upd a6 n (-1)) i (nI n)) j (nI n), upd (upd a7 i 0) j 1, upd a8 h (nI n), a9, a10, a11, a12, a13, a14, a15, a16, a17, a18, a19, a20, a21, a22, a23, a24, a25, a26, a27, a28)) : wpX_bind post (c0, c1, c2, c3, c4, c5, c6, c7, c8, c9, c10, c11, c12, a1, a2, a3, a4, a5, a6, a7, a8, a9, a10, a11, a12, a13, a14, a15, a16, a17, a18, a19, a20, a21, a22, a23, a24, a25, a26, a27, a28) v := by
  subst hc0
  subst hc1
  unfold wpX_bind
  refine cc_bad hv hv2 (br_t rfl (br_f ?_ (br_t ?_ ?_)))
  · exact fun z => absurd ((nI_eq (b := 24) (by omega) (by decide)).mp z) (by omega)
  · exact nI_le (a := 2) (by omega) (by omega)
  refine nm_r (nI_pred (h + 1)) ?_
  rw [nI_pred h, cc_cl (show h < 100000 by omega), cc_cl (show h + 1 < 100000 by omega)]
  refine ⟨cc_in (by omega) (by decide), cc_in (by omega) (by decide), ?_⟩
  refine cc_mk2 n i j hn hi hj rfl h8 h8' ?_
  refine ⟨cc_in hn (by decide), cc_nu (cc_cl (by omega)) rfl ?_⟩
  try dsimp only
  rw [nI_pred h]
  refine ⟨cc_in (by omega) (by decide), cc_nu (cc_cl (by omega)) rfl ?_⟩
  exact hp
end
end
section
/-! the picture of the program made (bind name p (other op q)), and looking for a name's meaning -/
/-- the operation is one of add, sub, mul, less -/
def cc_op (w : Int32) : Prop := w = 0 ∨ w = 1 ∨ w = 2 ∨ w = 3
theorem cc_opF {w : Int32} (h : cc_op w) : ¬ w < 0 ∧ w ≤ 4 ∧ w < 7 ∧ ¬ w = 5 ∧ ¬ w = 6 ∧ ¬ w = 7 ∧ ¬ w = 9 ∧ ¬ 4 ≤ w := by
  rcases h with h | h | h | h <;> subst h <;> decide
/-- five programs: 0 the number p, 1 the name ot, 2 the number q, 3 = 1 op 2, 4 = bind nm to 0 in 3 -/
def cc_P (p q nm ot op : Int32) (a1 a2 a3 a5 a6 a7 a8 : Nat → Int32) : Prop :=
  (a1 0 = nI 8 ∧ a1 1 = nI 9 ∧ a1 2 = nI 8 ∧ a1 3 = op ∧ a1 4 = nI 6) ∧ (a2 3 = nI 1 ∧ a2 4 = nI 0) ∧ (a3 3 = nI 2 ∧ a3 4 = nI 3) ∧ (a5 0 = p ∧ a5 1 = ot ∧ a5 2 = q ∧ a5 4 = nm) ∧ (a6 1 = nI 3 ∧ a6 3 = nI 4 ∧ a6 4 = -1) ∧ a7 3 = nI 1 ∧ a8 0 = nI 4
/-- the instruction by which the name is loaded: from a slot, or nothing -/
def cc_fc (nm ot : Int32) : Int32 := if nm = ot then 11 else 15
section
variable {c0 c1 c2 c3 c4 c5 c6 c7 c8 c9 c10 c11 c12 : Int32} {a1 a2 a3 a4 a5 a6 a7 a8 a9 a10 a11 a12 a13 a14 a15 a16 a17 a18 a19 a20 a21 a22 a23 a24 a25 a26 a27 a28 : Nat → Int32}
theorem cc_begin {post : St2 → Prop} {x : Int32} (n : Nat) (hn : n < 32) (hc : c4 = nI n) (hp : post (c0, c1, c2, c3, nI (n + 1), c5, c6, c7, c8, c9, c10, c11, c12, a1, a2, a3, a4, a5, a6, a7, a8, a9, a10, a11, a12, a13, a14, upd a15 n x, upd a16 n 0, a17, a18, a19, a20, a21, a22, a23, a24, a25, a26, a27, a28)) : wpX_begin post (c0, c1, c2, c3, c4, c5, c6, c7, c8, c9, c10, c11, c12, a1, a2, a3, a4, a5, a6, a7, a8, a9, a10, a11, a12, a13, a14, a15, a16, a17, a18, a19, a20, a21, a22, a23, a24, a25, a26, a27, a28) x := by
  subst hc
  have e : (nI n).toNatClampNeg = n := cc_cl (by omega)
  have iv : vp_in (nI n) 32 := cc_in hn (by decide)
  exact ⟨iv, cc_nu e rfl ⟨iv, cc_nu e rfl (nm_r (nI_1 n) hp)⟩⟩
theorem cc_emit {post : St2 → Prop} {x y : Int32} (n : Nat) (hn : n < 128) (hc : c2 = nI n) (hp : post (c0, c1, nI (n + 1), c3, c4, c5, c6, c7, c8, c9, c10, c11, c12, a1, a2, a3, a4, a5, a6, a7, a8, upd a9 n x, upd a10 n y, a11, a12, a13, a14, a15, a16, a17, a18, a19, a20, a21, a22, a23, a24, a25, a26, a27, a28)) : wpX_emit post (c0, c1, c2, c3, c4, c5, c6, c7, c8, c9, c10, c11, c12, a1, a2, a3, a4, a5, a6, a7, a8, a9, a10, a11, a12, a13, a14, a15, a16, a17, a18, a19, a20, a21, a22, a23, a24, a25, a26, a27, a28) x y := by
  subst hc
  have e : (nI n).toNatClampNeg = n := cc_cl (by omega)
  have iv : vp_in (nI n) 128 := cc_in hn (by decide)
  exact ⟨iv, cc_nu e rfl ⟨iv, cc_nu e rfl (nm_r (nI_1 n) hp)⟩⟩
theorem cc_ba {post : Int32 → Prop} {x : Int32} (k : Nat) (hk : k < 24) (hx : x = nI k) (h6 : a6 k = -1) (hp : post 0) : wpX_bindsAround post (c0, c1, c2, c3, c4, c5, c6, c7, c8, c9, c10, c11, c12, a1, a2, a3, a4, a5, a6, a7, a8, a9, a10, a11, a12, a13, a14, a15, a16, a17, a18, a19, a20, a21, a22, a23, a24, a25, a26, a27, a28) x := by
  subst hx
  have e : a6 (nI k).toNatClampNeg < 0 := by
    rw [cc_cl (by omega), h6]
    decide
  exact ⟨0 + 1, br_f (by decide) ⟨cc_in hk (by decide), br_t e hp⟩⟩
theorem cc_look {post : St2 → Prop} {p q nm ot op : Int32} (hP : cc_P p q nm ot op a1 a2 a3 a5 a6 a7 a8) (ho : cc_op op) (hp : post (c0, c1, c2, c3, c4, c5, c6, c7, c8, c9, cc_fc nm ot, 0, -1, a1, a2, a3, a4, a5, a6, a7, a8, a9, a10, a11, a12, a13, a14, a15, a16, a17, a18, a19, a20, a21, a22, a23, a24, a25, a26, a27, a28)) : wpX_lookOut post (c0, c1, c2, c3, c4, c5, c6, c7, c8, c9, c10, c11, c12, a1, a2, a3, a4, a5, a6, a7, a8, a9, a10, a11, a12, a13, a14, a15, a16, a17, a18, a19, a20, a21, a22, a23, a24, a25, a26, a27, a28) (nI 1) ot := by
  obtain ⟨⟨_, _, _, h13, h14⟩, _, _, ⟨_, _, _, h54⟩, ⟨h61, h63, h64⟩, h73, _⟩ := hP
  obtain ⟨_, _, _, _, n6, n7, _, _⟩ := cc_opF ho
  have e1 : (nI 1).toNatClampNeg = 1 := cc_cl (by decide)
  have e3 : (nI 3).toNatClampNeg = 3 := cc_cl (by decide)
  have e4 : (nI 4).toNatClampNeg = 4 := cc_cl (by decide)
  have i1 : vp_in (nI 1) 24 := cc_in (by decide) (by decide)
  have i3 : vp_in (nI 3) 24 := cc_in (by decide) (by decide)
  have i4 : vp_in (nI 4) 24 := cc_in (by decide) (by decide)
  have g61 : a6 (nI 1).toNatClampNeg = nI 3 := by rw [e1, h61]
  have g63 : a6 (nI 3).toNatClampNeg = nI 4 := by rw [e3, h63]
  have g64 : a6 (nI 4).toNatClampNeg = -1 := by rw [e4, h64]
  have g13 : ¬ a1 (nI 3).toNatClampNeg = 6 := by rw [e3, h13]; exact n6
  have g13' : ¬ a1 (nI 3).toNatClampNeg = 7 := by rw [e3, h13]; exact n7
  have g14 : a1 (nI 4).toNatClampNeg = 6 := by rw [e4, h14]; rfl
  have g14' : ¬ a1 (nI 4).toNatClampNeg = 7 := by rw [e4, h14]; decide
  have g73 : a7 (nI 3).toNatClampNeg = 1 := by rw [e3, h73]; rfl
  have g54 : a5 (nI 4).toNatClampNeg = nm := by rw [e4, h54]
  have l1 : ¬ a6 (nI 1).toNatClampNeg < 0 := by rw [g61]; decide
  have l3 : ¬ a6 (nI 3).toNatClampNeg < 0 := by rw [g63]; decide
  have l4 : a6 (nI 4).toNatClampNeg < 0 := by rw [g64]; decide
  unfold wpX_lookOut
  refine ⟨2 + 1, br_f (by decide) ⟨i1, br_f l1 ⟨i1, nm_r g61 ⟨i3, br_f g13 ⟨i3, br_f g13' (nm_e ?_)⟩⟩⟩⟩⟩
  refine br_f (by decide) ⟨i3, br_f l3 ⟨i3, nm_r g63 ⟨i4, br_t g14 ⟨i3, br_t g73 ⟨i4, ?_⟩⟩⟩⟩⟩
  by_cases hs : nm = ot
  · have hf : cc_fc nm ot = 11 := if_pos hs
    rw [hf] at hp
    refine br_t (g54.trans hs) ?_
    refine cc_ba 4 (by decide) rfl h64 ?_
    exact hp
  · have hf : cc_fc nm ot = 15 := if_neg hs
    rw [hf] at hp
    refine br_f (fun z => hs (g54.symm.trans z)) ⟨i4, br_f g14' (nm_e ?_)⟩
    exact br_f (by decide) ⟨i4, br_t l4 hp⟩
theorem cc_capture {post : St2 → Prop} {p q nm ot op : Int32} (hP : cc_P p q nm ot op a1 a2 a3 a5 a6 a7 a8) (ho : cc_op op) (hp : post (c0, c1, c2, c3, c4, c5, c6, c7, c8, c9, cc_fc nm ot, 0, -1, a1, a2, a3, a4, a5, a6, a7, a8, a9, a10, a11, a12, a13, a14, a15, a16, a17, a18, a19, a20, a21, a22, a23, a24, a25, a26, a27, a28)) : wpX_capture post (c0, c1, c2, c3, c4, c5, c6, c7, c8, c9, c10, c11, c12, a1, a2, a3, a4, a5, a6, a7, a8, a9, a10, a11, a12, a13, a14, a15, a16, a17, a18, a19, a20, a21, a22, a23, a24, a25, a26, a27, a28) (nI 1) ot := by
  unfold wpX_capture
  refine cc_look hP ho ?_
  exact ⟨0 + 1, br_f (by decide) (br_t (by decide) hp)⟩
theorem cc_lfC {post : St2 → Prop} {x v : Int32} (k n : Nat) (hk : k < 24) (hn : n < 128) (hx : x = nI k) (h1 : a1 k = nI 8) (h5 : a5 k = v) (hc : c2 = nI n) (hp : post (c0, c1, nI (n + 1), c3, c4, c5, c6, c7, c8, c9, c10, c11, c12, a1, a2, a3, a4, a5, a6, a7, a8, upd a9 n 10, upd a10 n v, a11, a12, a13, a14, a15, a16, a17, a18, a19, a20, a21, a22, a23, a24, a25, a26, a27, a28)) : wpX_compileLeaf post (c0, c1, c2, c3, c4, c5, c6, c7, c8, c9, c10, c11, c12, a1, a2, a3, a4, a5, a6, a7, a8, a9, a10, a11, a12, a13, a14, a15, a16, a17, a18, a19, a20, a21, a22, a23, a24, a25, a26, a27, a28) x := by
  subst hx
  have e : (nI k).toNatClampNeg = k := cc_cl (by omega)
  have iv : vp_in (nI k) 24 := cc_in hk (by decide)
  unfold wpX_compileLeaf
  rw [e]
  refine ⟨iv, br_t h1 ⟨iv, ?_⟩⟩
  rw [h5]
  refine cc_emit n hn hc ?_
  exact hp
theorem cc_lfN {post : St2 → Prop} {x p q nm ot op : Int32} (hP : cc_P p q nm ot op a1 a2 a3 a5 a6 a7 a8) (ho : cc_op op) (n : Nat) (hn : n < 128) (hx : x = nI 1) (hc : c2 = nI n) (hp : post (c0, c1, nI (n + 1), c3, c4, c5, c6, c7, c8, c9, cc_fc nm ot, 0, -1, a1, a2, a3, a4, a5, a6, a7, a8, upd a9 n (cc_fc nm ot), upd a10 n 0, a11, a12, a13, a14, a15, a16, a17, a18, a19, a20, a21, a22, a23, a24, a25, a26, a27, a28)) : wpX_compileLeaf post (c0, c1, c2, c3, c4, c5, c6, c7, c8, c9, c10, c11, c12, a1, a2, a3, a4, a5, a6, a7, a8, a9, a10, a11, a12, a13, a14, a15, a16, a17, a18, a19, a20, a21, a22, a23, a24, a25, a26, a27, a28) x := by
  subst hx
  have e : (nI 1).toNatClampNeg = 1 := cc_cl (by decide)
  have iv : vp_in (nI 1) 24 := cc_in (by decide) (by decide)
  have h11 : a1 1 = nI 9 := hP.1.2.1
  have h51 : a5 1 = ot := hP.2.2.2.1.2.1
  unfold wpX_compileLeaf
  rw [e]
  refine ⟨iv, br_f ?_ ⟨iv, br_t h11 ⟨iv, ?_⟩⟩⟩
  · rw [h11]
    decide
  rw [h51]
  refine cc_capture hP ho ?_
  refine cc_emit n hn hc ?_
  exact hp
end
end
section
/-! one step of the compiler, by what lies on top: task t, program k, how far it is -/
section
variable {c0 c1 c2 c3 c4 c5 c6 c7 c8 c9 c10 c11 c12 : Int32} {a1 a2 a3 a4 a5 a6 a7 a8 a9 a10 a11 a12 a13 a14 a15 a16 a17 a18 a19 a20 a21 a22 a23 a24 a25 a26 a27 a28 : Nat → Int32}
/-- a leaf that is a number -/
theorem cc_sC {post : St2 → Prop} {v : Int32} (t k n : Nat) (ht : t < 31) (hk : k < 24) (hn : n < 128) (h4 : c4 = nI (t + 1)) (h15 : a15 t = nI k) (h16 : a16 t = 0) (h1 : a1 k = nI 8) (h5 : a5 k = v) (h2 : c2 = nI n) (hp : post (c0, c1, nI (n + 1), c3, nI t, c5, c6, c7, c8, c9, c10, c11, c12, a1, a2, a3, a4, a5, a6, a7, a8, upd a9 n 10, upd a10 n v, a11, a12, a13, a14, a15, upd a16 t 1, a17, a18, a19, a20, a21, a22, a23, a24, a25, a26, a27, a28)) : wpX_compileStep post (c0, c1, c2, c3, c4, c5, c6, c7, c8, c9, c10, c11, c12, a1, a2, a3, a4, a5, a6, a7, a8, a9, a10, a11, a12, a13, a14, a15, a16, a17, a18, a19, a20, a21, a22, a23, a24, a25, a26, a27, a28) := by
  subst h4
  have e : (nI t).toNatClampNeg = t := cc_cl (by omega)
  have ek : (nI k).toNatClampNeg = k := cc_cl (by omega)
  have it : vp_in (nI t) 32 := cc_in (by omega) (by decide)
  have ik : vp_in (nI k) 24 := cc_in hk (by decide)
  have g15 : a15 (nI t).toNatClampNeg = nI k := by rw [e, h15]
  have g16 : a16 (nI t).toNatClampNeg = 0 := by rw [e, h16]
  have g1 : ¬ a1 (nI k).toNatClampNeg < 7 := by rw [ek, h1]; decide
  unfold wpX_compileStep
  refine nm_r (nI_pred t) ⟨it, nm_r g15 ⟨it, nm_r g16 ⟨it, cc_nu e rfl ⟨ik, br_f g1 ?_⟩⟩⟩⟩
  refine cc_lfC k n hk hn rfl h1 h5 h2 ?_
  exact hp
/-- a leaf that is the name -/
theorem cc_sN {post : St2 → Prop} {p q nm ot op : Int32} (hP : cc_P p q nm ot op a1 a2 a3 a5 a6 a7 a8) (ho : cc_op op) (t n : Nat) (ht : t < 31) (hn : n < 128) (h4 : c4 = nI (t + 1)) (h15 : a15 t = nI 1) (h16 : a16 t = 0) (h2 : c2 = nI n) (hp : post (c0, c1, nI (n + 1), c3, nI t, c5, c6, c7, c8, c9, cc_fc nm ot, 0, -1, a1, a2, a3, a4, a5, a6, a7, a8, upd a9 n (cc_fc nm ot), upd a10 n 0, a11, a12, a13, a14, a15, upd a16 t 1, a17, a18, a19, a20, a21, a22, a23, a24, a25, a26, a27, a28)) : wpX_compileStep post (c0, c1, c2, c3, c4, c5, c6, c7, c8, c9, c10, c11, c12, a1, a2, a3, a4, a5, a6, a7, a8, a9, a10, a11, a12, a13, a14, a15, a16, a17, a18, a19, a20, a21, a22, a23, a24, a25, a26, a27, a28) := by
  subst h4
  have e : (nI t).toNatClampNeg = t := cc_cl (by omega)
  have ek : (nI 1).toNatClampNeg = 1 := cc_cl (by omega)
  have it : vp_in (nI t) 32 := cc_in (by omega) (by decide)
  have ik : vp_in (nI 1) 24 := cc_in (by decide) (by decide)
  have g15 : a15 (nI t).toNatClampNeg = nI 1 := by rw [e, h15]
  have g16 : a16 (nI t).toNatClampNeg = 0 := by rw [e, h16]
  have h11 : a1 1 = nI 9 := hP.1.2.1
  have g1 : ¬ a1 (nI 1).toNatClampNeg < 7 := by rw [ek, h11]; decide
  unfold wpX_compileStep
  refine nm_r (nI_pred t) ⟨it, nm_r g15 ⟨it, nm_r g16 ⟨it, cc_nu e rfl ⟨ik, br_f g1 ?_⟩⟩⟩⟩
  refine cc_lfN hP ho n hn rfl h2 ?_
  exact hp
/-- a program with two parts, its first step -/
theorem cc_s0 {post : St2 → Prop} {w y : Int32} (t k : Nat) (ht : t < 31) (hk : k < 24) (h4 : c4 = nI (t + 1)) (h15 : a15 t = nI k) (h16 : a16 t = 0) (h1 : a1 k = w) (hw : w < 7) (hw5 : ¬ w = 5) (h2 : a2 k = y) (hp : post (c0, c1, c2, c3, nI (t + 1 + 1), c5, c6, c7, c8, c9, c10, c11, c12, a1, a2, a3, a4, a5, a6, a7, a8, a9, a10, a11, a12, a13, a14, upd a15 (t + 1) y, upd (upd a16 t 1) (t + 1) 0, a17, a18, a19, a20, a21, a22, a23, a24, a25, a26, a27, a28)) : wpX_compileStep post (c0, c1, c2, c3, c4, c5, c6, c7, c8, c9, c10, c11, c12, a1, a2, a3, a4, a5, a6, a7, a8, a9, a10, a11, a12, a13, a14, a15, a16, a17, a18, a19, a20, a21, a22, a23, a24, a25, a26, a27, a28) := by
  subst h4
  have e : (nI t).toNatClampNeg = t := cc_cl (by omega)
  have ek : (nI k).toNatClampNeg = k := cc_cl (by omega)
  have it : vp_in (nI t) 32 := cc_in (by omega) (by decide)
  have ik : vp_in (nI k) 24 := cc_in hk (by decide)
  have g15 : a15 (nI t).toNatClampNeg = nI k := by rw [e, h15]
  have g16 : a16 (nI t).toNatClampNeg = 0 := by rw [e, h16]
  have g1 : a1 (nI k).toNatClampNeg < 7 := by rw [ek, h1]; exact hw
  have g5 : ¬ a1 (nI k).toNatClampNeg = 5 := by rw [ek, h1]; exact hw5
  unfold wpX_compileStep
  refine nm_r (nI_pred t) ⟨it, nm_r g15 ⟨it, nm_r g16 ⟨it, cc_nu e rfl ⟨ik, br_t g1 ⟨ik, br_f g5 (br_t rfl ⟨ik, ?_⟩)⟩⟩⟩⟩⟩
  rw [ek, h2]
  refine cc_begin (t + 1) (by omega) rfl ?_
  exact hp
/-- a bind, its second step: the value goes to its slot -/
theorem cc_s1B {post : St2 → Prop} {y : Int32} (t k n : Nat) (ht : t < 31) (hk : k < 24) (hn : n < 128) (h4 : c4 = nI (t + 1)) (h15 : a15 t = nI k) (h16 : a16 t = 1) (h1 : a1 k = nI 6) (h6 : a6 k = -1) (h3 : a3 k = y) (h2 : c2 = nI n) (hp : post (c0, c1, nI (n + 1), c3, nI (t + 1 + 1), c5, c6, c7, c8, c9, c10, c11, c12, a1, a2, a3, a4, a5, a6, a7, a8, upd a9 n 16, upd a10 n 0, a11, a12, a13, a14, upd a15 (t + 1) y, upd (upd a16 t 2) (t + 1) 0, a17, a18, a19, a20, a21, a22, a23, a24, a25, a26, a27, a28)) : wpX_compileStep post (c0, c1, c2, c3, c4, c5, c6, c7, c8, c9, c10, c11, c12, a1, a2, a3, a4, a5, a6, a7, a8, a9, a10, a11, a12, a13, a14, a15, a16, a17, a18, a19, a20, a21, a22, a23, a24, a25, a26, a27, a28) := by
  subst h4
  have e : (nI t).toNatClampNeg = t := cc_cl (by omega)
  have ek : (nI k).toNatClampNeg = k := cc_cl (by omega)
  have it : vp_in (nI t) 32 := cc_in (by omega) (by decide)
  have ik : vp_in (nI k) 24 := cc_in hk (by decide)
  have g15 : a15 (nI t).toNatClampNeg = nI k := by rw [e, h15]
  have g16 : a16 (nI t).toNatClampNeg = 1 := by rw [e, h16]
  have g1 : a1 (nI k).toNatClampNeg < 7 := by rw [ek, h1]; decide
  have g5 : ¬ a1 (nI k).toNatClampNeg = 5 := by rw [ek, h1]; decide
  have g6 : a1 (nI k).toNatClampNeg = 6 := by rw [ek, h1]; rfl
  unfold wpX_compileStep
  refine nm_r (nI_pred t) ⟨it, nm_r g15 ⟨it, nm_r g16 ⟨it, cc_nu e rfl ⟨ik, br_t g1 ⟨ik, br_f g5 (br_f (by decide) (br_t rfl ⟨ik, br_t g6 ?_⟩))⟩⟩⟩⟩⟩
  refine cc_ba k hk rfl h6 ?_
  refine cc_emit n hn h2 ?_
  refine ⟨ik, ?_⟩
  rw [ek, h3]
  refine cc_begin (t + 1) (by omega) rfl ?_
  exact hp
/-- an operation, its second step -/
theorem cc_s1 {post : St2 → Prop} {w y : Int32} (t k : Nat) (ht : t < 31) (hk : k < 24) (h4 : c4 = nI (t + 1)) (h15 : a15 t = nI k) (h16 : a16 t = 1) (h1 : a1 k = w) (hw : w < 7) (hw5 : ¬ w = 5) (hw6 : ¬ w = 6) (h3 : a3 k = y) (hp : post (c0, c1, c2, c3, nI (t + 1 + 1), c5, c6, c7, c8, c9, c10, c11, c12, a1, a2, a3, a4, a5, a6, a7, a8, a9, a10, a11, a12, a13, a14, upd a15 (t + 1) y, upd (upd a16 t 2) (t + 1) 0, a17, a18, a19, a20, a21, a22, a23, a24, a25, a26, a27, a28)) : wpX_compileStep post (c0, c1, c2, c3, c4, c5, c6, c7, c8, c9, c10, c11, c12, a1, a2, a3, a4, a5, a6, a7, a8, a9, a10, a11, a12, a13, a14, a15, a16, a17, a18, a19, a20, a21, a22, a23, a24, a25, a26, a27, a28) := by
  subst h4
  have e : (nI t).toNatClampNeg = t := cc_cl (by omega)
  have ek : (nI k).toNatClampNeg = k := cc_cl (by omega)
  have it : vp_in (nI t) 32 := cc_in (by omega) (by decide)
  have ik : vp_in (nI k) 24 := cc_in hk (by decide)
  have g15 : a15 (nI t).toNatClampNeg = nI k := by rw [e, h15]
  have g16 : a16 (nI t).toNatClampNeg = 1 := by rw [e, h16]
  have g1 : a1 (nI k).toNatClampNeg < 7 := by rw [ek, h1]; exact hw
  have g5 : ¬ a1 (nI k).toNatClampNeg = 5 := by rw [ek, h1]; exact hw5
  have g6 : ¬ a1 (nI k).toNatClampNeg = 6 := by rw [ek, h1]; exact hw6
  unfold wpX_compileStep
  refine nm_r (nI_pred t) ⟨it, nm_r g15 ⟨it, nm_r g16 ⟨it, cc_nu e rfl ⟨ik, br_t g1 ⟨ik, br_f g5 (br_f (by decide) (br_t rfl ⟨ik, br_f g6 ⟨ik, ?_⟩⟩))⟩⟩⟩⟩⟩
  rw [ek, h3]
  refine cc_begin (t + 1) (by omega) rfl ?_
  exact hp
/-- a bind, its last step -/
theorem cc_s2B {post : St2 → Prop} (t k : Nat) (ht : t < 31) (hk : k < 24) (h4 : c4 = nI (t + 1)) (h15 : a15 t = nI k) (h16 : a16 t = 2) (h1 : a1 k = nI 6) (hp : post (c0, c1, c2, c3, nI t, c5, c6, c7, c8, c9, c10, c11, c12, a1, a2, a3, a4, a5, a6, a7, a8, a9, a10, a11, a12, a13, a14, a15, upd a16 t 3, a17, a18, a19, a20, a21, a22, a23, a24, a25, a26, a27, a28)) : wpX_compileStep post (c0, c1, c2, c3, c4, c5, c6, c7, c8, c9, c10, c11, c12, a1, a2, a3, a4, a5, a6, a7, a8, a9, a10, a11, a12, a13, a14, a15, a16, a17, a18, a19, a20, a21, a22, a23, a24, a25, a26, a27, a28) := by
  subst h4
  have e : (nI t).toNatClampNeg = t := cc_cl (by omega)
  have ek : (nI k).toNatClampNeg = k := cc_cl (by omega)
  have it : vp_in (nI t) 32 := cc_in (by omega) (by decide)
  have ik : vp_in (nI k) 24 := cc_in hk (by decide)
  have g15 : a15 (nI t).toNatClampNeg = nI k := by rw [e, h15]
  have g16 : a16 (nI t).toNatClampNeg = 2 := by rw [e, h16]
  have g1 : a1 (nI k).toNatClampNeg < 7 := by rw [ek, h1]; decide
  have g5 : ¬ a1 (nI k).toNatClampNeg = 5 := by rw [ek, h1]; decide
  have g6 : a1 (nI k).toNatClampNeg = 6 := by rw [ek, h1]; rfl
  unfold wpX_compileStep
  refine nm_r (nI_pred t) ⟨it, nm_r g15 ⟨it, nm_r g16 ⟨it, cc_nu e rfl ⟨ik, br_t g1 ⟨ik, br_f g5 (br_f (by decide) (br_f (by decide) ⟨ik, br_t g6 ?_⟩))⟩⟩⟩⟩⟩
  exact hp
/-- an operation, its last step -/
theorem cc_s2 {post : St2 → Prop} {w : Int32} (t k n : Nat) (ht : t < 31) (hk : k < 24) (hn : n < 128) (h4 : c4 = nI (t + 1)) (h15 : a15 t = nI k) (h16 : a16 t = 2) (h1 : a1 k = w) (hw : w < 7) (hw5 : ¬ w = 5) (hw6 : ¬ w = 6) (h2 : c2 = nI n) (hp : post (c0, c1, nI (n + 1), c3, nI t, c5, c6, c7, c8, c9, c10, c11, c12, a1, a2, a3, a4, a5, a6, a7, a8, upd a9 n w, upd a10 n 0, a11, a12, a13, a14, a15, upd a16 t 3, a17, a18, a19, a20, a21, a22, a23, a24, a25, a26, a27, a28)) : wpX_compileStep post (c0, c1, c2, c3, c4, c5, c6, c7, c8, c9, c10, c11, c12, a1, a2, a3, a4, a5, a6, a7, a8, a9, a10, a11, a12, a13, a14, a15, a16, a17, a18, a19, a20, a21, a22, a23, a24, a25, a26, a27, a28) := by
  subst h4
  have e : (nI t).toNatClampNeg = t := cc_cl (by omega)
  have ek : (nI k).toNatClampNeg = k := cc_cl (by omega)
  have it : vp_in (nI t) 32 := cc_in (by omega) (by decide)
  have ik : vp_in (nI k) 24 := cc_in hk (by decide)
  have g15 : a15 (nI t).toNatClampNeg = nI k := by rw [e, h15]
  have g16 : a16 (nI t).toNatClampNeg = 2 := by rw [e, h16]
  have g1 : a1 (nI k).toNatClampNeg < 7 := by rw [ek, h1]; exact hw
  have g5 : ¬ a1 (nI k).toNatClampNeg = 5 := by rw [ek, h1]; exact hw5
  have g6 : ¬ a1 (nI k).toNatClampNeg = 6 := by rw [ek, h1]; exact hw6
  unfold wpX_compileStep
  refine nm_r (nI_pred t) ⟨it, nm_r g15 ⟨it, nm_r g16 ⟨it, cc_nu e rfl ⟨ik, br_t g1 ⟨ik, br_f g5 (br_f (by decide) (br_f (by decide) ⟨ik, br_f g6 ⟨ik, ?_⟩⟩))⟩⟩⟩⟩⟩
  rw [ek, h1]
  refine cc_emit n hn h2 ?_
  exact hp
end
end
section
/-! the whole compiler on the program of the picture: six instructions -/
section
variable {c0 c1 c2 c3 c4 c5 c6 c7 c8 c9 c10 c11 c12 : Int32} {a1 a2 a3 a4 a5 a6 a7 a8 a9 a10 a11 a12 a13 a14 a15 a16 a17 a18 a19 a20 a21 a22 a23 a24 a25 a26 a27 a28 : Nat → Int32}
/-- what the compiler lays: the instructions and their numbers -/
def cc_code (nm ot op : Int32) (a : Nat → Int32) : Nat → Int32 := upd (upd (upd (upd (upd (upd a 0 10) 1 16) 2 (cc_fc nm ot)) 3 10) 4 op) 5 20
def cc_extra (p q : Int32) (a : Nat → Int32) : Nat → Int32 := upd (upd (upd (upd (upd (upd a 0 p) 1 0) 2 0) 3 q) 4 0) 5 0
theorem cc_compile {post : St2 → Prop} {p q nm ot op x : Int32} (hP : cc_P p q nm ot op a1 a2 a3 a5 a6 a7 a8) (ho : cc_op op) (hx : x = nI 4) (h2 : c2 = nI 0) (hp : ∀ b15 b16 : Nat → Int32, post (c0, c1, nI 6, c3, nI 0, c5, c6, c7, c8, c9, cc_fc nm ot, 0, -1, a1, a2, a3, a4, a5, a6, a7, a8, cc_code nm ot op a9, cc_extra p q a10, a11, a12, a13, a14, b15, b16, a17, a18, a19, a20, a21, a22, a23, a24, a25, a26, a27, a28)) : wpX_compile post (c0, c1, c2, c3, c4, c5, c6, c7, c8, c9, c10, c11, c12, a1, a2, a3, a4, a5, a6, a7, a8, a9, a10, a11, a12, a13, a14, a15, a16, a17, a18, a19, a20, a21, a22, a23, a24, a25, a26, a27, a28) x := by
  have hQ := hP
  obtain ⟨⟨h10, h11, h12, h13, h14⟩, ⟨h23, h24⟩, ⟨h33, h34⟩, ⟨h50, h51, h52, h54⟩, ⟨h61, h63, h64⟩, h73, h80⟩ := hQ
  obtain ⟨_, _, w7, w5, w6, _, _, _⟩ := cc_opF ho
  subst hx
  subst h2
  unfold wpX_compile
  refine cc_begin 0 (by decide) rfl ?_
  refine ⟨9 + 1, br_f (by decide) (br_f (by decide) ?_)⟩
  refine cc_s0 0 4 (by decide) (by decide) rfl rfl rfl h14 (by decide) (by decide) h24 (nm_e ?_)
  refine br_f (by decide) (br_f (by decide) ?_)
  refine cc_sC 1 0 0 (by decide) (by decide) (by decide) rfl rfl rfl h10 h50 rfl (nm_e ?_)
  refine br_f (by decide) (br_f (by decide) ?_)
  refine cc_s1B 0 4 1 (by decide) (by decide) (by decide) rfl rfl rfl h14 h64 h34 rfl (nm_e ?_)
  refine br_f (by decide) (br_f (by decide) ?_)
  refine cc_s0 1 3 (by decide) (by decide) rfl rfl rfl h13 w7 w5 h23 (nm_e ?_)
  refine br_f (by decide) (br_f (by decide) ?_)
  refine cc_sN hP ho 2 2 (by decide) (by decide) rfl rfl rfl rfl (nm_e ?_)
  refine br_f (by decide) (br_f (by decide) ?_)
  refine cc_s1 1 3 (by decide) (by decide) rfl rfl rfl h13 w7 w5 w6 h33 (nm_e ?_)
  refine br_f (by decide) (br_f (by decide) ?_)
  refine cc_sC 2 2 3 (by decide) (by decide) (by decide) rfl rfl rfl h12 h52 rfl (nm_e ?_)
  refine br_f (by decide) (br_f (by decide) ?_)
  refine cc_s2 1 3 4 (by decide) (by decide) (by decide) rfl rfl rfl h13 w7 w5 w6 rfl (nm_e ?_)
  refine br_f (by decide) (br_f (by decide) ?_)
  refine cc_s2B 0 4 (by decide) (by decide) rfl rfl rfl h14 (nm_e ?_)
  refine br_f (by decide) (br_t (by decide) ?_)
  unfold wX_compile_36
  refine cc_emit 5 (by decide) rfl ?_
  exact hp _ _
theorem cc_compileAll {post : St2 → Prop} {p q nm ot op x : Int32} (hP : cc_P p q nm ot op a1 a2 a3 a5 a6 a7 a8) (ho : cc_op op) (hx : x = nI 4) (hp : ∀ b12 b15 b16 : Nat → Int32, post (c0, c1, nI 6, 0, nI 0, c5, c6, c7, c8, c9, cc_fc nm ot, 0, -1, a1, a2, a3, a4, a5, a6, a7, a8, cc_code nm ot op a9, cc_extra p q a10, a11, b12, a13, a14, b15, b16, a17, a18, a19, a20, a21, a22, a23, a24, a25, a26, a27, a28)) : wpX_compileAll post (c0, c1, c2, c3, c4, c5, c6, c7, c8, c9, c10, c11, c12, a1, a2, a3, a4, a5, a6, a7, a8, a9, a10, a11, a12, a13, a14, a15, a16, a17, a18, a19, a20, a21, a22, a23, a24, a25, a26, a27, a28) x := by
  unfold wpX_compileAll
  refine pk_loop (fun n i s => wX_compileAll_12 post x c0 c1 0 0 c4 c5 c6 c7 c8 c9 c10 c11 c12 n (nI i) a1 a2 a3 a4 a5 a6 a7 a8 a9 a10 a11 s a13 a14 a15 a16 a17 a18 a19 a20 a21 a22 a23 a24 a25 a26 a27 a28) (fun _ _ => True) 96 0 a12 (by decide) trivial ?_ ?_
  · intro n s _
    refine br_t (by decide) ?_
    refine cc_compile hP ho hx rfl ?_
    intro b15 b16
    refine ⟨0 + 1, br_t (by decide) ?_⟩
    exact hp s b15 b16
  · intro n i s hi _ hw
    refine br_f (nI_ge (b := 96) hi (by decide)) ⟨cc_in hi (by decide), nm_e (nm_r (nI_1 i) ?_)⟩
    exact hw _ trivial
end
end
section
/-! one instruction of the machine, and the run of the six -/
/-- what the operation makes of two numbers -/
def cc_due (op x y : Int32) : Int32 := if op = 0 then x + y else if op = 1 then x - y else if op = 2 then x * y else if y ≤ x then 0 else 1
section
variable {c0 c1 c2 c3 c4 c5 c6 c7 c8 c9 c10 c11 c12 : Int32} {a1 a2 a3 a4 a5 a6 a7 a8 a9 a10 a11 a12 a13 a14 a15 a16 a17 a18 a19 a20 a21 a22 a23 a24 a25 a26 a27 a28 : Nat → Int32}
theorem cc_push {post : St2 → Prop} {x y : Int32} (v : Nat) (hv : v < 1600) (h5 : c5 = nI v) (hp : post (c0, c1, c2, c3, c4, nI (v + 1), c6, c7, c8, c9, c10, c11, c12, a1, a2, a3, a4, a5, a6, a7, a8, a9, a10, a11, a12, a13, a14, a15, a16, a17, upd a18 v x, upd a19 v y, a20, a21, a22, a23, a24, a25, a26, a27, a28)) : wpX_push post (c0, c1, c2, c3, c4, c5, c6, c7, c8, c9, c10, c11, c12, a1, a2, a3, a4, a5, a6, a7, a8, a9, a10, a11, a12, a13, a14, a15, a16, a17, a18, a19, a20, a21, a22, a23, a24, a25, a26, a27, a28) x y := by
  subst h5
  have e : (nI v).toNatClampNeg = v := cc_cl (by omega)
  have iv : vp_in (nI v) 1600 := cc_in hv (by decide)
  exact ⟨iv, cc_nu e rfl ⟨iv, cc_nu e rfl (nm_r (nI_1 v) hp)⟩⟩
theorem cc_ld10 {post : St2 → Prop} {y : Int32} (v : Nat) (hv : v < 1600) (h5 : c5 = nI v) (hp : post (c0, c1, c2, c3, c4, nI (v + 1), c6, c7, c8, c9, c10, c11, c12, a1, a2, a3, a4, a5, a6, a7, a8, a9, a10, a11, a12, a13, a14, a15, a16, a17, upd a18 v 0, upd a19 v y, a20, a21, a22, a23, a24, a25, a26, a27, a28)) : wpX_load post (c0, c1, c2, c3, c4, c5, c6, c7, c8, c9, c10, c11, c12, a1, a2, a3, a4, a5, a6, a7, a8, a9, a10, a11, a12, a13, a14, a15, a16, a17, a18, a19, a20, a21, a22, a23, a24, a25, a26, a27, a28) 10 y := by
  unfold wpX_load
  refine nm_e (br_t rfl ?_)
  refine cc_push v hv h5 ?_
  exact hp
theorem cc_ld11 {post : St2 → Prop} {t d : Int32} (v : Nat) (hv : v < 1600) (h5 : c5 = nI v) (h6 : c6 = 1) (h24 : a24 0 = t) (h25 : a25 0 = d) (hp : post (c0, c1, c2, c3, c4, nI (v + 1), c6, c7, c8, c9, c10, c11, c12, a1, a2, a3, a4, a5, a6, a7, a8, a9, a10, a11, a12, a13, a14, a15, a16, a17, upd a18 v t, upd a19 v d, a20, a21, a22, a23, a24, a25, a26, a27, a28)) : wpX_load post (c0, c1, c2, c3, c4, c5, c6, c7, c8, c9, c10, c11, c12, a1, a2, a3, a4, a5, a6, a7, a8, a9, a10, a11, a12, a13, a14, a15, a16, a17, a18, a19, a20, a21, a22, a23, a24, a25, a26, a27, a28) 11 0 := by
  subst h6
  have ei : ((0 : Int32) * 11) + 0 = nI 0 := by decide
  have ec : (nI 0).toNatClampNeg = 0 := cc_cl (by decide)
  have iv : vp_in (nI 0) 671 := cc_in (by decide) (by decide)
  unfold wpX_load
  refine nm_r (show (1 : Int32) - 1 = 0 by decide) (br_f (by decide) (br_t rfl ?_))
  rw [ei, ec, h24, h25]
  refine ⟨iv, iv, ?_⟩
  refine cc_push v hv h5 ?_
  exact hp
theorem cc_ld15 {post : St2 → Prop} (v : Nat) (hv : v < 1600) (h5 : c5 = nI v) (hp : post (c0, c1, c2, c3, c4, nI (v + 1), c6, c7, c8, c9, c10, c11, c12, a1, a2, a3, a4, a5, a6, a7, a8, a9, a10, a11, a12, a13, a14, a15, a16, a17, upd a18 v 2, upd a19 v 0, a20, a21, a22, a23, a24, a25, a26, a27, a28)) : wpX_load post (c0, c1, c2, c3, c4, c5, c6, c7, c8, c9, c10, c11, c12, a1, a2, a3, a4, a5, a6, a7, a8, a9, a10, a11, a12, a13, a14, a15, a16, a17, a18, a19, a20, a21, a22, a23, a24, a25, a26, a27, a28) 15 0 := by
  unfold wpX_load
  refine nm_e (br_f (by decide) (br_f (by decide) (br_f (by decide) (br_f (by decide) (br_f (by decide) ?_)))))
  refine cc_push v hv h5 ?_
  exact hp
/-- a load of a number or a closure goes on -/
theorem cc_lnG {post : St2 → Prop} {w y t d : Int32} (v : Nat) (hv : v < 1600) (ht : ¬ t = 2) (hl : ∀ Q : St2 → Prop, Q (c0, c1, c2, c3, c4, nI (v + 1), c6, c7, c8, c9, c10, c11, c12, a1, a2, a3, a4, a5, a6, a7, a8, a9, a10, a11, a12, a13, a14, a15, a16, a17, upd a18 v t, upd a19 v d, a20, a21, a22, a23, a24, a25, a26, a27, a28) → wpX_load Q (c0, c1, c2, c3, c4, c5, c6, c7, c8, c9, c10, c11, c12, a1, a2, a3, a4, a5, a6, a7, a8, a9, a10, a11, a12, a13, a14, a15, a16, a17, a18, a19, a20, a21, a22, a23, a24, a25, a26, a27, a28) w y) (hp : post (c0, c1, c2, c3, c4, nI (v + 1), c6, c7, c8, c9, c10, c11, c12, a1, a2, a3, a4, a5, a6, a7, a8, a9, a10, a11, a12, a13, a14, a15, a16, a17, upd a18 v t, upd a19 v d, a20, a21, a22, a23, a24, a25, a26, a27, a28)) : wpX_loadName post (c0, c1, c2, c3, c4, c5, c6, c7, c8, c9, c10, c11, c12, a1, a2, a3, a4, a5, a6, a7, a8, a9, a10, a11, a12, a13, a14, a15, a16, a17, a18, a19, a20, a21, a22, a23, a24, a25, a26, a27, a28) w y := by
  have g : ¬ upd a18 v t (nI v).toNatClampNeg = 2 := by
    rw [cc_cl (by omega), pk_us]
    exact ht
  unfold wpX_loadName
  refine hl _ ?_
  dsimp only
  rw [nI_pred v]
  exact ⟨cc_in hv (by decide), br_f g hp⟩
/-- a load of nothing is the end -/
theorem cc_lnS {post : St2 → Prop} {w y d : Int32} (v : Nat) (hv : v < 1600) (hl : ∀ Q : St2 → Prop, Q (c0, c1, c2, c3, c4, nI (v + 1), c6, c7, c8, c9, c10, c11, c12, a1, a2, a3, a4, a5, a6, a7, a8, a9, a10, a11, a12, a13, a14, a15, a16, a17, upd a18 v 2, upd a19 v d, a20, a21, a22, a23, a24, a25, a26, a27, a28) → wpX_load Q (c0, c1, c2, c3, c4, c5, c6, c7, c8, c9, c10, c11, c12, a1, a2, a3, a4, a5, a6, a7, a8, a9, a10, a11, a12, a13, a14, a15, a16, a17, a18, a19, a20, a21, a22, a23, a24, a25, a26, a27, a28) w y) (hp : post (c0, c1, c2, c3, c4, nI (v + 1), c6, c7, c8, 2, c10, c11, c12, a1, a2, a3, a4, a5, a6, a7, a8, a9, a10, a11, a12, a13, a14, a15, a16, a17, upd a18 v 2, upd a19 v d, a20, a21, a22, a23, a24, a25, a26, a27, a28)) : wpX_loadName post (c0, c1, c2, c3, c4, c5, c6, c7, c8, c9, c10, c11, c12, a1, a2, a3, a4, a5, a6, a7, a8, a9, a10, a11, a12, a13, a14, a15, a16, a17, a18, a19, a20, a21, a22, a23, a24, a25, a26, a27, a28) w y := by
  have g : upd a18 v 2 (nI v).toNatClampNeg = 2 := by
    rw [cc_cl (by omega), pk_us]
  unfold wpX_loadName
  refine hl _ ?_
  dsimp only
  rw [nI_pred v]
  exact ⟨cc_in hv (by decide), br_t g hp⟩
/-- the way to a load: codes 10, 11, 15 -/
theorem cc_stL {post : Int32 → St2 → Prop} {x w y : Int32} (k : Nat) (hk : k < 128) (hx : x = nI k) (hw : w = 10 ∨ w = 11 ∨ w = 15) (h9 : a9 k = w) (h10 : a10 k = y) (hp : wpX_loadName (fun u => post (nI (k + 1)) u) (c0, c1, c2, c3, c4, c5, c6, c7, c8, c9, c10, c11, c12, a1, a2, a3, a4, a5, a6, a7, a8, a9, a10, a11, a12, a13, a14, a15, a16, a17, a18, a19, a20, a21, a22, a23, a24, a25, a26, a27, a28) w y) : wpX_step post (c0, c1, c2, c3, c4, c5, c6, c7, c8, c9, c10, c11, c12, a1, a2, a3, a4, a5, a6, a7, a8, a9, a10, a11, a12, a13, a14, a15, a16, a17, a18, a19, a20, a21, a22, a23, a24, a25, a26, a27, a28) x := by
  subst hx
  have e : (nI k).toNatClampNeg = k := cc_cl (by omega)
  have ik : vp_in (nI k) 128 := cc_in hk (by decide)
  have g9 : a9 (nI k).toNatClampNeg = w := by rw [e, h9]
  unfold wpX_step
  refine ⟨ik, nm_r g9 (br_t ?_ (br_f ?_ (br_f ?_ (br_f ?_ (br_f ?_ (br_f ?_ (br_f ?_ ⟨ik, ?_⟩)))))))⟩
  · rcases hw with h | h | h <;> subst h <;> decide
  · rcases hw with h | h | h <;> subst h <;> decide
  · rcases hw with h | h | h <;> subst h <;> decide
  · rcases hw with h | h | h <;> subst h <;> decide
  · rcases hw with h | h | h <;> subst h <;> decide
  · rcases hw with h | h | h <;> subst h <;> decide
  · rcases hw with h | h | h <;> subst h <;> decide
  rw [e, h10, nI_1 k]
  exact hp
/-- a number is loaded -/
theorem cc_st10 {post : Int32 → St2 → Prop} {x y : Int32} (k v : Nat) (hk : k < 128) (hv : v < 1600) (hx : x = nI k) (h5 : c5 = nI v) (h9 : a9 k = 10) (h10 : a10 k = y) (hp : post (nI (k + 1)) (c0, c1, c2, c3, c4, nI (v + 1), c6, c7, c8, c9, c10, c11, c12, a1, a2, a3, a4, a5, a6, a7, a8, a9, a10, a11, a12, a13, a14, a15, a16, a17, upd a18 v 0, upd a19 v y, a20, a21, a22, a23, a24, a25, a26, a27, a28)) : wpX_step post (c0, c1, c2, c3, c4, c5, c6, c7, c8, c9, c10, c11, c12, a1, a2, a3, a4, a5, a6, a7, a8, a9, a10, a11, a12, a13, a14, a15, a16, a17, a18, a19, a20, a21, a22, a23, a24, a25, a26, a27, a28) x :=
  cc_stL k hk hx (Or.inl rfl) h9 h10 (cc_lnG v hv (by decide) (fun _ hq => cc_ld10 v hv h5 hq) hp)
/-- slot 0 of the first frame is loaded -/
theorem cc_st11 {post : Int32 → St2 → Prop} {x d : Int32} (k v : Nat) (hk : k < 128) (hv : v < 1600) (hx : x = nI k) (h5 : c5 = nI v) (h6 : c6 = 1) (h9 : a9 k = 11) (h10 : a10 k = 0) (h24 : a24 0 = 0) (h25 : a25 0 = d) (hp : post (nI (k + 1)) (c0, c1, c2, c3, c4, nI (v + 1), c6, c7, c8, c9, c10, c11, c12, a1, a2, a3, a4, a5, a6, a7, a8, a9, a10, a11, a12, a13, a14, a15, a16, a17, upd a18 v 0, upd a19 v d, a20, a21, a22, a23, a24, a25, a26, a27, a28)) : wpX_step post (c0, c1, c2, c3, c4, c5, c6, c7, c8, c9, c10, c11, c12, a1, a2, a3, a4, a5, a6, a7, a8, a9, a10, a11, a12, a13, a14, a15, a16, a17, a18, a19, a20, a21, a22, a23, a24, a25, a26, a27, a28) x :=
  cc_stL k hk hx (Or.inr (Or.inl rfl)) h9 h10 (cc_lnG v hv (by decide) (fun _ hq => cc_ld11 v hv h5 h6 h24 h25 hq) hp)
/-- nothing is loaded: stuck -/
theorem cc_st15 {post : Int32 → St2 → Prop} {x : Int32} (k v : Nat) (hk : k < 128) (hv : v < 1600) (hx : x = nI k) (h5 : c5 = nI v) (h9 : a9 k = 15) (h10 : a10 k = 0) (hp : post (nI (k + 1)) (c0, c1, c2, c3, c4, nI (v + 1), c6, c7, c8, 2, c10, c11, c12, a1, a2, a3, a4, a5, a6, a7, a8, a9, a10, a11, a12, a13, a14, a15, a16, a17, upd a18 v 2, upd a19 v 0, a20, a21, a22, a23, a24, a25, a26, a27, a28)) : wpX_step post (c0, c1, c2, c3, c4, c5, c6, c7, c8, c9, c10, c11, c12, a1, a2, a3, a4, a5, a6, a7, a8, a9, a10, a11, a12, a13, a14, a15, a16, a17, a18, a19, a20, a21, a22, a23, a24, a25, a26, a27, a28) x :=
  cc_stL k hk hx (Or.inr (Or.inr rfl)) h9 h10 (cc_lnS v hv (fun _ hq => cc_ld15 v hv h5 hq) hp)
/-- a value goes to slot 0 of the first frame -/
theorem cc_st16 {post : Int32 → St2 → Prop} {x t d : Int32} (k v : Nat) (hk : k < 128) (hv : v < 1600) (hx : x = nI k) (h5 : c5 = nI (v + 1)) (h6 : c6 = 1) (h9 : a9 k = 16) (h10 : a10 k = 0) (h18 : a18 v = t) (h19 : a19 v = d) (hp : post (nI (k + 1)) (c0, c1, c2, c3, c4, nI v, c6, c7, c8, c9, c10, c11, c12, a1, a2, a3, a4, a5, a6, a7, a8, a9, a10, a11, a12, a13, a14, a15, a16, a17, a18, a19, a20, a21, a22, a23, upd a24 0 t, upd a25 0 d, a26, a27, a28)) : wpX_step post (c0, c1, c2, c3, c4, c5, c6, c7, c8, c9, c10, c11, c12, a1, a2, a3, a4, a5, a6, a7, a8, a9, a10, a11, a12, a13, a14, a15, a16, a17, a18, a19, a20, a21, a22, a23, a24, a25, a26, a27, a28) x := by
  subst hx
  subst h5
  subst h6
  have e : (nI k).toNatClampNeg = k := cc_cl (by omega)
  have ev : (nI v).toNatClampNeg = v := cc_cl (by omega)
  have ei : ((0 : Int32) * 11) + 0 = nI 0 := by decide
  have ec : (nI 0).toNatClampNeg = 0 := cc_cl (by decide)
  have ik : vp_in (nI k) 128 := cc_in hk (by decide)
  have iv : vp_in (nI v) 1600 := cc_in hv (by decide)
  have iw : vp_in (nI 0) 671 := cc_in (by decide) (by decide)
  have g9 : a9 (nI k).toNatClampNeg = 16 := by rw [e, h9]
  unfold wpX_step
  refine ⟨ik, nm_r g9 (br_t (by decide) (br_f (by decide) (br_t rfl ⟨ik, ?_⟩)))⟩
  rw [e, h10, nI_1 k]
  unfold wpX_store
  refine nm_r (nI_pred v) (nm_r (show (1 : Int32) - 1 = 0 by decide) ?_)
  rw [ei, ec, ev, h18, h19]
  exact ⟨iv, iw, nm_e ⟨iv, iw, nm_e hp⟩⟩
theorem cc_comb {post : Int32 → Prop} {w x y : Int32} (hw : cc_op w) (hp : post (cc_due w x y)) : wpX_combined post (c0, c1, c2, c3, c4, c5, c6, c7, c8, c9, c10, c11, c12, a1, a2, a3, a4, a5, a6, a7, a8, a9, a10, a11, a12, a13, a14, a15, a16, a17, a18, a19, a20, a21, a22, a23, a24, a25, a26, a27, a28) w x y := by
  unfold wpX_combined
  rcases hw with h | h | h | h
  · subst h
    exact br_t rfl hp
  · subst h
    exact br_f (by decide) (br_t rfl hp)
  · subst h
    exact br_f (by decide) (br_f (by decide) (br_t rfl hp))
  · subst h
    refine br_f (by decide) (br_f (by decide) (br_f (by decide) ?_))
    by_cases hy : y ≤ x
    · have e : cc_due 3 x y = 0 := by
        unfold cc_due
        rw [if_neg (by decide), if_neg (by decide), if_neg (by decide), if_pos hy]
      rw [e] at hp
      exact br_t hy hp
    · have e : cc_due 3 x y = 1 := by
        unfold cc_due
        rw [if_neg (by decide), if_neg (by decide), if_neg (by decide), if_neg hy]
      rw [e] at hp
      exact br_f hy hp
/-- an operation on the two topmost numbers -/
theorem cc_stO {post : Int32 → St2 → Prop} {x w y z : Int32} (k v : Nat) (hk : k < 128) (hv : v < 1599) (hx : x = nI k) (hw : cc_op w) (h5 : c5 = nI (v + 2)) (h9 : a9 k = w) (h18 : a18 v = 0) (h18' : a18 (v + 1) = 0) (h19 : a19 v = y) (h19' : a19 (v + 1) = z) (hp : post (nI (k + 1)) (c0, c1, c2, c3, c4, nI (v + 1), c6, c7, c8, c9, c10, c11, c12, a1, a2, a3, a4, a5, a6, a7, a8, a9, a10, a11, a12, a13, a14, a15, a16, a17, upd a18 v 0, upd a19 v (cc_due w y z), a20, a21, a22, a23, a24, a25, a26, a27, a28)) : wpX_step post (c0, c1, c2, c3, c4, c5, c6, c7, c8, c9, c10, c11, c12, a1, a2, a3, a4, a5, a6, a7, a8, a9, a10, a11, a12, a13, a14, a15, a16, a17, a18, a19, a20, a21, a22, a23, a24, a25, a26, a27, a28) x := by
  subst hx
  subst h5
  obtain ⟨_, _, _, _, _, _, _, w4⟩ := cc_opF hw
  have e : (nI k).toNatClampNeg = k := cc_cl (by omega)
  have ev : (nI v).toNatClampNeg = v := cc_cl (by omega)
  have ev' : (nI (v + 1)).toNatClampNeg = v + 1 := cc_cl (by omega)
  have ik : vp_in (nI k) 128 := cc_in hk (by decide)
  have iv : vp_in (nI v) 1600 := cc_in (by omega) (by decide)
  have iv' : vp_in (nI (v + 1)) 1600 := cc_in (by omega) (by decide)
  have g9 : a9 (nI k).toNatClampNeg = w := by rw [e, h9]
  have e2 : nI (v + 2) - 2 = nI v := pk_sub (a := v + 2) (b := 2) (by omega)
  unfold wpX_step
  refine ⟨ik, nm_r g9 (br_f w4 ?_)⟩
  rw [nI_1 k]
  unfold wpX_calculate
  refine nm_r e2 ?_
  rw [nI_1 v, ev, ev', h19, h19']
  refine ⟨iv, br_t h18 ⟨iv', br_t h18' ⟨iv, iv', ?_⟩⟩⟩
  refine cc_comb hw ?_
  refine cc_push v (by omega) rfl ?_
  exact hp
/-- the first frame returns: the end -/
theorem cc_st20 {post : Int32 → St2 → Prop} {x t : Int32} (k v : Nat) (hk : k < 128) (hv : v < 1600) (hx : x = nI k) (h5 : c5 = nI (v + 1)) (h6 : c6 = 1) (h9 : a9 k = 20) (h18 : a18 v = t) (hp : ∀ r, post r (c0, c1, c2, c3, c4, c5, 0, c7, c8, t, c10, c11, c12, a1, a2, a3, a4, a5, a6, a7, a8, a9, a10, a11, a12, a13, a14, a15, a16, a17, a18, a19, a20, a21, a22, a23, a24, a25, a26, a27, a28)) : wpX_step post (c0, c1, c2, c3, c4, c5, c6, c7, c8, c9, c10, c11, c12, a1, a2, a3, a4, a5, a6, a7, a8, a9, a10, a11, a12, a13, a14, a15, a16, a17, a18, a19, a20, a21, a22, a23, a24, a25, a26, a27, a28) x := by
  subst hx
  subst h5
  subst h6
  have e : (nI k).toNatClampNeg = k := cc_cl (by omega)
  have ev : (nI v).toNatClampNeg = v := cc_cl (by omega)
  have ik : vp_in (nI k) 128 := cc_in hk (by decide)
  have iv : vp_in (nI v) 1600 := cc_in hv (by decide)
  have i0 : vp_in (nI 0) 61 := cc_in (by decide) (by decide)
  have g9 : a9 (nI k).toNatClampNeg = 20 := by rw [e, h9]
  unfold wpX_step
  refine ⟨ik, nm_r g9 (br_t (by decide) (br_f (by decide) (br_f (by decide) (br_f (by decide) (br_f (by decide) (br_f (by decide) (br_t rfl ?_)))))))⟩
  refine nm_r (show (1 : Int32) - 1 = 0 by decide) (br_t rfl ?_)
  rw [nI_pred v, ev, h18]
  exact ⟨iv, nm_e ⟨i0, hp _⟩⟩
end
end
section
/-! a whole run; the questions run, value, free -/
/-- how a run ends: a number on top, or stuck -/
def cc_R (p q nm ot op c5 c9 : Int32) (a19 : Nat → Int32) : Prop := (nm = ot → c5 = nI 1 ∧ c9 = 0 ∧ a19 0 = cc_due op p q) ∧ (¬ nm = ot → c9 = 2)
section
variable {c0 c1 c2 c3 c4 c5 c6 c7 c8 c9 c10 c11 c12 : Int32} {a1 a2 a3 a4 a5 a6 a7 a8 a9 a10 a11 a12 a13 a14 a15 a16 a17 a18 a19 a20 a21 a22 a23 a24 a25 a26 a27 a28 : Nat → Int32}
theorem cc_execute {post : St2 → Prop} {p q nm ot op : Int32} (hP : cc_P p q nm ot op a1 a2 a3 a5 a6 a7 a8) (ho : cc_op op) (h1 : c1 = nI 1)
    (hp : ∀ (d2 d3 d4 d5 d6 d7 d8 d9 d10 d11 d12 : Int32) (b9 b10 b11 b12 b13 b14 b15 b16 b17 b18 b19 b20 b21 b22 b23 b24 b25 b26 b27 b28 : Nat → Int32), cc_R p q nm ot op d5 d9 b19 → post (c0, c1, d2, d3, d4, d5, d6, d7, d8, d9, d10, d11, d12, a1, a2, a3, a4, a5, a6, a7, a8, b9, b10, b11, b12, b13, b14, b15, b16, b17, b18, b19, b20, b21, b22, b23, b24, b25, b26, b27, b28)) : wpX_execute post (c0, c1, c2, c3, c4, c5, c6, c7, c8, c9, c10, c11, c12, a1, a2, a3, a4, a5, a6, a7, a8, a9, a10, a11, a12, a13, a14, a15, a16, a17, a18, a19, a20, a21, a22, a23, a24, a25, a26, a27, a28) := by
  have h80 : a8 0 = nI 4 := hP.2.2.2.2.2.2
  have e0 : (nI 0).toNatClampNeg = 0 := cc_cl (by decide)
  subst h1
  unfold wpX_execute
  dsimp only
  rw [show nI 1 - 1 = nI 0 from nI_pred 0, e0, h80]
  refine ⟨cc_in (by decide) (by decide), ?_⟩
  refine cc_compileAll hP ho rfl ?_
  intro b12 b15 b16
  refine nm_e (nm_e ?_)
  by_cases hs : nm = ot
  · have hf : cc_fc nm ot = 11 := if_pos hs
    refine ⟨6 + 1, br_f (by decide) (br_f (by decide) ?_)⟩
    refine cc_st10 0 0 (by decide) (by decide) rfl rfl rfl rfl (nm_e ?_)
    refine br_f (by decide) (br_f (by decide) ?_)
    refine cc_st16 1 0 (by decide) (by decide) rfl rfl rfl rfl rfl rfl rfl (nm_e ?_)
    refine br_f (by decide) (br_f (by decide) ?_)
    refine cc_st11 2 0 (by decide) (by decide) rfl rfl rfl hf rfl rfl rfl (nm_e ?_)
    refine br_f (by decide) (br_f (by decide) ?_)
    refine cc_st10 3 1 (by decide) (by decide) rfl rfl rfl rfl (nm_e ?_)
    refine br_f (by decide) (br_f (by decide) ?_)
    refine cc_stO 4 0 (by decide) (by decide) rfl ho rfl rfl rfl rfl rfl rfl (nm_e ?_)
    refine br_f (by decide) (br_f (by decide) ?_)
    refine cc_st20 (t := 0) 5 0 (by decide) (by decide) rfl rfl rfl rfl rfl (fun r => nm_e ?_)
    refine br_f (by decide) (br_t (by decide) ?_)
    exact hp _ _ _ _ _ _ _ _ _ _ _ _ _ _ _ _ _ _ _ _ _ _ _ _ _ _ _ _ _ _ _ ⟨fun _ => ⟨rfl, rfl, rfl⟩, fun z => absurd hs z⟩
  · have hf : cc_fc nm ot = 15 := if_neg hs
    refine ⟨3 + 1, br_f (by decide) (br_f (by decide) ?_)⟩
    refine cc_st10 0 0 (by decide) (by decide) rfl rfl rfl rfl (nm_e ?_)
    refine br_f (by decide) (br_f (by decide) ?_)
    refine cc_st16 1 0 (by decide) (by decide) rfl rfl rfl rfl rfl rfl rfl (nm_e ?_)
    refine br_f (by decide) (br_f (by decide) ?_)
    refine cc_st15 2 0 (by decide) (by decide) rfl rfl hf rfl (nm_e ?_)
    refine br_f (by decide) (br_t (by decide) ?_)
    exact hp _ _ _ _ _ _ _ _ _ _ _ _ _ _ _ _ _ _ _ _ _ _ _ _ _ _ _ _ _ _ _ ⟨fun z => absurd z hs, fun _ => rfl⟩
theorem cc_run {post : Int32 → St2 → Prop} {p q nm ot op : Int32} (hP : cc_P p q nm ot op a1 a2 a3 a5 a6 a7 a8) (ho : cc_op op) (h1 : c1 = nI 1)
    (hp : ∀ (r : Int32) (d2 d3 d4 d5 d6 d7 d8 d9 d10 d11 d12 : Int32) (b9 b10 b11 b12 b13 b14 b15 b16 b17 b18 b19 b20 b21 b22 b23 b24 b25 b26 b27 b28 : Nat → Int32), (nm = ot → r = 0) → (¬ nm = ot → r = 2) → post r (c0, c1, d2, d3, d4, d5, d6, d7, d8, d9, d10, d11, d12, a1, a2, a3, a4, a5, a6, a7, a8, b9, b10, b11, b12, b13, b14, b15, b16, b17, b18, b19, b20, b21, b22, b23, b24, b25, b26, b27, b28)) : wpX_run post (c0, c1, c2, c3, c4, c5, c6, c7, c8, c9, c10, c11, c12, a1, a2, a3, a4, a5, a6, a7, a8, a9, a10, a11, a12, a13, a14, a15, a16, a17, a18, a19, a20, a21, a22, a23, a24, a25, a26, a27, a28) := by
  unfold wpX_run
  refine br_f (by rw [h1]; decide) ?_
  refine cc_execute hP ho h1 ?_
  intro d2 d3 d4 d5 d6 d7 d8 d9 d10 d11 d12 b9 b10 b11 b12 b13 b14 b15 b16 b17 b18 b19 b20 b21 b22 b23 b24 b25 b26 b27 b28 hR
  exact hp _ _ _ _ _ _ _ _ _ _ _ _ _ _ _ _ _ _ _ _ _ _ _ _ _ _ _ _ _ _ _ _ (fun z => (hR.1 z).2.1) hR.2
theorem cc_value {post : Int32 → St2 → Prop} {p q nm ot op : Int32} (hP : cc_P p q nm ot op a1 a2 a3 a5 a6 a7 a8) (ho : cc_op op) (h1 : c1 = nI 1)
    (hp : ∀ (r : Int32) (d2 d3 d4 d5 d6 d7 d8 d9 d10 d11 d12 : Int32) (b9 b10 b11 b12 b13 b14 b15 b16 b17 b18 b19 b20 b21 b22 b23 b24 b25 b26 b27 b28 : Nat → Int32), (nm = ot → r = cc_due op p q) → (¬ nm = ot → r = 0) → post r (c0, c1, d2, d3, d4, d5, d6, d7, d8, d9, d10, d11, d12, a1, a2, a3, a4, a5, a6, a7, a8, b9, b10, b11, b12, b13, b14, b15, b16, b17, b18, b19, b20, b21, b22, b23, b24, b25, b26, b27, b28)) : wpX_value post (c0, c1, c2, c3, c4, c5, c6, c7, c8, c9, c10, c11, c12, a1, a2, a3, a4, a5, a6, a7, a8, a9, a10, a11, a12, a13, a14, a15, a16, a17, a18, a19, a20, a21, a22, a23, a24, a25, a26, a27, a28) := by
  unfold wpX_value
  refine br_f (by rw [h1]; decide) ?_
  refine cc_execute hP ho h1 ?_
  intro d2 d3 d4 d5 d6 d7 d8 d9 d10 d11 d12 b9 b10 b11 b12 b13 b14 b15 b16 b17 b18 b19 b20 b21 b22 b23 b24 b25 b26 b27 b28 hR
  by_cases hs : nm = ot
  · obtain ⟨r5, r9, r19⟩ := hR.1 hs
    subst r5
    refine br_t r9 ?_
    rw [show nI 1 - 1 = nI 0 from nI_pred 0, cc_cl (show 0 < 100000 by decide)]
    exact ⟨cc_in (by decide) (by decide), hp _ _ _ _ _ _ _ _ _ _ _ _ _ _ _ _ _ _ _ _ _ _ _ _ _ _ _ _ _ _ _ _ (fun _ => r19) (fun z => absurd hs z)⟩
  · have r9 := hR.2 hs
    refine br_f (by rw [r9]; decide) ?_
    exact hp _ _ _ _ _ _ _ _ _ _ _ _ _ _ _ _ _ _ _ _ _ _ _ _ _ _ _ _ _ _ _ _ (fun z => absurd z hs) (fun _ => rfl)
theorem cc_inside {post : Int32 → Prop} {p q nm ot op : Int32} (hP : cc_P p q nm ot op a1 a2 a3 a5 a6 a7 a8) (hp : post 1) : wpX_inside post (c0, c1, c2, c3, c4, c5, c6, c7, c8, c9, c10, c11, c12, a1, a2, a3, a4, a5, a6, a7, a8, a9, a10, a11, a12, a13, a14, a15, a16, a17, a18, a19, a20, a21, a22, a23, a24, a25, a26, a27, a28) (nI 1) (nI 4) := by
  obtain ⟨_, _, _, _, ⟨h61, h63, h64⟩, _, _⟩ := hP
  have e1 : (nI 1).toNatClampNeg = 1 := cc_cl (by decide)
  have e3 : (nI 3).toNatClampNeg = 3 := cc_cl (by decide)
  have i1 : vp_in (nI 1) 24 := cc_in (by decide) (by decide)
  have i3 : vp_in (nI 3) 24 := cc_in (by decide) (by decide)
  have g61 : a6 (nI 1).toNatClampNeg = nI 3 := by rw [e1, h61]
  have g63 : a6 (nI 3).toNatClampNeg = nI 4 := by rw [e3, h63]
  have l1 : ¬ a6 (nI 1).toNatClampNeg < 0 := by rw [g61]; decide
  have l3 : ¬ a6 (nI 3).toNatClampNeg < 0 := by rw [g63]; decide
  unfold wpX_inside
  refine ⟨2 + 1, br_f (by decide) (br_f (by decide) ⟨i1, br_f l1 ⟨i1, nm_r g61 (nm_e ?_)⟩⟩)⟩
  refine br_f (by decide) (br_f (by decide) ⟨i3, br_f l3 ⟨i3, nm_r g63 (nm_e ?_)⟩⟩)
  exact br_f (by decide) (br_t rfl (br_t rfl hp))
theorem cc_free {post : Int32 → St2 → Prop} {p q nm ot op : Int32} (hP : cc_P p q nm ot op a1 a2 a3 a5 a6 a7 a8) (ho : cc_op op) (h1 : c1 = nI 1)
    (hp : ∀ (r d10 d11 d12 : Int32), (nm = ot → r = 0) → (¬ nm = ot → r = (1 : Int32) <<< (ot &&& 31)) → post r (c0, c1, c2, c3, c4, c5, c6, c7, c8, c9, d10, d11, d12, a1, a2, a3, a4, a5, a6, a7, a8, a9, a10, a11, a12, a13, a14, a15, a16, a17, a18, a19, a20, a21, a22, a23, a24, a25, a26, a27, a28)) : wpX_free post (c0, c1, c2, c3, c4, c5, c6, c7, c8, c9, c10, c11, c12, a1, a2, a3, a4, a5, a6, a7, a8, a9, a10, a11, a12, a13, a14, a15, a16, a17, a18, a19, a20, a21, a22, a23, a24, a25, a26, a27, a28) := by
  have hQ := hP
  obtain ⟨⟨h10, h11, h12, h13, h14⟩, _, _, ⟨_, h51, _, _⟩, _, _, h80⟩ := hQ
  obtain ⟨_, _, _, _, _, _, n9, _⟩ := cc_opF ho
  have e0 : (nI 0).toNatClampNeg = 0 := cc_cl (by decide)
  have e1 : (nI 1).toNatClampNeg = 1 := cc_cl (by decide)
  have e2 : (nI 2).toNatClampNeg = 2 := cc_cl (by decide)
  have e3 : (nI 3).toNatClampNeg = 3 := cc_cl (by decide)
  have e4 : (nI 4).toNatClampNeg = 4 := cc_cl (by decide)
  have i0 : vp_in (nI 0) 24 := cc_in (by decide) (by decide)
  have i1 : vp_in (nI 1) 24 := cc_in (by decide) (by decide)
  have i2 : vp_in (nI 2) 24 := cc_in (by decide) (by decide)
  have i3 : vp_in (nI 3) 24 := cc_in (by decide) (by decide)
  have i4 : vp_in (nI 4) 24 := cc_in (by decide) (by decide)
  have k0 : ¬ a1 (nI 0).toNatClampNeg = 9 := by rw [e0, h10]; decide
  have k1 : a1 (nI 1).toNatClampNeg = 9 := by rw [e1, h11]; rfl
  have k2 : ¬ a1 (nI 2).toNatClampNeg = 9 := by rw [e2, h12]; decide
  have k3 : ¬ a1 (nI 3).toNatClampNeg = 9 := by rw [e3, h13]; exact n9
  have k4 : ¬ a1 (nI 4).toNatClampNeg = 9 := by rw [e4, h14]; decide
  have g51 : a5 (nI 1).toNatClampNeg = ot := by rw [e1, h51]
  have g8 : a8 (nI 0).toNatClampNeg = nI 4 := by rw [e0, h80]
  have tail : ∀ (r d10 d11 d12 : Int32), (nm = ot → r = 0) → (¬ nm = ot → r = (1 : Int32) <<< (ot &&& 31)) → wX_free_26 post (nI 4) 4 r (nI 2) c0 c1 c2 c3 c4 c5 c6 c7 c8 c9 d10 d11 d12 a1 a2 a3 a4 a5 a6 a7 a8 a9 a10 a11 a12 a13 a14 a15 a16 a17 a18 a19 a20 a21 a22 a23 a24 a25 a26 a27 a28 := by
    intro r d10 d11 d12 hr hr'
    refine br_f (by decide) ⟨i2, br_f k2 (nm_r (nI_1 2) ?_)⟩
    refine br_f (by decide) ⟨i3, br_f k3 (nm_r (nI_1 3) ?_)⟩
    refine br_f (by decide) ⟨i4, br_f k4 (nm_r (nI_1 4) ?_)⟩
    exact br_t (by decide) (hp r d10 d11 d12 hr hr')
  subst h1
  unfold wpX_free
  refine br_f (by decide) ?_
  rw [show nI 1 - 1 = nI 0 from nI_pred 0]
  refine ⟨cc_in (by decide) (by decide), nm_r g8 ⟨5 + 1, ?_⟩⟩
  refine br_f (by decide) ⟨i0, br_f k0 (nm_r (nI_1 0) ?_)⟩
  refine br_f (by decide) ⟨i1, br_t k1 ?_⟩
  refine cc_inside hP (br_f (by decide) ⟨i1, ?_⟩)
  rw [g51]
  refine cc_look hP ho ?_
  refine ⟨0 + 1, br_f (by decide) (br_t (by decide) ?_)⟩
  unfold wX_free_99
  by_cases hs : nm = ot
  · have hf : ¬ cc_fc nm ot = 15 := by
      rw [show cc_fc nm ot = 11 from if_pos hs]
      decide
    refine br_f hf (nm_r (nI_1 1) ?_)
    exact tail _ _ _ _ (fun _ => rfl) (fun z => absurd hs z)
  · have hf : cc_fc nm ot = 15 := if_neg hs
    refine br_t hf ⟨i1, nm_e (nm_r (nI_1 1) ?_)⟩
    rw [g51]
    refine tail _ _ _ _ (fun z => absurd z hs) (fun _ => ?_)
    exact Int32.zero_or
end
end
section
/-! the law -/
theorem cc_num (x : Int32) : ¬ (x &&& 15) - 7 < -9 ∧ (x &&& 15) - 7 ≤ 9 := by
  obtain ⟨j, hj, e⟩ := pk_andE x (m := 15) 4 (by decide)
  rw [e]
  exact (show ∀ j : Nat, j < 16 → ¬ nI j - 7 < -9 ∧ nI j - 7 ≤ 9 by decide) j hj
theorem cc_nam (x : Int32) : ¬ x &&& 3 < 0 ∧ x &&& 3 < 4 := by
  obtain ⟨j, hj, e⟩ := pk_andE x (m := 3) 2 (by decide)
  rw [e]
  exact (show ∀ j : Nat, j < 4 → ¬ nI j < 0 ∧ nI j < 4 by decide) j hj
theorem cc_opK (x : Int32) : cc_op (x &&& 3) := by
  obtain ⟨j, hj, e⟩ := pk_andE x (m := 3) 2 (by decide)
  rw [e]
  exact (show ∀ j : Nat, j < 4 → (nI j = 0 ∨ nI j = 1 ∨ nI j = 2 ∨ nI j = 3) by decide) j hj
theorem cc_125 {post : Int32 → St0 → Prop} {mc ms kc ks : Nat} {p q w x8 x10 x11 x12 x13 x14 z0 : Int32} (hw : cc_op w) (hp : wL_lawOf_180 post mc ms x8 x10 x11 x12 x13 x14 z0 (cc_due w p q) kc ks) : wL_lawOf_125 post mc ms p q x8 w x10 x11 x12 x13 x14 z0 kc ks := by
  unfold wL_lawOf_125
  rcases hw with h | h | h | h
  · subst h
    exact br_t rfl hp
  · subst h
    exact br_f (by decide) (br_t rfl hp)
  · subst h
    exact br_f (by decide) (br_f (by decide) (br_t rfl hp))
  · subst h
    refine br_f (by decide) (br_f (by decide) (br_f (by decide) ?_))
    by_cases hy : q ≤ p
    · have e : cc_due 3 p q = 0 := by
        unfold cc_due
        rw [if_neg (by decide), if_neg (by decide), if_neg (by decide), if_pos hy]
      rw [e] at hp
      exact br_t hy hp
    · have e : cc_due 3 p q = 1 := by
        unfold cc_due
        rw [if_neg (by decide), if_neg (by decide), if_neg (by decide), if_neg hy]
      rw [e] at hp
      exact br_f hy hp
theorem cc_180s {post : Int32 → St0 → Prop} {mc ms kc ks : Nat} {x8 x10 x11 x12 x13 x14 z0 : Int32} (h10 : x10 = 1) (h11 : x11 = 0) (h12 : x12 = z0) (h13 : x13 = 0) (h14 : x14 = 5) (hp : post 1 ()) : wL_lawOf_180 post mc ms x8 x10 x11 x12 x13 x14 1 z0 kc ks :=
  br_t h10 (br_f (by decide) (br_t h11 (br_f (by decide) (br_t h12 (br_f (by decide) (br_t h13 (br_t h14 hp)))))))
theorem cc_180d {post : Int32 → St0 → Prop} {mc ms kc ks : Nat} {x8 x10 x11 x12 x13 x14 z0 : Int32} (h10 : x10 = 1) (h11 : x11 = 2) (h12 : x12 = 0) (h13 : x13 = (1 : Int32) <<< (x8 &&& 31)) (h14 : x14 = 5) (hp : post 1 ()) : wL_lawOf_180 post mc ms x8 x10 x11 x12 x13 x14 0 z0 kc ks :=
  br_t h10 (br_t rfl (br_t h11 (br_t rfl (br_t h12 (br_t rfl (br_t h13 (br_t h14 hp)))))))
theorem cc_init {post : St2 → Prop} (hp : post (0, 0, 0, 0, 0, 0, 0, 0, 0, 0, 0, 0, 0, (fun _ => 0), (fun _ => 0), (fun _ => 0), (fun _ => 0), (fun _ => 0), (fun _ => 0), (fun _ => 0), (fun _ => 0), (fun _ => 0), (fun _ => 0), (fun _ => 0), (fun _ => 0), (fun _ => 0), (fun _ => 0), (fun _ => 0), (fun _ => 0), (fun _ => 0), (fun _ => 0), (fun _ => 0), (fun _ => 0), (fun _ => 0), (fun _ => 0), (fun _ => 0), (fun _ => 0), (fun _ => 0), (fun _ => 0), (fun _ => 0), (fun _ => 0))) : wpX_init post 28 12176 (0, 0, 0, 0, 0, 0, 0, 0, 0, 0, 0, 0, 0) :=
  ⟨by decide, by decide, by decide, by decide, by decide, by decide, by decide, by decide, by decide, by decide, by decide, by decide, by decide, by decide, by decide, by decide, by decide, by decide, by decide, by decide, by decide, by decide, by decide, by decide, by decide, by decide, by decide, by decide, by decide, by decide, by decide, by decide, by decide, by decide, by decide, by decide, by decide, by decide, by decide, by decide, by decide, by decide, by decide, by decide, by decide, by decide, by decide, by decide, by decide, by decide, by decide, by decide, by decide, by decide, by decide, by decide, hp⟩
theorem cc_lawOf {post : Int32 → St0 → Prop} (x y v k : Int32) (hp : post 1 ()) : wpL_lawOf post 29 12217 () x y v k := by
  unfold wpL_lawOf
  refine ⟨by decide, by decide, 28, 12176, by decide, by decide, ?_⟩
  refine cc_init ?_
  intro p ep q eqq nm en ot et op eo
  have hp1 := cc_num x
  have hq1 := cc_num y
  have hn1 := cc_nam v
  have ht1 := cc_nam (v >>> ((2 : Int32) &&& 31))
  have ho := cc_opK k
  rw [← ep] at hp1
  rw [← eqq] at hq1
  rw [← en] at hn1
  rw [← et] at ht1
  rw [← eo] at ho
  obtain ⟨w0, w4, _⟩ := cc_opF ho
  clear ep eqq en et eo
  refine cc_number 0 0 (by decide) (by decide) hp1.1 hp1.2 rfl rfl ?_
  refine cc_name 1 1 (by decide) (by decide) ht1.1 ht1.2 rfl rfl ?_
  refine cc_number 2 2 (by decide) (by decide) hq1.1 hq1.2 rfl rfl ?_
  refine cc_two 3 1 1 2 (by decide) (by decide) (by decide) (by decide) w0 w4 rfl rfl rfl rfl ?_
  refine cc_bind 4 0 0 3 (by decide) (by decide) (by decide) (by decide) hn1.1 hn1.2 rfl rfl rfl rfl ?_
  refine cc_run (p := p) (q := q) (nm := nm) (ot := ot) (op := op) ⟨⟨rfl, rfl, rfl, rfl, rfl⟩, ⟨rfl, rfl⟩, ⟨rfl, rfl⟩, ⟨rfl, rfl, rfl, rfl⟩, ⟨rfl, rfl, rfl⟩, rfl, rfl⟩ ho rfl ?_
  intro r1 d2 d3 d4 d5 d6 d7 d8 d9 d10 d11 d12 b9 b10 b11 b12 b13 b14 b15 b16 b17 b18 b19 b20 b21 b22 b23 b24 b25 b26 b27 b28 r1s r1d
  refine cc_value (p := p) (q := q) (nm := nm) (ot := ot) (op := op) ⟨⟨rfl, rfl, rfl, rfl, rfl⟩, ⟨rfl, rfl⟩, ⟨rfl, rfl⟩, ⟨rfl, rfl, rfl, rfl⟩, ⟨rfl, rfl, rfl⟩, rfl, rfl⟩ ho rfl ?_
  intro r2 e2 e3 e4 e5 e6 e7 e8 e9 e10 e11 e12 g9 g10 g11 g12 g13 g14 g15 g16 g17 g18 g19 g20 g21 g22 g23 g24 g25 g26 g27 g28 r2s r2d
  refine cc_free (p := p) (q := q) (nm := nm) (ot := ot) (op := op) ⟨⟨rfl, rfl, rfl, rfl, rfl⟩, ⟨rfl, rfl⟩, ⟨rfl, rfl⟩, ⟨rfl, rfl, rfl, rfl⟩, ⟨rfl, rfl, rfl⟩, rfl, rfl⟩ ho rfl ?_
  intro r3 f10 f11 f12 r3s r3d
  unfold wpX_made
  refine br_c (fun hs => ?_) (fun hs => ?_)
  · exact cc_125 ho (cc_180s rfl (r1s hs) (r2s hs) (r3s hs) rfl hp)
  · exact cc_125 ho (cc_180d rfl (r1d hs) (r2d hs) (r3d hs) rfl hp)
theorem cc_cell {post : Int32 → Prop} {L : Nat} {xs : Nat → Int32} {x : Int32} (k : Nat) (hL : L ≤ 4) (hk : k < 4) (hx : x = nI k) (hp : ∀ r, post r) : wpL_cellAt post L xs () x := by
  subst hx
  exact pk_le L k (fun _ => hp _) (fun h => ⟨vp_in_nI h (by omega), hp _⟩)
theorem i_vc (xs : Nat → Int32) (L : Nat) (hL : L ≤ 4) : wpL_law (fun r => r = 1) L xs := by
  unfold wpL_law
  refine cc_cell 0 hL (by decide) rfl (fun r1 => ?_)
  refine cc_cell 1 hL (by decide) rfl (fun r2 => ?_)
  refine cc_cell 2 hL (by decide) rfl (fun r3 => ?_)
  refine cc_cell 3 hL (by decide) rfl (fun r4 => ?_)
  exact ⟨29, 12217, by decide, by decide, cc_lawOf r1 r2 r3 r4 rfl⟩
end
