section
/-! the three cost methods, as pure functions -/
def wr_plus (a b : Int32) : Int32 := if a < 0 then -1 else if 0 ≤ b then a + b else -1
def wr_les (a b : Int32) : Int32 := if 0 ≤ a then (if 0 ≤ b then (if b ≤ a then b else a) else a) else b
def wr_gre (a b : Int32) : Int32 := if a ≤ b then b else a
theorem wr_plus_l (b : Int32) : wr_plus (-1) b = -1 := if_pos (by decide)
theorem wr_plus_r (a : Int32) : wr_plus a (-1) = -1 := by
  unfold wr_plus
  split
  · rfl
  · exact if_neg (by decide)
theorem wr_plus_n {a b : Nat} (ha : a < 2 ^ 30) (hb : b < 2 ^ 30) : wr_plus (nI a) (nI b) = nI (a + b) := by
  unfold wr_plus
  rw [if_neg (nI_pos (by omega)), if_pos (nI_pos' (by omega)), nI_add]
theorem wr_les_l (b : Int32) : wr_les (-1) b = b := if_neg (by decide)
theorem wr_les_r {a : Nat} (ha : a < 2 ^ 31) : wr_les (nI a) (-1) = nI a := by
  unfold wr_les
  rw [if_pos (nI_pos' ha), if_neg (by decide)]
theorem wr_les_n {a b : Nat} (ha : a < 2 ^ 31) (hb : b < 2 ^ 31) : wr_les (nI a) (nI b) = nI (min a b) := by
  unfold wr_les
  rw [if_pos (nI_pos' ha), if_pos (nI_pos' hb)]
  by_cases h : b ≤ a
  · rw [if_pos (nI_le h ha), Nat.min_eq_right h]
  · rw [if_neg (nI_ge (by omega) hb), Nat.min_eq_left (by omega)]
theorem wr_m1 {b : Nat} (hb : b < 2 ^ 31) : (-1 : Int32) ≤ nI b := by
  rw [Int32.le_iff_toInt_le, nI_toInt hb]
  have h : (-1 : Int32).toInt = -1 := by decide
  omega
theorem wr_m1' {a : Nat} (ha : a < 2 ^ 31) : ¬ nI a ≤ (-1 : Int32) := by
  rw [Int32.le_iff_toInt_le, nI_toInt ha]
  have h : (-1 : Int32).toInt = -1 := by decide
  omega
theorem wr_gre_l {b : Nat} (hb : b < 2 ^ 31) : wr_gre (-1) (nI b) = nI b := if_pos (wr_m1 hb)
theorem wr_gre_r {a : Nat} (ha : a < 2 ^ 31) : wr_gre (nI a) (-1) = nI a := if_neg (wr_m1' ha)
theorem wr_gre_m : wr_gre (-1) (-1) = -1 := by decide
theorem wr_gre_n {a b : Nat} (ha : a < 2 ^ 31) (hb : b < 2 ^ 31) : wr_gre (nI a) (nI b) = nI (max a b) := by
  unfold wr_gre
  by_cases h : a ≤ b
  · rw [if_pos (nI_le h hb), Nat.max_eq_right h]
  · rw [if_neg (nI_ge (by omega) ha), Nat.max_eq_left (by omega)]
/-! sums over places: ways, least, greatest -/
def wr_fw (x y : Nat → Int32) : Nat → Int32 → Int32
  | 0, z => z
  | k + 1, z => wr_fw x y k z + x k * y k
def wr_fm (x y : Nat → Int32) : Nat → Int32 → Int32
  | 0, z => z
  | k + 1, z => wr_les (wr_fm x y k z) (wr_plus (x k) (y k))
def wr_fx (x y : Nat → Int32) : Nat → Int32 → Int32
  | 0, z => z
  | k + 1, z => wr_gre (wr_fx x y k z) (wr_plus (x k) (y k))
/-- a place of a table of ten columns -/
theorem wr_ix (x y : Nat) : nI x * 10 + nI y = nI (x * 10 + y) := by
  rw [show (10 : Int32) = nI 10 from rfl, pk_mul, nI_add]
end
section
/-! the small methods -/
theorem wr_plusW {post : Int32 → Prop} {u : St2} {a b : Int32} (h : post (wr_plus a b)) : wpX_plus post u a b := by
  obtain ⟨f0, f1, f2, f3, f4, f5, f6, a1, a2, a3, a4, a5, a6, a7, a8, a9, a10, a11, a12, a13, a14, a15, a16, a17, a18, a19, a20, a21, a22, a23, a24, a25, a26, a27, a28, a29, a30, a31, a32, a33, a34⟩ := u
  refine br_c (fun z => ?_) (fun z => br_c (fun y => ?_) (fun y => ?_))
  · rw [show wr_plus a b = -1 from if_pos z] at h
    exact h
  · rw [show wr_plus a b = a + b from (if_neg z).trans (if_pos y)] at h
    exact h
  · rw [show wr_plus a b = -1 from (if_neg z).trans (if_neg y)] at h
    exact h
theorem wr_lesW {post : Int32 → Prop} {u : St2} {a b : Int32} (h : post (wr_les a b)) : wpX_lesser post u a b := by
  obtain ⟨f0, f1, f2, f3, f4, f5, f6, a1, a2, a3, a4, a5, a6, a7, a8, a9, a10, a11, a12, a13, a14, a15, a16, a17, a18, a19, a20, a21, a22, a23, a24, a25, a26, a27, a28, a29, a30, a31, a32, a33, a34⟩ := u
  refine br_c (fun z => br_c (fun y => br_c (fun x => ?_) (fun x => ?_)) (fun y => ?_)) (fun z => ?_)
  · rw [show wr_les a b = b from (if_pos z).trans ((if_pos y).trans (if_pos x))] at h
    exact h
  · rw [show wr_les a b = a from (if_pos z).trans ((if_pos y).trans (if_neg x))] at h
    exact h
  · rw [show wr_les a b = a from (if_pos z).trans (if_neg y)] at h
    exact h
  · rw [show wr_les a b = b from if_neg z] at h
    exact h
theorem wr_greW {post : Int32 → Prop} {u : St2} {a b : Int32} (h : post (wr_gre a b)) : wpX_greater post u a b := by
  obtain ⟨f0, f1, f2, f3, f4, f5, f6, a1, a2, a3, a4, a5, a6, a7, a8, a9, a10, a11, a12, a13, a14, a15, a16, a17, a18, a19, a20, a21, a22, a23, a24, a25, a26, a27, a28, a29, a30, a31, a32, a33, a34⟩ := u
  refine br_c (fun z => ?_) (fun z => ?_)
  · rw [show wr_gre a b = b from if_pos z] at h
    exact h
  · rw [show wr_gre a b = a from if_neg z] at h
    exact h
theorem wr_refusedW {post : Int32 → Prop} {f2 f3 f4 f5 f6 : Int32} {a1 a2 a3 a4 a5 a6 a7 a8 a9 a10 a11 a12 a13 a14 a15 a16 a17 a18 a19 a20 a21 a22 a23 a24 a25 a26 a27 a28 a29 a30 a31 a32 a33 a34 : Nat → Int32} {h m k : Nat} (hm : m < 20) (hk : k ≤ h) (hh : h < 10) (H : post 0) : wpX_refused post (nI h, nI m, f2, f3, f4, f5, f6, a1, a2, a3, a4, a5, a6, a7, a8, a9, a10, a11, a12, a13, a14, a15, a16, a17, a18, a19, a20, a21, a22, a23, a24, a25, a26, a27, a28, a29, a30, a31, a32, a33, a34) (nI k) :=
  pk_eq m 20 (fun z => absurd z (by omega)) (fun _ => pk_le k h (fun _ => H) (fun z => absurd z (by omega)))
theorem wr_fitsW {post : Int32 → Prop} {f0 f1 f2 f3 f4 f5 f6 : Int32} {a1 a2 a3 a4 a5 a6 a7 a8 a9 a10 a11 a12 a13 a14 a15 a16 a17 a18 a19 a20 a21 a22 a23 a24 a25 a26 a27 a28 a29 a30 a31 a32 a33 a34 : Nat → Int32} {P : Nat} {x : Int32} (hP : P < 10) (h3 : a14 P = 3) (H : post 1) : wpX_fits post (f0, f1, f2, f3, f4, f5, f6, a1, a2, a3, a4, a5, a6, a7, a8, a9, a10, a11, a12, a13, a14, a15, a16, a17, a18, a19, a20, a21, a22, a23, a24, a25, a26, a27, a28, a29, a30, a31, a32, a33, a34) (nI P) x := by
  have c : (nI P).toNatClampNeg = P := nI_clamp (by omega)
  exact And.intro (pk_in P 10 hP) (br_t (by rw [c]; exact h3) H)
theorem wr_push {post : St2 → Prop} {f1 f2 f3 f4 f5 f6 : Int32} {a1 a2 a3 a4 a5 a6 a7 a8 a9 a10 a11 a12 a13 a14 a15 a16 a17 a18 a19 a20 a21 a22 a23 a24 a25 a26 a27 a28 a29 a30 a31 a32 a33 a34 : Nat → Int32} {h : Nat} (hh : h < 8) (H : post (nI (h + 1), f1 + 1, f2, f3, f4, f5, f6, upd a1 h f2, upd a2 h 0, upd a3 h 0, a4, a5, a6, a7, a8, a9, a10, a11, a12, a13, a14, a15, a16, a17, a18, a19, a20, a21, a22, a23, a24, a25, a26, a27, a28, a29, a30, a31, a32, a33, a34)) : wpX_push post (nI h, f1, f2, f3, f4, f5, f6, a1, a2, a3, a4, a5, a6, a7, a8, a9, a10, a11, a12, a13, a14, a15, a16, a17, a18, a19, a20, a21, a22, a23, a24, a25, a26, a27, a28, a29, a30, a31, a32, a33, a34) 0 0 := by
  have c : (nI h).toNatClampNeg = h := nI_clamp (by omega)
  have b : vp_nar .boolean 0 = 0 := rfl
  exact And.intro (pk_in h 9 (by omega)) (nm_r (by rw [c]) ⟨pk_in h 8 hh, nm_r (by rw [c, b]) ⟨pk_in h 8 hh, nm_r (by rw [c]) (nm_r (nI_1 h) (nm_e H))⟩⟩)
theorem wr_cut {post : St2 → Prop} {f0 f1 f2 f3 f4 f5 f6 : Int32} {a1 a2 a3 a4 a5 a6 a7 a8 a9 a10 a11 a12 a13 a14 a15 a16 a17 a18 a19 a20 a21 a22 a23 a24 a25 a26 a27 a28 a29 a30 a31 a32 a33 a34 : Nat → Int32} {x y : Nat} (hx : x < 10) (hy : y < 10) (H : post (f0, f1, f2, f3, f4, f5, f6, a1, a2, a3, a4, a5, a6, a7, a8, a9, a10, upd a11 (x * 10 + y) 0, upd a12 (x * 10 + y) (-1), upd a13 (x * 10 + y) (-1), a14, a15, a16, a17, a18, a19, a20, a21, a22, a23, a24, a25, a26, a27, a28, a29, a30, a31, a32, a33, a34)) : wpX_cut post (f0, f1, f2, f3, f4, f5, f6, a1, a2, a3, a4, a5, a6, a7, a8, a9, a10, a11, a12, a13, a14, a15, a16, a17, a18, a19, a20, a21, a22, a23, a24, a25, a26, a27, a28, a29, a30, a31, a32, a33, a34) (nI x) (nI y) := by
  have c : (nI x * 10 + nI y).toNatClampNeg = x * 10 + y := by rw [wr_ix, nI_clamp (by omega)]
  have i : vp_in (nI x * 10 + nI y) 100 := by
    rw [wr_ix]
    exact vp_in_nI (by omega) (by omega)
  exact And.intro i (nm_r (by rw [c]) ⟨i, nm_r (by rw [c]) ⟨i, nm_r (by rw [c]) H⟩⟩)
end
section
/-! leaf: a new place, its row and its column of the follow table cleared -/
def wr_cl (p i : Nat) (s : (Nat → Int32) × (Nat → Int32) × (Nat → Int32)) : Prop := ∀ x y, x < 10 → y < 10 → (x < p ∨ y < p ∨ (x = p ∧ y < i) ∨ (y = p ∧ x < i)) → s.1 (x * 10 + y) = 0 ∧ s.2.1 (x * 10 + y) = -1 ∧ s.2.2 (x * 10 + y) = -1
theorem wr_cl_step {p i : Nat} {s : (Nat → Int32) × (Nat → Int32) × (Nat → Int32)} (h : wr_cl p i s) : wr_cl p (i + 1) (upd (upd s.1 (p * 10 + i) 0) (i * 10 + p) 0, upd (upd s.2.1 (p * 10 + i) (-1)) (i * 10 + p) (-1), upd (upd s.2.2 (p * 10 + i) (-1)) (i * 10 + p) (-1)) := by
  intro x y hx hy hc
  dsimp only
  by_cases e : x * 10 + y = i * 10 + p
  · rw [e, pk_us, pk_us, pk_us]
    exact ⟨rfl, rfl, rfl⟩
  · rw [pk_un e, pk_un e, pk_un e]
    by_cases e2 : x * 10 + y = p * 10 + i
    · rw [e2, pk_us, pk_us, pk_us]
      exact ⟨rfl, rfl, rfl⟩
    · rw [pk_un e2, pk_un e2, pk_un e2]
      exact h x y hx hy (by omega)
theorem wr_cl_next {p : Nat} {s : (Nat → Int32) × (Nat → Int32) × (Nat → Int32)} (h : wr_cl p 10 s) : wr_cl (p + 1) 0 s :=
  fun x y hx hy hc => h x y hx hy (by omega)
theorem wr_leaf105 {post : Int32 → St2 → Prop} {f0 f1 f2 f3 f4 f5 f6 : Int32} {a1 a2 a3 a4 a5 a6 a7 a8 a9 a10 a11 a12 a13 a14 a15 a16 a17 a18 a19 a20 a21 a22 a23 a24 a25 a26 a27 a28 a29 a30 a31 a32 a33 a34 : Nat → Int32} {p : Nat} (hp : p < 10) (hc : wr_cl p 0 (a11, a12, a13))
    (H : ∀ b11 b12 b13, wr_cl (p + 1) 0 (b11, b12, b13) → post f0 (f0, f1, nI (p + 1), f3, f4, f5, f6, a1, a2, a3, a4, a5, a6, a7, a8, a9, a10, b11, b12, b13, a14, a15, a16, a17, a18, a19, a20, a21, a22, a23, a24, a25, a26, a27, a28, a29, a30, a31, a32, a33, a34)) : ∃ n, wX_leaf_105 post (nI p) n 0 f0 f1 f2 f3 f4 f5 f6 a1 a2 a3 a4 a5 a6 a7 a8 a9 a10 a11 a12 a13 a14 a15 a16 a17 a18 a19 a20 a21 a22 a23 a24 a25 a26 a27 a28 a29 a30 a31 a32 a33 a34 := by
  refine pk_loop (fun n i (s : (Nat → Int32) × (Nat → Int32) × (Nat → Int32)) => wX_leaf_105 post (nI p) n (nI i) f0 f1 f2 f3 f4 f5 f6 a1 a2 a3 a4 a5 a6 a7 a8 a9 a10 s.1 s.2.1 s.2.2 a14 a15 a16 a17 a18 a19 a20 a21 a22 a23 a24 a25 a26 a27 a28 a29 a30 a31 a32 a33 a34) (fun i s => wr_cl p i s) 10 0 (a11, a12, a13) (by omega) hc ?_ ?_
  · exact (fun n s h => pk_le 10 10 (fun _ => nm_r (nI_1 p) (H s.1 s.2.1 s.2.2 (wr_cl_next h))) (fun z => absurd z (by omega)))
  · exact (fun n i s hi h hw => pk_le 10 i (fun z => absurd z (by omega)) (fun _ => wr_cut hp hi (wr_cut hi hp (nm_r (nI_1 i) (hw _ (wr_cl_step h))))))
theorem wr_leaf {post : Int32 → St2 → Prop} {f3 f4 f5 f6 : Int32} {a1 a2 a3 a4 a5 a6 a7 a8 a9 a10 a11 a12 a13 a14 a15 a16 a17 a18 a19 a20 a21 a22 a23 a24 a25 a26 a27 a28 a29 a30 a31 a32 a33 a34 : Nat → Int32} {h m p w : Nat} {k : Int32} (hh : h < 8) (hm : m < 20) (hp : p < 10) (hw : w ≤ 9) (hc : wr_cl p 0 (a11, a12, a13))
    (H : ∀ b11 b12 b13, wr_cl (p + 1) 0 (b11, b12, b13) → post (nI (h + 1)) (nI (h + 1), nI (m + 1), nI (p + 1), f3, f4, f5, f6, upd a1 h (nI p), upd a2 h 0, upd a3 h 0, upd a4 p k, upd a5 p 1, upd a6 p (nI w), upd a7 p (nI w), upd a8 p 1, upd a9 p 0, upd a10 p 0, b11, b12, b13, a14, a15, a16, a17, a18, a19, a20, a21, a22, a23, a24, a25, a26, a27, a28, a29, a30, a31, a32, a33, a34)) : wpX_leaf post (nI h, nI m, nI p, f3, f4, f5, f6, a1, a2, a3, a4, a5, a6, a7, a8, a9, a10, a11, a12, a13, a14, a15, a16, a17, a18, a19, a20, a21, a22, a23, a24, a25, a26, a27, a28, a29, a30, a31, a32, a33, a34) k (nI w) := by
  have c : (nI p).toNatClampNeg = p := nI_clamp (by omega)
  have i : vp_in (nI p) 10 := pk_in p 10 hp
  refine pk_lt w 0 (fun z => absurd z (by omega)) (fun _ => pk_le w 9 (fun _ => pk_eq m 20 (fun z => absurd z (by omega)) (fun _ => pk_eq h 8 (fun z => absurd z (by omega)) (fun _ => pk_eq p 10 (fun z => absurd z (by omega)) (fun _ => wr_push hh ?_)))) (fun z => absurd z (by omega)))
  rw [nI_1 m]
  exact And.intro i (nm_r (by rw [c]) ⟨i, nm_r (by rw [c]) ⟨i, nm_r (by rw [c]) ⟨i, nm_r (by rw [c]) ⟨i, nm_r (by rw [c]) ⟨i, nm_r (by rw [c]) ⟨i, nm_r (by rw [c]) (wr_leaf105 hp hc H)⟩⟩⟩⟩⟩⟩)
theorem wr_any {post : Int32 → St2 → Prop} {f3 f4 f5 f6 : Int32} {a1 a2 a3 a4 a5 a6 a7 a8 a9 a10 a11 a12 a13 a14 a15 a16 a17 a18 a19 a20 a21 a22 a23 a24 a25 a26 a27 a28 a29 a30 a31 a32 a33 a34 : Nat → Int32} {h m p w : Nat} (hh : h < 8) (hm : m < 20) (hp : p < 10) (hw : w ≤ 9) (hc : wr_cl p 0 (a11, a12, a13))
    (H : ∀ b11 b12 b13, wr_cl (p + 1) 0 (b11, b12, b13) → post (nI (h + 1)) (nI (h + 1), nI (m + 1), nI (p + 1), f3, f4, f5, f6, upd a1 h (nI p), upd a2 h 0, upd a3 h 0, upd a4 p 3, upd a5 p 1, upd a6 p (nI w), upd a7 p (nI w), upd a8 p 1, upd a9 p 0, upd a10 p 0, b11, b12, b13, a14, a15, a16, a17, a18, a19, a20, a21, a22, a23, a24, a25, a26, a27, a28, a29, a30, a31, a32, a33, a34)) : wpX_any post (nI h, nI m, nI p, f3, f4, f5, f6, a1, a2, a3, a4, a5, a6, a7, a8, a9, a10, a11, a12, a13, a14, a15, a16, a17, a18, a19, a20, a21, a22, a23, a24, a25, a26, a27, a28, a29, a30, a31, a32, a33, a34) (nI w) :=
  wr_leaf hh hm hp hw hc H
end
section
/-! link: the ways from the end at place P to the begins at the places from F on -/
def wr_lk (P F i : Nat) (x4 x5 : Int32) (a5 a6 a7 a8 a11 a12 a13 : Nat → Int32) (s : (Nat → Int32) × (Nat → Int32) × (Nat → Int32)) : Prop :=
  ∀ x y, x < 10 → y < 10 →
    s.1 (x * 10 + y) = (if x = P ∧ F ≤ y ∧ y < i then a11 (x * 10 + y) + a8 P * a5 y else a11 (x * 10 + y)) ∧
    s.2.1 (x * 10 + y) = (if x = P ∧ F ≤ y ∧ y < i then wr_les (a12 (x * 10 + y)) (wr_plus x4 (a6 y)) else a12 (x * 10 + y)) ∧
    s.2.2 (x * 10 + y) = (if x = P ∧ F ≤ y ∧ y < i then wr_gre (a13 (x * 10 + y)) (wr_plus x5 (a7 y)) else a13 (x * 10 + y))
theorem wr_lk_0 {P F : Nat} {x4 x5 : Int32} {a5 a6 a7 a8 a11 a12 a13 : Nat → Int32} : wr_lk P F F x4 x5 a5 a6 a7 a8 a11 a12 a13 (a11, a12, a13) := by
  intro x y _ _
  have n : ¬ (x = P ∧ F ≤ y ∧ y < F) := by omega
  rw [if_neg n, if_neg n, if_neg n]
  exact ⟨rfl, rfl, rfl⟩
theorem wr_lk_step {P F i : Nat} {x4 x5 : Int32} {a5 a6 a7 a8 a11 a12 a13 : Nat → Int32} {s : (Nat → Int32) × (Nat → Int32) × (Nat → Int32)} (hi : i < 10) (hF : F ≤ i) (h : wr_lk P F i x4 x5 a5 a6 a7 a8 a11 a12 a13 s) :
    wr_lk P F (i + 1) x4 x5 a5 a6 a7 a8 a11 a12 a13 (upd s.1 (P * 10 + i) (s.1 (P * 10 + i) + a8 P * a5 i), upd s.2.1 (P * 10 + i) (wr_les (s.2.1 (P * 10 + i)) (wr_plus x4 (a6 i))), upd s.2.2 (P * 10 + i) (wr_gre (s.2.2 (P * 10 + i)) (wr_plus x5 (a7 i)))) := by
  intro x y hx hy
  have t := h x y hx hy
  dsimp only
  by_cases e : x * 10 + y = P * 10 + i
  · have ex : x = P := by omega
    have ey : y = i := by omega
    subst ex
    subst ey
    have n : ¬ (x = x ∧ F ≤ y ∧ y < y) := fun g => absurd g.2.2 (Nat.lt_irrefl y)
    have q : x = x ∧ F ≤ y ∧ y < y + 1 := ⟨rfl, hF, Nat.lt_succ_self y⟩
    rw [if_neg n, if_neg n, if_neg n] at t
    rw [if_pos q, if_pos q, if_pos q, pk_us, pk_us, pk_us, t.1, t.2.1, t.2.2]
    exact ⟨rfl, rfl, rfl⟩
  · rw [pk_un e, pk_un e, pk_un e]
    by_cases q : x = P ∧ F ≤ y ∧ y < i
    · have q' : x = P ∧ F ≤ y ∧ y < i + 1 := by omega
      rw [if_pos q, if_pos q, if_pos q] at t
      rw [if_pos q', if_pos q', if_pos q']
      exact t
    · have q' : ¬ (x = P ∧ F ≤ y ∧ y < i + 1) := by
        intro g
        obtain ⟨g1, g2, g3⟩ := g
        subst g1
        omega
      rw [if_neg q, if_neg q, if_neg q] at t
      rw [if_neg q', if_neg q', if_neg q']
      exact t
theorem wr_link29 {post : St2 → Prop} {f0 f1 f3 f4 f5 f6 : Int32} {a1 a2 a3 a4 a5 a6 a7 a8 a9 a10 a11 a12 a13 a14 a15 a16 a17 a18 a19 a20 a21 a22 a23 a24 a25 a26 a27 a28 a29 a30 a31 a32 a33 a34 : Nat → Int32} {P F p : Nat} {x4 x5 : Int32} (hP : P < 10) (hF : F ≤ p) (hp : p ≤ 10)
    (H : ∀ b11 b12 b13, wr_lk P F p x4 x5 a5 a6 a7 a8 a11 a12 a13 (b11, b12, b13) → post (f0, f1, nI p, f3, f4, f5, f6, a1, a2, a3, a4, a5, a6, a7, a8, a9, a10, b11, b12, b13, a14, a15, a16, a17, a18, a19, a20, a21, a22, a23, a24, a25, a26, a27, a28, a29, a30, a31, a32, a33, a34)) : ∃ n, wX_link_29 post (nI P) x4 x5 f0 f1 (nI p) f3 f4 f5 f6 n (nI F) a1 a2 a3 a4 a5 a6 a7 a8 a9 a10 a11 a12 a13 a14 a15 a16 a17 a18 a19 a20 a21 a22 a23 a24 a25 a26 a27 a28 a29 a30 a31 a32 a33 a34 := by
  refine pk_loop (fun n i s => wX_link_29 post (nI P) x4 x5 f0 f1 (nI p) f3 f4 f5 f6 n (nI i) a1 a2 a3 a4 a5 a6 a7 a8 a9 a10 s.1 s.2.1 s.2.2 a14 a15 a16 a17 a18 a19 a20 a21 a22 a23 a24 a25 a26 a27 a28 a29 a30 a31 a32 a33 a34) (fun i s => F ≤ i ∧ wr_lk P F i x4 x5 a5 a6 a7 a8 a11 a12 a13 s) p F (a11, a12, a13) hF ⟨Nat.le_refl F, wr_lk_0⟩ ?_ ?_
  · exact fun n s h => pk_le p p (fun _ => H s.1 s.2.1 s.2.2 h.2) (fun z => absurd z (by omega))
  · intro n i s hi h hw
    have c7 : (nI (P * 10 + i)).toNatClampNeg = P * 10 + i := nI_clamp (by omega)
    have cP : (nI P).toNatClampNeg = P := nI_clamp (by omega)
    have ci : (nI i).toNatClampNeg = i := nI_clamp (by omega)
    have i7 : vp_in (nI (P * 10 + i)) 100 := pk_in (P * 10 + i) 100 (by omega)
    have iP : vp_in (nI P) 10 := pk_in P 10 hP
    have ii : vp_in (nI i) 10 := pk_in i 10 (by omega)
    refine pk_le p i (fun z => absurd z (by omega)) (fun _ => nm_r (wr_ix P i) ?_)
    rw [c7, cP, ci]
    exact ⟨i7, iP, ii, i7, nm_e ⟨ii, wr_plusW ⟨ii, wr_plusW ⟨i7, wr_lesW ⟨i7, nm_e ⟨i7, wr_greW ⟨i7, nm_e (nm_r (nI_1 i) (hw _ ⟨by omega, wr_lk_step (by omega) h.1 h.2⟩))⟩⟩⟩⟩⟩⟩⟩
theorem wr_link {post : St2 → Prop} {f0 f1 f3 f4 f5 f6 : Int32} {a1 a2 a3 a4 a5 a6 a7 a8 a9 a10 a11 a12 a13 a14 a15 a16 a17 a18 a19 a20 a21 a22 a23 a24 a25 a26 a27 a28 a29 a30 a31 a32 a33 a34 : Nat → Int32} {P F p : Nat} {x : Int32} (hP : P < 10) (hF : F ≤ p) (hp : p ≤ 10)
    (H : ∀ b11 b12 b13, wr_lk P F p (wr_plus (a9 P) x) (wr_plus (a10 P) x) a5 a6 a7 a8 a11 a12 a13 (b11, b12, b13) → post (f0, f1, nI p, f3, f4, f5, f6, a1, a2, a3, a4, a5, a6, a7, a8, a9, a10, b11, b12, b13, a14, a15, a16, a17, a18, a19, a20, a21, a22, a23, a24, a25, a26, a27, a28, a29, a30, a31, a32, a33, a34)) : wpX_link post (f0, f1, nI p, f3, f4, f5, f6, a1, a2, a3, a4, a5, a6, a7, a8, a9, a10, a11, a12, a13, a14, a15, a16, a17, a18, a19, a20, a21, a22, a23, a24, a25, a26, a27, a28, a29, a30, a31, a32, a33, a34) (nI P) (nI F) x := by
  have cP : (nI P).toNatClampNeg = P := nI_clamp (by omega)
  have iP : vp_in (nI P) 10 := pk_in P 10 hP
  refine And.intro iP (wr_plusW ⟨iP, wr_plusW ?_⟩)
  rw [cP]
  exact wr_link29 hP hF hp H
end
section
/-! seq at height 3, its two upper expressions of one place each, no empty way -/
theorem wr_seq143 {post : Int32 → St2 → Prop} {f0 f3 f4 f5 f6 : Int32} {a1 a2 a3 a4 a5 a6 a7 a8 a9 a10 a11 a12 a13 a14 a15 a16 a17 a18 a19 a20 a21 a22 a23 a24 a25 a26 a27 a28 a29 a30 a31 a32 a33 a34 : Nat → Int32} (h21 : a2 1 = 0)
    (H : post (nI 2) (nI 2, nI 4, nI 3, f3, f4, f5, f6, a1, upd a2 1 0, upd a3 1 (a3 1 * a3 2), a4, upd a5 2 (a5 2 * a3 1), upd a6 2 (-1), upd a7 2 (-1), a8, a9, a10, a11, a12, a13, a14, a15, a16, a17, a18, a19, a20, a21, a22, a23, a24, a25, a26, a27, a28, a29, a30, a31, a32, a33, a34)) : ∃ n, wX_seq_143 post (nI 1) (nI 2) f0 (nI 3) (nI 3) f3 f4 f5 f6 n (nI 2) a1 a2 a3 a4 a5 a6 a7 a8 a9 a10 a11 a12 a13 a14 a15 a16 a17 a18 a19 a20 a21 a22 a23 a24 a25 a26 a27 a28 a29 a30 a31 a32 a33 a34 := by
  have c1 : (nI 1).toNatClampNeg = 1 := rfl
  have c2 : (nI 2).toNatClampNeg = 2 := rfl
  have b : vp_nar .boolean 0 = 0 := rfl
  refine ⟨0 + 1 + 1, br_f (nI_ge (a := 2) (b := 3) (by omega) (by omega)) ⟨pk_in 2 10 (by omega), pk_in 1 8 (by omega), pk_in 2 10 (by omega), nm_r (e' := upd a5 2 (a5 2 * a3 1)) (by rw [c1, c2]) ⟨pk_in 1 8 (by omega), br_t (by rw [c1]; exact h21) ⟨pk_in 2 10 (by omega), nm_r (e' := upd a6 2 (-1)) (by rw [c2]) ⟨pk_in 2 10 (by omega), nm_r (e' := upd a7 2 (-1)) (by rw [c2]) (nm_r (nI_1 2) ?_)⟩⟩⟩⟩⟩
  refine br_t (nI_le (a := 3) (b := 3) (by omega) (by omega)) ⟨pk_in 1 8 (by omega), pk_in 2 8 (by omega), pk_in 1 8 (by omega), nm_r (e' := upd a3 1 (a3 1 * a3 2)) (by rw [c1, c2]) ⟨pk_in 1 8 (by omega), br_t (by rw [c1]; exact h21) ?_⟩⟩
  exact And.intro (pk_in 1 8 (by omega)) (nm_r (by rw [c1, b]) (nm_r (nI_1 3) H))
theorem wr_seq72 {post : Int32 → St2 → Prop} {f0 f3 f4 f5 f6 : Int32} {a1 a2 a3 a4 a5 a6 a7 a8 a9 a10 a11 a12 a13 a14 a15 a16 a17 a18 a19 a20 a21 a22 a23 a24 a25 a26 a27 a28 a29 a30 a31 a32 a33 a34 : Nat → Int32} (h12 : a1 2 = nI 2) (h21 : a2 1 = 0) (h22 : a2 2 = 0)
    (H : post (nI 2) (nI 2, nI 4, nI 3, f3, f4, f5, f6, a1, upd a2 1 0, upd a3 1 (a3 1 * a3 2), a4, upd a5 2 (a5 2 * a3 1), upd a6 2 (-1), upd a7 2 (-1), upd a8 1 (a8 1 * a3 2), upd a9 1 (-1), upd a10 1 (-1), a11, a12, a13, a14, a15, a16, a17, a18, a19, a20, a21, a22, a23, a24, a25, a26, a27, a28, a29, a30, a31, a32, a33, a34)) : ∃ n, wX_seq_72 post (nI 1) (nI 2) f0 (nI 3) (nI 3) f3 f4 f5 f6 n (nI 1) a1 a2 a3 a4 a5 a6 a7 a8 a9 a10 a11 a12 a13 a14 a15 a16 a17 a18 a19 a20 a21 a22 a23 a24 a25 a26 a27 a28 a29 a30 a31 a32 a33 a34 := by
  have c1 : (nI 1).toNatClampNeg = 1 := rfl
  have c2 : (nI 2).toNatClampNeg = 2 := rfl
  refine ⟨0 + 1 + 1, And.intro (pk_in 2 9 (by omega)) (br_f (by rw [c2, h12]; exact nI_ge (by omega) (by omega)) ⟨pk_in 1 10 (by omega), pk_in 2 8 (by omega), pk_in 1 10 (by omega), nm_r (e' := upd a8 1 (a8 1 * a3 2)) (by rw [c1, c2]) ⟨pk_in 2 8 (by omega), br_t (by rw [c2]; exact h22) ⟨pk_in 1 10 (by omega), nm_r (e' := upd a9 1 (-1)) (by rw [c1]) ⟨pk_in 1 10 (by omega), nm_r (e' := upd a10 1 (-1)) (by rw [c1]) (nm_r (nI_1 1) ?_)⟩⟩⟩⟩)⟩
  exact And.intro (pk_in 2 9 (by omega)) (br_t (by rw [c2, h12]; exact nI_le (by omega) (by omega)) ⟨pk_in 2 9 (by omega), nm_r (e' := nI 2) (by rw [c2, h12]) (wr_seq143 h21 H)⟩)
theorem wr_seq {post : Int32 → St2 → Prop} {f3 f4 f5 f6 : Int32} {a1 a2 a3 a4 a5 a6 a7 a8 a9 a10 a11 a12 a13 a14 a15 a16 a17 a18 a19 a20 a21 a22 a23 a24 a25 a26 a27 a28 a29 a30 a31 a32 a33 a34 : Nat → Int32} (h11 : a1 1 = nI 1) (h12 : a1 2 = nI 2) (h21 : a2 1 = 0) (h22 : a2 2 = 0)
    (H : ∀ b11 b12 b13, wr_lk 1 2 3 (wr_plus (a9 1) 0) (wr_plus (a10 1) 0) a5 a6 a7 a8 a11 a12 a13 (b11, b12, b13) → post (nI 2) (nI 2, nI 4, nI 3, f3, f4, f5, f6, a1, upd a2 1 0, upd a3 1 (a3 1 * a3 2), a4, upd a5 2 (a5 2 * a3 1), upd a6 2 (-1), upd a7 2 (-1), upd a8 1 (a8 1 * a3 2), upd a9 1 (-1), upd a10 1 (-1), b11, b12, b13, a14, a15, a16, a17, a18, a19, a20, a21, a22, a23, a24, a25, a26, a27, a28, a29, a30, a31, a32, a33, a34)) : wpX_seq post (nI 3, nI 3, nI 3, f3, f4, f5, f6, a1, a2, a3, a4, a5, a6, a7, a8, a9, a10, a11, a12, a13, a14, a15, a16, a17, a18, a19, a20, a21, a22, a23, a24, a25, a26, a27, a28, a29, a30, a31, a32, a33, a34) := by
  have c1 : (nI 1).toNatClampNeg = 1 := rfl
  have c2 : (nI 2).toNatClampNeg = 2 := rfl
  unfold wpX_seq
  refine wr_refusedW (h := 3) (m := 3) (k := 2) (by omega) (by omega) (by omega) (br_t (by decide) (nm_r (e' := nI 1) rfl (nm_r (e' := nI 2) rfl ⟨pk_in 1 9 (by omega), nm_r (e' := nI 1) (by rw [c1, h11]) ?_⟩)))
  refine ⟨0 + 1 + 1, And.intro (pk_in 2 9 (by omega)) (br_f (by rw [c2, h12]; exact nI_ge (by omega) (by omega)) ⟨pk_in 2 9 (by omega), ?_⟩)⟩
  rw [c2, h12]
  refine wr_link (P := 1) (F := 2) (p := 3) (by omega) (by omega) (by omega) (fun b11 b12 b13 hb => nm_r (nI_1 1) ?_)
  exact And.intro (pk_in 2 9 (by omega)) (br_t (by rw [c2, h12]; exact nI_le (by omega) (by omega)) ⟨pk_in 1 9 (by omega), nm_r (e' := nI 1) (by rw [c1, h11]) (wr_seq72 h12 h21 h22 (H b11 b12 b13 hb))⟩)
/-! alt at height 2 -/
theorem wr_alt {post : Int32 → St2 → Prop} {f2 f3 f4 f5 f6 : Int32} {a1 a2 a3 a4 a5 a6 a7 a8 a9 a10 a11 a12 a13 a14 a15 a16 a17 a18 a19 a20 a21 a22 a23 a24 a25 a26 a27 a28 a29 a30 a31 a32 a33 a34 : Nat → Int32} (h20 : a2 0 = 0) (h21 : a2 1 = 0)
    (H : post (nI 1) (nI 1, nI 5, f2, f3, f4, f5, f6, a1, upd a2 0 0, upd a3 0 (a3 0 + a3 1), a4, a5, a6, a7, a8, a9, a10, a11, a12, a13, a14, a15, a16, a17, a18, a19, a20, a21, a22, a23, a24, a25, a26, a27, a28, a29, a30, a31, a32, a33, a34)) : wpX_alt post (nI 2, nI 4, f2, f3, f4, f5, f6, a1, a2, a3, a4, a5, a6, a7, a8, a9, a10, a11, a12, a13, a14, a15, a16, a17, a18, a19, a20, a21, a22, a23, a24, a25, a26, a27, a28, a29, a30, a31, a32, a33, a34) := by
  have c0 : (nI 0).toNatClampNeg = 0 := rfl
  have c1 : (nI 1).toNatClampNeg = 1 := rfl
  have b : vp_nar .boolean 0 = 0 := rfl
  unfold wpX_alt
  refine wr_refusedW (h := 2) (m := 4) (k := 2) (by omega) (by omega) (by omega) (br_t (by decide) (nm_r (e' := nI 0) rfl (nm_r (e' := nI 1) rfl ⟨pk_in 0 8 (by omega), pk_in 1 8 (by omega), pk_in 0 8 (by omega), nm_r (e' := upd a3 0 (a3 0 + a3 1)) (by rw [c0, c1]) ⟨pk_in 0 8 (by omega), br_t (by rw [c0]; exact h20) ⟨pk_in 1 8 (by omega), br_t (by rw [c1]; exact h21) ?_⟩⟩⟩)))
  exact And.intro (pk_in 0 8 (by omega)) (nm_r (by rw [c0, b]) (nm_r (nI_1 4) H))
/-! loop at height 1, its expression owns the places from 0 on -/
def wr_ll (p i : Nat) (e : Int32) (a5 a6 a7 a8 a9 a10 a11 a12 a13 : Nat → Int32) (s : (Nat → Int32) × (Nat → Int32) × (Nat → Int32)) : Prop :=
  ∀ x y, x < 10 → y < 10 →
    s.1 (x * 10 + y) = (if x < i ∧ y < p then a11 (x * 10 + y) + a8 x * a5 y else a11 (x * 10 + y)) ∧
    s.2.1 (x * 10 + y) = (if x < i ∧ y < p then wr_les (a12 (x * 10 + y)) (wr_plus (wr_plus (a9 x) e) (a6 y)) else a12 (x * 10 + y)) ∧
    s.2.2 (x * 10 + y) = (if x < i ∧ y < p then wr_gre (a13 (x * 10 + y)) (wr_plus (wr_plus (a10 x) e) (a7 y)) else a13 (x * 10 + y))
theorem wr_ll_0 {p : Nat} {e : Int32} {a5 a6 a7 a8 a9 a10 a11 a12 a13 : Nat → Int32} : wr_ll p 0 e a5 a6 a7 a8 a9 a10 a11 a12 a13 (a11, a12, a13) := by
  intro x y _ _
  have n : ¬ (x < 0 ∧ y < p) := by omega
  rw [if_neg n, if_neg n, if_neg n]
  exact ⟨rfl, rfl, rfl⟩
theorem wr_ll_step {p i : Nat} {e : Int32} {a5 a6 a7 a8 a9 a10 a11 a12 a13 : Nat → Int32} {s t : (Nat → Int32) × (Nat → Int32) × (Nat → Int32)} (h : wr_ll p i e a5 a6 a7 a8 a9 a10 a11 a12 a13 s)
    (hl : wr_lk i 0 p (wr_plus (a9 i) e) (wr_plus (a10 i) e) a5 a6 a7 a8 s.1 s.2.1 s.2.2 t) : wr_ll p (i + 1) e a5 a6 a7 a8 a9 a10 a11 a12 a13 t := by
  intro x y hx hy
  have h1 := h x y hx hy
  have h2 := hl x y hx hy
  by_cases e1 : x = i
  · subst e1
    have n : ¬ (x < x ∧ y < p) := fun g => absurd g.1 (Nat.lt_irrefl x)
    rw [if_neg n, if_neg n, if_neg n] at h1
    rw [h1.1, h1.2.1, h1.2.2] at h2
    by_cases e2 : y < p
    · have q : x = x ∧ 0 ≤ y ∧ y < p := ⟨rfl, Nat.zero_le y, e2⟩
      have q' : x < x + 1 ∧ y < p := ⟨Nat.lt_succ_self x, e2⟩
      rw [if_pos q, if_pos q, if_pos q] at h2
      rw [if_pos q', if_pos q', if_pos q']
      exact h2
    · have q : ¬ (x = x ∧ 0 ≤ y ∧ y < p) := fun g => e2 g.2.2
      have q' : ¬ (x < x + 1 ∧ y < p) := fun g => e2 g.2
      rw [if_neg q, if_neg q, if_neg q] at h2
      rw [if_neg q', if_neg q', if_neg q']
      exact h2
  · have q : ¬ (x = i ∧ 0 ≤ y ∧ y < p) := fun g => e1 g.1
    rw [if_neg q, if_neg q, if_neg q] at h2
    rw [h2.1, h2.2.1, h2.2.2]
    by_cases e2 : x < i ∧ y < p
    · have q' : x < i + 1 ∧ y < p := by omega
      rw [if_pos e2, if_pos e2, if_pos e2] at h1
      rw [if_pos q', if_pos q', if_pos q']
      exact h1
    · have q' : ¬ (x < i + 1 ∧ y < p) := by omega
      rw [if_neg e2, if_neg e2, if_neg e2] at h1
      rw [if_neg q', if_neg q', if_neg q']
      exact h1
/-- the begins of the places below i, each with the price of a turn -/
def wr_lb (i : Nat) (e : Int32) (a6 a7 : Nat → Int32) (s : (Nat → Int32) × (Nat → Int32)) : Prop :=
  ∀ x, x < 10 → s.1 x = (if x < i then wr_plus (a6 x) e else a6 x) ∧ s.2 x = (if x < i then wr_plus (a7 x) e else a7 x)
theorem wr_lb_0 {e : Int32} {a6 a7 : Nat → Int32} : wr_lb 0 e a6 a7 (a6, a7) := by
  intro x _
  have n : ¬ x < 0 := by omega
  rw [if_neg n, if_neg n]
  exact ⟨rfl, rfl⟩
theorem wr_lb_step {i : Nat} {e : Int32} {a6 a7 : Nat → Int32} {s : (Nat → Int32) × (Nat → Int32)} (h : wr_lb i e a6 a7 s) : wr_lb (i + 1) e a6 a7 (upd s.1 i (wr_plus (s.1 i) e), upd s.2 i (wr_plus (s.2 i) e)) := by
  intro x hx
  have h1 := h x hx
  dsimp only
  by_cases e1 : x = i
  · subst e1
    have n : ¬ x < x := Nat.lt_irrefl x
    have q : x < x + 1 := Nat.lt_succ_self x
    rw [if_neg n, if_neg n] at h1
    rw [if_pos q, if_pos q, pk_us, pk_us, h1.1, h1.2]
    exact ⟨rfl, rfl⟩
  · rw [pk_un e1, pk_un e1]
    by_cases e2 : x < i
    · have q : x < i + 1 := by omega
      rw [if_pos e2, if_pos e2] at h1
      rw [if_pos q, if_pos q]
      exact h1
    · have q : ¬ x < i + 1 := by omega
      rw [if_neg e2, if_neg e2] at h1
      rw [if_neg q, if_neg q]
      exact h1
theorem wr_loop75 {post : Int32 → St2 → Prop} {f0 f3 f4 f5 f6 : Int32} {a1 a2 a3 a4 a5 a6 a7 a8 a9 a10 a11 a12 a13 a14 a15 a16 a17 a18 a19 a20 a21 a22 a23 a24 a25 a26 a27 a28 a29 a30 a31 a32 a33 a34 : Nat → Int32} {p m : Nat} {e : Int32} (hp : p ≤ 10)
    (H : ∀ b6 b7, wr_lb p e a6 a7 (b6, b7) → post f0 (f0, nI (m + 1), nI p, f3, f4, f5, f6, a1, upd a2 0 1, upd a3 0 1, a4, a5, b6, b7, a8, a9, a10, a11, a12, a13, a14, a15, a16, a17, a18, a19, a20, a21, a22, a23, a24, a25, a26, a27, a28, a29, a30, a31, a32, a33, a34)) : ∃ n, wX_loop_75 post e (nI 0) f0 (nI m) (nI p) f3 f4 f5 f6 n (nI 0) a1 a2 a3 a4 a5 a6 a7 a8 a9 a10 a11 a12 a13 a14 a15 a16 a17 a18 a19 a20 a21 a22 a23 a24 a25 a26 a27 a28 a29 a30 a31 a32 a33 a34 := by
  refine pk_loop (fun n i s => wX_loop_75 post e (nI 0) f0 (nI m) (nI p) f3 f4 f5 f6 n (nI i) a1 a2 a3 a4 a5 s.1 s.2 a8 a9 a10 a11 a12 a13 a14 a15 a16 a17 a18 a19 a20 a21 a22 a23 a24 a25 a26 a27 a28 a29 a30 a31 a32 a33 a34) (fun i s => wr_lb i e a6 a7 s) p 0 (a6, a7) (by omega) wr_lb_0 ?_ ?_
  · have c0 : (nI 0).toNatClampNeg = 0 := rfl
    exact fun n s h => pk_le p p (fun _ => ⟨pk_in 0 8 (by omega), nm_r (by rw [c0]) ⟨pk_in 0 8 (by omega), nm_r (by rw [c0]) (nm_r (nI_1 m) (H s.1 s.2 h))⟩⟩) (fun z => absurd z (by omega))
  · intro n i s hi h hw
    have ci : (nI i).toNatClampNeg = i := nI_clamp (by omega)
    have ii : vp_in (nI i) 10 := pk_in i 10 (by omega)
    refine pk_le p i (fun z => absurd z (by omega)) (fun _ => ?_)
    rw [ci]
    exact ⟨ii, wr_plusW ⟨ii, nm_e ⟨ii, wr_plusW ⟨ii, nm_e (nm_r (nI_1 i) (hw _ (wr_lb_step h)))⟩⟩⟩⟩
theorem wr_loop {post : Int32 → St2 → Prop} {f3 f4 f5 f6 : Int32} {a1 a2 a3 a4 a5 a6 a7 a8 a9 a10 a11 a12 a13 a14 a15 a16 a17 a18 a19 a20 a21 a22 a23 a24 a25 a26 a27 a28 a29 a30 a31 a32 a33 a34 : Nat → Int32} {p m e : Nat} (hp : p ≤ 10) (hm : m < 20) (he : e ≤ 9) (h10 : a1 0 = nI 0)
    (H : ∀ b6 b7 b11 b12 b13, wr_lb p (nI e) a6 a7 (b6, b7) → wr_ll p p (nI e) a5 a6 a7 a8 a9 a10 a11 a12 a13 (b11, b12, b13) → post (nI 1) (nI 1, nI (m + 1), nI p, f3, f4, f5, f6, a1, upd a2 0 1, upd a3 0 1, a4, a5, b6, b7, a8, a9, a10, b11, b12, b13, a14, a15, a16, a17, a18, a19, a20, a21, a22, a23, a24, a25, a26, a27, a28, a29, a30, a31, a32, a33, a34)) : wpX_loop post (nI 1, nI m, nI p, f3, f4, f5, f6, a1, a2, a3, a4, a5, a6, a7, a8, a9, a10, a11, a12, a13, a14, a15, a16, a17, a18, a19, a20, a21, a22, a23, a24, a25, a26, a27, a28, a29, a30, a31, a32, a33, a34) (nI e) := by
  have c0 : (nI 0).toNatClampNeg = 0 := rfl
  refine pk_lt e 0 (fun z => absurd z (by omega)) (fun _ => pk_le e 9 (fun _ => wr_refusedW (h := 1) (k := 1) hm (by omega) (by omega) (br_t (by decide) (nm_r (e' := nI 0) rfl ⟨pk_in 0 9 (by omega), nm_r (e' := nI 0) (by rw [c0, h10]) ?_⟩))) (fun z => absurd z (by omega)))
  refine pk_loop (fun n i s => wX_loop_39 post (nI e) (nI 0) n (nI i) (nI 1) (nI m) (nI p) f3 f4 f5 f6 a1 a2 a3 a4 a5 a6 a7 a8 a9 a10 s.1 s.2.1 s.2.2 a14 a15 a16 a17 a18 a19 a20 a21 a22 a23 a24 a25 a26 a27 a28 a29 a30 a31 a32 a33 a34) (fun i s => wr_ll p i (nI e) a5 a6 a7 a8 a9 a10 a11 a12 a13 s) p 0 (a11, a12, a13) (by omega) wr_ll_0 ?_ ?_
  · exact fun n s h => pk_le p p (fun _ => ⟨pk_in 0 9 (by omega), nm_r (e' := nI 0) (by rw [c0, h10]) (wr_loop75 hp (fun b6 b7 hb => H b6 b7 s.1 s.2.1 s.2.2 hb h))⟩) (fun z => absurd z (by omega))
  · intro n i s hi h hw
    refine pk_le p i (fun z => absurd z (by omega)) (fun _ => ⟨pk_in 0 9 (by omega), ?_⟩)
    rw [c0, h10]
    exact wr_link (by omega) (by omega) hp (fun b11 b12 b13 hb => nm_r (nI_1 i) (hw (b11, b12, b13) (wr_ll_step h hb)))
end
section
/-! take: place P of the expression at the stack's bottom is copied -/
def wr_tk (P i : Nat) (a11 a12 a13 a21 a22 a23 : Nat → Int32) (s : (Nat → Int32) × (Nat → Int32) × (Nat → Int32)) : Prop :=
  (∀ y, y < i → s.1 (P * 10 + y) = a11 (P * 10 + y) ∧ s.2.1 (P * 10 + y) = a12 (P * 10 + y) ∧ s.2.2 (P * 10 + y) = a13 (P * 10 + y)) ∧
  (∀ x y, x ≠ P → y < 10 → s.1 (x * 10 + y) = a21 (x * 10 + y) ∧ s.2.1 (x * 10 + y) = a22 (x * 10 + y) ∧ s.2.2 (x * 10 + y) = a23 (x * 10 + y))
theorem wr_tk_step {P i : Nat} {a11 a12 a13 a21 a22 a23 : Nat → Int32} {s : (Nat → Int32) × (Nat → Int32) × (Nat → Int32)} (hi : i < 10) (h : wr_tk P i a11 a12 a13 a21 a22 a23 s) :
    wr_tk P (i + 1) a11 a12 a13 a21 a22 a23 (upd s.1 (P * 10 + i) (a11 (P * 10 + i)), upd s.2.1 (P * 10 + i) (a12 (P * 10 + i)), upd s.2.2 (P * 10 + i) (a13 (P * 10 + i))) := by
  refine ⟨fun y hy => ?_, fun x y hx hy => ?_⟩
  · dsimp only
    by_cases e : y = i
    · subst e
      rw [pk_us, pk_us, pk_us]
      exact ⟨rfl, rfl, rfl⟩
    · have n : P * 10 + y ≠ P * 10 + i := by omega
      rw [pk_un n, pk_un n, pk_un n]
      exact h.1 y (by omega)
  · dsimp only
    have n : x * 10 + y ≠ P * 10 + i := by omega
    rw [pk_un n, pk_un n, pk_un n]
    exact h.2 x y hx hy
theorem wr_take86 {post : St2 → Prop} {f0 f1 f2 f4 f5 f6 : Int32} {a1 a2 a3 a4 a5 a6 a7 a8 a9 a10 a11 a12 a13 a14 a15 a16 a17 a18 a19 a20 a21 a22 a23 a24 a25 a26 a27 a28 a29 a30 a31 a32 a33 a34 : Nat → Int32} {P k : Nat} (hP : P < 10) (hk : k ≤ 10)
    (H : ∀ b21 b22 b23, wr_tk P k a11 a12 a13 a21 a22 a23 (b21, b22, b23) → post (f0, f1, f2, nI k, f4, f5, f6, a1, a2, a3, a4, a5, a6, a7, a8, a9, a10, a11, a12, a13, a14, a15, a16, a17, a18, a19, a20, b21, b22, b23, a24, a25, a26, a27, a28, a29, a30, a31, a32, a33, a34)) : ∃ n, wX_take_86 post (nI P) f0 f1 f2 (nI k) f4 f5 f6 n 0 a1 a2 a3 a4 a5 a6 a7 a8 a9 a10 a11 a12 a13 a14 a15 a16 a17 a18 a19 a20 a21 a22 a23 a24 a25 a26 a27 a28 a29 a30 a31 a32 a33 a34 := by
  refine pk_loop (fun n i s => wX_take_86 post (nI P) f0 f1 f2 (nI k) f4 f5 f6 n (nI i) a1 a2 a3 a4 a5 a6 a7 a8 a9 a10 a11 a12 a13 a14 a15 a16 a17 a18 a19 a20 s.1 s.2.1 s.2.2 a24 a25 a26 a27 a28 a29 a30 a31 a32 a33 a34) (fun i s => wr_tk P i a11 a12 a13 a21 a22 a23 s) k 0 (a21, a22, a23) (by omega) ⟨fun y hy => absurd hy (by omega), fun x y _ _ => ⟨rfl, rfl, rfl⟩⟩ ?_ ?_
  · exact fun n s h => pk_le k k (fun _ => H s.1 s.2.1 s.2.2 h) (fun z => absurd z (by omega))
  · intro n i s hi h hw
    have c : (nI (P * 10 + i)).toNatClampNeg = P * 10 + i := nI_clamp (by omega)
    have v : vp_in (nI (P * 10 + i)) 100 := pk_in (P * 10 + i) 100 (by omega)
    refine pk_le k i (fun z => absurd z (by omega)) (fun _ => ?_)
    rw [wr_ix, c]
    exact ⟨v, v, nm_e ⟨v, v, nm_e ⟨v, v, nm_e (nm_r (nI_1 i) (hw _ (wr_tk_step (by omega) h)))⟩⟩⟩
theorem wr_take {post : St2 → Prop} {f0 f1 f2 f4 f5 f6 : Int32} {a1 a2 a3 a4 a5 a6 a7 a8 a9 a10 a11 a12 a13 a14 a15 a16 a17 a18 a19 a20 a21 a22 a23 a24 a25 a26 a27 a28 a29 a30 a31 a32 a33 a34 : Nat → Int32} {P k : Nat} (hP : P < 10) (hk : k ≤ 10)
    (H : ∀ b21 b22 b23, wr_tk P k a11 a12 a13 a21 a22 a23 (b21, b22, b23) → post (f0, f1, f2, nI k, f4, f5, f6, a1, a2, a3, a4, a5, a6, a7, a8, a9, a10, a11, a12, a13, upd a14 P (a4 P), upd a15 P (a5 P), upd a16 P (a6 P), upd a17 P (a7 P), upd a18 P (a8 P), upd a19 P (a9 P), upd a20 P (a10 P), b21, b22, b23, a24, a25, a26, a27, a28, a29, a30, a31, a32, a33, a34)) : wpX_take post (f0, f1, f2, nI k, f4, f5, f6, a1, a2, a3, a4, a5, a6, a7, a8, a9, a10, a11, a12, a13, a14, a15, a16, a17, a18, a19, a20, a21, a22, a23, a24, a25, a26, a27, a28, a29, a30, a31, a32, a33, a34) (nI P) := by
  have c : (nI P).toNatClampNeg = P := nI_clamp (by omega)
  have v : vp_in (nI P) 10 := pk_in P 10 hP
  exact And.intro v ⟨v, nm_r (by rw [c]) ⟨v, v, nm_r (by rw [c]) ⟨v, v, nm_r (by rw [c]) ⟨v, v, nm_r (by rw [c]) ⟨v, v, nm_r (by rw [c]) ⟨v, v, nm_r (by rw [c]) ⟨v, v, nm_r (by rw [c]) (wr_take86 hP hk H)⟩⟩⟩⟩⟩⟩⟩
/-! define: all k places -/
def wr_df (i k : Nat) (a4 a5 a6 a7 a8 a9 a10 a11 a12 a13 a14 a15 a16 a17 a18 a19 a20 a21 a22 a23 : Nat → Int32) : Prop :=
  (∀ x, x < i → a14 x = a4 x ∧ a15 x = a5 x ∧ a16 x = a6 x ∧ a17 x = a7 x ∧ a18 x = a8 x ∧ a19 x = a9 x ∧ a20 x = a10 x) ∧
  (∀ x y, x < i → y < k → a21 (x * 10 + y) = a11 (x * 10 + y) ∧ a22 (x * 10 + y) = a12 (x * 10 + y) ∧ a23 (x * 10 + y) = a13 (x * 10 + y))
theorem wr_df_step {i k : Nat} {a4 a5 a6 a7 a8 a9 a10 a11 a12 a13 a14 a15 a16 a17 a18 a19 a20 a21 a22 a23 b21 b22 b23 : Nat → Int32} (hk : k ≤ 10) (h : wr_df i k a4 a5 a6 a7 a8 a9 a10 a11 a12 a13 a14 a15 a16 a17 a18 a19 a20 a21 a22 a23) (hb : wr_tk i k a11 a12 a13 a21 a22 a23 (b21, b22, b23)) :
    wr_df (i + 1) k a4 a5 a6 a7 a8 a9 a10 a11 a12 a13 (upd a14 i (a4 i)) (upd a15 i (a5 i)) (upd a16 i (a6 i)) (upd a17 i (a7 i)) (upd a18 i (a8 i)) (upd a19 i (a9 i)) (upd a20 i (a10 i)) b21 b22 b23 := by
  refine ⟨fun x hx => ?_, fun x y hx hy => ?_⟩
  · by_cases e : x = i
    · subst e
      exact ⟨pk_us, pk_us, pk_us, pk_us, pk_us, pk_us, pk_us⟩
    · rw [pk_un e, pk_un e, pk_un e, pk_un e, pk_un e, pk_un e, pk_un e]
      exact h.1 x (by omega)
  · by_cases e : x = i
    · subst e
      exact hb.1 y hy
    · have t := hb.2 x y e (by omega)
      have t2 := h.2 x y (by omega) hy
      exact ⟨t.1.trans t2.1, t.2.1.trans t2.2.1, t.2.2.trans t2.2.2⟩
theorem wr_define {post : Int32 → St2 → Prop} {f1 f3 f4 f5 f6 : Int32} {a1 a2 a3 a4 a5 a6 a7 a8 a9 a10 a11 a12 a13 a14 a15 a16 a17 a18 a19 a20 a21 a22 a23 a24 a25 a26 a27 a28 a29 a30 a31 a32 a33 a34 : Nat → Int32} {k : Nat} (hk : k ≤ 10) (h20 : a2 0 = 1) (h30 : a3 0 = 1)
    (H : ∀ b14 b15 b16 b17 b18 b19 b20 b21 b22 b23, wr_df k k a4 a5 a6 a7 a8 a9 a10 a11 a12 a13 b14 b15 b16 b17 b18 b19 b20 b21 b22 b23 → post 0 (0, 0, 0, nI k, 1, 1, f6, a1, a2, a3, a4, a5, a6, a7, a8, a9, a10, a11, a12, a13, b14, b15, b16, b17, b18, b19, b20, b21, b22, b23, a24, a25, a26, a27, a28, a29, a30, a31, a32, a33, a34)) : wpX_define post (nI 1, f1, nI k, f3, f4, f5, f6, a1, a2, a3, a4, a5, a6, a7, a8, a9, a10, a11, a12, a13, a14, a15, a16, a17, a18, a19, a20, a21, a22, a23, a24, a25, a26, a27, a28, a29, a30, a31, a32, a33, a34) := by
  refine br_t rfl (nm_r h20 ⟨rfl, rfl, nm_r h30 ?_⟩)
  refine pk_loop (fun n i (s : (Nat → Int32) × (Nat → Int32) × (Nat → Int32) × (Nat → Int32) × (Nat → Int32) × (Nat → Int32) × (Nat → Int32) × (Nat → Int32) × (Nat → Int32) × (Nat → Int32)) => wX_define_41 post n (nI i) (nI 1) f1 (nI k) (nI k) 1 1 f6 a1 a2 a3 a4 a5 a6 a7 a8 a9 a10 a11 a12 a13 s.1 s.2.1 s.2.2.1 s.2.2.2.1 s.2.2.2.2.1 s.2.2.2.2.2.1 s.2.2.2.2.2.2.1 s.2.2.2.2.2.2.2.1 s.2.2.2.2.2.2.2.2.1 s.2.2.2.2.2.2.2.2.2 a24 a25 a26 a27 a28 a29 a30 a31 a32 a33 a34) (fun i s => wr_df i k a4 a5 a6 a7 a8 a9 a10 a11 a12 a13 s.1 s.2.1 s.2.2.1 s.2.2.2.1 s.2.2.2.2.1 s.2.2.2.2.2.1 s.2.2.2.2.2.2.1 s.2.2.2.2.2.2.2.1 s.2.2.2.2.2.2.2.2.1 s.2.2.2.2.2.2.2.2.2) k 0 (a14, a15, a16, a17, a18, a19, a20, a21, a22, a23) (by omega) ⟨fun x hx => absurd hx (by omega), fun x y hx _ => absurd hx (by omega)⟩ ?_ ?_
  · rintro n ⟨b14, b15, b16, b17, b18, b19, b20, b21, b22, b23⟩ h
    exact pk_le k k (fun _ => H b14 b15 b16 b17 b18 b19 b20 b21 b22 b23 h) (fun z => absurd z (by omega))
  · rintro n i ⟨b14, b15, b16, b17, b18, b19, b20, b21, b22, b23⟩ hi h hw
    exact pk_le k i (fun z => absurd z (by omega)) (fun _ => wr_take (by omega) hk (fun c21 c22 c23 hc => nm_r (nI_1 i) (hw (upd b14 i (a4 i), upd b15 i (a5 i), upd b16 i (a6 i), upd b17 i (a7 i), upd b18 i (a8 i), upd b19 i (a9 i), upd b20 i (a10 i), c21, c22, c23) (wr_df_step hk h hc))))
end
section
/-! enter: all k places fit every letter -/
theorem wr_enter {post : St2 → Prop} {f0 f1 f2 f4 f5 f6 : Int32} {a1 a2 a3 a4 a5 a6 a7 a8 a9 a10 a11 a12 a13 a14 a15 a16 a17 a18 a19 a20 a21 a22 a23 a24 a25 a26 a27 a28 a29 a30 a31 a32 a33 a34 : Nat → Int32} {k : Nat} {x : Int32} (hk : k ≤ 10) (h14 : ∀ q, q < k → a14 q = 3)
    (H : ∀ b25 b26 b27, (∀ q, q < k → b25 q = a15 q ∧ b26 q = a16 q ∧ b27 q = a17 q) → post (f0, f1, f2, nI k, f4, f5, f6, a1, a2, a3, a4, a5, a6, a7, a8, a9, a10, a11, a12, a13, a14, a15, a16, a17, a18, a19, a20, a21, a22, a23, a24, b25, b26, b27, a28, a29, a30, a31, a32, a33, a34)) : wpX_enter post (f0, f1, f2, nI k, f4, f5, f6, a1, a2, a3, a4, a5, a6, a7, a8, a9, a10, a11, a12, a13, a14, a15, a16, a17, a18, a19, a20, a21, a22, a23, a24, a25, a26, a27, a28, a29, a30, a31, a32, a33, a34) x := by
  refine pk_loop (fun n i s => wX_enter_2 post x f0 f1 f2 (nI k) f4 f5 f6 n (nI i) a1 a2 a3 a4 a5 a6 a7 a8 a9 a10 a11 a12 a13 a14 a15 a16 a17 a18 a19 a20 a21 a22 a23 a24 s.1 s.2.1 s.2.2 a28 a29 a30 a31 a32 a33 a34) (fun i s => ∀ q, q < i → s.1 q = a15 q ∧ s.2.1 q = a16 q ∧ s.2.2 q = a17 q) k 0 (a25, a26, a27) (by omega) (fun q hq => absurd hq (by omega)) ?_ ?_
  · exact fun n s h => pk_le k k (fun _ => H s.1 s.2.1 s.2.2 h) (fun z => absurd z (by omega))
  · intro n i s hi h hw
    have c : (nI i).toNatClampNeg = i := nI_clamp (by omega)
    have v : vp_in (nI i) 10 := pk_in i 10 (by omega)
    refine pk_le k i (fun z => absurd z (by omega)) (fun _ => wr_fitsW (by omega) (h14 i hi) (br_f (by decide) ?_))
    rw [c]
    refine ⟨v, v, nm_e ⟨v, v, nm_e ⟨v, v, nm_e (nm_r (nI_1 i) (hw (upd s.1 i (a15 i), upd s.2.1 i (a16 i), upd s.2.2 i (a17 i)) (fun q hq => ?_)))⟩⟩⟩
    dsimp only
    by_cases e : q = i
    · subst e
      exact ⟨pk_us, pk_us, pk_us⟩
    · rw [pk_un e, pk_un e, pk_un e]
      exact h q (by omega)
/-! gather: the ways into place q -/
def wr_ga (q i : Nat) (a21 a22 a23 a25 a26 a27 a28 a29 a30 : Nat → Int32) (s : (Nat → Int32) × (Nat → Int32) × (Nat → Int32)) : Prop :=
  s.1 q = wr_fw a25 (fun p => a21 (p * 10 + q)) i (a28 q) ∧ s.2.1 q = wr_fm a26 (fun p => a22 (p * 10 + q)) i (a29 q) ∧ s.2.2 q = wr_fx a27 (fun p => a23 (p * 10 + q)) i (a30 q) ∧
  ∀ j, j ≠ q → s.1 j = a28 j ∧ s.2.1 j = a29 j ∧ s.2.2 j = a30 j
theorem wr_gather {post : St2 → Prop} {f0 f1 f2 f4 f5 f6 : Int32} {a1 a2 a3 a4 a5 a6 a7 a8 a9 a10 a11 a12 a13 a14 a15 a16 a17 a18 a19 a20 a21 a22 a23 a24 a25 a26 a27 a28 a29 a30 a31 a32 a33 a34 : Nat → Int32} {q k : Nat} (hq : q < 10) (hk : k ≤ 10)
    (H : ∀ b28 b29 b30, wr_ga q k a21 a22 a23 a25 a26 a27 a28 a29 a30 (b28, b29, b30) → post (f0, f1, f2, nI k, f4, f5, f6, a1, a2, a3, a4, a5, a6, a7, a8, a9, a10, a11, a12, a13, a14, a15, a16, a17, a18, a19, a20, a21, a22, a23, a24, a25, a26, a27, b28, b29, b30, a31, a32, a33, a34)) : wpX_gather post (f0, f1, f2, nI k, f4, f5, f6, a1, a2, a3, a4, a5, a6, a7, a8, a9, a10, a11, a12, a13, a14, a15, a16, a17, a18, a19, a20, a21, a22, a23, a24, a25, a26, a27, a28, a29, a30, a31, a32, a33, a34) (nI q) := by
  refine pk_loop (fun n i s => wX_gather_2 post (nI q) f0 f1 f2 (nI k) f4 f5 f6 n (nI i) a1 a2 a3 a4 a5 a6 a7 a8 a9 a10 a11 a12 a13 a14 a15 a16 a17 a18 a19 a20 a21 a22 a23 a24 a25 a26 a27 s.1 s.2.1 s.2.2 a31 a32 a33 a34) (fun i s => wr_ga q i a21 a22 a23 a25 a26 a27 a28 a29 a30 s) k 0 (a28, a29, a30) (by omega) ⟨rfl, rfl, rfl, fun j _ => ⟨rfl, rfl, rfl⟩⟩ ?_ ?_
  · exact fun n s h => pk_le k k (fun _ => H s.1 s.2.1 s.2.2 h) (fun z => absurd z (by omega))
  · intro n i s hi h hw
    have c7 : (nI (i * 10 + q)).toNatClampNeg = i * 10 + q := nI_clamp (by omega)
    have cq : (nI q).toNatClampNeg = q := nI_clamp (by omega)
    have ci : (nI i).toNatClampNeg = i := nI_clamp (by omega)
    have v7 : vp_in (nI (i * 10 + q)) 100 := pk_in (i * 10 + q) 100 (by omega)
    have vq : vp_in (nI q) 10 := pk_in q 10 hq
    have vi : vp_in (nI i) 10 := pk_in i 10 (by omega)
    refine pk_le k i (fun z => absurd z (by omega)) (fun _ => nm_r (wr_ix i q) ?_)
    rw [c7, cq, ci]
    refine ⟨vq, vi, v7, vq, nm_e ⟨vi, v7, wr_plusW ⟨vi, v7, wr_plusW ⟨vq, wr_lesW ⟨vq, nm_e ⟨vq, wr_greW ⟨vq, nm_e (nm_r (nI_1 i) (hw (upd s.1 q (s.1 q + a25 i * a21 (i * 10 + q)), upd s.2.1 q (wr_les (s.2.1 q) (wr_plus (a26 i) (a22 (i * 10 + q)))), upd s.2.2 q (wr_gre (s.2.2 q) (wr_plus (a27 i) (a23 (i * 10 + q))))) ?_))⟩⟩⟩⟩⟩⟩⟩
    obtain ⟨h1, h2, h3, h4⟩ := h
    refine ⟨?_, ?_, ?_, fun j hj => ?_⟩
    · dsimp only
      rw [pk_us, h1]
      rfl
    · dsimp only
      rw [pk_us, h2]
      rfl
    · dsimp only
      rw [pk_us, h3]
      rfl
    · dsimp only
      rw [pk_un hj, pk_un hj, pk_un hj]
      exact h4 j hj
/-! advance -/
def wr_av (i k : Nat) (a21 a22 a23 a25 a26 a27 : Nat → Int32) (s : (Nat → Int32) × (Nat → Int32) × (Nat → Int32)) : Prop :=
  ∀ q, q < i → s.1 q = wr_fw a25 (fun p => a21 (p * 10 + q)) k 0 ∧ s.2.1 q = wr_fm a26 (fun p => a22 (p * 10 + q)) k (-1) ∧ s.2.2 q = wr_fx a27 (fun p => a23 (p * 10 + q)) k (-1)
theorem wr_adv53 {post : St2 → Prop} {f0 f1 f2 f4 f5 f6 : Int32} {a1 a2 a3 a4 a5 a6 a7 a8 a9 a10 a11 a12 a13 a14 a15 a16 a17 a18 a19 a20 a21 a22 a23 a24 a25 a26 a27 a28 a29 a30 a31 a32 a33 a34 : Nat → Int32} {k : Nat} (hk : k ≤ 10)
    (H : ∀ b25 b26 b27, (∀ q, q < k → b25 q = a28 q ∧ b26 q = a29 q ∧ b27 q = a30 q) → post (f0, f1, f2, nI k, f4, f5, f6, a1, a2, a3, a4, a5, a6, a7, a8, a9, a10, a11, a12, a13, a14, a15, a16, a17, a18, a19, a20, a21, a22, a23, a24, b25, b26, b27, a28, a29, a30, a31, a32, a33, a34)) : ∃ n, wX_advance_53 post f0 f1 f2 (nI k) f4 f5 f6 n 0 a1 a2 a3 a4 a5 a6 a7 a8 a9 a10 a11 a12 a13 a14 a15 a16 a17 a18 a19 a20 a21 a22 a23 a24 a25 a26 a27 a28 a29 a30 a31 a32 a33 a34 := by
  refine pk_loop (fun n i s => wX_advance_53 post f0 f1 f2 (nI k) f4 f5 f6 n (nI i) a1 a2 a3 a4 a5 a6 a7 a8 a9 a10 a11 a12 a13 a14 a15 a16 a17 a18 a19 a20 a21 a22 a23 a24 s.1 s.2.1 s.2.2 a28 a29 a30 a31 a32 a33 a34) (fun i s => ∀ q, q < i → s.1 q = a28 q ∧ s.2.1 q = a29 q ∧ s.2.2 q = a30 q) k 0 (a25, a26, a27) (by omega) (fun q hq => absurd hq (by omega)) ?_ ?_
  · exact fun n s h => pk_le k k (fun _ => H s.1 s.2.1 s.2.2 h) (fun z => absurd z (by omega))
  · intro n i s hi h hw
    have c : (nI i).toNatClampNeg = i := nI_clamp (by omega)
    have v : vp_in (nI i) 10 := pk_in i 10 (by omega)
    refine pk_le k i (fun z => absurd z (by omega)) (fun _ => ?_)
    rw [c]
    refine ⟨v, v, nm_e ⟨v, v, nm_e ⟨v, v, nm_e (nm_r (nI_1 i) (hw (upd s.1 i (a28 i), upd s.2.1 i (a29 i), upd s.2.2 i (a30 i)) (fun q hq => ?_)))⟩⟩⟩
    dsimp only
    by_cases e : q = i
    · subst e
      exact ⟨pk_us, pk_us, pk_us⟩
    · rw [pk_un e, pk_un e, pk_un e]
      exact h q (by omega)
theorem wr_advance {post : St2 → Prop} {f0 f1 f2 f4 f5 f6 : Int32} {a1 a2 a3 a4 a5 a6 a7 a8 a9 a10 a11 a12 a13 a14 a15 a16 a17 a18 a19 a20 a21 a22 a23 a24 a25 a26 a27 a28 a29 a30 a31 a32 a33 a34 : Nat → Int32} {k : Nat} {x : Int32} (hk : k ≤ 10) (h14 : ∀ q, q < k → a14 q = 3)
    (H : ∀ b25 b26 b27 b28 b29 b30, wr_av k k a21 a22 a23 a25 a26 a27 (b25, b26, b27) → post (f0, f1, f2, nI k, f4, f5, f6, a1, a2, a3, a4, a5, a6, a7, a8, a9, a10, a11, a12, a13, a14, a15, a16, a17, a18, a19, a20, a21, a22, a23, a24, b25, b26, b27, b28, b29, b30, a31, a32, a33, a34)) : wpX_advance post (f0, f1, f2, nI k, f4, f5, f6, a1, a2, a3, a4, a5, a6, a7, a8, a9, a10, a11, a12, a13, a14, a15, a16, a17, a18, a19, a20, a21, a22, a23, a24, a25, a26, a27, a28, a29, a30, a31, a32, a33, a34) x := by
  refine pk_loop (fun n i s => wX_advance_2 post x n (nI i) f0 f1 f2 (nI k) f4 f5 f6 a1 a2 a3 a4 a5 a6 a7 a8 a9 a10 a11 a12 a13 a14 a15 a16 a17 a18 a19 a20 a21 a22 a23 a24 a25 a26 a27 s.1 s.2.1 s.2.2 a31 a32 a33 a34) (fun i s => wr_av i k a21 a22 a23 a25 a26 a27 s) k 0 (a28, a29, a30) (by omega) (fun q hq => absurd hq (by omega)) ?_ ?_
  · refine fun n s h => pk_le k k (fun _ => wr_adv53 hk (fun b25 b26 b27 hb => H b25 b26 b27 s.1 s.2.1 s.2.2 (fun q hq => ?_))) (fun z => absurd z (by omega))
    have t := hb q hq
    have t2 := h q hq
    exact ⟨t.1.trans t2.1, t.2.1.trans t2.2.1, t.2.2.trans t2.2.2⟩
  · intro n i s hi h hw
    have c : (nI i).toNatClampNeg = i := nI_clamp (by omega)
    have v : vp_in (nI i) 10 := pk_in i 10 (by omega)
    refine pk_le k i (fun z => absurd z (by omega)) (fun _ => ?_)
    rw [c]
    refine ⟨v, nm_e ⟨v, nm_e ⟨v, nm_e (wr_fitsW (by omega) (h14 i hi) (br_f (by decide) (wr_gather (by omega) hk (fun b28 b29 b30 hb => nm_r (nI_1 i) (hw (b28, b29, b30) (fun q hq => ?_))))))⟩⟩⟩
    obtain ⟨h1, h2, h3, h4⟩ := hb
    by_cases e : q = i
    · subst e
      rw [pk_us] at h1 h2 h3
      exact ⟨h1, h2, h3⟩
    · have t := h4 q e
      rw [pk_un e, pk_un e, pk_un e] at t
      have t2 := h q (by omega)
      exact ⟨t.1.trans t2.1, t.2.1.trans t2.2.1, t.2.2.trans t2.2.2⟩
/-! leave: the ways out of every place -/
theorem wr_leave {post : St2 → Prop} {f0 f1 f2 f4 f5 f6 : Int32} {a1 a2 a3 a4 a5 a6 a7 a8 a9 a10 a11 a12 a13 a14 a15 a16 a17 a18 a19 a20 a21 a22 a23 a24 a25 a26 a27 a28 a29 a30 a31 a32 a33 a34 : Nat → Int32} {j k : Nat} (hj : j < 9) (hk : k ≤ 10)
    (H : post (f0, f1, f2, nI k, f4, f5, f6, a1, a2, a3, a4, a5, a6, a7, a8, a9, a10, a11, a12, a13, a14, a15, a16, a17, a18, a19, a20, a21, a22, a23, a24, a25, a26, a27, a28, a29, a30, upd a31 j (wr_fw a25 a18 k 0), upd a32 j (wr_fm a26 a19 k (-1)), upd a33 j (wr_fx a27 a20 k (-1)), a34)) : wpX_leave post (f0, f1, f2, nI k, f4, f5, f6, a1, a2, a3, a4, a5, a6, a7, a8, a9, a10, a11, a12, a13, a14, a15, a16, a17, a18, a19, a20, a21, a22, a23, a24, a25, a26, a27, a28, a29, a30, a31, a32, a33, a34) (nI j) := by
  refine pk_loop (σ := Unit) (fun n i _ => wX_leave_10 post (nI j) f0 f1 f2 (nI k) f4 f5 f6 a1 a2 a3 a4 a5 a6 a7 a8 a9 a10 a11 a12 a13 a14 a15 a16 a17 a18 a19 a20 a21 a22 a23 a24 a25 a26 a27 a28 a29 a30 a31 a32 a33 a34 n (wr_fw a25 a18 i 0) (wr_fm a26 a19 i (-1)) (wr_fx a27 a20 i (-1)) (nI i)) (fun _ _ => True) k 0 () (by omega) trivial ?_ ?_
  · have c : (nI j).toNatClampNeg = j := nI_clamp (by omega)
    have v : vp_in (nI j) 9 := pk_in j 9 hj
    exact fun n s _ => pk_le k k (fun _ => ⟨v, nm_r (by rw [c]) ⟨v, nm_r (by rw [c]) ⟨v, nm_r (by rw [c]) H⟩⟩⟩) (fun z => absurd z (by omega))
  · intro n i s hi _ hw
    have c : (nI i).toNatClampNeg = i := nI_clamp (by omega)
    have v : vp_in (nI i) 10 := pk_in i 10 (by omega)
    refine pk_le k i (fun z => absurd z (by omega)) (fun _ => ?_)
    rw [c]
    exact ⟨v, v, nm_e ⟨v, v, wr_plusW ⟨v, v, wr_plusW (wr_lesW (wr_greW (nm_r (nI_1 i) (hw () trivial))))⟩⟩⟩
end
section
/-! the plain law: count, least and greatest cost of a window of k letters -/
def wr_C : Nat → Nat
  | 0 => 1
  | 1 => 1
  | k + 2 => wr_C (k + 1) + wr_C k
def wr_Lo (one two : Nat) : Nat → Nat
  | 0 => 0
  | 1 => one
  | k + 2 => min (wr_Lo one two (k + 1) + one) (wr_Lo one two k + two)
def wr_Hi (one two : Nat) : Nat → Nat
  | 0 => 0
  | 1 => one
  | k + 2 => max (wr_Hi one two (k + 1) + one) (wr_Hi one two k + two)
theorem wr_Lo_b {one two : Nat} (h1 : one ≤ 14) (k : Nat) : wr_Lo one two k ≤ 35 * k ∧ wr_Lo one two (k + 1) ≤ 35 * (k + 1) := by
  induction k with
  | zero => exact ⟨Nat.le_refl 0, by show one ≤ 35 * (0 + 1); omega⟩
  | succ k ih => exact ⟨ih.2, by show min (wr_Lo one two (k + 1) + one) (wr_Lo one two k + two) ≤ 35 * (k + 1 + 1); omega⟩
theorem wr_Hi_b {one two : Nat} (h1 : one ≤ 14) (h2 : two ≤ 21) (k : Nat) : wr_Hi one two k ≤ 35 * k ∧ wr_Hi one two (k + 1) ≤ 35 * (k + 1) := by
  induction k with
  | zero => exact ⟨Nat.le_refl 0, by show one ≤ 35 * (0 + 1); omega⟩
  | succ k ih => exact ⟨ih.2, by show max (wr_Hi one two (k + 1) + one) (wr_Hi one two k + two) ≤ 35 * (k + 1 + 1); omega⟩
/-- the costs -/
def wr_ok (s f c p : Nat) : Prop := s ≤ 7 ∧ f ≤ 7 ∧ c ≤ 7 ∧ p ≤ 7
/-- the expression in use: three places -/
def wr_A (s f c p : Nat) (a14 a15 a16 a17 a18 a19 a20 a21 a22 a23 : Nat → Int32) : Prop :=
  (a14 0 = 3 ∧ a14 1 = 3 ∧ a14 2 = 3) ∧
  (a15 0 = nI 1 ∧ a15 1 = nI 1 ∧ a15 2 = nI 0) ∧
  (a16 0 = nI (p + s) ∧ a16 1 = nI (p + f) ∧ a16 2 = -1) ∧
  (a17 0 = nI (p + s) ∧ a17 1 = nI (p + f) ∧ a17 2 = -1) ∧
  (a18 0 = nI 1 ∧ a18 1 = nI 0 ∧ a18 2 = nI 1) ∧
  (a19 0 = nI 0 ∧ a19 1 = -1 ∧ a19 2 = nI 0) ∧
  (a20 0 = nI 0 ∧ a20 1 = -1 ∧ a20 2 = nI 0) ∧
  (a21 0 = nI 1 ∧ a21 1 = nI 1 ∧ a21 2 = nI 0 ∧ a21 10 = nI 0 ∧ a21 11 = nI 0 ∧ a21 12 = nI 1 ∧ a21 20 = nI 1 ∧ a21 21 = nI 1 ∧ a21 22 = nI 0) ∧
  (a22 0 = nI (p + s) ∧ a22 1 = nI (p + f) ∧ a22 2 = -1 ∧ a22 10 = -1 ∧ a22 11 = -1 ∧ a22 12 = nI c ∧ a22 20 = nI (p + s) ∧ a22 21 = nI (p + f) ∧ a22 22 = -1) ∧
  (a23 0 = nI (p + s) ∧ a23 1 = nI (p + f) ∧ a23 2 = -1 ∧ a23 10 = -1 ∧ a23 11 = -1 ∧ a23 12 = nI c ∧ a23 20 = nI (p + s) ∧ a23 21 = nI (p + f) ∧ a23 22 = -1)
theorem wr_A14 {s f c p : Nat} {a14 a15 a16 a17 a18 a19 a20 a21 a22 a23 : Nat → Int32} (h : wr_A s f c p a14 a15 a16 a17 a18 a19 a20 a21 a22 a23) : ∀ q, q < 3 → a14 q = 3 :=
  fun _ hq => co_3 (P := fun q => a14 q = 3) h.1.1 h.1.2.1 h.1.2.2 hq
/-- the third place after k + 1 letters -/
def wr_N2 (one two k : Nat) (x y z : Int32) : Prop := match k with
  | 0 => x = nI 0 ∧ y = -1 ∧ z = -1
  | j + 1 => x = nI (wr_C j) ∧ y = nI (wr_Lo one two j + two) ∧ z = nI (wr_Hi one two j + two)
/-- the three places after k + 1 letters -/
def wr_now (s f c p k : Nat) (b25 b26 b27 : Nat → Int32) : Prop :=
  (b25 0 = nI (wr_C k) ∧ b26 0 = nI (wr_Lo (p + s) (p + f + c) k + (p + s)) ∧ b27 0 = nI (wr_Hi (p + s) (p + f + c) k + (p + s))) ∧
  (b25 1 = nI (wr_C k) ∧ b26 1 = nI (wr_Lo (p + s) (p + f + c) k + (p + f)) ∧ b27 1 = nI (wr_Hi (p + s) (p + f + c) k + (p + f))) ∧
  wr_N2 (p + s) (p + f + c) k (b25 2) (b26 2) (b27 2)
theorem wr_now0 {s f c p : Nat} {a14 a15 a16 a17 a18 a19 a20 a21 a22 a23 b25 b26 b27 : Nat → Int32} (h : wr_A s f c p a14 a15 a16 a17 a18 a19 a20 a21 a22 a23) (hb : ∀ q, q < 3 → b25 q = a15 q ∧ b26 q = a16 q ∧ b27 q = a17 q) : wr_now s f c p 0 b25 b26 b27 := by
  obtain ⟨-, ⟨h1, h2, h3⟩, ⟨h4, h5, h6⟩, ⟨h7, h8, h9⟩, -⟩ := h
  obtain ⟨e1, e2, e3⟩ := hb 0 (by omega)
  obtain ⟨e4, e5, e6⟩ := hb 1 (by omega)
  obtain ⟨e7, e8, e9⟩ := hb 2 (by omega)
  have z1 : wr_Lo (p + s) (p + f + c) 0 = 0 := rfl
  have z2 : wr_Hi (p + s) (p + f + c) 0 = 0 := rfl
  refine ⟨⟨e1.trans h1, ?_, ?_⟩, ⟨e4.trans h2, ?_, ?_⟩, ⟨e7.trans h3, e8.trans h6, e9.trans h9⟩⟩
  · rw [e2, h4, z1, Nat.zero_add]
  · rw [e3, h7, z2, Nat.zero_add]
  · rw [e5, h5, z1, Nat.zero_add]
  · rw [e6, h8, z2, Nat.zero_add]
/-! three terms, pure -/
theorem wr_w3 {x y : Nat → Int32} {x0 x1 x2 y0 y1 y2 : Nat} (h0 : x 0 = nI x0) (h1 : x 1 = nI x1) (h2 : x 2 = nI x2) (g0 : y 0 = nI y0) (g1 : y 1 = nI y1) (g2 : y 2 = nI y2) : wr_fw x y 3 0 = nI (x0 * y0 + x1 * y1 + x2 * y2) := by
  show nI 0 + x 0 * y 0 + x 1 * y 1 + x 2 * y 2 = _
  rw [h0, h1, h2, g0, g1, g2, pk_mul, pk_mul, pk_mul, nI_add, nI_add, nI_add, Nat.zero_add]
theorem wr_m3 (x y : Nat → Int32) : wr_fm x y 3 (-1) = wr_les (wr_les (wr_les (-1) (wr_plus (x 0) (y 0))) (wr_plus (x 1) (y 1))) (wr_plus (x 2) (y 2)) := rfl
theorem wr_x3 (x y : Nat → Int32) : wr_fx x y 3 (-1) = wr_gre (wr_gre (wr_gre (-1) (wr_plus (x 0) (y 0))) (wr_plus (x 1) (y 1))) (wr_plus (x 2) (y 2)) := rfl
theorem wr_m101 {x0 x2 y0 y2 : Nat} {x1 : Int32} (h0 : x0 < 1000) (h2 : x2 < 1000) (g0 : y0 < 1000) (g2 : y2 < 1000) : wr_les (wr_les (wr_les (-1) (wr_plus (nI x0) (nI y0))) (wr_plus x1 (-1))) (wr_plus (nI x2) (nI y2)) = nI (min (x0 + y0) (x2 + y2)) := by
  rw [wr_plus_n (by omega) (by omega), wr_plus_n (by omega) (by omega), wr_plus_r, wr_les_l, wr_les_r (by omega), wr_les_n (by omega) (by omega)]
theorem wr_m100 {x0 y0 : Nat} {x1 y2 : Int32} (h0 : x0 < 1000) (g0 : y0 < 1000) : wr_les (wr_les (wr_les (-1) (wr_plus (nI x0) (nI y0))) (wr_plus x1 (-1))) (wr_plus (-1) y2) = nI (x0 + y0) := by
  rw [wr_plus_n (by omega) (by omega), wr_plus_l, wr_plus_r, wr_les_l, wr_les_r (by omega), wr_les_r (by omega)]
theorem wr_m010 {x1 y1 : Nat} {x0 x2 : Int32} (h1 : x1 < 1000) (g1 : y1 < 1000) : wr_les (wr_les (wr_les (-1) (wr_plus x0 (-1))) (wr_plus (nI x1) (nI y1))) (wr_plus x2 (-1)) = nI (x1 + y1) := by
  rw [wr_plus_n (by omega) (by omega), wr_plus_r, wr_plus_r, wr_les_l, wr_les_l, wr_les_r (by omega)]
theorem wr_x101 {x0 x2 y0 y2 : Nat} {x1 : Int32} (h0 : x0 < 1000) (h2 : x2 < 1000) (g0 : y0 < 1000) (g2 : y2 < 1000) : wr_gre (wr_gre (wr_gre (-1) (wr_plus (nI x0) (nI y0))) (wr_plus x1 (-1))) (wr_plus (nI x2) (nI y2)) = nI (max (x0 + y0) (x2 + y2)) := by
  rw [wr_plus_n (by omega) (by omega), wr_plus_n (by omega) (by omega), wr_plus_r, wr_gre_l (by omega), wr_gre_r (by omega), wr_gre_n (by omega) (by omega)]
theorem wr_x100 {x0 y0 : Nat} {x1 y2 : Int32} (h0 : x0 < 1000) (g0 : y0 < 1000) : wr_gre (wr_gre (wr_gre (-1) (wr_plus (nI x0) (nI y0))) (wr_plus x1 (-1))) (wr_plus (-1) y2) = nI (x0 + y0) := by
  rw [wr_plus_n (by omega) (by omega), wr_plus_l, wr_plus_r, wr_gre_l (by omega), wr_gre_r (by omega), wr_gre_r (by omega)]
theorem wr_x010 {x1 y1 : Nat} {x0 x2 : Int32} (h1 : x1 < 1000) (g1 : y1 < 1000) : wr_gre (wr_gre (wr_gre (-1) (wr_plus x0 (-1))) (wr_plus (nI x1) (nI y1))) (wr_plus x2 (-1)) = nI (x1 + y1) := by
  rw [wr_plus_n (by omega) (by omega), wr_plus_r, wr_plus_r, wr_gre_m, wr_gre_l (by omega), wr_gre_r (by omega)]
/-- out of the places after k + 1 letters -/
theorem wr_out {s f c p k : Nat} {a14 a15 a16 a17 a18 a19 a20 a21 a22 a23 b25 b26 b27 : Nat → Int32} (ho : wr_ok s f c p) (hk : k ≤ 8) (h : wr_A s f c p a14 a15 a16 a17 a18 a19 a20 a21 a22 a23) (hn : wr_now s f c p k b25 b26 b27) :
    wr_fw b25 a18 3 0 = nI (wr_C (k + 1)) ∧ wr_fm b26 a19 3 (-1) = nI (wr_Lo (p + s) (p + f + c) (k + 1)) ∧ wr_fx b27 a20 3 (-1) = nI (wr_Hi (p + s) (p + f + c) (k + 1)) := by
  obtain ⟨o1, o2, o3, o4⟩ := ho
  obtain ⟨-, -, -, -, ⟨h1, h2, h3⟩, ⟨h4, h5, h6⟩, ⟨h7, h8, h9⟩, -⟩ := h
  obtain ⟨⟨n1, n2, n3⟩, ⟨n4, n5, n6⟩, n⟩ := hn
  cases k with
  | zero =>
    obtain ⟨n7, n8, n9⟩ := n
    refine ⟨wr_w3 n1 n4 n7 h1 h2 h3, ?_, ?_⟩
    · rw [wr_m3, n2, n8, h4, h5]
      refine (wr_m100 (?_ : wr_Lo (p + s) (p + f + c) 0 + (p + s) < 1000) (by omega)).trans (congrArg nI (?_ : wr_Lo (p + s) (p + f + c) 0 + (p + s) + 0 = p + s))
      · show 0 + (p + s) < 1000
        omega
      · show 0 + (p + s) + 0 = p + s
        omega
    · rw [wr_x3, n3, n9, h7, h8]
      refine (wr_x100 (?_ : wr_Hi (p + s) (p + f + c) 0 + (p + s) < 1000) (by omega)).trans (congrArg nI (?_ : wr_Hi (p + s) (p + f + c) 0 + (p + s) + 0 = p + s))
      · show 0 + (p + s) < 1000
        omega
      · show 0 + (p + s) + 0 = p + s
        omega
  | succ j =>
    obtain ⟨n7, n8, n9⟩ := n
    have l1 := wr_Lo_b (one := p + s) (two := p + f + c) (by omega) j
    have l2 := wr_Hi_b (one := p + s) (two := p + f + c) (by omega) (by omega) j
    refine ⟨(wr_w3 n1 n4 n7 h1 h2 h3).trans (congrArg nI ?_), ?_, ?_⟩
    · show wr_C (j + 1) * 1 + wr_C (j + 1) * 0 + wr_C j * 1 = wr_C (j + 1) + wr_C j
      omega
    · rw [wr_m3, n2, n8, h4, h5, h6]
      refine (wr_m101 (by omega) (by omega) (by omega) (by omega)).trans (congrArg nI ?_)
      show _ = min (wr_Lo (p + s) (p + f + c) (j + 1) + (p + s)) (wr_Lo (p + s) (p + f + c) j + (p + f + c))
      omega
    · rw [wr_x3, n3, n9, h7, h8, h9]
      refine (wr_x101 (by omega) (by omega) (by omega) (by omega)).trans (congrArg nI ?_)
      show _ = max (wr_Hi (p + s) (p + f + c) (j + 1) + (p + s)) (wr_Hi (p + s) (p + f + c) j + (p + f + c))
      omega
/-- one letter more -/
theorem wr_next {s f c p k : Nat} {a14 a15 a16 a17 a18 a19 a20 a21 a22 a23 a25 a26 a27 b25 b26 b27 : Nat → Int32} (ho : wr_ok s f c p) (hk : k ≤ 8) (h : wr_A s f c p a14 a15 a16 a17 a18 a19 a20 a21 a22 a23) (hn : wr_now s f c p k a25 a26 a27) (hv : wr_av 3 3 a21 a22 a23 a25 a26 a27 (b25, b26, b27)) : wr_now s f c p (k + 1) b25 b26 b27 := by
  obtain ⟨o1, o2, o3, o4⟩ := ho
  obtain ⟨-, -, -, -, -, -, -, ⟨w00, w01, w02, w10, w11, w12, w20, w21, w22⟩, ⟨m00, m01, m02, m10, m11, m12, m20, m21, m22⟩, ⟨x00, x01, x02, x10, x11, x12, x20, x21, x22⟩⟩ := h
  obtain ⟨⟨n1, n2, n3⟩, ⟨n4, n5, n6⟩, n⟩ := hn
  obtain ⟨e1, e2, e3⟩ := hv 0 (by omega)
  obtain ⟨e4, e5, e6⟩ := hv 1 (by omega)
  obtain ⟨e7, e8, e9⟩ := hv 2 (by omega)
  dsimp only at e1 e2 e3 e4 e5 e6 e7 e8 e9
  have l1 := wr_Lo_b (one := p + s) (two := p + f + c) (by omega) k
  have l2 := wr_Hi_b (one := p + s) (two := p + f + c) (by omega) (by omega) k
  have t : ∃ x2 : Nat, a25 2 = nI x2 := by
    cases k with
    | zero => exact ⟨0, n.1⟩
    | succ j => exact ⟨wr_C j, n.1⟩
  obtain ⟨y2, hy2⟩ := t
  have p2 : wr_N2 (p + s) (p + f + c) (k + 1) (b25 2) (b26 2) (b27 2) := by
    refine ⟨?_, ?_, ?_⟩
    · rw [e7]
      refine (wr_w3 (y := fun p => a21 (p * 10 + 2)) n1 n4 hy2 w02 w12 w22).trans (congrArg nI ?_)
      omega
    · rw [e8, wr_m3, n5]
      rw [show a22 (0 * 10 + 2) = -1 from m02, show a22 (1 * 10 + 2) = nI c from m12, show a22 (2 * 10 + 2) = -1 from m22]
      exact (wr_m010 (by omega) (by omega)).trans (congrArg nI (by omega))
    · rw [e9, wr_x3, n6]
      rw [show a23 (0 * 10 + 2) = -1 from x02, show a23 (1 * 10 + 2) = nI c from x12, show a23 (2 * 10 + 2) = -1 from x22]
      exact (wr_x010 (by omega) (by omega)).trans (congrArg nI (by omega))
  refine ⟨⟨?_, ?_, ?_⟩, ⟨?_, ?_, ?_⟩, p2⟩
  · rw [e1]
    cases k with
    | zero => exact wr_w3 (y := fun p => a21 (p * 10 + 0)) n1 n4 n.1 w00 w10 w20
    | succ j =>
      refine (wr_w3 (y := fun p => a21 (p * 10 + 0)) n1 n4 n.1 w00 w10 w20).trans (congrArg nI ?_)
      show wr_C (j + 1) * 1 + wr_C (j + 1) * 0 + wr_C j * 1 = wr_C (j + 1) + wr_C j
      omega
  · rw [e2, wr_m3, n2]
    rw [show a22 (0 * 10 + 0) = nI (p + s) from m00, show a22 (1 * 10 + 0) = -1 from m10, show a22 (2 * 10 + 0) = nI (p + s) from m20]
    cases k with
    | zero =>
      rw [n.2.1]
      refine (wr_m100 (by omega) (by omega)).trans (congrArg nI ?_)
      show 0 + (p + s) + (p + s) = p + s + (p + s)
      omega
    | succ j =>
      have l3 := wr_Lo_b (one := p + s) (two := p + f + c) (by omega) j
      rw [n.2.1]
      refine (wr_m101 (by omega) (by omega) (by omega) (by omega)).trans (congrArg nI ?_)
      show _ = min (wr_Lo (p + s) (p + f + c) (j + 1) + (p + s)) (wr_Lo (p + s) (p + f + c) j + (p + f + c)) + (p + s)
      omega
  · rw [e3, wr_x3, n3]
    rw [show a23 (0 * 10 + 0) = nI (p + s) from x00, show a23 (1 * 10 + 0) = -1 from x10, show a23 (2 * 10 + 0) = nI (p + s) from x20]
    cases k with
    | zero =>
      rw [n.2.2]
      refine (wr_x100 (by omega) (by omega)).trans (congrArg nI ?_)
      show 0 + (p + s) + (p + s) = p + s + (p + s)
      omega
    | succ j =>
      have l3 := wr_Hi_b (one := p + s) (two := p + f + c) (by omega) (by omega) j
      rw [n.2.2]
      refine (wr_x101 (by omega) (by omega) (by omega) (by omega)).trans (congrArg nI ?_)
      show _ = max (wr_Hi (p + s) (p + f + c) (j + 1) + (p + s)) (wr_Hi (p + s) (p + f + c) j + (p + f + c)) + (p + s)
      omega
  · rw [e4]
    cases k with
    | zero => exact wr_w3 (y := fun p => a21 (p * 10 + 1)) n1 n4 n.1 w01 w11 w21
    | succ j =>
      refine (wr_w3 (y := fun p => a21 (p * 10 + 1)) n1 n4 n.1 w01 w11 w21).trans (congrArg nI ?_)
      show wr_C (j + 1) * 1 + wr_C (j + 1) * 0 + wr_C j * 1 = wr_C (j + 1) + wr_C j
      omega
  · rw [e5, wr_m3, n2]
    rw [show a22 (0 * 10 + 1) = nI (p + f) from m01, show a22 (1 * 10 + 1) = -1 from m11, show a22 (2 * 10 + 1) = nI (p + f) from m21]
    cases k with
    | zero =>
      rw [n.2.1]
      refine (wr_m100 (by omega) (by omega)).trans (congrArg nI ?_)
      show 0 + (p + s) + (p + f) = p + s + (p + f)
      omega
    | succ j =>
      have l3 := wr_Lo_b (one := p + s) (two := p + f + c) (by omega) j
      rw [n.2.1]
      refine (wr_m101 (by omega) (by omega) (by omega) (by omega)).trans (congrArg nI ?_)
      show _ = min (wr_Lo (p + s) (p + f + c) (j + 1) + (p + s)) (wr_Lo (p + s) (p + f + c) j + (p + f + c)) + (p + f)
      omega
  · rw [e6, wr_x3, n3]
    rw [show a23 (0 * 10 + 1) = nI (p + f) from x01, show a23 (1 * 10 + 1) = -1 from x11, show a23 (2 * 10 + 1) = nI (p + f) from x21]
    cases k with
    | zero =>
      rw [n.2.2]
      refine (wr_x100 (by omega) (by omega)).trans (congrArg nI ?_)
      show 0 + (p + s) + (p + f) = p + s + (p + f)
      omega
    | succ j =>
      have l3 := wr_Hi_b (one := p + s) (two := p + f + c) (by omega) (by omega) j
      rw [n.2.2]
      refine (wr_x101 (by omega) (by omega) (by omega) (by omega)).trans (congrArg nI ?_)
      show _ = max (wr_Hi (p + s) (p + f + c) (j + 1) + (p + s)) (wr_Hi (p + s) (p + f + c) j + (p + f + c)) + (p + f)
      omega
end
section
/-! sweep: the weights of all windows that begin at I -/
def wr_got (s f c p I i : Nat) (b31 b32 b33 : Nat → Int32) : Prop :=
  ∀ k, I + k ≤ i → b31 (I + k) = nI (wr_C k) ∧ b32 (I + k) = nI (wr_Lo (p + s) (p + f + c) k) ∧ b33 (I + k) = nI (wr_Hi (p + s) (p + f + c) k)
theorem wr_got_0 {s f c p I : Nat} {b31 b32 b33 : Nat → Int32} : wr_got s f c p I I (upd b31 I 1) (upd b32 I 0) (upd b33 I 0) := by
  intro k hk
  have e : k = 0 := by omega
  subst e
  exact ⟨pk_us, pk_us, pk_us⟩
theorem wr_got_s {s f c p I i k : Nat} {b31 b32 b33 : Nat → Int32} {x y z : Int32} (hi : i = I + k) (h : wr_got s f c p I i b31 b32 b33) (hx : x = nI (wr_C (k + 1)) ∧ y = nI (wr_Lo (p + s) (p + f + c) (k + 1)) ∧ z = nI (wr_Hi (p + s) (p + f + c) (k + 1))) : wr_got s f c p I (i + 1) (upd b31 (i + 1) x) (upd b32 (i + 1) y) (upd b33 (i + 1) z) := by
  intro j hj
  by_cases e : j = k + 1
  · subst e
    rw [show I + (k + 1) = i + 1 by omega, pk_us, pk_us, pk_us]
    exact hx
  · have n : I + j ≠ i + 1 := by omega
    rw [pk_un n, pk_un n, pk_un n]
    exact h j (by omega)
theorem wr_sw78 {post : St2 → Prop} {J : Int32 → Int32 → Int32 → Int32 → Int32 → Int32 → Int32 → Int32 → (Nat → Int32) → (Nat → Int32) → (Nat → Int32) → (Nat → Int32) → (Nat → Int32) → (Nat → Int32) → (Nat → Int32) → (Nat → Int32) → (Nat → Int32) → (Nat → Int32) → (Nat → Int32) → (Nat → Int32) → (Nat → Int32) → (Nat → Int32) → (Nat → Int32) → (Nat → Int32) → (Nat → Int32) → (Nat → Int32) → (Nat → Int32) → (Nat → Int32) → (Nat → Int32) → (Nat → Int32) → (Nat → Int32) → (Nat → Int32) → (Nat → Int32) → (Nat → Int32) → (Nat → Int32) → (Nat → Int32) → (Nat → Int32) → (Nat → Int32) → (Nat → Int32) → (Nat → Int32) → (Nat → Int32) → (Nat → Int32) → Prop} {f0 f1 f2 f4 f5 f6 : Int32} {a1 a2 a3 a4 a5 a6 a7 a8 a9 a10 a11 a12 a13 a14 a15 a16 a17 a18 a19 a20 a21 a22 a23 a24 a25 a26 a27 a28 a29 a30 a31 a32 a33 a34 : Nat → Int32} {i k : Nat} {x1 : Int32} (hi : i < 8) (hk : k ≤ 10)
    (H : J (nI (i + 1)) f0 f1 f2 (nI k) f4 f5 f6 a1 a2 a3 a4 a5 a6 a7 a8 a9 a10 a11 a12 a13 a14 a15 a16 a17 a18 a19 a20 a21 a22 a23 a24 a25 a26 a27 a28 a29 a30 (upd a31 (i + 1) (wr_fw a25 a18 k 0)) (upd a32 (i + 1) (wr_fm a26 a19 k (-1))) (upd a33 (i + 1) (wr_fx a27 a20 k (-1))) a34) : wX_sweep_78 post J x1 (nI i) f0 f1 f2 (nI k) f4 f5 f6 a1 a2 a3 a4 a5 a6 a7 a8 a9 a10 a11 a12 a13 a14 a15 a16 a17 a18 a19 a20 a21 a22 a23 a24 a25 a26 a27 a28 a29 a30 a31 a32 a33 a34 := by
  unfold wX_sweep_78
  rw [nI_1]
  exact wr_leave (by omega) hk (nm_e H)
theorem wr_sw42 {post : St2 → Prop} {f0 f1 f2 f4 f5 : Int32} {a1 a2 a3 a4 a5 a6 a7 a8 a9 a10 a11 a12 a13 a14 a15 a16 a17 a18 a19 a20 a21 a22 a23 a24 a25 a26 a27 a28 a29 a30 a31 a32 a33 a34 : Nat → Int32} {s f c p I N : Nat} (ho : wr_ok s f c p) (hN : N ≤ 8) (hI : I ≤ N) (hA : wr_A s f c p a14 a15 a16 a17 a18 a19 a20 a21 a22 a23) (h0 : wr_got s f c p I I a31 a32 a33)
    (H : ∀ b25 b26 b27 b28 b29 b30 b31 b32 b33, wr_got s f c p I N b31 b32 b33 → post (f0, f1, f2, nI 3, f4, f5, nI N, a1, a2, a3, a4, a5, a6, a7, a8, a9, a10, a11, a12, a13, a14, a15, a16, a17, a18, a19, a20, a21, a22, a23, a24, b25, b26, b27, b28, b29, b30, b31, b32, b33, a34)) : ∃ n, wX_sweep_42 post (nI I) n (nI I) f0 f1 f2 (nI 3) f4 f5 (nI N) a1 a2 a3 a4 a5 a6 a7 a8 a9 a10 a11 a12 a13 a14 a15 a16 a17 a18 a19 a20 a21 a22 a23 a24 a25 a26 a27 a28 a29 a30 a31 a32 a33 a34 := by
  refine pk_loop (fun n i (s : (Nat → Int32) × (Nat → Int32) × (Nat → Int32) × (Nat → Int32) × (Nat → Int32) × (Nat → Int32) × (Nat → Int32) × (Nat → Int32) × (Nat → Int32)) => wX_sweep_42 post (nI I) n (nI i) f0 f1 f2 (nI 3) f4 f5 (nI N) a1 a2 a3 a4 a5 a6 a7 a8 a9 a10 a11 a12 a13 a14 a15 a16 a17 a18 a19 a20 a21 a22 a23 a24 s.1 s.2.1 s.2.2.1 s.2.2.2.1 s.2.2.2.2.1 s.2.2.2.2.2.1 s.2.2.2.2.2.2.1 s.2.2.2.2.2.2.2.1 s.2.2.2.2.2.2.2.2 a34) (fun i t => I ≤ i ∧ (∀ k, i = I + k + 1 → wr_now s f c p k t.1 t.2.1 t.2.2.1) ∧ wr_got s f c p I i t.2.2.2.2.2.2.1 t.2.2.2.2.2.2.2.1 t.2.2.2.2.2.2.2.2) N I (a25, a26, a27, a28, a29, a30, a31, a32, a33) hI ⟨Nat.le_refl I, fun k hk => absurd hk (by omega), h0⟩ ?_ ?_
  · rintro n ⟨b25, b26, b27, b28, b29, b30, b31, b32, b33⟩ ⟨_, _, hg⟩
    exact pk_le N N (fun _ => H b25 b26 b27 b28 b29 b30 b31 b32 b33 hg) (fun z => absurd z (by omega))
  · rintro n i ⟨b25, b26, b27, b28, b29, b30, b31, b32, b33⟩ hi ⟨hIi, hn, hg⟩ hw
    have fin : ∀ k c25 c26 c27 c28 c29 c30, i = I + k → wr_now s f c p k c25 c26 c27 → wX_sweep_78 post (wX_sweep_42 post (nI I) n) (nI I) (nI i) f0 f1 f2 (nI 3) f4 f5 (nI N) a1 a2 a3 a4 a5 a6 a7 a8 a9 a10 a11 a12 a13 a14 a15 a16 a17 a18 a19 a20 a21 a22 a23 a24 c25 c26 c27 c28 c29 c30 b31 b32 b33 a34 := by
      intro k c25 c26 c27 c28 c29 c30 hk hc
      refine wr_sw78 (by omega) (by omega) (hw (c25, c26, c27, c28, c29, c30, upd b31 (i + 1) (wr_fw c25 a18 3 0), upd b32 (i + 1) (wr_fm c26 a19 3 (-1)), upd b33 (i + 1) (wr_fx c27 a20 3 (-1))) ⟨by omega, fun k' hk' => ?_, wr_got_s hk hg (wr_out ho (by omega) hA hc)⟩)
      have e : k' = k := by omega
      subst e
      exact hc
    refine pk_le N i (fun z => absurd z (by omega)) (fun _ => pk_eq i I (fun e => ⟨pk_in i 8 (by omega), ?_⟩) (fun e => ⟨pk_in i 8 (by omega), ?_⟩))
    · exact wr_enter (by omega) (wr_A14 hA) (fun c25 c26 c27 hc => fin 0 c25 c26 c27 b28 b29 b30 (by omega) (wr_now0 hA hc))
    · exact wr_advance (by omega) (wr_A14 hA) (fun c25 c26 c27 c28 c29 c30 hc => fin (i - I) c25 c26 c27 c28 c29 c30 (by omega) (by
        have t := wr_next ho (by omega) hA (hn (i - I - 1) (by omega)) hc
        rw [show i - I - 1 + 1 = i - I by omega] at t
        exact t))
theorem wr_sweep {post : St2 → Prop} {f0 f1 f2 : Int32} {a1 a2 a3 a4 a5 a6 a7 a8 a9 a10 a11 a12 a13 a14 a15 a16 a17 a18 a19 a20 a21 a22 a23 a24 a25 a26 a27 a28 a29 a30 a31 a32 a33 a34 : Nat → Int32} {s f c p I N : Nat} (ho : wr_ok s f c p) (hN : N ≤ 8) (hI : I ≤ N) (hA : wr_A s f c p a14 a15 a16 a17 a18 a19 a20 a21 a22 a23)
    (H : ∀ b25 b26 b27 b28 b29 b30 b31 b32 b33, wr_got s f c p I N b31 b32 b33 → post (f0, f1, f2, nI 3, 1, 1, nI N, a1, a2, a3, a4, a5, a6, a7, a8, a9, a10, a11, a12, a13, a14, a15, a16, a17, a18, a19, a20, a21, a22, a23, a24, b25, b26, b27, b28, b29, b30, b31, b32, b33, a34)) : wpX_sweep post (f0, f1, f2, nI 3, 1, 1, nI N, a1, a2, a3, a4, a5, a6, a7, a8, a9, a10, a11, a12, a13, a14, a15, a16, a17, a18, a19, a20, a21, a22, a23, a24, a25, a26, a27, a28, a29, a30, a31, a32, a33, a34) (nI I) := by
  have c : (nI I).toNatClampNeg = I := nI_clamp (by omega)
  have v : vp_in (nI I) 9 := pk_in I 9 (by omega)
  refine And.intro v (nm_r (e' := upd a31 I 1) (by rw [c]) (br_f (by decide) ?_))
  exact And.intro v (nm_r (e' := upd a32 I 0) (by rw [c]) ⟨v, v, nm_r (e' := upd a33 I 0) (by rw [c, pk_us]) (wr_sw42 ho hN hI hA wr_got_0 H)⟩)
end
section
/-! the questions -/
theorem wr_winF {post : Int32 → Prop} {f0 f1 f2 f3 f4 f5 f6 : Int32} {a1 a2 a3 a4 a5 a6 a7 a8 a9 a10 a11 a12 a13 a14 a15 a16 a17 a18 a19 a20 a21 a22 a23 a24 a25 a26 a27 a28 a29 a30 a31 a32 a33 a34 : Nat → Int32} {x y : Int32} (h : x < 0 ∨ y < x ∨ f6 < y) (H : post 0) : wpX_window post (f0, f1, f2, f3, f4, f5, f6, a1, a2, a3, a4, a5, a6, a7, a8, a9, a10, a11, a12, a13, a14, a15, a16, a17, a18, a19, a20, a21, a22, a23, a24, a25, a26, a27, a28, a29, a30, a31, a32, a33, a34) x y :=
  br_c (fun _ => H) (fun h1 => br_c (fun _ => H) (fun h2 => br_c (fun _ => H) (fun h3 => absurd h (fun g => g.elim h1 (fun g => g.elim h2 h3)))))
theorem wr_winT {post : Int32 → Prop} {f0 f1 f2 f3 f4 f5 : Int32} {a1 a2 a3 a4 a5 a6 a7 a8 a9 a10 a11 a12 a13 a14 a15 a16 a17 a18 a19 a20 a21 a22 a23 a24 a25 a26 a27 a28 a29 a30 a31 a32 a33 a34 : Nat → Int32} {I k N : Nat} (hN : N ≤ 8) (h : I + k ≤ N) (H : post 1) : wpX_window post (f0, f1, f2, f3, f4, f5, nI N, a1, a2, a3, a4, a5, a6, a7, a8, a9, a10, a11, a12, a13, a14, a15, a16, a17, a18, a19, a20, a21, a22, a23, a24, a25, a26, a27, a28, a29, a30, a31, a32, a33, a34) (nI I) (nI (I + k)) :=
  pk_lt I 0 (fun z => absurd z (by omega)) (fun _ => pk_lt (I + k) I (fun z => absurd z (by omega)) (fun _ => pk_lt N (I + k) (fun z => absurd z (by omega)) (fun _ => H)))
theorem wr_waysF {post : Int32 → St2 → Prop} {f0 f1 f2 f3 f4 f5 f6 : Int32} {a1 a2 a3 a4 a5 a6 a7 a8 a9 a10 a11 a12 a13 a14 a15 a16 a17 a18 a19 a20 a21 a22 a23 a24 a25 a26 a27 a28 a29 a30 a31 a32 a33 a34 : Nat → Int32} {x y : Int32} (h : x < 0 ∨ y < x ∨ f6 < y) (H : post 0 (f0, f1, f2, f3, f4, f5, f6, a1, a2, a3, a4, a5, a6, a7, a8, a9, a10, a11, a12, a13, a14, a15, a16, a17, a18, a19, a20, a21, a22, a23, a24, a25, a26, a27, a28, a29, a30, a31, a32, a33, a34)) : wpX_ways post (f0, f1, f2, f3, f4, f5, f6, a1, a2, a3, a4, a5, a6, a7, a8, a9, a10, a11, a12, a13, a14, a15, a16, a17, a18, a19, a20, a21, a22, a23, a24, a25, a26, a27, a28, a29, a30, a31, a32, a33, a34) x y := by
  unfold wpX_ways
  exact wr_winF h (br_t rfl H)
theorem wr_leastF {post : Int32 → St2 → Prop} {f0 f1 f2 f3 f4 f5 f6 : Int32} {a1 a2 a3 a4 a5 a6 a7 a8 a9 a10 a11 a12 a13 a14 a15 a16 a17 a18 a19 a20 a21 a22 a23 a24 a25 a26 a27 a28 a29 a30 a31 a32 a33 a34 : Nat → Int32} {x y : Int32} (h : x < 0 ∨ y < x ∨ f6 < y) (H : post (-1) (f0, f1, f2, f3, f4, f5, f6, a1, a2, a3, a4, a5, a6, a7, a8, a9, a10, a11, a12, a13, a14, a15, a16, a17, a18, a19, a20, a21, a22, a23, a24, a25, a26, a27, a28, a29, a30, a31, a32, a33, a34)) : wpX_least post (f0, f1, f2, f3, f4, f5, f6, a1, a2, a3, a4, a5, a6, a7, a8, a9, a10, a11, a12, a13, a14, a15, a16, a17, a18, a19, a20, a21, a22, a23, a24, a25, a26, a27, a28, a29, a30, a31, a32, a33, a34) x y := by
  unfold wpX_least
  exact wr_winF h (br_t rfl H)
theorem wr_mostF {post : Int32 → St2 → Prop} {f0 f1 f2 f3 f4 f5 f6 : Int32} {a1 a2 a3 a4 a5 a6 a7 a8 a9 a10 a11 a12 a13 a14 a15 a16 a17 a18 a19 a20 a21 a22 a23 a24 a25 a26 a27 a28 a29 a30 a31 a32 a33 a34 : Nat → Int32} {x y : Int32} (h : x < 0 ∨ y < x ∨ f6 < y) (H : post (-1) (f0, f1, f2, f3, f4, f5, f6, a1, a2, a3, a4, a5, a6, a7, a8, a9, a10, a11, a12, a13, a14, a15, a16, a17, a18, a19, a20, a21, a22, a23, a24, a25, a26, a27, a28, a29, a30, a31, a32, a33, a34)) : wpX_most post (f0, f1, f2, f3, f4, f5, f6, a1, a2, a3, a4, a5, a6, a7, a8, a9, a10, a11, a12, a13, a14, a15, a16, a17, a18, a19, a20, a21, a22, a23, a24, a25, a26, a27, a28, a29, a30, a31, a32, a33, a34) x y := by
  unfold wpX_most
  exact wr_winF h (br_t rfl H)
theorem wr_waysT {post : Int32 → St2 → Prop} {f0 f1 f2 : Int32} {a1 a2 a3 a4 a5 a6 a7 a8 a9 a10 a11 a12 a13 a14 a15 a16 a17 a18 a19 a20 a21 a22 a23 a24 a25 a26 a27 a28 a29 a30 a31 a32 a33 a34 : Nat → Int32} {s f c p I k N : Nat} (ho : wr_ok s f c p) (hN : N ≤ 8) (hI : I + k ≤ N) (hA : wr_A s f c p a14 a15 a16 a17 a18 a19 a20 a21 a22 a23)
    (H : ∀ b25 b26 b27 b28 b29 b30 b31 b32 b33, post (nI (wr_C k)) (f0, f1, f2, nI 3, 1, 1, nI N, a1, a2, a3, a4, a5, a6, a7, a8, a9, a10, a11, a12, a13, a14, a15, a16, a17, a18, a19, a20, a21, a22, a23, a24, b25, b26, b27, b28, b29, b30, b31, b32, b33, a34)) : wpX_ways post (f0, f1, f2, nI 3, 1, 1, nI N, a1, a2, a3, a4, a5, a6, a7, a8, a9, a10, a11, a12, a13, a14, a15, a16, a17, a18, a19, a20, a21, a22, a23, a24, a25, a26, a27, a28, a29, a30, a31, a32, a33, a34) (nI I) (nI (I + k)) := by
  have c1 : (nI (I + k)).toNatClampNeg = I + k := nI_clamp (by omega)
  unfold wpX_ways
  refine wr_winT hN hI (br_f (by decide) (wr_sweep ho hN (by omega) hA (fun b25 b26 b27 b28 b29 b30 b31 b32 b33 hg => ⟨pk_in (I + k) 9 (by omega), ?_⟩)))
  rw [c1, (hg k hI).1]
  exact H b25 b26 b27 b28 b29 b30 b31 b32 b33
theorem wr_leastT {post : Int32 → St2 → Prop} {f0 f1 f2 : Int32} {a1 a2 a3 a4 a5 a6 a7 a8 a9 a10 a11 a12 a13 a14 a15 a16 a17 a18 a19 a20 a21 a22 a23 a24 a25 a26 a27 a28 a29 a30 a31 a32 a33 a34 : Nat → Int32} {s f c p I k N : Nat} (ho : wr_ok s f c p) (hN : N ≤ 8) (hI : I + k ≤ N) (hA : wr_A s f c p a14 a15 a16 a17 a18 a19 a20 a21 a22 a23)
    (H : ∀ b25 b26 b27 b28 b29 b30 b31 b32 b33, post (nI (wr_Lo (p + s) (p + f + c) k)) (f0, f1, f2, nI 3, 1, 1, nI N, a1, a2, a3, a4, a5, a6, a7, a8, a9, a10, a11, a12, a13, a14, a15, a16, a17, a18, a19, a20, a21, a22, a23, a24, b25, b26, b27, b28, b29, b30, b31, b32, b33, a34)) : wpX_least post (f0, f1, f2, nI 3, 1, 1, nI N, a1, a2, a3, a4, a5, a6, a7, a8, a9, a10, a11, a12, a13, a14, a15, a16, a17, a18, a19, a20, a21, a22, a23, a24, a25, a26, a27, a28, a29, a30, a31, a32, a33, a34) (nI I) (nI (I + k)) := by
  have c1 : (nI (I + k)).toNatClampNeg = I + k := nI_clamp (by omega)
  have v : vp_in (nI (I + k)) 9 := pk_in (I + k) 9 (by omega)
  obtain ⟨o1, o2, o3, o4⟩ := ho
  have l := wr_Lo_b (one := p + s) (two := p + f + c) (by omega) k
  unfold wpX_least
  refine wr_winT hN hI (br_f (by decide) (wr_sweep ⟨o1, o2, o3, o4⟩ hN (by omega) hA (fun b25 b26 b27 b28 b29 b30 b31 b32 b33 hg => ⟨v, ?_⟩)))
  rw [c1, (hg k hI).2.1]
  exact br_t (nI_pos' (by omega)) ⟨v, H b25 b26 b27 b28 b29 b30 b31 b32 b33⟩
theorem wr_mostT {post : Int32 → St2 → Prop} {f0 f1 f2 : Int32} {a1 a2 a3 a4 a5 a6 a7 a8 a9 a10 a11 a12 a13 a14 a15 a16 a17 a18 a19 a20 a21 a22 a23 a24 a25 a26 a27 a28 a29 a30 a31 a32 a33 a34 : Nat → Int32} {s f c p I k N : Nat} (ho : wr_ok s f c p) (hN : N ≤ 8) (hI : I + k ≤ N) (hA : wr_A s f c p a14 a15 a16 a17 a18 a19 a20 a21 a22 a23)
    (H : ∀ b25 b26 b27 b28 b29 b30 b31 b32 b33, post (nI (wr_Hi (p + s) (p + f + c) k)) (f0, f1, f2, nI 3, 1, 1, nI N, a1, a2, a3, a4, a5, a6, a7, a8, a9, a10, a11, a12, a13, a14, a15, a16, a17, a18, a19, a20, a21, a22, a23, a24, b25, b26, b27, b28, b29, b30, b31, b32, b33, a34)) : wpX_most post (f0, f1, f2, nI 3, 1, 1, nI N, a1, a2, a3, a4, a5, a6, a7, a8, a9, a10, a11, a12, a13, a14, a15, a16, a17, a18, a19, a20, a21, a22, a23, a24, a25, a26, a27, a28, a29, a30, a31, a32, a33, a34) (nI I) (nI (I + k)) := by
  have c1 : (nI (I + k)).toNatClampNeg = I + k := nI_clamp (by omega)
  have v : vp_in (nI (I + k)) 9 := pk_in (I + k) 9 (by omega)
  obtain ⟨o1, o2, o3, o4⟩ := ho
  have l := wr_Hi_b (one := p + s) (two := p + f + c) (by omega) (by omega) k
  unfold wpX_most
  refine wr_winT hN hI (br_f (by decide) (wr_sweep ⟨o1, o2, o3, o4⟩ hN (by omega) hA (fun b25 b26 b27 b28 b29 b30 b31 b32 b33 hg => ⟨v, ?_⟩)))
  rw [c1, (hg k hI).2.2]
  exact br_t (nI_pos' (by omega)) ⟨v, H b25 b26 b27 b28 b29 b30 b31 b32 b33⟩
/-! windows: every window is found -/
def wr_tri (n : Nat) : Nat → Nat
  | 0 => 0
  | i + 1 => wr_tri n i + (n + 1 - i)
theorem wr_tri_e : ∀ n, n < 9 → wr_tri n (n + 1) = (n + 1) * (n + 2) / 2 := by decide
theorem wr_win19 {post : Int32 → St2 → Prop} {J : Int32 → Int32 → Int32 → Int32 → Int32 → Int32 → Int32 → Int32 → Int32 → (Nat → Int32) → (Nat → Int32) → (Nat → Int32) → (Nat → Int32) → (Nat → Int32) → (Nat → Int32) → (Nat → Int32) → (Nat → Int32) → (Nat → Int32) → (Nat → Int32) → (Nat → Int32) → (Nat → Int32) → (Nat → Int32) → (Nat → Int32) → (Nat → Int32) → (Nat → Int32) → (Nat → Int32) → (Nat → Int32) → (Nat → Int32) → (Nat → Int32) → (Nat → Int32) → (Nat → Int32) → (Nat → Int32) → (Nat → Int32) → (Nat → Int32) → (Nat → Int32) → (Nat → Int32) → (Nat → Int32) → (Nat → Int32) → (Nat → Int32) → (Nat → Int32) → (Nat → Int32) → (Nat → Int32) → (Nat → Int32) → Prop} {f0 f1 f2 f3 f4 f5 : Int32} {a1 a2 a3 a4 a5 a6 a7 a8 a9 a10 a11 a12 a13 a14 a15 a16 a17 a18 a19 a20 a21 a22 a23 a24 a25 a26 a27 a28 a29 a30 a31 a32 a33 a34 : Nat → Int32} {s f c p I N t : Nat} (ho : wr_ok s f c p) (hN : N ≤ 8) (hI : I ≤ N) (hg : wr_got s f c p I N a31 a32 a33)
    (H : J (nI (t + (N + 1 - I))) (nI (I + 1)) f0 f1 f2 f3 f4 f5 (nI N) a1 a2 a3 a4 a5 a6 a7 a8 a9 a10 a11 a12 a13 a14 a15 a16 a17 a18 a19 a20 a21 a22 a23 a24 a25 a26 a27 a28 a29 a30 a31 a32 a33 a34) : ∃ n, wX_windows_19 post J (nI I) f0 f1 f2 f3 f4 f5 (nI N) a1 a2 a3 a4 a5 a6 a7 a8 a9 a10 a11 a12 a13 a14 a15 a16 a17 a18 a19 a20 a21 a22 a23 a24 a25 a26 a27 a28 a29 a30 a31 a32 a33 a34 n (nI t) (nI I) := by
  refine Exists.elim (pk_loop (σ := Unit) (fun n i _ => wX_windows_19 post J (nI I) f0 f1 f2 f3 f4 f5 (nI N) a1 a2 a3 a4 a5 a6 a7 a8 a9 a10 a11 a12 a13 a14 a15 a16 a17 a18 a19 a20 a21 a22 a23 a24 a25 a26 a27 a28 a29 a30 a31 a32 a33 a34 n (nI (t + (i - I))) (nI i)) (fun i _ => I ≤ i) (N + 1) I () (by omega) (Nat.le_refl I) ?_ ?_) (fun n hn => ?_)
  rotate_left 2
  · have hn' : wX_windows_19 post J (nI I) f0 f1 f2 f3 f4 f5 (nI N) a1 a2 a3 a4 a5 a6 a7 a8 a9 a10 a11 a12 a13 a14 a15 a16 a17 a18 a19 a20 a21 a22 a23 a24 a25 a26 a27 a28 a29 a30 a31 a32 a33 a34 n (nI (t + (I - I))) (nI I) := hn
    rw [Nat.sub_self, Nat.add_zero] at hn'
    exact ⟨n, hn'⟩
  · exact fun n _ _ => pk_lt N (N + 1) (fun _ => nm_r (nI_1 I) H) (fun z => absurd z (by omega))
  · intro n i _ hi hIi hw
    obtain ⟨o1, o2, o3, o4⟩ := ho
    have l := wr_Lo_b (one := p + s) (two := p + f + c) (by omega) (i - I)
    have g := (hg (i - I) (by omega)).2.1
    rw [show I + (i - I) = i by omega] at g
    have ci : (nI i).toNatClampNeg = i := nI_clamp (by omega)
    refine pk_lt N i (fun z => absurd z (by omega)) (fun _ => ⟨pk_in i 9 (by omega), ?_⟩)
    rw [ci, g]
    have hw' := hw () (by omega)
    rw [show t + (i + 1 - I) = t + (i - I) + 1 by omega] at hw'
    exact br_f (nI_pos (by omega)) (nm_r (nI_1 _) (nm_r (nI_1 i) hw'))
theorem wr_windows {post : Int32 → St2 → Prop} {f0 f1 f2 : Int32} {a1 a2 a3 a4 a5 a6 a7 a8 a9 a10 a11 a12 a13 a14 a15 a16 a17 a18 a19 a20 a21 a22 a23 a24 a25 a26 a27 a28 a29 a30 a31 a32 a33 a34 : Nat → Int32} {s f c p N : Nat} (ho : wr_ok s f c p) (hN : N ≤ 8) (hA : wr_A s f c p a14 a15 a16 a17 a18 a19 a20 a21 a22 a23)
    (H : ∀ b25 b26 b27 b28 b29 b30 b31 b32 b33, post (nI ((N + 1) * (N + 2) / 2)) (f0, f1, f2, nI 3, 1, 1, nI N, a1, a2, a3, a4, a5, a6, a7, a8, a9, a10, a11, a12, a13, a14, a15, a16, a17, a18, a19, a20, a21, a22, a23, a24, b25, b26, b27, b28, b29, b30, b31, b32, b33, a34)) : wpX_windows post (f0, f1, f2, nI 3, 1, 1, nI N, a1, a2, a3, a4, a5, a6, a7, a8, a9, a10, a11, a12, a13, a14, a15, a16, a17, a18, a19, a20, a21, a22, a23, a24, a25, a26, a27, a28, a29, a30, a31, a32, a33, a34) := by
  refine pk_loop (fun n i (s : (Nat → Int32) × (Nat → Int32) × (Nat → Int32) × (Nat → Int32) × (Nat → Int32) × (Nat → Int32) × (Nat → Int32) × (Nat → Int32) × (Nat → Int32)) => wX_windows_4 post n (nI (wr_tri N i)) (nI i) f0 f1 f2 (nI 3) 1 1 (nI N) a1 a2 a3 a4 a5 a6 a7 a8 a9 a10 a11 a12 a13 a14 a15 a16 a17 a18 a19 a20 a21 a22 a23 a24 s.1 s.2.1 s.2.2.1 s.2.2.2.1 s.2.2.2.2.1 s.2.2.2.2.2.1 s.2.2.2.2.2.2.1 s.2.2.2.2.2.2.2.1 s.2.2.2.2.2.2.2.2 a34) (fun _ _ => True) (N + 1) 0 (a25, a26, a27, a28, a29, a30, a31, a32, a33) (by omega) trivial ?_ ?_
  · rintro n ⟨b25, b26, b27, b28, b29, b30, b31, b32, b33⟩ _
    have h := H b25 b26 b27 b28 b29 b30 b31 b32 b33
    rw [← wr_tri_e N (by omega)] at h
    exact pk_lt N (N + 1) (fun _ => h) (fun z => absurd z (by omega))
  · rintro n i ⟨b25, b26, b27, b28, b29, b30, b31, b32, b33⟩ hi _ hw
    exact pk_lt N i (fun z => absurd z (by omega)) (fun _ => wr_sweep ho hN (by omega) hA (fun c25 c26 c27 c28 c29 c30 c31 c32 c33 hg => wr_win19 ho hN (by omega) hg (hw (c25, c26, c27, c28, c29, c30, c31, c32, c33) trivial)))
/-! longest from 0: the whole text -/
theorem wr_longest {post : Int32 → St2 → Prop} {f0 f1 f2 : Int32} {a1 a2 a3 a4 a5 a6 a7 a8 a9 a10 a11 a12 a13 a14 a15 a16 a17 a18 a19 a20 a21 a22 a23 a24 a25 a26 a27 a28 a29 a30 a31 a32 a33 a34 : Nat → Int32} {s f c p N : Nat} (ho : wr_ok s f c p) (hN : N ≤ 8) (hA : wr_A s f c p a14 a15 a16 a17 a18 a19 a20 a21 a22 a23)
    (H : ∀ b25 b26 b27 b28 b29 b30 b31 b32 b33, post (nI N) (f0, f1, f2, nI 3, 1, 1, nI N, a1, a2, a3, a4, a5, a6, a7, a8, a9, a10, a11, a12, a13, a14, a15, a16, a17, a18, a19, a20, a21, a22, a23, a24, b25, b26, b27, b28, b29, b30, b31, b32, b33, a34)) : wpX_longest post (f0, f1, f2, nI 3, 1, 1, nI N, a1, a2, a3, a4, a5, a6, a7, a8, a9, a10, a11, a12, a13, a14, a15, a16, a17, a18, a19, a20, a21, a22, a23, a24, a25, a26, a27, a28, a29, a30, a31, a32, a33, a34) 0 := by
  have cN : (nI N).toNatClampNeg = N := nI_clamp (by omega)
  obtain ⟨o1, o2, o3, o4⟩ := ho
  have l := wr_Lo_b (one := p + s) (two := p + f + c) (by omega) N
  refine pk_lt 0 0 (fun z => absurd z (by omega)) (fun _ => pk_le 0 N (fun _ => wr_sweep (I := 0) ⟨o1, o2, o3, o4⟩ hN (by omega) hA (fun b25 b26 b27 b28 b29 b30 b31 b32 b33 hg => ⟨0 + 1, ?_⟩)) (fun z => absurd z (by omega)))
  have g := (hg N (by omega)).2.1
  rw [Nat.zero_add] at g
  refine pk_lt N 0 (fun z => absurd z (by omega)) (fun _ => ⟨pk_in N 9 (by omega), ?_⟩)
  rw [cN, g]
  exact br_f (nI_pos (by omega)) (H b25 b26 b27 b28 b29 b30 b31 b32 b33)
/-! type -/
theorem wr_type {post : Int32 → St2 → Prop} {f0 f1 f2 f3 f4 f5 : Int32} {a1 a2 a3 a4 a5 a6 a7 a8 a9 a10 a11 a12 a13 a14 a15 a16 a17 a18 a19 a20 a21 a22 a23 a24 a25 a26 a27 a28 a29 a30 a31 a32 a33 a34 : Nat → Int32} {N k : Nat} (hN : N < 8) (hk : k ≤ 2) (H : post (nI (N + 1)) (f0, f1, f2, f3, f4, f5, nI (N + 1), a1, a2, a3, a4, a5, a6, a7, a8, a9, a10, a11, a12, a13, a14, a15, a16, a17, a18, a19, a20, a21, a22, a23, upd a24 N (nI k), a25, a26, a27, a28, a29, a30, a31, a32, a33, a34)) : wpX_type post (f0, f1, f2, f3, f4, f5, nI N, a1, a2, a3, a4, a5, a6, a7, a8, a9, a10, a11, a12, a13, a14, a15, a16, a17, a18, a19, a20, a21, a22, a23, a24, a25, a26, a27, a28, a29, a30, a31, a32, a33, a34) (nI k) := by
  have cN : (nI N).toNatClampNeg = N := nI_clamp (by omega)
  exact pk_lt k 0 (fun z => absurd z (by omega)) (fun _ => pk_le k 2 (fun _ => pk_eq N 8 (fun z => absurd z (by omega)) (fun _ => ⟨pk_in N 8 hN, nm_r (by rw [cN]) (nm_r (nI_1 N) H)⟩)) (fun z => absurd z (by omega)))
end
section
/-! the expression of the law: what define finds -/
theorem wr_pre {c : Nat} {a5 a6 a7 a8 a9 a10 a11 a12 a13 b11 b12 b13 : Nat → Int32} (hc : c ≤ 7)
    (hcl : wr_cl 3 0 (a11, a12, a13)) (hlk : wr_lk 1 2 3 (wr_plus (a9 1) 0) (wr_plus (a10 1) 0) a5 a6 a7 a8 a11 a12 a13 (b11, b12, b13))
    (h82 : a8 1 = 1) (h52 : a5 2 = 1) (h62 : a6 2 = nI c) (h72 : a7 2 = nI c) (h91 : a9 1 = 0) (h101 : a10 1 = 0) :
    ∀ x y, x < 3 → y < 3 → b11 (x * 10 + y) = (if x = 1 ∧ y = 2 then nI 1 else nI 0) ∧ b12 (x * 10 + y) = (if x = 1 ∧ y = 2 then nI c else -1) ∧ b13 (x * 10 + y) = (if x = 1 ∧ y = 2 then nI c else -1) := by
  intro x y hx hy
  obtain ⟨g1, g2, g3⟩ := hcl x y (by omega) (by omega) (by omega)
  obtain ⟨k1, k2, k3⟩ := hlk x y (by omega) (by omega)
  dsimp only at g1 g2 g3 k1 k2 k3
  rw [g1] at k1
  rw [g2] at k2
  rw [g3] at k3
  by_cases e : x = 1 ∧ y = 2
  · have e' : x = 1 ∧ 2 ≤ y ∧ y < 3 := by omega
    have ey : y = 2 := e.2
    rw [if_pos e'] at k1 k2 k3
    rw [if_pos e, if_pos e, k1, k2, k3, ey, h82, h52, h62, h72, h91, h101]
    have z : wr_plus 0 0 = nI 0 := by decide
    rw [z, wr_plus_n (by omega) (by omega), wr_les_l, wr_gre_l (by omega), Nat.zero_add]
    exact ⟨by decide, rfl, rfl⟩
  · have e' : ¬ (x = 1 ∧ 2 ≤ y ∧ y < 3) := by omega
    rw [if_neg e'] at k1 k2 k3
    rw [if_neg e, if_neg e, k1, k2, k3]
    exact ⟨rfl, rfl, rfl⟩
theorem wr_mkA {s f c p : Nat} {a4 a5 a6 a7 a8 a9 a10 a11 a12 a13 b6 b7 b11 b12 b13 b14 b15 b16 b17 b18 b19 b20 b21 b22 b23 : Nat → Int32} (ho : wr_ok s f c p)
    (hb : wr_lb 3 (nI p) a6 a7 (b6, b7)) (hl : wr_ll 3 3 (nI p) a5 a6 a7 a8 a9 a10 a11 a12 a13 (b11, b12, b13))
    (hd : wr_df 3 3 a4 a5 b6 b7 a8 a9 a10 b11 b12 b13 b14 b15 b16 b17 b18 b19 b20 b21 b22 b23)
    (h4 : a4 0 = 3 ∧ a4 1 = 3 ∧ a4 2 = 3) (h5 : a5 0 = nI 1 ∧ a5 1 = nI 1 ∧ a5 2 = nI 0) (h6 : a6 0 = nI s ∧ a6 1 = nI f ∧ a6 2 = -1) (h7 : a7 0 = nI s ∧ a7 1 = nI f ∧ a7 2 = -1)
    (h8 : a8 0 = nI 1 ∧ a8 1 = nI 0 ∧ a8 2 = nI 1) (h9 : a9 0 = nI 0 ∧ a9 1 = -1 ∧ a9 2 = nI 0) (h10 : a10 0 = nI 0 ∧ a10 1 = -1 ∧ a10 2 = nI 0)
    (hf : ∀ x y, x < 3 → y < 3 → a11 (x * 10 + y) = (if x = 1 ∧ y = 2 then nI 1 else nI 0) ∧ a12 (x * 10 + y) = (if x = 1 ∧ y = 2 then nI c else -1) ∧ a13 (x * 10 + y) = (if x = 1 ∧ y = 2 then nI c else -1)) : wr_A s f c p b14 b15 b16 b17 b18 b19 b20 b21 b22 b23 := by
  obtain ⟨o1, o2, o3, o4⟩ := ho
  obtain ⟨h50, h51, h52⟩ := h5
  obtain ⟨h60, h61, h62⟩ := h6
  obtain ⟨h70, h71, h72⟩ := h7
  obtain ⟨h80, h81, h82⟩ := h8
  obtain ⟨h90, h91, h92⟩ := h9
  obtain ⟨h100, h101, h102⟩ := h10
  -- the begins
  have B : ∀ x, x < 3 → b6 x = wr_plus (a6 x) (nI p) ∧ b7 x = wr_plus (a7 x) (nI p) := by
    intro x hx
    have t := hb x (by omega)
    rw [if_pos hx, if_pos hx] at t
    exact t
  -- the follow table
  have G : ∀ x y, x < 3 → y < 3 → b21 (x * 10 + y) = (if x = 1 ∧ y = 2 then nI 1 else nI 0) + a8 x * a5 y ∧ b22 (x * 10 + y) = wr_les (if x = 1 ∧ y = 2 then nI c else -1) (wr_plus (wr_plus (a9 x) (nI p)) (a6 y)) ∧ b23 (x * 10 + y) = wr_gre (if x = 1 ∧ y = 2 then nI c else -1) (wr_plus (wr_plus (a10 x) (nI p)) (a7 y)) := by
    intro x y hx hy
    obtain ⟨t1, t2, t3⟩ := hl x y (by omega) (by omega)
    obtain ⟨u1, u2, u3⟩ := hd.2 x y hx hy
    obtain ⟨v1, v2, v3⟩ := hf x y hx hy
    have q : x < 3 ∧ y < 3 := ⟨hx, hy⟩
    dsimp only at t1 t2 t3
    rw [if_pos q] at t1 t2 t3
    exact ⟨by rw [u1, t1, v1], by rw [u2, t2, v2], by rw [u3, t3, v3]⟩
  have P0 : wr_plus (wr_plus (nI 0) (nI p)) (nI s) = nI (p + s) := by
    rw [wr_plus_n (by omega) (by omega), wr_plus_n (by omega) (by omega), Nat.zero_add]
  have P1 : wr_plus (wr_plus (nI 0) (nI p)) (nI f) = nI (p + f) := by
    rw [wr_plus_n (by omega) (by omega), wr_plus_n (by omega) (by omega), Nat.zero_add]
  have Q0 : wr_plus (nI s) (nI p) = nI (p + s) := by
    rw [wr_plus_n (by omega) (by omega), Nat.add_comm]
  have Q1 : wr_plus (nI f) (nI p) = nI (p + f) := by
    rw [wr_plus_n (by omega) (by omega), Nat.add_comm]
  obtain ⟨d04, d05, d06, d07, d08, d09, d010⟩ := hd.1 0 (by omega)
  obtain ⟨d14, d15, d16, d17, d18, d19, d110⟩ := hd.1 1 (by omega)
  obtain ⟨d24, d25, d26, d27, d28, d29, d210⟩ := hd.1 2 (by omega)
  have g00 := G 0 0 (by omega) (by omega)
  have g01 := G 0 1 (by omega) (by omega)
  have g02 := G 0 2 (by omega) (by omega)
  have g10 := G 1 0 (by omega) (by omega)
  have g11 := G 1 1 (by omega) (by omega)
  have g12 := G 1 2 (by omega) (by omega)
  have g20 := G 2 0 (by omega) (by omega)
  have g21 := G 2 1 (by omega) (by omega)
  have g22 := G 2 2 (by omega) (by omega)
  rw [if_neg (by decide : ¬ ((0 : Nat) = 1 ∧ (0 : Nat) = 2)), if_neg (by decide : ¬ ((0 : Nat) = 1 ∧ (0 : Nat) = 2)), h80, h50, h90, h100, h60, h70, P0, wr_les_l, wr_gre_l (by omega)] at g00
  rw [if_neg (by decide : ¬ ((0 : Nat) = 1 ∧ (1 : Nat) = 2)), if_neg (by decide : ¬ ((0 : Nat) = 1 ∧ (1 : Nat) = 2)), h80, h51, h90, h100, h61, h71, P1, wr_les_l, wr_gre_l (by omega)] at g01
  rw [if_neg (by decide : ¬ ((0 : Nat) = 1 ∧ (2 : Nat) = 2)), if_neg (by decide : ¬ ((0 : Nat) = 1 ∧ (2 : Nat) = 2)), h80, h52, h62, h72, wr_plus_r, wr_plus_r, wr_les_l, wr_gre_m] at g02
  rw [if_neg (by decide : ¬ ((1 : Nat) = 1 ∧ (0 : Nat) = 2)), if_neg (by decide : ¬ ((1 : Nat) = 1 ∧ (0 : Nat) = 2)), h81, h50, h91, h101, wr_plus_l, wr_plus_l, wr_plus_l, wr_les_l, wr_gre_m] at g10
  rw [if_neg (by decide : ¬ ((1 : Nat) = 1 ∧ (1 : Nat) = 2)), if_neg (by decide : ¬ ((1 : Nat) = 1 ∧ (1 : Nat) = 2)), h81, h51, h91, h101, wr_plus_l, wr_plus_l, wr_plus_l, wr_les_l, wr_gre_m] at g11
  rw [if_pos (by decide : ((1 : Nat) = 1 ∧ (2 : Nat) = 2)), if_pos (by decide : ((1 : Nat) = 1 ∧ (2 : Nat) = 2)), h81, h52, h91, h101, wr_plus_l, wr_plus_l, wr_plus_l, wr_les_r (by omega), wr_gre_r (by omega)] at g12
  rw [if_neg (by decide : ¬ ((2 : Nat) = 1 ∧ (0 : Nat) = 2)), if_neg (by decide : ¬ ((2 : Nat) = 1 ∧ (0 : Nat) = 2)), h82, h50, h92, h102, h60, h70, P0, wr_les_l, wr_gre_l (by omega)] at g20
  rw [if_neg (by decide : ¬ ((2 : Nat) = 1 ∧ (1 : Nat) = 2)), if_neg (by decide : ¬ ((2 : Nat) = 1 ∧ (1 : Nat) = 2)), h82, h51, h92, h102, h61, h71, P1, wr_les_l, wr_gre_l (by omega)] at g21
  rw [if_neg (by decide : ¬ ((2 : Nat) = 1 ∧ (2 : Nat) = 2)), if_neg (by decide : ¬ ((2 : Nat) = 1 ∧ (2 : Nat) = 2)), h82, h52, h62, h72, wr_plus_r, wr_plus_r, wr_les_l, wr_gre_m] at g22
  refine ⟨⟨d04.trans h4.1, d14.trans h4.2.1, d24.trans h4.2.2⟩, ⟨d05.trans h50, d15.trans h51, d25.trans h52⟩, ⟨?_, ?_, ?_⟩, ⟨?_, ?_, ?_⟩, ⟨d08.trans h80, d18.trans h81, d28.trans h82⟩, ⟨d09.trans h90, d19.trans h91, d29.trans h92⟩, ⟨d010.trans h100, d110.trans h101, d210.trans h102⟩, ⟨g00.1.trans (by decide), g01.1.trans (by decide), g02.1.trans (by decide), g10.1.trans (by decide), g11.1.trans (by decide), g12.1.trans (by decide), g20.1.trans (by decide), g21.1.trans (by decide), g22.1.trans (by decide)⟩, ⟨g00.2.1, g01.2.1, g02.2.1, g10.2.1, g11.2.1, g12.2.1, g20.2.1, g21.2.1, g22.2.1⟩, ⟨g00.2.2, g01.2.2, g02.2.2, g10.2.2, g11.2.2, g12.2.2, g20.2.2, g21.2.2, g22.2.2⟩⟩
  · rw [d06, (B 0 (by omega)).1, h60, Q0]
  · rw [d16, (B 1 (by omega)).1, h61, Q1]
  · rw [d26, (B 2 (by omega)).1, h62, wr_plus_l]
  · rw [d07, (B 0 (by omega)).2, h70, Q0]
  · rw [d17, (B 1 (by omega)).2, h71, Q1]
  · rw [d27, (B 2 (by omega)).2, h72, wr_plus_l]
end
section
/-! the law's second loop and its checks -/
theorem wr_wn {N : Nat} (hN : N ≤ 8) : nI ((N + 1) * (N + 2) / 2) = ((nI N + 1) * (nI N + 2)) / 2 := by
  have h : (N + 1) * (N + 2) ≤ 9 * 10 := Nat.mul_le_mul (by omega) (by omega)
  rw [nI_1, show (2 : Int32) = nI 2 from rfl, nI_add, pk_mul, pk_div (by omega) (by omega) (by omega)]
theorem wr_212o {post : Int32 → St0 → Prop} {mc ms kc ks : Nat} {f0 f1 f2 f3 f4 f5 : Int32} {a1 a2 a3 a4 a5 a6 a7 a8 a9 a10 a11 a12 a13 a14 a15 a16 a17 a18 a19 a20 a21 a22 a23 a24 a25 a26 a27 a28 a29 a30 a31 a32 a33 a34 : Nat → Int32} {x3 x4 x6 x7 x8 x9 : Int32} {N : Nat} (hN : N ≤ 8) (H : post 1 ()) :
    wL_lawOf_212 post mc ms x3 x4 x6 x7 x8 x9 (nI 1) 0 (nI N) 0 (-1) (-1) (nI ((N + 1) * (N + 2) / 2)) (nI N) 0 kc ks f0 f1 f2 f3 f4 f5 (nI N) a1 a2 a3 a4 a5 a6 a7 a8 a9 a10 a11 a12 a13 a14 a15 a16 a17 a18 a19 a20 a21 a22 a23 a24 a25 a26 a27 a28 a29 a30 a31 a32 a33 a34 := by
  refine nm_e (nm_e ?_)
  refine pk_loop (σ := Unit) (fun n i _ => wL_lawOf_256 post mc ms x3 x4 (nI 1) 0 (nI N) 0 (-1) (-1) (nI ((N + 1) * (N + 2) / 2)) (nI N) 0 (x9 + x6) (x9 + x7 + x8) kc ks f0 f1 f2 f3 f4 f5 (nI N) a1 a2 a3 a4 a5 a6 a7 a8 a9 a10 a11 a12 a13 a14 a15 a16 a17 a18 a19 a20 a21 a22 a23 a24 a25 a26 a27 a28 a29 a30 a31 a32 a33 a34 n 1 0 0 1000 0 (-1000) (nI i)) (fun _ _ => True) 8 0 () (by omega) trivial ?_ ?_
  · intro n _ _
    refine pk_le 8 8 (fun _ => br_t rfl (br_t rfl ?_)) (fun z => absurd z (by omega))
    refine br_t rfl (br_t rfl ?_)
    refine br_t rfl (br_t rfl ?_)
    refine br_t rfl (br_t rfl ?_)
    exact br_t rfl ⟨by decide, br_t (wr_wn hN) (br_t rfl H)⟩
  · intro n i _ hi _ hw
    exact pk_le 8 i (fun z => absurd z (by omega)) (fun _ => br_t rfl (nm_r (nI_1 i) (hw () trivial)))
/-- the law's six ints after t turns -/
def wr_lw (one two t : Nat) (x21 x22 x23 x24 x25 x26 : Int32) : Prop := x21 = nI (wr_C t) ∧ x23 = nI (wr_Lo one two t) ∧ x25 = nI (wr_Hi one two t) ∧ match t with
  | 0 => x22 = 0 ∧ x24 = 1000 ∧ x26 = -1000
  | j + 1 => x22 = nI (wr_C j) ∧ x24 = nI (wr_Lo one two j) ∧ x26 = nI (wr_Hi one two j)
theorem wr_far : ∀ a, a < 15 → ∀ b, b < 22 → ¬ nI a ≤ -1000 + nI b := by decide +kernel
theorem wr_lw_s {one two t : Nat} {x21 x22 x23 x24 x25 x26 : Int32} (h1 : one ≤ 14) (h2 : two ≤ 21) (ht : t ≤ 8) (h : wr_lw one two t x21 x22 x23 x24 x25 x26) :
    x21 + x22 = nI (wr_C (t + 1)) ∧ (x24 + nI two ≤ x23 + nI one → x24 + nI two = nI (wr_Lo one two (t + 1))) ∧ (¬ x24 + nI two ≤ x23 + nI one → x23 + nI one = nI (wr_Lo one two (t + 1))) ∧
    (x25 + nI one ≤ x26 + nI two → x26 + nI two = nI (wr_Hi one two (t + 1))) ∧ (¬ x25 + nI one ≤ x26 + nI two → x25 + nI one = nI (wr_Hi one two (t + 1))) := by
  obtain ⟨e1, e3, e5, e⟩ := h
  cases t with
  | zero =>
    obtain ⟨e2, e4, e6⟩ := e
    subst e1 e2 e3 e4 e5 e6
    have z : nI 0 + nI one = nI one := by rw [nI_add, Nat.zero_add]
    have zl : nI (wr_Lo one two 0) + nI one = nI one := z
    have zh : nI (wr_Hi one two 0) + nI one = nI one := z
    rw [zl, zh]
    refine ⟨by rfl, fun g => absurd g ?_, fun _ => rfl, fun g => absurd g (wr_far one (by omega) two (by omega)), fun _ => rfl⟩
    rw [show (1000 : Int32) = nI 1000 from rfl, nI_add]
    exact nI_ge (by omega) (by omega)
  | succ j =>
    obtain ⟨e2, e4, e6⟩ := e
    subst e1 e2 e3 e4 e5 e6
    have l1 := wr_Lo_b (one := one) (two := two) h1 j
    have l2 := wr_Hi_b (one := one) (two := two) h1 h2 j
    have c : wr_C (j + 1 + 1) = wr_C (j + 1) + wr_C j := rfl
    have cl : wr_Lo one two (j + 1 + 1) = min (wr_Lo one two (j + 1) + one) (wr_Lo one two j + two) := rfl
    have ch : wr_Hi one two (j + 1 + 1) = max (wr_Hi one two (j + 1) + one) (wr_Hi one two j + two) := rfl
    rw [nI_add, nI_add, nI_add, nI_add, nI_add, c, cl, ch, nI_leI (by omega) (by omega), nI_leI (by omega) (by omega)]
    refine ⟨rfl, fun g => congrArg nI (by omega), fun g => congrArg nI (by omega), fun g => congrArg nI (by omega), fun g => congrArg nI (by omega)⟩
theorem wr_212i {post : Int32 → St0 → Prop} {mc ms kc ks : Nat} {f0 f1 f2 f3 f4 f5 : Int32} {a1 a2 a3 a4 a5 a6 a7 a8 a9 a10 a11 a12 a13 a14 a15 a16 a17 a18 a19 a20 a21 a22 a23 a24 a25 a26 a27 a28 a29 a30 a31 a32 a33 a34 : Nat → Int32} {s f c p I k N : Nat} (ho : wr_ok s f c p) (hN : N ≤ 8) (hk : I + k ≤ N) (H : post 1 ()) :
    wL_lawOf_212 post mc ms (nI I) (nI (I + k)) (nI s) (nI f) (nI c) (nI p) (nI 1) 0 (nI N) (nI (wr_C k)) (nI (wr_Lo (p + s) (p + f + c) k)) (nI (wr_Hi (p + s) (p + f + c) k)) (nI ((N + 1) * (N + 2) / 2)) (nI N) 1 kc ks f0 f1 f2 f3 f4 f5 (nI N) a1 a2 a3 a4 a5 a6 a7 a8 a9 a10 a11 a12 a13 a14 a15 a16 a17 a18 a19 a20 a21 a22 a23 a24 a25 a26 a27 a28 a29 a30 a31 a32 a33 a34 := by
  obtain ⟨o1, o2, o3, o4⟩ := ho
  refine nm_r (nI_add p s) (nm_r (e' := nI (p + f + c)) (by rw [nI_add, nI_add]) ?_)
  refine pk_loop (fun n i (t : Int32 × Int32 × Int32 × Int32 × Int32 × Int32) => wL_lawOf_256 post mc ms (nI I) (nI (I + k)) (nI 1) 0 (nI N) (nI (wr_C k)) (nI (wr_Lo (p + s) (p + f + c) k)) (nI (wr_Hi (p + s) (p + f + c) k)) (nI ((N + 1) * (N + 2) / 2)) (nI N) 1 (nI (p + s)) (nI (p + f + c)) kc ks f0 f1 f2 f3 f4 f5 (nI N) a1 a2 a3 a4 a5 a6 a7 a8 a9 a10 a11 a12 a13 a14 a15 a16 a17 a18 a19 a20 a21 a22 a23 a24 a25 a26 a27 a28 a29 a30 a31 a32 a33 a34 n t.1 t.2.1 t.2.2.1 t.2.2.2.1 t.2.2.2.2.1 t.2.2.2.2.2 (nI i)) (fun i t => wr_lw (p + s) (p + f + c) (min i k) t.1 t.2.1 t.2.2.1 t.2.2.2.1 t.2.2.2.2.1 t.2.2.2.2.2) 8 0 (1, 0, 0, 1000, 0, -1000) (by omega) (by rw [Nat.zero_min]; exact ⟨rfl, rfl, rfl, rfl, rfl, rfl⟩) ?_ ?_
  · rintro n ⟨x21, x22, x23, x24, x25, x26⟩ h
    rw [show min 8 k = k by omega] at h
    obtain ⟨e1, e3, e5, _⟩ := h
    refine pk_le 8 8 (fun _ => br_t rfl (br_t rfl ?_)) (fun z => absurd z (by omega))
    refine br_t rfl (br_f (by decide) ?_)
    refine br_t e1.symm (br_f (by decide) ?_)
    refine br_t e3.symm (br_f (by decide) ?_)
    exact br_t e5.symm ⟨by decide, br_t (wr_wn hN) (br_t rfl H)⟩
  · rintro n i ⟨x21, x22, x23, x24, x25, x26⟩ hi h hw
    refine pk_le 8 i (fun z => absurd z (by omega)) (fun _ => br_f (by decide) (pk_le k i (fun z => nm_r (nI_1 i) (hw (x21, x22, x23, x24, x25, x26) ?_)) (fun z => nm_e ?_) (hx := by rw [pk_sub (by omega), Nat.add_sub_cancel_left])))
    · rw [show min (i + 1) k = min i k by omega]
      exact h
    · rw [show min i k = i by omega] at h
      obtain ⟨p1, p2, p3, p4, p5⟩ := wr_lw_s (by omega) (by omega) (by omega) h
      have fin : ∀ l g, l = nI (wr_Lo (p + s) (p + f + c) (i + 1)) → g = nI (wr_Hi (p + s) (p + f + c) (i + 1)) → wL_lawOf_256 post mc ms (nI I) (nI (I + k)) (nI 1) 0 (nI N) (nI (wr_C k)) (nI (wr_Lo (p + s) (p + f + c) k)) (nI (wr_Hi (p + s) (p + f + c) k)) (nI ((N + 1) * (N + 2) / 2)) (nI N) 1 (nI (p + s)) (nI (p + f + c)) kc ks f0 f1 f2 f3 f4 f5 (nI N) a1 a2 a3 a4 a5 a6 a7 a8 a9 a10 a11 a12 a13 a14 a15 a16 a17 a18 a19 a20 a21 a22 a23 a24 a25 a26 a27 a28 a29 a30 a31 a32 a33 a34 n (x21 + x22) x21 l x23 g x25 (nI (i + 1)) := by
        intro l g el eg
        refine hw (x21 + x22, x21, l, x23, g, x25) ?_
        rw [show min (i + 1) k = i + 1 by omega]
        exact ⟨p1, el, eg, h.1, h.2.1, h.2.2.1⟩
      refine br_c (fun g => ?_) (fun g => ?_)
      · exact br_c (fun g' => nm_r (nI_1 i) (fin _ _ (p2 g) (p4 g'))) (fun g' => nm_r (nI_1 i) (fin _ _ (p2 g) (p5 g')))
      · exact br_c (fun g' => nm_r (nI_1 i) (fin _ _ (p3 g) (p4 g'))) (fun g' => nm_r (nI_1 i) (fin _ _ (p3 g) (p5 g')))
end
section
/-! the law's first loop: the text is typed, then the questions -/
theorem wr_99 {post : Int32 → St0 → Prop} {mc ms kc ks : Nat} {f0 f1 f2 : Int32} {a1 a2 a3 a4 a5 a6 a7 a8 a9 a10 a11 a12 a13 a14 a15 a16 a17 a18 a19 a20 a21 a22 a23 a24 a25 a26 a27 a28 a29 a30 a31 a32 a33 a34 : Nat → Int32} {x1 x2 x3 x4 : Int32} {s f c p : Nat} (ho : wr_ok s f c p) (hA : wr_A s f c p a14 a15 a16 a17 a18 a19 a20 a21 a22 a23) (H : post 1 ()) :
    ∃ n, wL_lawOf_99 post mc ms x1 x2 x3 x4 (nI s) (nI f) (nI c) (nI p) (nI 1) 0 kc ks n 0 0 f0 f1 f2 (nI 3) 1 1 0 a1 a2 a3 a4 a5 a6 a7 a8 a9 a10 a11 a12 a13 a14 a15 a16 a17 a18 a19 a20 a21 a22 a23 a24 a25 a26 a27 a28 a29 a30 a31 a32 a33 a34 := by
  refine pk_loop (fun n i (t : Nat × (Nat → Int32)) => wL_lawOf_99 post mc ms x1 x2 x3 x4 (nI s) (nI f) (nI c) (nI p) (nI 1) 0 kc ks n (nI t.1) (nI i) f0 f1 f2 (nI 3) 1 1 (nI t.1) a1 a2 a3 a4 a5 a6 a7 a8 a9 a10 a11 a12 a13 a14 a15 a16 a17 a18 a19 a20 a21 a22 a23 t.2 a25 a26 a27 a28 a29 a30 a31 a32 a33 a34) (fun i t => t.1 ≤ i) 8 0 (0, a24) (by omega) (Nat.le_refl 0) ?_ ?_
  · rintro n ⟨N, b24⟩ hN
    have hN : N ≤ 8 := hN
    by_cases hc : x3 < 0 ∨ x4 < x3 ∨ nI N < x4
    · refine pk_le 8 8 (fun _ => wr_waysF hc (wr_leastF hc (wr_mostF hc (wr_windows ho hN hA (fun b25 b26 b27 b28 b29 b30 b31 b32 b33 => wr_longest ho hN hA (fun d25 d26 d27 d28 d29 d30 d31 d32 d33 => ?_)))))) (fun z => absurd z (by omega))
      exact br_c (fun _ => wr_212o hN H) (fun h1 => br_c (fun _ => wr_212o hN H) (fun h2 => br_c (fun _ => wr_212o hN H) (fun h3 => absurd hc (fun g => g.elim h1 (fun g => g.elim h2 h3)))))
    · have h1 : ¬ x3 < 0 := fun g => hc (Or.inl g)
      have h2 : ¬ x4 < x3 := fun g => hc (Or.inr (Or.inl g))
      have h3 : ¬ nI N < x4 := fun g => hc (Or.inr (Or.inr g))
      obtain ⟨I, hI, rfl⟩ := nI_of h1
      have h4 : ¬ x4 < 0 := by
        intro g
        apply h2
        rw [Int32.lt_iff_toInt_lt] at g ⊢
        rw [nI_toInt hI]
        have z : (0 : Int32).toInt = 0 := by decide
        omega
      obtain ⟨J, hJ, rfl⟩ := nI_of h4
      rw [nI_ltI hJ hI] at h2
      rw [nI_ltI (by omega) hJ] at h3
      obtain ⟨k, rfl⟩ : ∃ k, J = I + k := ⟨J - I, by omega⟩
      have hk : I + k ≤ N := by omega
      refine pk_le 8 8 (fun _ => wr_waysT ho hN hk hA (fun b25 b26 b27 b28 b29 b30 b31 b32 b33 => wr_leastT ho hN hk hA (fun c25 c26 c27 c28 c29 c30 c31 c32 c33 => wr_mostT ho hN hk hA (fun d25 d26 d27 d28 d29 d30 d31 d32 d33 => wr_windows ho hN hA (fun e25 e26 e27 e28 e29 e30 e31 e32 e33 => wr_longest ho hN hA (fun g25 g26 g27 g28 g29 g30 g31 g32 g33 => ?_)))))) (fun z => absurd z (by omega))
      exact br_f h1 (br_f (nI_nlt (by omega) (by omega)) (br_f (nI_nlt hk (by omega)) (wr_212i ho hN hk H)))
  · rintro n i ⟨N, b24⟩ hi hN hw
    have hN : N ≤ i := hN
    have nx : wL_lawOf_99 post mc ms x1 x2 x3 x4 (nI s) (nI f) (nI c) (nI p) (nI 1) 0 kc ks n (nI N) (nI (i + 1)) f0 f1 f2 (nI 3) 1 1 (nI N) a1 a2 a3 a4 a5 a6 a7 a8 a9 a10 a11 a12 a13 a14 a15 a16 a17 a18 a19 a20 a21 a22 a23 b24 a25 a26 a27 a28 a29 a30 a31 a32 a33 a34 := hw (N, b24) (Nat.le_succ_of_le hN)
    obtain ⟨k, hk, ek⟩ := pk_andE (x1 >>> ((2 * nI i) &&& 31)) (m := 3) 2 (by decide)
    exact pk_le 8 i (fun z => absurd z (by omega)) (fun _ => nm_r ek (br_c (fun _ => nm_r (nI_1 i) nx) (fun _ => pk_le 3 k (fun _ => nm_r (nI_1 i) nx) (fun z => wr_type (by omega) (by omega) (nm_r (nI_1 N) (nm_r (nI_1 i) (hw (N + 1, upd b24 N (nI k)) (Nat.succ_le_succ hN))))))))
theorem wr_init {post : St2 → Prop} (H : post (0, 0, 0, 0, 1, 1, 0, (fun _ => 0), (fun _ => 0), (fun _ => 0), (fun _ => 0), (fun _ => 0), (fun _ => 0), (fun _ => 0), (fun _ => 0), (fun _ => 0), (fun _ => 0), (fun _ => 0), (fun _ => 0), (fun _ => 0), (fun _ => 0), (fun _ => 0), (fun _ => 0), (fun _ => 0), (fun _ => 0), (fun _ => 0), (fun _ => 0), (fun _ => 0), (fun _ => 0), (fun _ => 0), (fun _ => 0), (fun _ => 0), (fun _ => 0), (fun _ => 0), (fun _ => 0), (fun _ => 0), (fun _ => 0), (fun _ => 0), (fun _ => 0), (fun _ => 0), (fun _ => 0))) : wpX_init post 34 869 (0, 0, 0, 0, 0, 0, 0) :=
  And.intro (by decide) ⟨by decide, by decide, by decide, by decide, by decide, by decide, by decide, by decide, by decide, by decide, by decide, by decide, by decide, by decide, by decide, by decide, by decide, by decide, by decide, by decide, by decide, by decide, by decide, by decide, by decide, by decide, by decide, by decide, by decide, by decide, by decide, by decide, by decide, by decide, by decide, by decide, by decide, by decide, by decide, by decide, by decide, by decide, by decide, by decide, by decide, by decide, by decide, by decide, by decide, by decide, by decide, by decide, by decide, by decide, by decide, by decide, by decide, by decide, by decide, by decide, by decide, by decide, by decide, by decide, by decide, by decide, by decide,  H⟩
theorem wr_lawOf {post : Int32 → St0 → Prop} {p0 x1 x2 x3 x4 : Int32} (H : post 1 ()) : wpL_lawOf post 524 8384 () p0 x1 x2 x3 x4 := by
  obtain ⟨s, hs, es⟩ := pk_andE p0 (m := 7) 3 (by decide)
  obtain ⟨f, hf, ef⟩ := pk_andE (p0 >>> ((3 : Int32) &&& 31)) (m := 7) 3 (by decide)
  obtain ⟨c, hc, ec⟩ := pk_andE (p0 >>> ((6 : Int32) &&& 31)) (m := 7) 3 (by decide)
  obtain ⟨p, hp, ep⟩ := pk_andE (p0 >>> ((9 : Int32) &&& 31)) (m := 7) 3 (by decide)
  have ho : wr_ok s f c p := ⟨by omega, by omega, by omega, by omega⟩
  refine And.intro (by decide) ⟨by decide, 34, 869, by decide, by decide, wr_init ?_⟩
  refine nm_r es (nm_r ef (nm_r ec (nm_r ep ?_)))
  refine wr_any (h := 0) (m := 0) (p := 0) (by omega) (by omega) (by omega) (by omega) (fun x y _ _ z => absurd z (by omega)) (fun b11 b12 b13 hb => ?_)
  refine wr_any (h := 1) (m := 1) (p := 1) (by omega) (by omega) (by omega) (by omega) hb (fun c11 c12 c13 hc1 => ?_)
  refine wr_any (h := 2) (m := 2) (p := 2) (by omega) (by omega) (by omega) (by omega) hc1 (fun d11 d12 d13 hd => ?_)
  refine wr_seq rfl rfl rfl rfl (fun e11 e12 e13 he => ?_)
  refine wr_alt rfl rfl ?_
  refine wr_loop (p := 3) (m := 5) (by omega) (by omega) (by omega) rfl (fun g6 g7 g11 g12 g13 hb2 hl => ?_)
  refine wr_define (k := 3) (by omega) rfl rfl (fun b14 b15 b16 b17 b18 b19 b20 b21 b22 b23 hdf => ?_)
  refine wr_99 ho (wr_mkA ho hb2 hl hdf ⟨rfl, rfl, rfl⟩ ⟨rfl, rfl, (show (1 : Int32) * 0 = nI 0 by decide)⟩ ⟨rfl, rfl, rfl⟩ ⟨rfl, rfl, rfl⟩ ⟨rfl, (show (1 : Int32) * 0 = nI 0 by decide), rfl⟩ ⟨rfl, rfl, rfl⟩ ⟨rfl, rfl, rfl⟩ (wr_pre (by omega) hd he rfl rfl rfl rfl rfl rfl)) H
theorem wr_cell {post : Int32 → Prop} {L k : Nat} {xs : Nat → Int32} (hL : L ≤ 5) (hk : k < 5) (h : ∀ r, post r) : wpL_cellAt post L xs () (nI k) :=
  pk_le L k (fun _ => h 0) (fun z => ⟨pk_in k L z, h _⟩)
theorem i_vc (xs : Nat → Int32) (L : Nat) (hL : L ≤ 5) : wpL_law (fun r => r = 1) L xs :=
  wr_cell (k := 0) hL (by omega) (fun _ => wr_cell (k := 1) hL (by omega) (fun _ => wr_cell (k := 2) hL (by omega) (fun _ => wr_cell (k := 3) hL (by omega) (fun _ => wr_cell (k := 4) hL (by omega) (fun _ => ⟨524, 8384, by omega, by omega, wr_lawOf rfl⟩)))))
end
