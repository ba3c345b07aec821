section
/-- what the loop of position answers over the first n keys -/
def ct_pos (K : Nat → Nat) (k : Nat) : Nat → Nat
  | 0 => 0
  | n + 1 => if K n < k then n + 1 else ct_pos K k n
/-- the picture: node 0 is the catalogue's root, a leaf of n records, no leaf behind it -/
def ct_ok (n : Nat) (K : Nat → Nat) (V : Nat → Int64) (gv pr : Int32) (u : St2) : Prop := match u with
  | (d, pl, pa, sk, g, p, fb, a1, a2, a3, a4, a5, a6, a7, a8, a9, a10, a11) => n ≤ 4 ∧ (∀ i, i < n → K i < 2 ^ 31) ∧ d = 0 ∧ g = gv ∧ p = pr ∧ a1 0 = 0 ∧ a3 0 = 1 ∧ a4 0 = nI n ∧ a8 0 = -1 ∧ (∀ i, i < n → a5 i = nI (K i)) ∧ (∀ i, i < n → a6 i = V i)
/-- the place is (l, a) -/
def ct_pl (l a : Int32) (u : St2) : Prop := match u with
  | (d, pl, pa, sk, g, p, fb, a1, a2, a3, a4, a5, a6, a7, a8, a9, a10, a11) => pl = l ∧ pa = a
/-- the place is record j, or the end -/
def ct_at (n j : Nat) (u : St2) : Prop := match u with
  | (d, pl, pa, sk, g, p, fb, a1, a2, a3, a4, a5, a6, a7, a8, a9, a10, a11) => (j < n ∧ pl = 0 ∧ pa = nI j) ∨ (n ≤ j ∧ pl = -1 ∧ pa = 0)
theorem ct_ix (i : Nat) : 5 * (0 : Int32) + nI i = nI i := by
  rw [show (5 : Int32) * 0 = 0 by decide, Int32.zero_add]
theorem ct_pos_t {K : Nat → Nat} {k n : Nat} (h : K n < k) : ct_pos K k (n + 1) = n + 1 := if_pos h
theorem ct_pos_f {K : Nat → Nat} {k n : Nat} (h : ¬ K n < k) : ct_pos K k (n + 1) = ct_pos K k n := if_neg h
theorem ct_pos_le (K : Nat → Nat) (k n : Nat) : ct_pos K k n ≤ n := by
  induction n with
  | zero => exact Nat.le_refl 0
  | succ n ih =>
    by_cases h : K n < k
    · rw [ct_pos_t h]
      exact Nat.le_refl _
    · rw [ct_pos_f h]
      omega
theorem ct_pos_all {K : Nat → Nat} {k n : Nat} (h : ∀ i, i < n → K i < k) : ct_pos K k n = n := by
  cases n with
  | zero => rfl
  | succ n => exact ct_pos_t (h n (by omega))
theorem ct_position {n : Nat} {K : Nat → Nat} {V : Nat → Int64} {gv pr : Int32} {post : Int32 → Prop} {u : St2} {k j : Nat} (h : ct_ok n K V gv pr u) (hk : k < 2 ^ 31) (hj : ct_pos K k n = j) (hp : post (nI j)) : wpX_position post u 0 (nI k) := by
  obtain ⟨d, pl, pa, sk, g, p, fb, a1, a2, a3, a4, a5, a6, a7, a8, a9, a10, a11⟩ := u
  obtain ⟨hn, hK, hd, hg, hpr, h1, h3, h4, h8, h5, h6⟩ := h
  subst hj
  unfold wpX_position
  refine pk_loop (σ := Unit) (fun f i _ => wX_position_5 post 0 (nI k) d pl pa sk g p fb a1 a2 a3 a4 a5 a6 a7 a8 a9 a10 a11 f (nI (ct_pos K k i)) (nI i)) (fun _ _ => True) n 0 () (by omega) trivial ?_ ?_
  · intro f _ _
    exact ⟨pk_in 0 80 (by omega), pk_le n n (fun _ => hp) (fun z => absurd z (by omega)) h4⟩
  · intro f i _ hi _ hw
    have t : wX_position_5 post 0 (nI k) d pl pa sk g p fb a1 a2 a3 a4 a5 a6 a7 a8 a9 a10 a11 f (nI (ct_pos K k (i + 1))) (nI (i + 1)) := hw () trivial
    have e5 : a5 (5 * (0 : Int32) + nI i).toNatClampNeg = nI (K i) := by
      rw [ct_ix, nI_clamp (by omega)]
      exact h5 i hi
    refine ⟨pk_in 0 80 (by omega), pk_le n i (fun z => absurd z (by omega)) (fun _ => ⟨pk_in i 400 (by omega) (ct_ix i), pk_le k (K i) (fun z => nm_r (nI_1 i) ?_) (fun z => nm_r (nI_1 i) (nm_r (nI_1 i) ?_)) rfl e5 hk (hK i hi)⟩) h4⟩
    · rw [ct_pos_f (by omega)] at t
      exact t
    · rw [ct_pos_t z] at t
      exact t
theorem ct_descend {n : Nat} {K : Nat → Nat} {V : Nat → Int64} {gv pr : Int32} {post : Int32 → St2 → Prop} {u : St2} {k : Int32} (h : ct_ok n K V gv pr u) (hp : post 0 u) : wpX_descend post u 0 k := by
  obtain ⟨d, pl, pa, sk, g, p, fb, a1, a2, a3, a4, a5, a6, a7, a8, a9, a10, a11⟩ := u
  obtain ⟨hn, hK, hd, hg, hpr, h1, h3, h4, h8, h5, h6⟩ := h
  subst hd
  unfold wpX_descend
  refine ⟨pk_in 0 2 (by omega), nm_r h1 ⟨1, br_f (by decide) ⟨pk_in 0 80 (by omega), br_f ?_ hp⟩⟩⟩
  rw [sb_cl0, h3]
  decide
theorem ct_settle {n : Nat} {K : Nat → Nat} {V : Nat → Int64} {gv pr : Int32} {post : St2 → Prop} {u : St2} {j : Nat} (h : ct_ok n K V gv pr u) (hu : ct_pl 0 (nI j) u) (hj : j ≤ n) (hp : ∀ u', ct_ok n K V gv pr u' → ct_at n j u' → post u') : wpX_settle post u := by
  obtain ⟨d, pl, pa, sk, g, p, fb, a1, a2, a3, a4, a5, a6, a7, a8, a9, a10, a11⟩ := u
  have H := h
  obtain ⟨hn, hK, hd, hg, hpr, h1, h3, h4, h8, h5, h6⟩ := h
  obtain ⟨hl, ha⟩ := hu
  subst hl ha
  unfold wpX_settle
  exact ⟨pk_in 0 80 (by omega), pk_lt j n (fun z => hp _ H (Or.inl ⟨z, rfl, rfl⟩)) (fun z => ⟨pk_in 0 80 (by omega), nm_r h8 (hp _ H (Or.inr ⟨z, rfl, rfl⟩))⟩) rfl h4⟩
theorem ct_seek {n : Nat} {K : Nat → Nat} {V : Nat → Int64} {gv pr : Int32} {post : St2 → Prop} {u : St2} {k : Nat} (h : ct_ok n K V gv pr u) (hk : k < 2 ^ 31) (hp : ∀ u', ct_ok n K V gv pr u' → ct_at n (ct_pos K k n) u' → post u') : wpX_seek post u 0 (nI k) := by
  obtain ⟨d, pl, pa, sk, g, p, fb, a1, a2, a3, a4, a5, a6, a7, a8, a9, a10, a11⟩ := u
  unfold wpX_seek
  refine ct_descend h ?_
  refine ct_position (n := n) (K := K) (V := V) (gv := gv) (pr := pr) h hk rfl ?_
  refine ct_settle (n := n) (K := K) (V := V) (gv := gv) (pr := pr) (j := ct_pos K k n) h ⟨rfl, rfl⟩ (ct_pos_le K k n) (fun u' h' ha => ?_)
  obtain ⟨d, pl, pa, sk, g, p, fb, a1, a2, a3, a4, a5, a6, a7, a8, a9, a10, a11⟩ := u'
  exact hp _ h' ha
theorem ct_loc_hit {n : Nat} {K : Nat → Nat} {V : Nat → Int64} {gv pr : Int32} {post : Int32 → St2 → Prop} {u : St2} {k j : Nat} (h : ct_ok n K V gv pr u) (hk : k < 2 ^ 31) (hj : ct_pos K k n = j) (hjn : j < n) (hkj : K j = k) (hp : ∀ u', ct_ok n K V gv pr u' → ct_pl 0 (nI j) u' → post 1 u') : wpX_locate post u 0 (nI k) := by
  obtain ⟨d, pl, pa, sk, g, p, fb, a1, a2, a3, a4, a5, a6, a7, a8, a9, a10, a11⟩ := u
  unfold wpX_locate
  refine ct_seek (n := n) (K := K) (V := V) (gv := gv) (pr := pr) h hk (fun u' h' ha => ?_)
  obtain ⟨d, pl, pa, sk, g, p, fb, a1, a2, a3, a4, a5, a6, a7, a8, a9, a10, a11⟩ := u'
  rw [hj] at ha
  obtain ⟨_, hl, ha⟩ | ⟨hx, _, _⟩ := ha
  · subst hl ha
    have H := h'
    obtain ⟨hn, hK, hd, hg, hpr, h1, h3, h4, h8, h5, h6⟩ := h'
    refine br_f (by decide) ⟨pk_in j 400 (by omega) (ct_ix j), br_t ?_ (hp _ H ⟨rfl, rfl⟩)⟩
    rw [ct_ix, nI_clamp (by omega), h5 j hjn, hkj]
  · exact absurd hjn (by omega)
theorem ct_loc_miss {n : Nat} {K : Nat → Nat} {V : Nat → Int64} {gv pr : Int32} {post : Int32 → St2 → Prop} {u : St2} {k : Nat} (h : ct_ok n K V gv pr u) (hk : k < 2 ^ 31) (hm : ∀ j, j < n → K j ≠ k) (hp : ∀ u', ct_ok n K V gv pr u' → post 0 u') : wpX_locate post u 0 (nI k) := by
  obtain ⟨d, pl, pa, sk, g, p, fb, a1, a2, a3, a4, a5, a6, a7, a8, a9, a10, a11⟩ := u
  unfold wpX_locate
  refine ct_seek (n := n) (K := K) (V := V) (gv := gv) (pr := pr) h hk (fun u' h' ha => ?_)
  obtain ⟨d, pl, pa, sk, g, p, fb, a1, a2, a3, a4, a5, a6, a7, a8, a9, a10, a11⟩ := u'
  generalize ct_pos K k n = j at ha
  obtain ⟨hjn, hl, ha⟩ | ⟨hx, hl, ha⟩ := ha
  · subst hl ha
    have H := h'
    obtain ⟨hn, hK, hd, hg, hpr, h1, h3, h4, h8, h5, h6⟩ := h'
    refine br_f (by decide) ⟨pk_in j 400 (by omega) (ct_ix j), br_f ?_ (hp _ H)⟩
    rw [ct_ix, nI_clamp (by omega), h5 j hjn, nI_eq (hK j hjn) hk]
    exact hm j hjn
  · subst hl ha
    exact br_t (by decide) (hp _ h')
/-- threadOf(x) answers r, and the picture stays -/
def ct_th (I : St2 → Prop) (x : Int32) (r : Int64) : Prop := ∀ (post : Int64 → St2 → Prop) (u : St2), I u → (∀ u', I u' → post r u') → wpX_threadOf post u x
theorem ct_th_hit {n : Nat} {K : Nat → Nat} {V : Nat → Int64} {gv pr : Int32} {i j : Nat} (hi : 1 ≤ i) (hi2 : i ≤ 61) (hj : ct_pos K (512 * i) n = j) (hjn : j < n) (hkj : K j = 512 * i) : ct_th (ct_ok n K V gv pr) (nI i) (V j) := by
  intro post u h hp
  obtain ⟨d, pl, pa, sk, g, p, fb, a1, a2, a3, a4, a5, a6, a7, a8, a9, a10, a11⟩ := u
  unfold wpX_threadOf
  refine pk_lt i 1 (fun z => absurd z (by omega)) (fun _ => pk_le i 61 (fun _ => ?_) (fun z => absurd z (by omega)))
  unfold wpX_threadKey
  rw [show (512 : Int32) * nI i = nI (512 * i) from pk_mul 512 i]
  refine ct_loc_hit (n := n) (K := K) (V := V) (gv := gv) (pr := pr) h (by omega) hj hjn hkj (fun u' h' ha => ?_)
  obtain ⟨d, pl, pa, sk, g, p, fb, a1, a2, a3, a4, a5, a6, a7, a8, a9, a10, a11⟩ := u'
  obtain ⟨hl, ha⟩ := ha
  subst hl ha
  have H := h'
  obtain ⟨hn, hK, hd, hg, hpr, h1, h3, h4, h8, h5, h6⟩ := h'
  refine br_f (by decide) ⟨pk_in j 400 (by omega) (ct_ix j), ?_⟩
  rw [ct_ix, nI_clamp (by omega), h6 j hjn]
  exact hp _ H
theorem ct_th_miss {n : Nat} {K : Nat → Nat} {V : Nat → Int64} {gv pr : Int32} {x : Int32} (hm : ∀ i : Nat, x = nI i → 1 ≤ i → i ≤ 61 → ∀ j, j < n → K j ≠ 512 * i) : ct_th (ct_ok n K V gv pr) x (-1) := by
  intro post u h hp
  obtain ⟨d, pl, pa, sk, g, p, fb, a1, a2, a3, a4, a5, a6, a7, a8, a9, a10, a11⟩ := u
  unfold wpX_threadOf
  refine br_c (fun _ => hp _ h) (fun z => br_c (fun z2 => ?_) (fun _ => hp _ h))
  obtain ⟨i, hi, rfl⟩ := nI_of2 (M := 61) (n := 61) (by decide) (fun hh => z (Int32.lt_trans hh (by decide))) z2
  have hi1 : 1 ≤ i := by
    rcases Nat.lt_or_ge i 1 with q | q
    · exact absurd (nI_lt q (by decide)) z
    · exact q
  unfold wpX_threadKey
  rw [show (512 : Int32) * nI i = nI (512 * i) from pk_mul 512 i]
  refine ct_loc_miss (n := n) (K := K) (V := V) (gv := gv) (pr := pr) h (by omega) (hm i rfl hi1 hi) (fun u' h' => ?_)
  obtain ⟨d, pl, pa, sk, g, p, fb, a1, a2, a3, a4, a5, a6, a7, a8, a9, a10, a11⟩ := u'
  exact br_t rfl (hp _ h')
end
section
/-- a question answers r, from any state of the picture I, and leaves one of J -/
def ct_ans (W : (Int32 → St2 → Prop) → St2 → Prop) (I J : St2 → Prop) (r : Int32) : Prop := ∀ (post : Int32 → St2 → Prop) (u : St2), I u → (∀ u', J u' → post r u') → W post u
theorem ct_fold {I : St2 → Prop} {x : Int32} {r : Int64} (t : ct_th I x r) (h0 : 0 ≤ r) (h1 : ¬ r &&& 1 = 0) : ct_ans (fun post u => wpX_refuseFolder post u x) I I 0 := by
  intro post u h hp
  obtain ⟨d, pl, pa, sk, g, p, fb, a1, a2, a3, a4, a5, a6, a7, a8, a9, a10, a11⟩ := u
  unfold wpX_refuseFolder
  refine t _ _ h (fun u' h' => ?_)
  obtain ⟨d, pl, pa, sk, g, p, fb, a1, a2, a3, a4, a5, a6, a7, a8, a9, a10, a11⟩ := u'
  exact br_t h0 (br_f h1 (br_f (by decide) (hp _ h')))
theorem ct_foldN {I : St2 → Prop} {x : Int32} (t : ct_th I x (-1)) : ct_ans (fun post u => wpX_refuseFolder post u x) I I (-1) := by
  intro post u h hp
  obtain ⟨d, pl, pa, sk, g, p, fb, a1, a2, a3, a4, a5, a6, a7, a8, a9, a10, a11⟩ := u
  unfold wpX_refuseFolder
  refine t _ _ h (fun u' h' => ?_)
  obtain ⟨d, pl, pa, sk, g, p, fb, a1, a2, a3, a4, a5, a6, a7, a8, a9, a10, a11⟩ := u'
  exact br_f (by decide) (hp _ h')
theorem ct_file {I : St2 → Prop} {x : Int32} {r : Int64} (t : ct_th I x r) (h0 : 0 ≤ r) (h1 : ¬ r &&& 1 = 0) : ct_ans (fun post u => wpX_refuseFile post u x) I I (-9) := by
  intro post u h hp
  obtain ⟨d, pl, pa, sk, g, p, fb, a1, a2, a3, a4, a5, a6, a7, a8, a9, a10, a11⟩ := u
  unfold wpX_refuseFile
  refine t _ _ h (fun u' h' => ?_)
  obtain ⟨d, pl, pa, sk, g, p, fb, a1, a2, a3, a4, a5, a6, a7, a8, a9, a10, a11⟩ := u'
  exact br_t h0 (br_f h1 (br_f (by decide) (hp _ h')))
theorem ct_fileN {I : St2 → Prop} {x : Int32} (t : ct_th I x (-1)) : ct_ans (fun post u => wpX_refuseFile post u x) I I (-1) := by
  intro post u h hp
  obtain ⟨d, pl, pa, sk, g, p, fb, a1, a2, a3, a4, a5, a6, a7, a8, a9, a10, a11⟩ := u
  unfold wpX_refuseFile
  refine t _ _ h (fun u' h' => ?_)
  obtain ⟨d, pl, pa, sk, g, p, fb, a1, a2, a3, a4, a5, a6, a7, a8, a9, a10, a11⟩ := u'
  exact br_f (by decide) (hp _ h')
theorem ct_ext {I : St2 → Prop} {x y : Int32} {r : Int64} (t : ct_th I x r) (h0 : 0 ≤ r) (h1 : ¬ r &&& 1 = 0) : ct_ans (fun post u => wpX_extend post u x y) I I (-9) := by
  intro post u h hp
  obtain ⟨d, pl, pa, sk, g, p, fb, a1, a2, a3, a4, a5, a6, a7, a8, a9, a10, a11⟩ := u
  unfold wpX_extend
  refine ct_file t h0 h1 _ _ h (fun u' h' => ?_)
  obtain ⟨d, pl, pa, sk, g, p, fb, a1, a2, a3, a4, a5, a6, a7, a8, a9, a10, a11⟩ := u'
  exact br_f (by decide) (hp _ h')
theorem ct_extN {I : St2 → Prop} {x y : Int32} (t : ct_th I x (-1)) : ct_ans (fun post u => wpX_extend post u x y) I I (-1) := by
  intro post u h hp
  obtain ⟨d, pl, pa, sk, g, p, fb, a1, a2, a3, a4, a5, a6, a7, a8, a9, a10, a11⟩ := u
  unfold wpX_extend
  refine ct_fileN t _ _ h (fun u' h' => ?_)
  obtain ⟨d, pl, pa, sk, g, p, fb, a1, a2, a3, a4, a5, a6, a7, a8, a9, a10, a11⟩ := u'
  exact br_f (by decide) (hp _ h')
theorem ct_name1 {I : St2 → Prop} {r : Int64} (t : ct_th I 1 r) (h0 : 0 ≤ r) : ct_ans (fun post u => wpX_nameOf post u 1) I I (-6) := by
  intro post u h hp
  obtain ⟨d, pl, pa, sk, g, p, fb, a1, a2, a3, a4, a5, a6, a7, a8, a9, a10, a11⟩ := u
  unfold wpX_nameOf
  refine t _ _ h (fun u' h' => ?_)
  obtain ⟨d, pl, pa, sk, g, p, fb, a1, a2, a3, a4, a5, a6, a7, a8, a9, a10, a11⟩ := u'
  exact br_t h0 (br_t rfl (hp _ h'))
theorem ct_name {I : St2 → Prop} {x y : Int32} {r : Int64} (t : ct_th I x r) (h0 : 0 ≤ r) (hx : ¬ x = 1) (hy : (((r.toUInt64 >>> ((8 : Int32).toInt64.toUInt64 &&& Int64.toUInt64 63)).toInt64).toInt32) &&& 255 = y) : ct_ans (fun post u => wpX_nameOf post u x) I I y := by
  intro post u h hp
  obtain ⟨d, pl, pa, sk, g, p, fb, a1, a2, a3, a4, a5, a6, a7, a8, a9, a10, a11⟩ := u
  unfold wpX_nameOf
  refine t _ _ h (fun u' h' => ?_)
  obtain ⟨d, pl, pa, sk, g, p, fb, a1, a2, a3, a4, a5, a6, a7, a8, a9, a10, a11⟩ := u'
  refine br_t h0 (br_f hx ?_)
  unfold wpX_threadName
  rw [hy]
  exact hp _ h'
theorem ct_nameN {I : St2 → Prop} {x : Int32} (t : ct_th I x (-1)) : ct_ans (fun post u => wpX_nameOf post u x) I I (-1) := by
  intro post u h hp
  obtain ⟨d, pl, pa, sk, g, p, fb, a1, a2, a3, a4, a5, a6, a7, a8, a9, a10, a11⟩ := u
  unfold wpX_nameOf
  refine t _ _ h (fun u' h' => ?_)
  obtain ⟨d, pl, pa, sk, g, p, fb, a1, a2, a3, a4, a5, a6, a7, a8, a9, a10, a11⟩ := u'
  exact br_f (by decide) (hp _ h')
theorem ct_rem1 {I J : St2 → Prop} (hIJ : ∀ u, I u → J u) {r : Int64} (t : ct_th I 1 r) (h0 : 0 ≤ r) : ct_ans (fun post u => wpX_remove post u 1) I J (-6) := by
  intro post u h hp
  obtain ⟨d, pl, pa, sk, g, p, fb, a1, a2, a3, a4, a5, a6, a7, a8, a9, a10, a11⟩ := u
  unfold wpX_remove
  refine t _ _ h (fun u' h' => ?_)
  obtain ⟨d, pl, pa, sk, g, p, fb, a1, a2, a3, a4, a5, a6, a7, a8, a9, a10, a11⟩ := u'
  exact br_t h0 (br_t rfl (hp _ (hIJ _ h')))
theorem ct_remN {I J : St2 → Prop} (hIJ : ∀ u, I u → J u) {x : Int32} (t : ct_th I x (-1)) : ct_ans (fun post u => wpX_remove post u x) I J (-1) := by
  intro post u h hp
  obtain ⟨d, pl, pa, sk, g, p, fb, a1, a2, a3, a4, a5, a6, a7, a8, a9, a10, a11⟩ := u
  unfold wpX_remove
  refine t _ _ h (fun u' h' => ?_)
  obtain ⟨d, pl, pa, sk, g, p, fb, a1, a2, a3, a4, a5, a6, a7, a8, a9, a10, a11⟩ := u'
  exact br_f (by decide) (hp _ (hIJ _ h'))
theorem ct_makeN {I : St2 → Prop} {x y z : Int32} (t : ct_th I x (-1)) : ct_ans (fun post u => wpX_make post u x y z) I I (-1) := by
  intro post u h hp
  obtain ⟨d, pl, pa, sk, g, p, fb, a1, a2, a3, a4, a5, a6, a7, a8, a9, a10, a11⟩ := u
  unfold wpX_make
  refine ct_foldN t _ _ h (fun u' h' => ?_)
  obtain ⟨d, pl, pa, sk, g, p, fb, a1, a2, a3, a4, a5, a6, a7, a8, a9, a10, a11⟩ := u'
  exact br_f (by decide) (hp _ h')
theorem ct_makeB {I : St2 → Prop} {x y z : Int32} {r : Int64} (t : ct_th I x r) (h0 : 0 ≤ r) (h1 : ¬ r &&& 1 = 0) (hb : ¬ y < 0 → ¬ y ≤ 255) : ct_ans (fun post u => wpX_make post u x y z) I I (-3) := by
  intro post u h hp
  obtain ⟨d, pl, pa, sk, g, p, fb, a1, a2, a3, a4, a5, a6, a7, a8, a9, a10, a11⟩ := u
  unfold wpX_make
  refine ct_fold t h0 h1 _ _ h (fun u' h' => ?_)
  obtain ⟨d, pl, pa, sk, g, p, fb, a1, a2, a3, a4, a5, a6, a7, a8, a9, a10, a11⟩ := u'
  exact br_t rfl (br_c (fun _ => hp _ h') (fun q => br_f (hb q) (hp _ h')))
end
section
theorem ct_slot {d pl pa sk g p fb : Int32} {a1 a2 a3 a4 a5 : Nat → Int32} {a6 : Nat → Int64} {a7 a8 a9 a10 a11 : Nat → Int32} {post : St2 → Prop} {n : Nat} (hn : n ≤ 4) (h4 : a4 0 = nI n) (hp : post (d, pl, pa, sk, g, p, fb, a1, a2, a3, upd a4 0 (nI (n + 1)), a5, a6, a7, a8, a9, a10, a11)) : wpX_openSlot post (d, pl, pa, sk, g, p, fb, a1, a2, a3, a4, a5, a6, a7, a8, a9, a10, a11) 0 (nI n) := by
  unfold wpX_openSlot
  refine ⟨pk_in 0 80 (by omega), nm_r h4 ⟨1, pk_le n n (fun _ => ⟨pk_in 0 80 (by omega), pk_in 0 80 (by omega), nm_r (e' := upd a4 0 (nI (n + 1))) ?_ hp⟩) (fun z => absurd z (by omega))⟩⟩
  rw [sb_cl0, h4, nI_1]
theorem ct_put {n : Nat} {K : Nat → Nat} {V : Nat → Int64} {gv pr : Int32} {K' : Nat → Nat} {V' : Nat → Int64} {post : St2 → Prop} {u : St2} {k : Nat} {v : Int64} (h : ct_ok n K V gv pr u) (hn4 : n < 4) (hk : k < 2 ^ 31) (hlt : ∀ i, i < n → K i < k) (hK' : ∀ i, i < n → K' i = K i) (hKn : K' n = k) (hV' : ∀ i, i < n → V' i = V i) (hVn : V' n = v) (hp : ∀ u', ct_ok (n + 1) K' V' gv pr u' → post u') : wpX_putRecord post u 0 (nI k) v := by
  obtain ⟨d, pl, pa, sk, g, p, fb, a1, a2, a3, a4, a5, a6, a7, a8, a9, a10, a11⟩ := u
  unfold wpX_putRecord
  refine ct_descend h ?_
  refine ct_position (n := n) (K := K) (V := V) (gv := gv) (pr := pr) h hk (ct_pos_all hlt) ?_
  obtain ⟨hn, hK, hd, hg, hpr, h1, h3, h4, h8, h5, h6⟩ := h
  subst hd
  refine ⟨pk_in 0 80 (by omega), pk_le n n (fun _ => ?_) (fun z => absurd z (by omega)) h4⟩
  unfold wX_putRecord_59
  refine ct_slot (by omega) h4 ?_
  refine ⟨pk_in n 400 (by omega) (ct_ix n), nm_r (e' := upd a5 n (nI k)) (by rw [ct_ix, nI_clamp (by omega)]) ⟨pk_in n 400 (by omega) (ct_ix n), nm_r (e' := vp_updL a6 n v) (by rw [ct_ix, nI_clamp (by omega)]) ⟨1, br_f (by decide) ⟨pk_in 0 80 (by omega), pk_le (n + 1) 4 (fun _ => hp _ ?_) (fun z => absurd z (by omega)) ?_⟩⟩⟩⟩
  · refine ⟨by omega, fun i hi => ?_, rfl, hg, hpr, h1, h3, pk_us, h8, fun i hi => ?_, fun i hi => ?_⟩
    · by_cases e : i = n
      · rw [e, hKn]
        exact hk
      · rw [hK' i (by omega)]
        exact hK i (by omega)
    · by_cases e : i = n
      · rw [e, pk_us, hKn]
      · rw [pk_un e, h5 i (by omega), hK' i (by omega)]
    · by_cases e : i = n
      · rw [e, pk_uLs, hVn]
      · rw [pk_uLn e, h6 i (by omega), hV' i (by omega)]
  · rw [sb_cl0, pk_us]
/-- the records of a store with the item 2 named m -/
def ct_K (m : Nat) : Nat → Nat
  | 0 => 512
  | 1 => 513 + m
  | _ => 1024
def ct_V (m : Nat) : Nat → Int64
  | 0 => 1
  | 1 => 2
  | _ => lN (3 + 256 * m)
theorem ct_lt1 {P : Nat → Prop} (h0 : P 0) : ∀ i, i < 1 → P i := by
  intro i hi
  have e : i = 0 := by omega
  rw [e]
  exact h0
theorem ct_lt2 {P : Nat → Prop} (h0 : P 0) (h1 : P 1) : ∀ i, i < 2 → P i := fun _ hi => co_2 h0 h1 hi
theorem ct_lt3 {P : Nat → Prop} (h0 : P 0) (h1 : P 1) (h2 : P 2) : ∀ i, i < 3 → P i := fun _ hi => co_3 h0 h1 h2 hi
theorem ct_th1 (m : Nat) {gv pr : Int32} : ct_th (ct_ok 1 (ct_K m) (ct_V m) gv pr) 1 1 :=
  ct_th_hit (i := 1) (j := 0) (by omega) (by omega) (ct_pos_f (show ¬ 512 < 512 * 1 by omega)) (by omega) rfl
theorem ct_th1N (m : Nat) {gv pr : Int32} {x : Int32} (hx : ¬ x = 1) : ct_th (ct_ok 1 (ct_K m) (ct_V m) gv pr) x (-1) := by
  refine ct_th_miss (fun i e h1 h2 => ct_lt1 ?_)
  intro q
  have q' : 512 = 512 * i := q
  have e1 : i = 1 := by omega
  rw [e1] at e
  exact hx e
theorem ct_pack : ∀ m, m < 256 → (1 : Int64) + 2 * (1 : Int32).toInt64 + 256 * (nI m).toInt64 = lN (3 + 256 * m) := by decide +kernel
theorem ct_key1 (m : Nat) : 512 * (1 : Int32) + nI m + 1 = nI (513 + m) := by
  rw [show 512 * (1 : Int32) = nI 512 by decide, nI_add, nI_1]
  exact congrArg nI (by omega)
theorem ct_make {m : Nat} (hm : m ≤ 255) : ct_ans (fun post u => wpX_make post u 1 (nI m) 1) (ct_ok 1 (ct_K m) (ct_V m) 0 0) (ct_ok 3 (ct_K m) (ct_V m) 1 1) 2 := by
  intro post u h hp
  obtain ⟨d, pl, pa, sk, g, p, fb, a1, a2, a3, a4, a5, a6, a7, a8, a9, a10, a11⟩ := u
  unfold wpX_make
  refine ct_fold (ct_th1 m) (by decide) (by decide) _ _ h (fun u' h' => ?_)
  obtain ⟨d, pl, pa, sk, g, p, fb, a1, a2, a3, a4, a5, a6, a7, a8, a9, a10, a11⟩ := u'
  refine br_t rfl (br_f (nI_pos (by omega)) (br_t (nI_le hm (by decide)) ?_))
  unfold wpX_itemKey
  rw [ct_key1]
  refine ct_loc_miss (n := 1) (K := ct_K m) (V := ct_V m) (gv := 0) (pr := 0) h' (by omega) (ct_lt1 (show 512 ≠ 513 + m by omega)) (fun u' h' => ?_)
  obtain ⟨d, pl, pa, sk, g, p, fb, a1, a2, a3, a4, a5, a6, a7, a8, a9, a10, a11⟩ := u'
  obtain ⟨hn, hK, hd, hg, hpr, h1, h3, h4, h8, h5, h6⟩ := h'
  subst hg hpr
  refine br_t rfl (br_f (by decide) (br_t (by decide) (nm_r (e' := 1) (by decide) (nm_r (e' := 1) (by decide) (nm_r (e' := 2) (by decide) ?_)))))
  refine ct_put (n := 1) (K := ct_K m) (V := ct_V m) (gv := 1) (pr := 1) (K' := ct_K m) (V' := ct_V m) ⟨hn, hK, hd, rfl, rfl, h1, h3, h4, h8, h5, h6⟩ (by omega) (by omega) (ct_lt1 (show 512 < 513 + m by omega)) (fun _ _ => rfl) rfl (fun _ _ => rfl) (show (2 : Int64) = (2 : Int32).toInt64 by decide) (fun u' h' => ?_)
  obtain ⟨d, pl, pa, sk, g, p, fb, a1, a2, a3, a4, a5, a6, a7, a8, a9, a10, a11⟩ := u'
  unfold wpX_threadKey wpX_packThread
  refine br_f (by decide) ?_
  unfold wX_packThread_9
  rw [ct_pack m (by omega), show 512 * (2 : Int32) = nI 1024 by decide]
  refine ct_put (n := 2) (K := ct_K m) (V := ct_V m) (gv := 1) (pr := 1) (K' := ct_K m) (V' := ct_V m) h' (by omega) (by omega) (ct_lt2 (show 512 < 1024 by omega) (show 513 + m < 1024 by omega)) (fun _ _ => rfl) rfl (fun _ _ => rfl) rfl (fun u' h' => ?_)
  obtain ⟨d, pl, pa, sk, g, p, fb, a1, a2, a3, a4, a5, a6, a7, a8, a9, a10, a11⟩ := u'
  exact hp _ h'
theorem ct_init {post : St2 → Prop} (m : Nat) (hp : ∀ u', ct_ok 1 (ct_K m) (ct_V m) 0 0 u' → post u') : wpX_init post 11 1714 (0, 0, 0, 0, 0, 0, 0) := by
  unfold wpX_init
  refine ⟨by omega, by omega, by omega, by omega, by omega, by omega, by omega, by omega, by omega, by omega, by omega, by omega, by omega, by omega, by omega, by omega, by omega, by omega, by omega, by omega, by omega, by omega, ?_⟩
  unfold wpX_takeNode
  refine ⟨1, br_f (by decide) ⟨pk_in 0 80 (by omega), br_t rfl ⟨pk_in 0 80 (by omega), nm_e ⟨pk_in 0 80 (by omega), nm_e ⟨pk_in 0 80 (by omega), nm_e ⟨pk_in 0 80 (by omega), nm_e (nm_e ?_)⟩⟩⟩⟩⟩⟩
  refine ⟨2, br_f (by decide) ⟨pk_in 0 80 (by omega), br_f (by decide) (nm_r (e' := 1) (by decide) (br_f (by decide) ⟨pk_in 1 80 (by omega), br_t (by decide) ⟨pk_in 1 80 (by omega), nm_e ⟨pk_in 1 80 (by omega), nm_e ⟨pk_in 1 80 (by omega), nm_e ⟨pk_in 1 80 (by omega), nm_e (nm_e ?_)⟩⟩⟩⟩⟩))⟩⟩
  unfold wpX_threadKey
  rw [show 512 * (1 : Int32) = nI 512 by decide]
  refine ct_put (n := 0) (K := ct_K m) (V := ct_V m) (gv := 0) (pr := 0) (K' := ct_K m) (V' := ct_V m) ⟨by omega, fun i hi => absurd hi (by omega), rfl, rfl, rfl, by decide, by decide, by decide, by decide, fun i hi => absurd hi (by omega), fun i hi => absurd hi (by omega)⟩ (by omega) (by omega) (fun i hi => absurd hi (by omega)) (fun _ _ => rfl) rfl (fun _ _ => rfl) rfl (fun u' h' => ?_)
  obtain ⟨d, pl, pa, sk, g, p, fb, a1, a2, a3, a4, a5, a6, a7, a8, a9, a10, a11⟩ := u'
  exact hp _ h'
end
section
theorem ct_ix1 (i : Nat) : 5 * (0 : Int32) + nI i + 1 = nI (i + 1) := by rw [ct_ix, nI_1]
theorem ct_drop {e : Nat} {K : Nat → Nat} {V : Nat → Int64} {gv pr : Int32} {post : St2 → Prop} {u : St2} {k j : Nat} (h : ct_ok (e + 1) K V gv pr u) (hk : k < 2 ^ 31) (hj : ct_pos K k (e + 1) = j) (hje : j ≤ e) (hkj : K j = k) (hp : ∀ u', ct_ok e (fun i => if i < j then K i else K (i + 1)) (fun i => if i < j then V i else V (i + 1)) gv pr u' → post u') : wpX_dropRecord post u 0 (nI k) := by
  obtain ⟨d, pl, pa, sk, g, p, fb, a1, a2, a3, a4, a5, a6, a7, a8, a9, a10, a11⟩ := u
  unfold wpX_dropRecord
  refine ct_descend h ?_
  refine ct_position (n := e + 1) (K := K) (V := V) (gv := gv) (pr := pr) h hk hj ?_
  obtain ⟨hn, hK, hd, hg, hpr, h1, h3, h4, h8, h5, h6⟩ := h
  subst hd
  refine ⟨pk_in 0 80 (by omega), pk_le (e + 1) j (fun z => absurd z (by omega)) (fun _ => ⟨pk_in j 400 (by omega) (ct_ix j), br_t ?_ ?_⟩) h4⟩
  · rw [ct_ix, nI_clamp (by omega), h5 j (by omega), hkj]
  · refine pk_loop (σ := (Nat → Int32) × (Nat → Int64)) (fun f i s => wX_dropRecord_46 post 0 0 0 pl pa sk g p fb f (nI i) a1 a2 a3 a4 s.1 s.2 a7 a8 a9 a10 a11) (fun i s => j ≤ i ∧ (∀ t, t < i → s.1 t = nI (if t < j then K t else K (t + 1)) ∧ s.2 t = (if t < j then V t else V (t + 1))) ∧ (∀ t, i ≤ t → t < e + 1 → s.1 t = nI (K t) ∧ s.2 t = V t)) e j (a5, a6) hje ?_ ?_ ?_
    · refine ⟨Nat.le_refl j, fun t ht => ?_, fun t _ ht => ⟨h5 t ht, h6 t ht⟩⟩
      rw [if_pos ht, if_pos ht]
      exact ⟨h5 t (by omega), h6 t (by omega)⟩
    · intro f s hs
      obtain ⟨hji, hA, hB⟩ := hs
      refine ⟨pk_in 0 80 (by omega), pk_le (e + 1) (e + 1) (fun _ => ⟨pk_in 0 80 (by omega), pk_in 0 80 (by omega), nm_r (e' := upd a4 0 (nI e)) (by rw [sb_cl0, h4, nI_pred]) ⟨1, br_t (by decide) ⟨pk_in 0 2 (by omega), nm_r h1 ⟨pk_in 0 80 (by omega), br_f ?_ (hp _ ⟨by omega, fun i hi => ?_, rfl, hg, hpr, h1, h3, pk_us, h8, fun i hi => (hA i hi).1, fun i hi => (hA i hi).2⟩)⟩⟩⟩⟩) (fun z => absurd z (by omega)) h4 (nI_1 e)⟩
      · rw [sb_cl0, h3]
        decide
      · dsimp only
        by_cases q : i < j
        · rw [if_pos q]
          exact hK i (by omega)
        · rw [if_neg q]
          exact hK (i + 1) (by omega)
    · intro f i s hi hs hw
      obtain ⟨hji, hA, hB⟩ := hs
      refine ⟨pk_in 0 80 (by omega), pk_le (e + 1) (i + 1) (fun z => absurd z (by omega)) (fun _ => ⟨pk_in (i + 1) 400 (by omega) (ct_ix1 i), pk_in i 400 (by omega) (ct_ix i), nm_r (e' := upd s.1 i (s.1 (i + 1))) (by rw [ct_ix1, ct_ix, nI_clamp (show i < 2 ^ 31 by omega), nI_clamp (show i + 1 < 2 ^ 31 by omega)]) ⟨pk_in (i + 1) 400 (by omega) (ct_ix1 i), pk_in i 400 (by omega) (ct_ix i), nm_r (e' := vp_updL s.2 i (s.2 (i + 1))) (by rw [ct_ix1, ct_ix, nI_clamp (show i < 2 ^ 31 by omega), nI_clamp (show i + 1 < 2 ^ 31 by omega)]) (nm_r (nI_1 i) (hw (upd s.1 i (s.1 (i + 1)), vp_updL s.2 i (s.2 (i + 1))) ⟨by omega, fun t ht => ?_, fun t ht ht2 => ?_⟩))⟩⟩) h4 (nI_1 i)⟩
      · dsimp only
        by_cases c : t = i
        · rw [c, pk_us, pk_uLs, if_neg (by omega), if_neg (by omega)]
          exact hB (i + 1) (by omega) (by omega)
        · rw [pk_un c, pk_uLn c]
          exact hA t (by omega)
      · dsimp only
        rw [pk_un (by omega), pk_uLn (by omega)]
        exact hB t (by omega) ht2
theorem ct_par : ∀ m, m < 256 → ((((lN (3 + 256 * m)).toUInt64 >>> ((1 : Int32).toInt64.toUInt64 &&& Int64.toUInt64 63)).toInt64).toInt32) &&& 63 = 1 := by decide +kernel
theorem ct_nam : ∀ m, m < 256 → ((((lN (3 + 256 * m)).toUInt64 >>> ((8 : Int32).toInt64.toUInt64 &&& Int64.toUInt64 63)).toInt64).toInt32) &&& 255 = nI m := by decide +kernel
theorem ct_sgn : ∀ m, m < 256 → 0 ≤ lN (3 + 256 * m) ∧ ¬ lN (3 + 256 * m) &&& 1 = 0 := by decide +kernel
theorem ct_kth {m : Nat} (hm : m ≤ 255) {post : Int32 → Prop} (hp : post (nI (513 + m))) : wpX_keyOfThread post () (lN (3 + 256 * m)) := by
  have hp' : post (512 * (((((lN (3 + 256 * m)).toUInt64 >>> ((1 : Int32).toInt64.toUInt64 &&& Int64.toUInt64 63)).toInt64).toInt32) &&& 63) + (((((lN (3 + 256 * m)).toUInt64 >>> ((8 : Int32).toInt64.toUInt64 &&& Int64.toUInt64 63)).toInt64).toInt32) &&& 255) + 1) := by
    rw [ct_par m (by omega), ct_nam m (by omega), ct_key1]
    exact hp
  exact hp'
theorem ct_tk {x : Int32} (y : Int32) (e : 512 * x = y) {post : Int32 → Prop} (hp : post y) : wpX_threadKey post () x := by
  unfold wpX_threadKey
  rw [e]
  exact hp
theorem ct_seekx {n : Nat} {K : Nat → Nat} {V : Nat → Int64} {gv pr : Int32} {post : St2 → Prop} {u : St2} {x : Int32} {k : Nat} (h : ct_ok n K V gv pr u) (hx : x = nI k) (hk : k < 2 ^ 31) (hp : ∀ u', ct_ok n K V gv pr u' → ct_at n (ct_pos K k n) u' → post u') : wpX_seek post u 0 x := by
  rw [hx]
  exact ct_seek h hk hp
theorem ct_q0 (m : Nat) : ct_pos (ct_K m) (512 * 1) 3 = 0 :=
  (ct_pos_f (K := ct_K m) (k := 512 * 1) (n := 2) (show ¬ 1024 < 512 * 1 by omega)).trans ((ct_pos_f (K := ct_K m) (k := 512 * 1) (n := 1) (show ¬ 513 + m < 512 * 1 by omega)).trans ((ct_pos_f (K := ct_K m) (k := 512 * 1) (n := 0) (show ¬ 512 < 512 * 1 by omega))))
theorem ct_q1 (m : Nat) : ct_pos (ct_K m) 513 3 = 1 :=
  (ct_pos_f (K := ct_K m) (k := 513) (n := 2) (show ¬ 1024 < 513 by omega)).trans ((ct_pos_f (K := ct_K m) (k := 513) (n := 1) (show ¬ 513 + m < 513 by omega)).trans ((ct_pos_t (K := ct_K m) (k := 513) (n := 0) (show 512 < 513 by omega))))
theorem ct_q2 {m : Nat} (hm : m ≤ 255) : ct_pos (ct_K m) (513 + m) 3 = 1 :=
  (ct_pos_f (K := ct_K m) (k := 513 + m) (n := 2) (show ¬ 1024 < 513 + m by omega)).trans ((ct_pos_f (K := ct_K m) (k := 513 + m) (n := 1) (show ¬ 513 + m < 513 + m by omega)).trans ((ct_pos_t (K := ct_K m) (k := 513 + m) (n := 0) (show 512 < 513 + m by omega))))
theorem ct_q3 {m : Nat} (hm : m ≤ 255) : ct_pos (ct_K m) (512 * 2) 3 = 2 :=
  (ct_pos_f (K := ct_K m) (k := 512 * 2) (n := 2) (show ¬ 1024 < 512 * 2 by omega)).trans ((ct_pos_t (K := ct_K m) (k := 512 * 2) (n := 1) (show 513 + m < 512 * 2 by omega)))
theorem ct_q4 (m : Nat) : ct_pos (ct_K m) 1025 3 = 3 :=
  (ct_pos_t (K := ct_K m) (k := 1025) (n := 2) (show 1024 < 1025 by omega))
theorem ct_q5 (m : Nat) : ct_pos (fun i => if i < 1 then ct_K m i else ct_K m (i + 1)) 1024 2 = 1 :=
  (ct_pos_f (K := fun i => if i < 1 then ct_K m i else ct_K m (i + 1)) (k := 1024) (n := 1) (show ¬ 1024 < 1024 by omega)).trans ((ct_pos_t (K := fun i => if i < 1 then ct_K m i else ct_K m (i + 1)) (k := 1024) (n := 0) (show 512 < 1024 by omega)))
theorem ct_th3 (m : Nat) {gv pr : Int32} : ct_th (ct_ok 3 (ct_K m) (ct_V m) gv pr) 1 1 :=
  ct_th_hit (i := 1) (j := 0) (by omega) (by omega) (ct_q0 m) (by omega) rfl
theorem ct_th32 {m : Nat} (hm : m ≤ 255) {gv pr : Int32} : ct_th (ct_ok 3 (ct_K m) (ct_V m) gv pr) 2 (lN (3 + 256 * m)) :=
  ct_th_hit (i := 2) (j := 2) (by omega) (by omega) (ct_q3 hm) (by omega) rfl
theorem ct_th3N {m : Nat} (hm : m ≤ 255) {gv pr : Int32} {x : Int32} (hx : ¬ x = 1) (hx2 : ¬ x = 2) : ct_th (ct_ok 3 (ct_K m) (ct_V m) gv pr) x (-1) := by
  refine ct_th_miss (fun i e h1 h2 => ?_)
  have n1 : i ≠ 1 := fun c => hx (by rw [e, c]; rfl)
  have n2 : i ≠ 2 := fun c => hx2 (by rw [e, c]; rfl)
  exact ct_lt3 (show 512 ≠ 512 * i by omega) (show 513 + m ≠ 512 * i by omega) (show 1024 ≠ 512 * i by omega)
theorem ct_recB {m : Nat} (hm : m ≤ 255) {gv pr : Int32} {post : Int64 → St2 → Prop} {u : St2} (h : ct_ok 3 (ct_K m) (ct_V m) gv pr u) (hp : ∀ u', ct_ok 3 (ct_K m) (ct_V m) gv pr u' → post 2 u') : wpX_recordOf post u (lN (3 + 256 * m)) := by
  obtain ⟨d, pl, pa, sk, g, p, fb, a1, a2, a3, a4, a5, a6, a7, a8, a9, a10, a11⟩ := u
  unfold wpX_recordOf
  refine ct_kth hm ?_
  refine ct_loc_hit (n := 3) (K := ct_K m) (V := ct_V m) (gv := gv) (pr := pr) h (by omega) (ct_q2 hm) (by omega) rfl (fun u' h' ha => ?_)
  obtain ⟨d, pl, pa, sk, g, p, fb, a1, a2, a3, a4, a5, a6, a7, a8, a9, a10, a11⟩ := u'
  obtain ⟨hl, ha⟩ := ha
  subst hl ha
  have H := h'
  obtain ⟨hn, hK, hd, hg, hpr, h1, h3, h4, h8, h5, h6⟩ := h'
  refine br_f (by decide) ⟨pk_in 1 400 (by omega) (ct_ix 1), ?_⟩
  rw [ct_ix, nI_clamp (by omega), h6 1 (by omega)]
  exact hp _ H
theorem ct_child (m : Nat) (hm : m ≤ 255) {gv pr : Int32} : ct_ans (fun post u => wpX_firstChild post u 2) (ct_ok 3 (ct_K m) (ct_V m) gv pr) (ct_ok 3 (ct_K m) (ct_V m) gv pr) (-1) := by
  intro post u h hp
  obtain ⟨d, pl, pa, sk, g, p, fb, a1, a2, a3, a4, a5, a6, a7, a8, a9, a10, a11⟩ := u
  unfold wpX_firstChild
  refine ct_tk (nI 1024) (by decide) ?_
  refine ct_seekx (k := 1025) (n := 3) (K := ct_K m) (V := ct_V m) (gv := gv) (pr := pr) h (by decide) (by omega) (fun u' h' ha => ?_)
  obtain ⟨d, pl, pa, sk, g, p, fb, a1, a2, a3, a4, a5, a6, a7, a8, a9, a10, a11⟩ := u'
  rw [ct_q4] at ha
  obtain ⟨hx, _, _⟩ | ⟨_, hl, ha⟩ := ha
  · exact absurd hx (by omega)
  · subst hl ha
    exact br_t (by decide) (hp _ h')
/-- the number of items is c -/
def ct_pres (c : Int32) (u : St2) : Prop := match u with
  | (d, pl, pa, sk, g, p, fb, a1, a2, a3, a4, a5, a6, a7, a8, a9, a10, a11) => p = c
theorem ct_pres_of {n : Nat} {K : Nat → Nat} {V : Nat → Int64} {gv pr : Int32} : ∀ u, ct_ok n K V gv pr u → ct_pres pr u := by
  intro u h
  obtain ⟨d, pl, pa, sk, g, p, fb, a1, a2, a3, a4, a5, a6, a7, a8, a9, a10, a11⟩ := u
  obtain ⟨hn, hK, hd, hg, hpr, h1, h3, h4, h8, h5, h6⟩ := h
  exact hpr
theorem ct_erase {m : Nat} (hm : m ≤ 255) {post : St2 → Prop} {u : St2} (h : ct_ok 3 (ct_K m) (ct_V m) 1 1 u) (hp : ∀ u', ct_pres 0 u' → post u') : wpX_erase post u 2 (lN (3 + 256 * m)) := by
  obtain ⟨d, pl, pa, sk, g, p, fb, a1, a2, a3, a4, a5, a6, a7, a8, a9, a10, a11⟩ := u
  unfold wpX_erase
  refine ct_recB hm h (fun u' h' => ?_)
  obtain ⟨d, pl, pa, sk, g, p, fb, a1, a2, a3, a4, a5, a6, a7, a8, a9, a10, a11⟩ := u'
  unfold wpX_recordExtents
  refine nm_r (e' := -1) (by decide) ⟨1, br_t (by decide) ?_⟩
  refine ct_kth hm ?_
  refine ct_drop (e := 2) (K := ct_K m) (V := ct_V m) (gv := 1) (pr := 1) (j := 1) h' (by omega) (ct_q2 hm) (by omega) rfl (fun u' h' => ?_)
  obtain ⟨d, pl, pa, sk, g, p, fb, a1, a2, a3, a4, a5, a6, a7, a8, a9, a10, a11⟩ := u'
  refine ct_tk (nI 1024) (by decide) ?_
  refine ct_drop (e := 1) (K := fun i => if i < 1 then ct_K m i else ct_K m (i + 1)) (V := fun i => if i < 1 then ct_V m i else ct_V m (i + 1)) (gv := 1) (pr := 1) (j := 1) h' (by omega) (ct_q5 m) (by omega) rfl (fun u' h' => ?_)
  obtain ⟨d, pl, pa, sk, g, p, fb, a1, a2, a3, a4, a5, a6, a7, a8, a9, a10, a11⟩ := u'
  obtain ⟨hn, hK, hd, hg, hpr, h1, h3, h4, h8, h5, h6⟩ := h'
  subst hpr
  exact nm_r (e' := 0) (by decide) (hp _ rfl)
theorem ct_rem2 {m : Nat} (hm : m ≤ 255) : ct_ans (fun post u => wpX_remove post u 2) (ct_ok 3 (ct_K m) (ct_V m) 1 1) (ct_pres 0) 0 := by
  intro post u h hp
  obtain ⟨d, pl, pa, sk, g, p, fb, a1, a2, a3, a4, a5, a6, a7, a8, a9, a10, a11⟩ := u
  unfold wpX_remove
  refine ct_th32 hm _ _ h (fun u' h' => ?_)
  obtain ⟨d, pl, pa, sk, g, p, fb, a1, a2, a3, a4, a5, a6, a7, a8, a9, a10, a11⟩ := u'
  refine br_t (ct_sgn m (by omega)).1 (br_f (by decide) ?_)
  refine ct_child m hm _ _ h' (fun u' h' => ?_)
  obtain ⟨d, pl, pa, sk, g, p, fb, a1, a2, a3, a4, a5, a6, a7, a8, a9, a10, a11⟩ := u'
  refine br_t (by decide) ?_
  refine ct_erase hm h' (fun u' h' => ?_)
  obtain ⟨d, pl, pa, sk, g, p, fb, a1, a2, a3, a4, a5, a6, a7, a8, a9, a10, a11⟩ := u'
  exact hp _ h'
theorem ct_entA (m : Nat) {gv pr y : Int32} : ct_ans (fun post u => wpX_entry post u 1 y) (ct_ok 1 (ct_K m) (ct_V m) gv pr) (ct_ok 1 (ct_K m) (ct_V m) gv pr) (-12) := by
  intro post u h hp
  obtain ⟨d, pl, pa, sk, g, p, fb, a1, a2, a3, a4, a5, a6, a7, a8, a9, a10, a11⟩ := u
  unfold wpX_entry
  refine ct_fold (ct_th1 m) (by decide) (by decide) _ _ h (fun u' h' => ?_)
  obtain ⟨d, pl, pa, sk, g, p, fb, a1, a2, a3, a4, a5, a6, a7, a8, a9, a10, a11⟩ := u'
  refine br_t rfl (br_c (fun _ => ?_) (fun _ => hp _ h'))
  refine ct_tk (nI 1024) (by decide) ?_
  refine ct_tk (nI 512) (by decide) ?_
  refine ct_seekx (k := 513) (n := 1) (K := ct_K m) (V := ct_V m) (gv := gv) (pr := pr) h' (by decide) (by omega) (fun u' h' ha => ?_)
  obtain ⟨d, pl, pa, sk, g, p, fb, a1, a2, a3, a4, a5, a6, a7, a8, a9, a10, a11⟩ := u'
  rw [show ct_pos (ct_K m) 513 1 = 1 from ct_pos_t (show 512 < 513 by omega)] at ha
  obtain ⟨hx, _, _⟩ | ⟨_, hl, ha⟩ := ha
  · exact absurd hx (by omega)
  · subst hl ha
    exact ⟨1, br_f (by decide) (br_t (by decide) (hp _ h'))⟩
theorem ct_entB {m : Nat} (hm : m ≤ 255) {gv pr y r : Int32} (hr : (y = 0 → r = 2) ∧ (¬ y = 0 → r = -12)) : ct_ans (fun post u => wpX_entry post u 1 y) (ct_ok 3 (ct_K m) (ct_V m) gv pr) (ct_ok 3 (ct_K m) (ct_V m) gv pr) r := by
  intro post u h hp
  obtain ⟨d, pl, pa, sk, g, p, fb, a1, a2, a3, a4, a5, a6, a7, a8, a9, a10, a11⟩ := u
  unfold wpX_entry
  refine ct_fold (ct_th3 m) (by decide) (by decide) _ _ h (fun u' h' => ?_)
  obtain ⟨d, pl, pa, sk, g, p, fb, a1, a2, a3, a4, a5, a6, a7, a8, a9, a10, a11⟩ := u'
  refine br_t rfl (br_c (fun _ => ?_) (fun q => ?_))
  rotate_left
  · have e := hr.2 (fun c => q (by rw [c]; decide))
    subst e
    exact hp _ h'
  refine ct_tk (nI 1024) (by decide) ?_
  refine ct_tk (nI 512) (by decide) ?_
  refine ct_seekx (k := 513) (n := 3) (K := ct_K m) (V := ct_V m) (gv := gv) (pr := pr) h' (by decide) (by omega) (fun u' h' ha => ?_)
  obtain ⟨d, pl, pa, sk, g, p, fb, a1, a2, a3, a4, a5, a6, a7, a8, a9, a10, a11⟩ := u'
  rw [ct_q1] at ha
  obtain ⟨_, hl, ha⟩ | ⟨hx, _, _⟩ := ha
  rotate_left
  · exact absurd hx (by omega)
  subst hl ha
  have H := h'
  obtain ⟨hn, hK, hd, hg, hpr, h1, h3, h4, h8, h5, h6⟩ := h'
  have e5 : a5 (5 * (0 : Int32) + nI 1).toNatClampNeg = nI (513 + m) := by
    rw [ct_ix, nI_clamp (by omega)]
    exact h5 1 (by omega)
  refine ⟨2, br_f (by decide) (br_f (by decide) ⟨pk_in 1 400 (by omega) (ct_ix 1), pk_lt (513 + m) 1024 (fun _ => br_c (fun c => ⟨pk_in 1 400 (by omega) (ct_ix 1), ?_⟩) (fun c => ?_)) (fun z => absurd z (by omega)) e5⟩)⟩
  · unfold wpX_recordId
    rw [ct_ix, nI_clamp (by omega), h6 1 (by omega), show ct_V m 1 = 2 from rfl, show (2 : Int64).toInt32 &&& 63 = 2 by decide]
    have e := hr.1 c.symm
    subst e
    exact hp _ H
  · have e := hr.2 (fun q => c q.symm)
    subst e
    unfold wpX_stepOn
    refine nm_r (nI_1 1) ?_
    refine ct_settle (n := 3) (K := ct_K m) (V := ct_V m) (gv := gv) (pr := pr) (j := 2) H ⟨rfl, rfl⟩ (by omega) (fun u' h' ha => ?_)
    obtain ⟨d, pl, pa, sk, g, p, fb, a1, a2, a3, a4, a5, a6, a7, a8, a9, a10, a11⟩ := u'
    obtain ⟨_, hl, ha⟩ | ⟨hx, _, _⟩ := ha
    · subst hl ha
      have H := h'
      obtain ⟨hn, hK, hd, hg, hpr, h1, h3, h4, h8, h5, h6⟩ := h'
      refine nm_r (e' := 1) (by decide) (br_f (by decide) (br_f (by decide) ⟨pk_in 2 400 (by omega) (ct_ix 2), br_f ?_ (hp _ H)⟩))
      rw [ct_ix, nI_clamp (by omega), h5 2 (by omega)]
      exact nI_nlt (a := 1024) (b := 1024) (Nat.le_refl 1024) (by decide)
    · exact absurd hx (by omega)
end
section
theorem ct_195 {mc ms kc ks : Nat} {x5 x6 z0 z1 c : Int32} {d pl pa sk g p fb : Int32} {a1 a2 a3 a4 a5 : Nat → Int32} {a6 : Nat → Int64} {a7 a8 a9 a10 a11 : Nat → Int32} (hz : z1 = z0) (hp : p = c) (q5 : (x5 = 2 → (x6 = 0 → c = 1) ∧ (¬ x6 = 0 → c = 0)) ∧ (¬ x5 = 2 → c = 0)) : wL_lawOf_195 (fun r _ => r = 1) mc ms x5 x6 z0 z1 kc ks d pl pa sk g p fb a1 a2 a3 a4 a5 a6 a7 a8 a9 a10 a11 := by
  unfold wL_lawOf_195
  refine br_t hz ?_
  unfold wpX_items
  exact br_c (fun a => br_c (fun b => br_t (hp.trans ((q5.1 a).1 b)) rfl) (fun b => br_t (hp.trans ((q5.1 a).2 b)) rfl)) (fun a => br_t (hp.trans (q5.2 a)) rfl)
theorem ct_164 {mc ms kc ks : Nat} {x2 x5 x6 z0 z1 c r4 : Int32} {I : St2 → Prop} {d pl pa sk g p fb : Int32} {a1 a2 a3 a4 a5 : Nat → Int32} {a6 : Nat → Int64} {a7 a8 a9 a10 a11 : Nat → Int32} (hz : z1 = z0) (hI : I (d, pl, pa, sk, g, p, fb, a1, a2, a3, a4, a5, a6, a7, a8, a9, a10, a11)) (h4 : ct_ans (fun post u => wpX_remove post u x2) I (ct_pres c) r4) (q4 : (x6 = 0 → (x2 = 1 → r4 = -6) ∧ (¬ x2 = 1 → r4 = -1)) ∧ (¬ x6 = 0 → r4 = 0)) (q5 : (x5 = 2 → (x6 = 0 → c = 1) ∧ (¬ x6 = 0 → c = 0)) ∧ (¬ x5 = 2 → c = 0)) : wL_lawOf_164 (fun r _ => r = 1) mc ms x2 x5 x6 z0 z1 kc ks d pl pa sk g p fb a1 a2 a3 a4 a5 a6 a7 a8 a9 a10 a11 := by
  unfold wL_lawOf_164
  refine br_t hz ?_
  refine h4 _ _ hI (fun u' h' => ?_)
  obtain ⟨d, pl, pa, sk, g, p, fb, a1, a2, a3, a4, a5, a6, a7, a8, a9, a10, a11⟩ := u'
  exact br_c (fun a => br_c (fun b => ct_195 ((q4.1 a).1 b) h' q5) (fun b => ct_195 ((q4.1 a).2 b) h' q5)) (fun a => ct_195 (q4.2 a) h' q5)
theorem ct_136 {mc ms kc ks : Nat} {x2 x3 x5 x6 z0 z1 c r3 r4 : Int32} {I : St2 → Prop} {d pl pa sk g p fb : Int32} {a1 a2 a3 a4 a5 : Nat → Int32} {a6 : Nat → Int64} {a7 a8 a9 a10 a11 : Nat → Int32} (hz : z1 = z0) (hI : I (d, pl, pa, sk, g, p, fb, a1, a2, a3, a4, a5, a6, a7, a8, a9, a10, a11)) (h3 : ct_ans (fun post u => wpX_entry post u 1 x3) I I r3) (h4 : ct_ans (fun post u => wpX_remove post u x2) I (ct_pres c) r4) (q3 : (x5 = 2 → (x3 = 0 → r3 = 2) ∧ (¬ x3 = 0 → r3 = -12)) ∧ (¬ x5 = 2 → r3 = -12)) (q4 : (x6 = 0 → (x2 = 1 → r4 = -6) ∧ (¬ x2 = 1 → r4 = -1)) ∧ (¬ x6 = 0 → r4 = 0)) (q5 : (x5 = 2 → (x6 = 0 → c = 1) ∧ (¬ x6 = 0 → c = 0)) ∧ (¬ x5 = 2 → c = 0)) : wL_lawOf_136 (fun r _ => r = 1) mc ms x2 x3 x5 x6 z0 z1 kc ks d pl pa sk g p fb a1 a2 a3 a4 a5 a6 a7 a8 a9 a10 a11 := by
  unfold wL_lawOf_136
  refine br_t hz ?_
  refine h3 _ _ hI (fun u' h' => ?_)
  obtain ⟨d, pl, pa, sk, g, p, fb, a1, a2, a3, a4, a5, a6, a7, a8, a9, a10, a11⟩ := u'
  unfold wL_lawOf_162
  exact br_c (fun a => br_c (fun b => ct_164 ((q3.1 a).1 b) h' h4 q4 q5) (fun b => ct_164 ((q3.1 a).2 b) h' h4 q4 q5)) (fun a => ct_164 (q3.2 a) h' h4 q4 q5)
theorem ct_105 {mc ms kc ks : Nat} {x1 x2 x3 x5 x6 z0 z1 c r2 r3 r4 : Int32} {I : St2 → Prop} {d pl pa sk g p fb : Int32} {a1 a2 a3 a4 a5 : Nat → Int32} {a6 : Nat → Int64} {a7 a8 a9 a10 a11 : Nat → Int32} (hz : z1 = z0) (hI : I (d, pl, pa, sk, g, p, fb, a1, a2, a3, a4, a5, a6, a7, a8, a9, a10, a11)) (h2 : ct_ans (fun post u => wpX_nameOf post u x2) I I r2) (h3 : ct_ans (fun post u => wpX_entry post u 1 x3) I I r3) (h4 : ct_ans (fun post u => wpX_remove post u x2) I (ct_pres c) r4) (q2 : (x6 = 0 → (x2 = 1 → r2 = -6) ∧ (¬ x2 = 1 → r2 = -1)) ∧ (¬ x6 = 0 → r2 = x1)) (q3 : (x5 = 2 → (x3 = 0 → r3 = 2) ∧ (¬ x3 = 0 → r3 = -12)) ∧ (¬ x5 = 2 → r3 = -12)) (q4 : (x6 = 0 → (x2 = 1 → r4 = -6) ∧ (¬ x2 = 1 → r4 = -1)) ∧ (¬ x6 = 0 → r4 = 0)) (q5 : (x5 = 2 → (x6 = 0 → c = 1) ∧ (¬ x6 = 0 → c = 0)) ∧ (¬ x5 = 2 → c = 0)) : wL_lawOf_105 (fun r _ => r = 1) mc ms x1 x2 x3 x5 x6 z0 z1 kc ks d pl pa sk g p fb a1 a2 a3 a4 a5 a6 a7 a8 a9 a10 a11 := by
  unfold wL_lawOf_105
  refine br_t hz ?_
  refine h2 _ _ hI (fun u' h' => ?_)
  obtain ⟨d, pl, pa, sk, g, p, fb, a1, a2, a3, a4, a5, a6, a7, a8, a9, a10, a11⟩ := u'
  exact br_c (fun a => br_c (fun b => ct_136 ((q2.1 a).1 b) h' h3 h4 q3 q4 q5) (fun b => ct_136 ((q2.1 a).2 b) h' h3 h4 q3 q4 q5)) (fun a => ct_136 (q2.2 a) h' h3 h4 q3 q4 q5)
theorem ct_85 {mc ms kc ks : Nat} {x1 x2 x3 x5 x6 z0 c r1 r2 r3 r4 : Int32} {I : St2 → Prop} {d pl pa sk g p fb : Int32} {a1 a2 a3 a4 a5 : Nat → Int32} {a6 : Nat → Int64} {a7 a8 a9 a10 a11 : Nat → Int32} (hI : I (d, pl, pa, sk, g, p, fb, a1, a2, a3, a4, a5, a6, a7, a8, a9, a10, a11)) (h1 : ct_ans (fun post u => wpX_extend post u x2 x3) I I r1) (h2 : ct_ans (fun post u => wpX_nameOf post u x2) I I r2) (h3 : ct_ans (fun post u => wpX_entry post u 1 x3) I I r3) (h4 : ct_ans (fun post u => wpX_remove post u x2) I (ct_pres c) r4) (q1 : (z0 = 0 → r1 = -1) ∧ (¬ z0 = 0 → r1 = -9)) (q2 : (x6 = 0 → (x2 = 1 → r2 = -6) ∧ (¬ x2 = 1 → r2 = -1)) ∧ (¬ x6 = 0 → r2 = x1)) (q3 : (x5 = 2 → (x3 = 0 → r3 = 2) ∧ (¬ x3 = 0 → r3 = -12)) ∧ (¬ x5 = 2 → r3 = -12)) (q4 : (x6 = 0 → (x2 = 1 → r4 = -6) ∧ (¬ x2 = 1 → r4 = -1)) ∧ (¬ x6 = 0 → r4 = 0)) (q5 : (x5 = 2 → (x6 = 0 → c = 1) ∧ (¬ x6 = 0 → c = 0)) ∧ (¬ x5 = 2 → c = 0)) : wL_lawOf_85 (fun r _ => r = 1) mc ms x1 x2 x3 x5 x6 z0 kc ks d pl pa sk g p fb a1 a2 a3 a4 a5 a6 a7 a8 a9 a10 a11 := by
  unfold wL_lawOf_85
  refine h1 _ _ hI (fun u' h' => ?_)
  obtain ⟨d, pl, pa, sk, g, p, fb, a1, a2, a3, a4, a5, a6, a7, a8, a9, a10, a11⟩ := u'
  exact br_c (fun a => ct_105 (q1.1 a) h' h2 h3 h4 q2 q3 q4 q5) (fun a => ct_105 (q1.2 a) h' h2 h3 h4 q2 q3 q4 q5)
/-- nothing was made -/
theorem ct_lawA {mc ms kc ks : Nat} {x1 x2 x3 x5 : Int32} {m : Nat} {d pl pa sk g p fb : Int32} {a1 a2 a3 a4 a5 : Nat → Int32} {a6 : Nat → Int64} {a7 a8 a9 a10 a11 : Nat → Int32} (h5 : ¬ x5 = 2) (hI : ct_ok 1 (ct_K m) (ct_V m) 0 0 (d, pl, pa, sk, g, p, fb, a1, a2, a3, a4, a5, a6, a7, a8, a9, a10, a11)) : wL_lawOf_68 (fun r _ => r = 1) mc ms x1 x2 x3 x5 0 kc ks d pl pa sk g p fb a1 a2 a3 a4 a5 a6 a7 a8 a9 a10 a11 := by
  unfold wL_lawOf_68
  refine br_t rfl (br_c (fun e => ?_) (fun e => ?_))
  · subst e
    unfold wL_lawOf_80
    exact ct_85 hI (ct_ext (ct_th1 m) (by decide) (by decide)) (ct_name1 (ct_th1 m) (by decide)) (ct_entA m) (ct_rem1 ct_pres_of (ct_th1 m) (by decide)) (by decide) ⟨fun _ => ⟨fun _ => rfl, fun z => absurd rfl z⟩, fun z => absurd rfl z⟩ ⟨fun z => absurd z h5, fun _ => rfl⟩ (by decide) ⟨fun z => absurd z h5, fun _ => rfl⟩
  · exact ct_85 hI (ct_extN (ct_th1N m e)) (ct_nameN (ct_th1N m e)) (ct_entA m) (ct_remN ct_pres_of (ct_th1N m e)) (by decide) ⟨fun _ => ⟨fun z => absurd z e, fun _ => rfl⟩, fun z => absurd rfl z⟩ ⟨fun z => absurd z h5, fun _ => rfl⟩ ⟨fun _ => ⟨fun z => absurd z e, fun _ => rfl⟩, fun z => absurd rfl z⟩ ⟨fun z => absurd z h5, fun _ => rfl⟩
/-- item 2 was made, and another one is asked for -/
theorem ct_lawB {mc ms kc ks : Nat} {x1 x2 x3 : Int32} {m : Nat} (hm : m ≤ 255) {d pl pa sk g p fb : Int32} {a1 a2 a3 a4 a5 : Nat → Int32} {a6 : Nat → Int64} {a7 a8 a9 a10 a11 : Nat → Int32} (hx : ¬ x2 = 2) (hI : ct_ok 3 (ct_K m) (ct_V m) 1 1 (d, pl, pa, sk, g, p, fb, a1, a2, a3, a4, a5, a6, a7, a8, a9, a10, a11)) : wL_lawOf_68 (fun r _ => r = 1) mc ms x1 x2 x3 2 0 kc ks d pl pa sk g p fb a1 a2 a3 a4 a5 a6 a7 a8 a9 a10 a11 := by
  have hr : ∃ r : Int32, (x3 = 0 → r = 2) ∧ (¬ x3 = 0 → r = -12) := ⟨if x3 = 0 then 2 else -12, fun z => if_pos z, fun z => if_neg z⟩
  obtain ⟨r, hr⟩ := hr
  unfold wL_lawOf_68
  refine br_t rfl (br_c (fun e => ?_) (fun e => ?_))
  · subst e
    unfold wL_lawOf_80
    exact ct_85 hI (ct_ext (ct_th3 m) (by decide) (by decide)) (ct_name1 (ct_th3 m) (by decide)) (ct_entB hm hr) (ct_rem1 ct_pres_of (ct_th3 m) (by decide)) (by decide) ⟨fun _ => ⟨fun _ => rfl, fun z => absurd rfl z⟩, fun z => absurd rfl z⟩ ⟨fun _ => hr, fun z => absurd rfl z⟩ (by decide) (by decide)
  · exact ct_85 hI (ct_extN (ct_th3N hm e hx)) (ct_nameN (ct_th3N hm e hx)) (ct_entB hm hr) (ct_remN ct_pres_of (ct_th3N hm e hx)) (by decide) ⟨fun _ => ⟨fun z => absurd z e, fun _ => rfl⟩, fun z => absurd rfl z⟩ ⟨fun _ => hr, fun z => absurd rfl z⟩ ⟨fun _ => ⟨fun z => absurd z e, fun _ => rfl⟩, fun z => absurd rfl z⟩ (by decide)
/-- item 2 was made and is asked for -/
theorem ct_lawC {mc ms kc ks : Nat} {x3 : Int32} {m : Nat} (hm : m ≤ 255) {d pl pa sk g p fb : Int32} {a1 a2 a3 a4 a5 : Nat → Int32} {a6 : Nat → Int64} {a7 a8 a9 a10 a11 : Nat → Int32} (hI : ct_ok 3 (ct_K m) (ct_V m) 1 1 (d, pl, pa, sk, g, p, fb, a1, a2, a3, a4, a5, a6, a7, a8, a9, a10, a11)) : wL_lawOf_68 (fun r _ => r = 1) mc ms (nI m) 2 x3 2 1 kc ks d pl pa sk g p fb a1 a2 a3 a4 a5 a6 a7 a8 a9 a10 a11 := by
  have hr : ∃ r : Int32, (x3 = 0 → r = 2) ∧ (¬ x3 = 0 → r = -12) := ⟨if x3 = 0 then 2 else -12, fun z => if_pos z, fun z => if_neg z⟩
  obtain ⟨r, hr⟩ := hr
  unfold wL_lawOf_68
  refine br_f (by decide) ?_
  unfold wL_lawOf_80
  exact ct_85 hI (ct_ext (ct_th32 hm) (ct_sgn m (by omega)).1 (ct_sgn m (by omega)).2) (ct_name (ct_th32 hm) (ct_sgn m (by omega)).1 (by decide) (ct_nam m (by omega))) (ct_entB hm hr) (ct_rem2 hm) (by decide) ⟨fun z => absurd z (by decide), fun _ => rfl⟩ ⟨fun _ => hr, fun z => absurd rfl z⟩ (by decide) (by decide)
theorem ct_lawOf (p0 p1 p2 p3 : Int32) : wpL_lawOf (fun r _ => r = 1) 12 1732 () p0 p1 p2 p3 := by
  unfold wpL_lawOf
  refine ⟨by omega, by omega, 11, 1714, by omega, by omega, ?_⟩
  refine ct_init p1.toNatClampNeg (fun u' hI => ?_)
  obtain ⟨d, pl, pa, sk, g, p, fb, a1, a2, a3, a4, a5, a6, a7, a8, a9, a10, a11⟩ := u'
  have bad : ∀ z : ¬ p1 < 0 → ¬ p1 ≤ 255, p0 = 1 → wL_lawOf_35 (fun r _ => r = 1) 12 1732 p0 p1 p2 p3 (-3) (1 + 11) (18 + 1714) d pl pa sk g p fb a1 a2 a3 a4 a5 a6 a7 a8 a9 a10 a11 := by
    intro hb e
    subst e
    unfold wL_lawOf_35
    refine ct_makeB (ct_th1 p1.toNatClampNeg) (by decide) (by decide) hb _ _ hI (fun u' h' => ?_)
    obtain ⟨d, pl, pa, sk, g, p, fb, a1, a2, a3, a4, a5, a6, a7, a8, a9, a10, a11⟩ := u'
    exact br_t rfl (br_f (by decide) (ct_lawA (by decide) h'))
  refine br_c (fun e => br_c (fun a => ?_) (fun a => br_c (fun b => ?_) (fun b => ?_))) (fun e => ?_)
  · exact bad (fun z => absurd a z) e
  · obtain ⟨m, hm, em⟩ := nI_of2 (M := 255) (n := 255) (by decide) a b
    subst em
    subst e
    rw [nI_clamp (by omega)] at hI
    unfold wL_lawOf_35
    refine ct_make hm _ _ hI (fun u' h' => ?_)
    obtain ⟨d, pl, pa, sk, g, p, fb, a1, a2, a3, a4, a5, a6, a7, a8, a9, a10, a11⟩ := u'
    refine br_t rfl (br_t rfl (br_c (fun c => ?_) (fun c => ?_)))
    · subst c
      exact ct_lawC hm h'
    · exact ct_lawB hm c h'
  · exact bad (fun _ => b) e
  · unfold wL_lawOf_35
    refine ct_makeN (ct_th1N p1.toNatClampNeg e) _ _ hI (fun u' h' => ?_)
    obtain ⟨d, pl, pa, sk, g, p, fb, a1, a2, a3, a4, a5, a6, a7, a8, a9, a10, a11⟩ := u'
    exact br_t rfl (br_f (by decide) (ct_lawA (by decide) h'))
theorem ct_cell {post : Int32 → Prop} {L : Nat} (hL : L ≤ 4) {xs : Nat → Int32} {x : Int32} (i : Nat) (hi : i < 4) (hx : x = nI i) (h : ∀ r, post r) : wpL_cellAt post L xs () x := by
  unfold wpL_cellAt
  exact pk_le L i (fun _ => h _) (fun z => ⟨pk_in i L z hx, h _⟩) rfl hx
theorem i_vc (xs : Nat → Int32) (L : Nat) (hL : L ≤ 4) : wpL_law (fun r => r = 1) L xs := by
  unfold wpL_law
  exact ct_cell hL 0 (by omega) rfl (fun r1 => ct_cell hL 1 (by omega) rfl (fun r2 => ct_cell hL 2 (by omega) rfl (fun r3 => ct_cell hL 3 (by omega) rfl (fun r4 => ⟨12, 1732, by omega, by omega, ct_lawOf r1 r2 r3 r4⟩))))
end
