section
/-- the mark at a place -/
def ad_m (a2 : Nat → Int32) (s : Nat) : Int32 := if s % 2 = 0 then 0 else a2 (s / 2)
/-- the weight of a mark in frame 0 -/
def ad_w (pl : Int32) (a1 : Nat → Int32) (k : Nat) : Int32 := if pl = 0 then a1 k else 1
/-- what a place begins with in frame 0 -/
def ad_u (s : Nat) : Int32 := if s ≤ 1 then 1 else 0
/-- the mark that bestNext takes -/
def ad_nx (d1 d2 d3 : Nat) : Nat := if d1 + d2 + d3 = 0 then 0 else if d2 ≤ d1 ∧ d3 ≤ d1 then 1 else if d3 ≤ d2 then 2 else 3
/-- what through answers in frame 0, v the weight at the mark at -/
def ad_th (k y v : Int32) : Int32 := if k < 0 then -1 else if 4 ≤ k then -1 else if y = k then v else 0

theorem ad_a0 (f : Nat → Int32) {x : Int32} (n : Nat) (h : x.toNatClampNeg = n := by decide) : 0 + f x.toNatClampNeg = f n := by
  rw [h, Int32.zero_add]
theorem ad_ad (f : Nat → Int32) {x : Int32} (y : Int32) (n : Nat) (h : x.toNatClampNeg = n := by decide) : y + f x.toNatClampNeg = y + f n := by
  rw [h]
theorem ad_byte : ∀ d, d < 10 → (nI d).toInt8.toInt32 = nI d := by decide +kernel
theorem ad_rng : ∀ s, s < 9 → ¬ nI s < nI s - 2 ∧ ¬ nI s < nI s - 2 + 1 ∧ ¬ nI s < nI s - 2 + 1 + 1 ∧ nI s < nI s - 2 + 1 + 1 + 1 := by decide +kernel
theorem ad_fill {f s : Nat → Int32} {i : Nat} {x : Int32} (h : ∀ j, j < i → s j = f j) (hx : x = f i) : ∀ j, j < i + 1 → upd s i x j = f j := by
  intro j hj
  by_cases e : j = i
  · rw [e, pk_us, hx]
  · rw [pk_un e]
    exact h j (by omega)
theorem ad_0x (x : Int32) : (0 : Int32) * 4 + x = x := by
  rw [show (0 : Int32) * 4 = 0 from by decide, Int32.zero_add]
theorem ad_9x (x : Int32) : (0 : Int32) * 9 + x = x := by
  rw [show (0 : Int32) * 9 = 0 from by decide, Int32.zero_add]
theorem ad_m_e {a2 : Nat → Int32} {s : Nat} (h : s % 2 = 0) : ad_m a2 s = 0 := if_pos h
theorem ad_mk {a2 : Nat → Int32} {z : Nat} (hl : ∀ j, j < z → ∃ k, k < 4 ∧ a2 j = nI k) (s : Nat) (hs : s ≤ 2 * z) : ∃ k, k < 4 ∧ ad_m a2 s = nI k := by
  unfold ad_m
  by_cases e : s % 2 = 0
  · exact ⟨0, by omega, if_pos e⟩
  · obtain ⟨k, hk, h⟩ := hl (s / 2) (by omega)
    exact ⟨k, hk, by rw [if_neg e, h]⟩
theorem ad_l0 {a2 : Nat → Int32} : ∀ j, j < 0 → ∃ k, k < 4 ∧ a2 j = nI k := fun j hj => absurd hj (by omega)
theorem ad_l1 {a2 : Nat → Int32} {m : Nat} (hm : m < 4) (h : a2 0 = nI m) : ∀ j, j < 1 → ∃ k, k < 4 ∧ a2 j = nI k := fun j hj => ⟨m, hm, by rw [show j = 0 by omega, h]⟩
theorem ad_l2 {a2 : Nat → Int32} {m k : Nat} (hm : m < 4) (h : a2 0 = nI m) (hk : k < 4) (h1 : a2 1 = nI k) : ∀ j, j < 2 → ∃ k, k < 4 ∧ a2 j = nI k := by
  intro j hj
  by_cases e : j = 0
  · exact ⟨m, hm, by rw [e, h]⟩
  · exact ⟨k, hk, by rw [show j = 1 by omega, h1]⟩

section
variable {c z pl : Int32} {a1 a2 a3 a4 a5 : Nat → Int32}

theorem ad_mark {post : Int32 → Prop} {x : Int32} (s : Nat) (r : Int32) (hr : ad_m a2 s = r) (h : post r) (hx : x = nI s := by rfl) (hs : s < 8 := by omega) : wpX_markAt post (c, z, pl, a1, a2, a3, a4, a5) x := by
  subst hx
  subst hr
  unfold wpX_markAt
  dsimp only
  rw [pk_andN (m := 1) (show s < 2 ^ 32 by omega) 1 (by decide), pk_shrN (show s < 2 ^ 31 by omega) _ 1 (by decide)]
  rw [show (2 : Nat) ^ 1 = 2 from rfl]
  unfold ad_m at h
  refine pk_eq (s % 2) 0 (fun e => ?_) (fun e => ?_)
  · rw [if_pos e] at h
    exact h
  · rw [if_neg e] at h
    refine ⟨pk_in (s / 2) 4 (by omega), ?_⟩
    rw [pk_cl (x := nI (s / 2)) (s / 2)]
    exact h

theorem ad_weight {post : Int32 → Prop} {x : Int32} (k : Nat) (h : post (ad_w pl a1 k)) (hx : x = nI k := by rfl) (hk : k < 4 := by omega) : wpX_weightOf post (c, z, pl, a1, a2, a3, a4, a5) 0 x := by
  subst hx
  unfold wpX_weightOf
  dsimp only
  unfold ad_w at h
  rw [ad_0x]
  by_cases e : pl = 0
  · rw [if_pos e] at h
    exact br_t e ⟨pk_in k 24 (by omega), by rw [nI_clamp (by omega)]; exact h⟩
  · rw [if_neg e] at h
    exact br_f e h

theorem ad_on42 {post : St2 → Prop} {J2 J12 : Int32 → (Nat → Int32) → (Nat → Int32) → (Nat → Int32) → (Nat → Int32) → (Nat → Int32) → Prop} {x3 : Int32} (s k : Nat) (hs : s < 8) (hk : k < 4) (hm : ad_m a2 s = nI k)
    (h : J12 (nI (s + 1)) a1 a2 (upd a3 s (x3 * ad_w pl a1 k)) a4 a5) : ∃ n, wX_carryOn_42 post J2 J12 0 (nI s) c z pl a1 a2 a3 a4 a5 n x3 (nI s - 2) := by
  obtain ⟨h0, h1, h2, h3⟩ := ad_rng s (by omega)
  have z0 : (0 : Int32) ≤ 0 := by decide
  refine ⟨4, br_f h0 (br_t z0 (br_t rfl (nm_r (Int32.add_zero x3) (nm_e ?_))))⟩
  refine br_f h1 (br_t z0 (br_t rfl (nm_r (Int32.add_zero x3) (nm_e ?_))))
  refine br_f h2 (br_t z0 (br_t rfl (nm_r (Int32.add_zero x3) (nm_e ?_))))
  refine br_t h3 (ad_mark s (nI k) hm (ad_weight k ?_))
  exact ⟨pk_in s 54 (by omega) (ad_9x _), nm_r (by rw [ad_9x, nI_clamp (by omega)]) (nm_r (nI_1 s) h)⟩

theorem ad_on12 {post : St2 → Prop} {J2 : Int32 → (Nat → Int32) → (Nat → Int32) → (Nat → Int32) → (Nat → Int32) → (Nat → Int32) → Prop} {n : Nat} (y s k : Nat) (hy : y ≤ 3) (hs : s ≤ 2 * y) (hk : k < 4) (hm : ad_m a2 s = nI k)
    (h : wX_carryOn_12 post J2 0 1 (nI y) pl n (nI (s + 1)) a1 a2 (upd a3 s (ad_u s * ad_w pl a1 k)) a4 a5) : wX_carryOn_12 post J2 0 1 (nI y) pl (n + 1) (nI s) a1 a2 a3 a4 a5 := by
  refine pk_lt (2 * y) s (fun q => absurd q (by omega)) (fun _ => br_t rfl (pk_lt 1 s (fun q => nm_e (ad_on42 s k (by omega) hk hm ?_)) (fun q => nm_e (ad_on42 s k (by omega) hk hm ?_)))) (pk_mul 2 y)
  · rw [show ad_u s = 0 from if_neg (by omega)] at h
    exact h
  · rw [show ad_u s = 1 from if_pos (by omega)] at h
    exact h

theorem ad_on {post : St2 → Prop} (y : Nat) (hy : y ≤ 3) (hl : ∀ j, j < y → ∃ k, k < 4 ∧ a2 j = nI k)
    (H : ∀ a, (∀ s, s ≤ 2 * y → a s = ad_u s * ad_w pl a1 (ad_m a2 s).toNatClampNeg) → post (1, nI y, pl, a1, a2, a, a4, a5)) : wpX_carryOn post (1, nI y, pl, a1, a2, a3, a4, a5) := by
  unfold wpX_carryOn
  refine ⟨2, br_f (by decide) ?_⟩
  refine pk_loop (fun n i s => wX_carryOn_12 post (wX_carryOn_2 post 1 (nI y) pl 1) 0 1 (nI y) pl n (nI i) a1 a2 s a4 a5) (fun i s => ∀ j, j < i → s j = ad_u j * ad_w pl a1 (ad_m a2 j).toNatClampNeg) (2 * y + 1) 0 a3 (by omega) (fun j hj => absurd hj (by omega)) ?_ ?_
  · intro n s h
    exact pk_lt (2 * y) (2 * y + 1) (fun _ => nm_e (br_t (by decide) (H s (fun j hj => h j (by omega))))) (fun q => absurd q (by omega)) (pk_mul 2 y)
  · intro n i s hi h hw
    obtain ⟨k, hk, hm⟩ := ad_mk hl i (by omega)
    refine ad_on12 y i k hy (by omega) hk hm (hw _ (ad_fill (f := fun j => ad_u j * ad_w pl a1 (ad_m a2 j).toNatClampNeg) h ?_))
    rw [hm, nI_clamp (by omega)]

theorem ad_on0 {post : St2 → Prop} (h : post (0, z, pl, a1, a2, a3, a4, a5)) : wpX_carryOn post (0, z, pl, a1, a2, a3, a4, a5) := by
  unfold wpX_carryOn
  exact ⟨1, br_t (by decide) h⟩

theorem ad_sum0 {post : Int32 → St2 → Prop} (h : post (a3 0) (1, 0, pl, a1, a2, a3, a4, a5)) : ∃ n, wX_sumAll_28 post 1 0 pl a1 a2 a3 a4 a5 n 0 0 :=
  ⟨2, br_f (by decide) (br_f (by decide) (br_f (by decide) ⟨pk_in 0 54 (by decide), nm_r (ad_a0 a3 0) (nm_e (br_t (by decide) h))⟩))⟩

theorem ad_sum1 {post : Int32 → St2 → Prop} (h : post (a3 1 + a3 2) (1, 1, pl, a1, a2, a3, a4, a5)) : ∃ n, wX_sumAll_28 post 1 1 pl a1 a2 a3 a4 a5 n 0 0 := by
  refine ⟨4, br_f (by decide) (br_t (by decide) (br_t rfl (nm_r (e' := 0) (by decide) (nm_r (e' := 1) (by decide) ?_))))⟩
  refine br_f (by decide) (br_f (by decide) (br_f (by decide) ⟨pk_in 1 54 (by decide), nm_r (ad_a0 a3 1) (nm_r (e' := 2) (by decide) ?_)⟩))
  refine br_f (by decide) (br_f (by decide) (br_f (by decide) ⟨pk_in 2 54 (by decide), nm_r (ad_ad a3 (a3 1) 2) (nm_r (e' := 3) (by decide) ?_)⟩))
  exact br_t (by decide) h

theorem ad_sum2 {post : Int32 → St2 → Prop} (h : post (a3 3 + a3 4) (1, 2, pl, a1, a2, a3, a4, a5)) : ∃ n, wX_sumAll_28 post 1 2 pl a1 a2 a3 a4 a5 n 0 0 := by
  refine ⟨6, br_f (by decide) (br_t (by decide) (br_t rfl (nm_r (e' := 0) (by decide) (nm_r (e' := 1) (by decide) ?_))))⟩
  refine br_f (by decide) (br_t (by decide) (br_t rfl (nm_r (e' := 0) (by decide) (nm_r (e' := 2) (by decide) ?_))))
  refine br_f (by decide) (br_t (by decide) (br_t rfl (nm_r (e' := 0) (by decide) (nm_r (e' := 3) (by decide) ?_))))
  refine br_f (by decide) (br_f (by decide) (br_f (by decide) ⟨pk_in 3 54 (by decide), nm_r (ad_a0 a3 3) (nm_r (e' := 4) (by decide) ?_)⟩))
  refine br_f (by decide) (br_f (by decide) (br_f (by decide) ⟨pk_in 4 54 (by decide), nm_r (ad_ad a3 (a3 3) 4) (nm_r (e' := 5) (by decide) ?_)⟩))
  exact br_t (by decide) h

theorem ad_all0 {post : Int32 → St2 → Prop} (h : ∀ a, post (ad_w pl a1 0) (1, 0, pl, a1, a2, a, a4, a5)) : wpX_sumAll post (1, 0, pl, a1, a2, a3, a4, a5) := by
  unfold wpX_sumAll
  refine ad_on 0 (by omega) ad_l0 (fun a ha => br_f (by decide) (ad_sum0 ?_))
  rw [ha 0 (by omega), ad_m_e rfl, show ad_u 0 = 1 from rfl, Int32.one_mul]
  exact h a

theorem ad_all1 {post : Int32 → St2 → Prop} (m : Nat) (hm : m < 4) (h2 : a2 0 = nI m) (h : ∀ a, post (ad_w pl a1 m) (1, 1, pl, a1, a2, a, a4, a5)) : wpX_sumAll post (1, 1, pl, a1, a2, a3, a4, a5) := by
  unfold wpX_sumAll
  refine ad_on 1 (by omega) (ad_l1 hm h2) (fun a ha => br_f (by decide) (ad_sum1 ?_))
  rw [ha 1 (by omega), ha 2 (by omega), show ad_m a2 1 = nI m from h2, nI_clamp (by omega), show ad_u 1 = 1 from rfl, show ad_u 2 = 0 from rfl, Int32.one_mul, Int32.zero_mul, Int32.add_zero]
  exact h a

theorem ad_all2 {post : Int32 → St2 → Prop} (m k : Nat) (hm : m < 4) (h2 : a2 0 = nI m) (hk : k < 4) (h3 : a2 1 = nI k) (h : ∀ a, post 0 (1, 2, pl, a1, a2, a, a4, a5)) : wpX_sumAll post (1, 2, pl, a1, a2, a3, a4, a5) := by
  unfold wpX_sumAll
  refine ad_on 2 (by omega) (ad_l2 hm h2 hk h3) (fun a ha => br_f (by decide) (ad_sum2 ?_))
  rw [ha 3 (by omega), ha 4 (by omega), show ad_u 3 = 0 from rfl, show ad_u 4 = 0 from rfl, Int32.zero_mul, Int32.zero_mul, Int32.add_zero]
  exact h a

theorem ad_all00 {post : Int32 → St2 → Prop} (h : post 1 (0, 0, pl, a1, a2, a3, a4, a5)) : wpX_sumAll post (0, 0, pl, a1, a2, a3, a4, a5) := by
  unfold wpX_sumAll
  exact ad_on0 (br_t rfl (br_t rfl h))

theorem ad_all01 {post : Int32 → St2 → Prop} (hz : ¬ z = 0) (h : post 0 (0, z, pl, a1, a2, a3, a4, a5)) : wpX_sumAll post (0, z, pl, a1, a2, a3, a4, a5) := by
  unfold wpX_sumAll
  exact ad_on0 (br_t rfl (br_f hz h))

theorem ad_tot {post : Int32 → St2 → Prop} (h : wpX_sumAll post (c, z, 0, a1, a2, a3, a4, a5)) : wpX_total post (c, z, pl, a1, a2, a3, a4, a5) := by
  unfold wpX_total
  exact h

theorem ad_pat {post : Int32 → St2 → Prop} (h : wpX_sumAll post (c, z, 1, a1, a2, a3, a4, a5)) : wpX_paths post (c, z, pl, a1, a2, a3, a4, a5) := by
  unfold wpX_paths
  exact h

theorem ad_fs {post : Int32 → Prop} (h : post (a1 0 + a1 1 + a1 2 + a1 3)) : wpX_frameSum post (c, z, pl, a1, a2, a3, a4, a5) 0 := by
  unfold wpX_frameSum
  refine ⟨5, br_f (by decide) ⟨pk_in 0 24 (by decide), nm_r (ad_a0 a1 0) (nm_r (e' := 1) (by decide) ?_)⟩⟩
  refine br_f (by decide) ⟨pk_in 1 24 (by decide), nm_r (ad_ad a1 (a1 0) 1) (nm_r (e' := 2) (by decide) ?_)⟩
  refine br_f (by decide) ⟨pk_in 2 24 (by decide), nm_r (ad_ad a1 (a1 0 + a1 1) 2) (nm_r (e' := 3) (by decide) ?_)⟩
  refine br_f (by decide) ⟨pk_in 3 24 (by decide), nm_r (ad_ad a1 (a1 0 + a1 1 + a1 2) 3) (nm_r (e' := 4) (by decide) ?_)⟩
  exact br_t (by decide) h

theorem ad_ev1 {post : Int32 → Prop} (h : post (a1 0 + a1 1 + a1 2 + a1 3)) : wpX_everything post (1, z, pl, a1, a2, a3, a4, a5) := by
  unfold wpX_everything
  exact ⟨2, br_f (by decide) (ad_fs (nm_r (Int32.one_mul _) (nm_e (br_t (by decide) h))))⟩

theorem ad_ev0 {post : Int32 → Prop} (h : post 1) : wpX_everything post (0, z, pl, a1, a2, a3, a4, a5) := by
  unfold wpX_everything
  exact ⟨1, br_t (by decide) h⟩
end
end
section
section
variable {c z pl : Int32} {a1 a2 a3 a4 a5 : Nat → Int32}

/-! prefix -/
theorem ad_pre0 {post : Int32 → St2 → Prop} (h : wpX_everything (fun r => post r (c, 0, pl, a1, a2, a3, a4, a5)) (c, 0, pl, a1, a2, a3, a4, a5)) : wpX_prefix post (c, 0, pl, a1, a2, a3, a4, a5) := by
  unfold wpX_prefix
  exact br_t rfl h

theorem ad_pre01 {post : Int32 → St2 → Prop} (h : post 0 (0, 1, 0, a1, a2, a3, a4, a5)) : wpX_prefix post (0, 1, pl, a1, a2, a3, a4, a5) := by
  unfold wpX_prefix
  refine br_f (by decide) (ad_on0 (nm_r (e' := 1) (by decide) (ad_mark 1 _ rfl ?_)))
  exact ⟨1, br_t (by decide) h⟩

theorem ad_pre11 {post : Int32 → St2 → Prop} (m : Nat) (hm : m < 4) (h2 : a2 0 = nI m) (h : ∀ a, post (a1 m) (1, 1, 0, a1, a2, a, a4, a5)) : wpX_prefix post (1, 1, pl, a1, a2, a3, a4, a5) := by
  unfold wpX_prefix
  refine br_f (by decide) (ad_on 1 (by omega) (ad_l1 hm h2) (fun a ha => nm_r (e' := 1) (by decide) (ad_mark 1 (nI m) h2 ?_)))
  refine ⟨2, br_f (by decide) (br_t rfl (br_t rfl (nm_r (e' := -1) (by decide) ⟨3, ?_⟩)))⟩
  refine br_f (by decide) (br_t (by decide) (br_t rfl (nm_r (e' := 1) (by decide) (nm_r (e' := 0) (by decide) ?_))))
  refine br_f (by decide) (br_t (by decide) (br_t rfl (nm_r (e' := 1) (by decide) (nm_r (e' := 1) (by decide) ?_))))
  refine br_t (by decide) (ad_weight m (nm_r (Int32.one_mul _) (nm_r (e' := 1) (by decide) ⟨1, br_t (by decide) (nm_r (Int32.zero_add _) (nm_r (e' := 1) (by decide) ?_))⟩)))
  exact br_t (by decide) (h a)

/-! carryBack -/
theorem ad_bk_t {post : St2 → Prop} {J7 : Int32 → (Nat → Int32) → (Nat → Int32) → (Nat → Int32) → (Nat → Int32) → (Nat → Int32) → Prop} {n : Nat} {x : Int32} (s : Nat) (hs : s < 54) (h1 : ¬ 2 * z < x) (h2 : ¬ x < 2 * z - 1) (hx : x = nI s)
    (h : wX_carryBack_13 post J7 0 1 z pl n (nI (s + 1)) a1 a2 a3 (upd a4 s 1) (upd a5 s 1)) : wX_carryBack_13 post J7 0 1 z pl (n + 1) x a1 a2 a3 a4 a5 := by
  subst hx
  refine br_f h1 (br_t (by decide) (br_f h2 (br_f (by decide) (br_t (by decide) (br_f h2 (br_f (by decide) ⟨1, br_t (by decide) ?_⟩))))))
  exact ⟨pk_in s 54 hs (ad_9x _), nm_r (by rw [ad_9x, nI_clamp (by omega)]) ⟨pk_in s 54 hs (ad_9x _), nm_r (by rw [ad_9x, nI_clamp (by omega)]) (nm_r (nI_1 s) h)⟩⟩

theorem ad_bk_f {post : St2 → Prop} {J7 : Int32 → (Nat → Int32) → (Nat → Int32) → (Nat → Int32) → (Nat → Int32) → (Nat → Int32) → Prop} {n : Nat} {x : Int32} (s : Nat) (hs : s < 54) (h1 : ¬ 2 * z < x) (h2 : x < 2 * z - 1) (hx : x = nI s)
    (h : wX_carryBack_13 post J7 0 1 z pl n (nI (s + 1)) a1 a2 a3 (upd a4 s 0) (upd a5 s (-1))) : wX_carryBack_13 post J7 0 1 z pl (n + 1) x a1 a2 a3 a4 a5 := by
  subst hx
  refine br_f h1 (br_t (by decide) (br_t h2 (br_t rfl (br_t (by decide) (br_t h2 (br_t rfl ⟨1, br_t (by decide) ?_⟩))))))
  exact ⟨pk_in s 54 hs (ad_9x _), nm_r (by rw [ad_9x, nI_clamp (by omega)]) ⟨pk_in s 54 hs (ad_9x _), nm_r (by rw [ad_9x, nI_clamp (by omega)]) (nm_r (nI_1 s) h)⟩⟩

theorem ad_bk0 {post : St2 → Prop} (H : ∀ b4 b5 : Nat → Int32, b4 0 = 1 → b5 0 = 1 → post (1, 0, pl, a1, a2, a3, b4, b5)) : wpX_carryBack post (1, 0, pl, a1, a2, a3, a4, a5) := by
  unfold wpX_carryBack
  refine nm_r (e' := 0) (by decide) ⟨2, br_f (by decide) ⟨2, ad_bk_t 0 (by decide) (by decide) (by decide) rfl ?_⟩⟩
  exact br_t (by decide) (nm_r (e' := -1) (by decide) (br_t (by decide) (H _ _ pk_us pk_us)))

theorem ad_bk1 {post : St2 → Prop} (H : ∀ b4 b5 : Nat → Int32, b4 0 = 0 → b4 1 = 1 → b4 2 = 1 → b5 0 = -1 → b5 1 = 1 → b5 2 = 1 → post (1, 1, pl, a1, a2, a3, b4, b5)) : wpX_carryBack post (1, 1, pl, a1, a2, a3, a4, a5) := by
  unfold wpX_carryBack
  refine nm_r (e' := 0) (by decide) ⟨2, br_f (by decide) ⟨4, ad_bk_f 0 (by decide) (by decide) (by decide) rfl ?_⟩⟩
  refine ad_bk_t 1 (by decide) (by decide) (by decide) rfl ?_
  refine ad_bk_t 2 (by decide) (by decide) (by decide) rfl ?_
  refine br_t (by decide) (nm_r (e' := -1) (by decide) (br_t (by decide) (H _ _ rfl rfl rfl rfl rfl rfl)))

/-! greatest and best -/
theorem ad_bf {post : Int32 → Prop} (s m : Nat) (hs : s < 8) (hm : m < 4) (h2 : ad_m a2 s = nI m) (h : (0 ≤ a5 s → post (a5 s * ad_w pl a1 m)) ∧ (¬ 0 ≤ a5 s → post (-1))) : wpX_bestFrom post (c, z, pl, a1, a2, a3, a4, a5) (nI s) := by
  unfold wpX_bestFrom
  dsimp only
  rw [nI_clamp (show s < 2 ^ 31 by omega)]
  exact ad_mark s (nI m) h2 ⟨pk_in s 54 (by omega), br_c (fun q => ⟨pk_in s 54 (by omega), ad_weight m (h.1 q)⟩) (fun q => h.2 q)⟩

theorem ad_gr0 {post : Int32 → St2 → Prop} (d : Nat) (hd : d < 10) (h1 : a1 0 = nI d) (H : ∀ b4 b5 : Nat → Int32, b5 0 = 1 → post (nI d) (1, 0, 0, a1, a2, a3, b4, b5)) : wpX_greatest post (1, 0, pl, a1, a2, a3, a4, a5) := by
  unfold wpX_greatest
  refine br_f (by decide) (ad_bk0 (fun b4 b5 hb4 hb5 => ?_))
  refine ad_bf 0 0 (by omega) (by omega) rfl (br_t (by rw [hb5]; decide) ?_)
  rw [show b5 0 * ad_w 0 a1 0 = nI d from by rw [hb5, Int32.one_mul]; exact h1]
  refine br_t (by decide) (br_t ?_ (H b4 b5 hb5))
  exact Int32.le_iff_toInt_le.mpr (by rw [nI_toInt (by omega)]; show (-1 : Int) ≤ d; omega)

theorem ad_gr1 {post : Int32 → St2 → Prop} (m d : Nat) (hm : m < 4) (h2 : a2 0 = nI m) (hd : d < 10) (h1 : a1 m = nI d) (H : ∀ b4 b5 : Nat → Int32, b5 0 = -1 → b5 1 = 1 → b5 2 = 1 → post (nI d) (1, 1, 0, a1, a2, a3, b4, b5)) : wpX_greatest post (1, 1, pl, a1, a2, a3, a4, a5) := by
  unfold wpX_greatest
  refine br_f (by decide) (ad_bk1 (fun b4 b5 _ _ _ hb0 hb1 hb2 => ?_))
  refine ad_bf 0 0 (by omega) (by omega) rfl (br_f (by rw [hb0]; decide) (br_f (by decide) ?_))
  refine ad_bf 1 m (by omega) hm h2 (br_t (by rw [hb1]; decide) ?_)
  rw [show b5 1 * ad_w 0 a1 m = nI d from by rw [hb1, Int32.one_mul]; exact h1]
  refine br_f ?_ (H b4 b5 hb0 hb1 hb2)
  intro q
  have q' := Int32.le_iff_toInt_le.mp q
  rw [nI_toInt (by omega)] at q'
  have q2 : (d : Int) ≤ -1 := q'
  omega

theorem ad_be0 {post : Int32 → St2 → Prop} (d : Nat) (hd : d < 10) (h1 : a1 0 = nI d) (H : ∀ b4 b5 : Nat → Int32, b5 0 = 1 → post (nI d) (1, 0, 0, a1, a2, a3, b4, b5)) : wpX_best post (1, 0, pl, a1, a2, a3, a4, a5) := by
  unfold wpX_best
  exact ad_gr0 d hd h1 (fun b4 b5 hb => br_t (nI_pos' (by omega)) (H b4 b5 hb))

theorem ad_be1 {post : Int32 → St2 → Prop} (m d : Nat) (hm : m < 4) (h2 : a2 0 = nI m) (hd : d < 10) (h1 : a1 m = nI d) (H : ∀ b4 b5 : Nat → Int32, post (nI d) (1, 1, 0, a1, a2, a3, b4, b5)) : wpX_best post (1, 1, pl, a1, a2, a3, a4, a5) := by
  unfold wpX_best
  exact ad_gr1 m d hm h2 hd h1 (fun b4 b5 _ _ _ => br_t (nI_pos' (by omega)) (H b4 b5))

theorem ad_be00 {post : Int32 → St2 → Prop} (h : post 1 (0, 0, 0, a1, a2, a3, a4, a5)) : wpX_best post (0, 0, pl, a1, a2, a3, a4, a5) := by
  unfold wpX_best
  unfold wpX_greatest
  exact br_t rfl (br_t rfl (br_t (by decide) h))

theorem ad_be01 {post : Int32 → St2 → Prop} (h : post 0 (0, 1, 0, a1, a2, a3, a4, a5)) : wpX_best post (0, 1, pl, a1, a2, a3, a4, a5) := by
  unfold wpX_best
  unfold wpX_greatest
  exact br_t rfl (br_f (by decide) (br_f (by decide) h))

/-! write, rub, bestNext -/
theorem ad_write {post : Int32 → St2 → Prop} (y m : Nat) (hy : y ≤ 3) (h1 : 1 ≤ m) (h3 : m ≤ 3) (h : post (nI (y + 1)) (c, nI (y + 1), pl, a1, upd a2 y (nI m), a3, a4, a5)) : wpX_write post (c, nI y, pl, a1, a2, a3, a4, a5) (nI m) := by
  unfold wpX_write
  exact pk_lt m 1 (fun q => absurd q (by omega)) (fun _ => pk_le m 3 (fun _ => pk_lt y 4 (fun _ => ⟨pk_in y 4 (by omega), nm_r (by rw [nI_clamp (by omega), ad_byte m (by omega)]) (nm_r (nI_1 y) h)⟩) (fun q => absurd q (by omega))) (fun q => absurd q (by omega)))

theorem ad_rub {post : Int32 → St2 → Prop} (y : Nat) (hy : y ≤ 3) (h : post (a2 y) (c, nI y, pl, a1, a2, a3, a4, a5)) : wpX_rub post (c, nI (y + 1), pl, a1, a2, a3, a4, a5) := by
  unfold wpX_rub
  exact br_f (nI_ne0 (by omega) (by omega)) (nm_r (nI_pred y) ⟨pk_in y 4 (by omega), by rw [nI_clamp (by omega)]; exact h⟩)

theorem ad_bn {post : Int32 → St2 → Prop} {x1 x2 v : Int32} {n : Nat} (y i : Nat) (hy : y ≤ 2) (h1 : 1 ≤ i) (hi : i ≤ 3)
    (ht : ∀ p : Int32 → St2 → Prop, (∀ a, p v (c, nI (y + 1), 0, a1, upd a2 y (nI i), a, a4, a5)) → wpX_total p (c, nI (y + 1), pl, a1, upd a2 y (nI i), a3, a4, a5))
    (H : ∀ a, (v ≤ x2 → wX_bestNext_6 post n x1 x2 (nI (i + 1)) c (nI y) 0 a1 (upd a2 y (nI i)) a a4 a5) ∧ (¬ v ≤ x2 → wX_bestNext_6 post n (nI i) v (nI (i + 1)) c (nI y) 0 a1 (upd a2 y (nI i)) a a4 a5)) :
    wX_bestNext_6 post (n + 1) x1 x2 (nI i) c (nI y) pl a1 a2 a3 a4 a5 := by
  refine pk_le 4 i (fun q => absurd q (by omega)) (fun _ => pk_le 4 y (fun q => absurd q (by omega)) (fun _ => ?_))
  refine ad_write y i (by omega) h1 hi ?_
  refine ht _ (fun a => ?_)
  refine ad_rub y (by omega) ?_
  exact ⟨fun q => nm_r (nI_1 i) ((H a).1 q), fun q => nm_r (nI_1 i) ((H a).2 q)⟩

/-- a frame, no mark written: the step -/
theorem ad_bnF {post : Int32 → St2 → Prop} {n : Nat} (i d b e : Nat) (h1 : 1 ≤ i) (hi : i ≤ 3) (hd : d < 10) (he : e < 10) (ha : a1 i = nI d)
    (H1 : d ≤ e → ∀ a b2, wX_bestNext_6 post n (nI b) (nI e) (nI (i + 1)) 1 0 0 a1 b2 a a4 a5) (H2 : e < d → ∀ a b2, wX_bestNext_6 post n (nI i) (nI d) (nI (i + 1)) 1 0 0 a1 b2 a a4 a5) :
    wX_bestNext_6 post (n + 1) (nI b) (nI e) (nI i) 1 0 pl a1 a2 a3 a4 a5 := by
  refine ad_bn (v := nI d) 0 i (by omega) h1 hi (fun p hp => ?_) (fun a => pk_le d e (fun q => H1 q a _) (fun q => H2 q a _))
  refine ad_tot (ad_all1 i (by omega) pk_us (fun a => ?_))
  rw [show ad_w 0 a1 i = nI d from ha]
  exact hp a

/-- the total stays 0: the step -/
theorem ad_bnZ {post : Int32 → St2 → Prop} {n : Nat} (y i : Nat) (hy : y ≤ 2) (h1 : 1 ≤ i) (hi : i ≤ 3)
    (ht : ∀ p : Int32 → St2 → Prop, (∀ a, p 0 (c, nI (y + 1), 0, a1, upd a2 y (nI i), a, a4, a5)) → wpX_total p (c, nI (y + 1), pl, a1, upd a2 y (nI i), a3, a4, a5))
    (H : ∀ a, wX_bestNext_6 post n 0 0 (nI (i + 1)) c (nI y) 0 a1 (upd a2 y (nI i)) a a4 a5) :
    wX_bestNext_6 post (n + 1) 0 0 (nI i) c (nI y) pl a1 a2 a3 a4 a5 :=
  ad_bn (v := 0) y i hy h1 hi ht (fun a => br_t (by decide) (H a))

theorem ad_nx0 {post : Int32 → St2 → Prop} (d1 d2 d3 : Nat) (h1 : d1 < 10) (h2 : d2 < 10) (h3 : d3 < 10) (e1 : a1 1 = nI d1) (e2 : a1 2 = nI d2) (e3 : a1 3 = nI d3)
    (H : ∀ b2 a, post (nI (ad_nx d1 d2 d3)) (1, 0, 0, a1, b2, a, a4, a5)) : wpX_bestNext post (1, 0, pl, a1, a2, a3, a4, a5) := by
  have F : ∀ (b e : Nat) (b2 a : Nat → Int32), b = ad_nx d1 d2 d3 → wX_bestNext_6 post 1 (nI b) (nI e) (nI 4) 1 0 0 a1 b2 a a4 a5 := by
    intro b e b2 a hb
    rw [hb]
    exact br_t (by decide) (H b2 a)
  unfold wpX_bestNext
  refine ⟨4, ad_bnF 1 d1 0 0 (by omega) (by omega) h1 (by omega) e1 (fun q1 a b2 => ?_) (fun q1 a b2 => ?_)⟩
  · refine ad_bnF 2 d2 0 0 (by omega) (by omega) h2 (by omega) e2 (fun q2 a b2 => ?_) (fun q2 a b2 => ?_)
    · refine ad_bnF 3 d3 0 0 (by omega) (by omega) h3 (by omega) e3 (fun q3 a b2 => F _ _ _ _ ?_) (fun q3 a b2 => F _ _ _ _ ?_)
      · unfold ad_nx
        rw [if_pos (by omega)]
      · unfold ad_nx
        rw [if_neg (by omega), if_neg (by omega), if_neg (by omega)]
    · refine ad_bnF 3 d3 2 d2 (by omega) (by omega) h3 (by omega) e3 (fun q3 a b2 => F _ _ _ _ ?_) (fun q3 a b2 => F _ _ _ _ ?_)
      · unfold ad_nx
        rw [if_neg (by omega), if_neg (by omega), if_pos (by omega)]
      · unfold ad_nx
        rw [if_neg (by omega), if_neg (by omega), if_neg (by omega)]
  · refine ad_bnF 2 d2 1 d1 (by omega) (by omega) h2 (by omega) e2 (fun q2 a b2 => ?_) (fun q2 a b2 => ?_)
    · refine ad_bnF 3 d3 1 d1 (by omega) (by omega) h3 (by omega) e3 (fun q3 a b2 => F _ _ _ _ ?_) (fun q3 a b2 => F _ _ _ _ ?_)
      · unfold ad_nx
        rw [if_neg (by omega), if_pos (by omega)]
      · unfold ad_nx
        rw [if_neg (by omega), if_neg (by omega), if_neg (by omega)]
    · refine ad_bnF 3 d3 2 d2 (by omega) (by omega) h3 (by omega) e3 (fun q3 a b2 => F _ _ _ _ ?_) (fun q3 a b2 => F _ _ _ _ ?_)
      · unfold ad_nx
        rw [if_neg (by omega), if_neg (by omega), if_pos (by omega)]
      · unfold ad_nx
        rw [if_neg (by omega), if_neg (by omega), if_neg (by omega)]

theorem ad_nx1 {post : Int32 → St2 → Prop} (m : Nat) (hm : m < 4) (h2 : a2 0 = nI m) (H : ∀ b2 a, b2 0 = nI m → post 0 (1, 1, 0, a1, b2, a, a4, a5)) : wpX_bestNext post (1, 1, pl, a1, a2, a3, a4, a5) := by
  have T : ∀ (i : Nat) (b2 b3 : Nat → Int32) (q : Int32) (p : Int32 → St2 → Prop), i ≤ 3 → b2 0 = nI m → (∀ a, p 0 (1, nI (1 + 1), 0, a1, upd b2 1 (nI i), a, a4, a5)) → wpX_total p (1, nI (1 + 1), q, a1, upd b2 1 (nI i), b3, a4, a5) := by
    intro i b2 b3 q p hi hb hp
    exact ad_tot (ad_all2 m i hm hb (by omega) pk_us hp)
  unfold wpX_bestNext
  refine ⟨4, ad_bnZ 1 1 (by omega) (by omega) (by omega) (fun p hp => T 1 _ _ _ p (by omega) h2 hp) (fun a => ?_)⟩
  refine ad_bnZ 1 2 (by omega) (by omega) (by omega) (fun p hp => T 2 _ _ _ p (by omega) h2 hp) (fun a => ?_)
  refine ad_bnZ 1 3 (by omega) (by omega) (by omega) (fun p hp => T 3 _ _ _ p (by omega) h2 hp) (fun a => ?_)
  exact br_t (by decide) (H _ a h2)

theorem ad_nx00 {post : Int32 → St2 → Prop} (y : Nat) (hy : y ≤ 2) (H : ∀ b2 a, post 0 (0, nI y, 0, a1, b2, a, a4, a5)) : wpX_bestNext post (0, nI y, pl, a1, a2, a3, a4, a5) := by
  have T : ∀ (b2 b3 : Nat → Int32) (q : Int32) (p : Int32 → St2 → Prop), (∀ a, p 0 (0, nI (y + 1), 0, a1, b2, a, a4, a5)) → wpX_total p (0, nI (y + 1), q, a1, b2, b3, a4, a5) := by
    intro b2 b3 q p hp
    exact ad_tot (ad_all01 (nI_ne0 (by omega) (by omega)) (hp _))
  unfold wpX_bestNext
  refine ⟨4, ad_bnZ y 1 hy (by omega) (by omega) (fun p hp => T _ _ _ p hp) (fun a => ?_)⟩
  refine ad_bnZ y 2 hy (by omega) (by omega) (fun p hp => T _ _ _ p hp) (fun a => ?_)
  refine ad_bnZ y 3 hy (by omega) (by omega) (fun p hp => T _ _ _ p hp) (fun a => ?_)
  exact br_t (by decide) (H _ a)

/-! through -/
theorem ad_ths {post : Int32 → St2 → Prop} {k x3 : Int32} {n : Nat} (v : Int32) (s : Nat) (hs : s < 8) (hz : ¬ 2 * z < nI s) (h : (ad_m a2 s = k → x3 + a3 s * a4 s = v) ∧ (¬ ad_m a2 s = k → x3 = v))
    (H : wX_through_35 post 0 k c z pl a1 a2 a3 a4 a5 n v (nI (s + 1))) : wX_through_35 post 0 k c z pl a1 a2 a3 a4 a5 (n + 1) x3 (nI s) := by
  refine br_f hz (ad_mark s _ rfl (br_c (fun q => ?_) (fun q => ?_)))
  · refine ⟨pk_in s 54 (by omega) (ad_9x _), pk_in s 54 (by omega) (ad_9x _), nm_r ?_ (nm_r (nI_1 s) H)⟩
    rw [ad_9x, nI_clamp (by omega)]
    exact h.1 q
  · exact nm_r (by rw [Int32.add_zero]; exact h.2 q) (nm_r (nI_1 s) H)

theorem ad_thN {post : Int32 → St2 → Prop} {k : Int32} (h : post (-1) (0, z, pl, a1, a2, a3, a4, a5)) : wpX_through post (0, z, pl, a1, a2, a3, a4, a5) 0 k := by
  unfold wpX_through
  unfold wpX_isFrame
  exact br_f (by decide) (br_t (by decide) (br_t rfl h))

theorem ad_thK {post : Int32 → St2 → Prop} {k y v : Int32}
    (h0 : ∀ q b3 b4 b5, post (ad_th k y v) (1, z, q, a1, a2, b3, b4, b5))
    (H : (ad_th k y v = if y = k then v else 0) → wpX_carryOn (fun u => match u with | (q1, q2, q3, b1, b2, b3, b4, b5) => (wpX_carryBack (fun u => match u with | (r1, r2, r3, c1, c2, c3, c4, c5) => (∃ n : Nat, wX_through_35 post 0 k r1 r2 r3 c1 c2 c3 c4 c5 n 0 0)) (q1, q2, q3, b1, b2, b3, b4, b5))) (1, z, 0, a1, a2, a3, a4, a5)) :
    wpX_through post (1, z, pl, a1, a2, a3, a4, a5) 0 k := by
  unfold wpX_through
  unfold wpX_isFrame
  refine br_f (by decide) (br_f (by decide) (br_f (by decide) ?_))
  unfold wpX_isMark
  refine br_c (fun q => br_t rfl ?_) (fun q => br_c (fun q4 => br_t rfl ?_) (fun q4 => br_f (by decide) ?_))
  · have t := h0 pl a3 a4 a5
    rw [show ad_th k y v = -1 from if_pos q] at t
    exact t
  · have t := h0 pl a3 a4 a5
    rw [show ad_th k y v = -1 from by unfold ad_th; rw [if_neg q, if_pos q4]] at t
    exact t
  · exact H (by unfold ad_th; rw [if_neg q, if_neg q4])

theorem ad_th0 {post : Int32 → St2 → Prop} {k : Int32} (h0 : ∀ q b3 b4 b5, post (ad_th k 0 (a1 0)) (1, 0, q, a1, a2, b3, b4, b5)) : wpX_through post (1, 0, pl, a1, a2, a3, a4, a5) 0 k := by
  refine ad_thK (y := 0) (v := a1 0) h0 (fun e => ?_)
  refine ad_on 0 (by omega) ad_l0 (fun a ha => ?_)
  refine ad_bk0 (fun b4 b5 hb4 hb5 => ?_)
  have hs : a 0 * b4 0 = a1 0 := by
    rw [ha 0 (by omega), hb4, Int32.mul_one, ad_m_e rfl, show ad_u 0 = 1 from rfl, Int32.one_mul]
    rfl
  refine ⟨2, ad_ths (ad_th k 0 (a1 0)) 0 (by omega) (by decide) ⟨fun q => ?_, fun q => ?_⟩ ?_⟩
  · rw [e, if_pos (show (0 : Int32) = k from q), hs, Int32.zero_add]
  · rw [e, if_neg (show ¬ (0 : Int32) = k from q)]
  · exact br_t (by decide) (h0 _ _ _ _)

theorem ad_th1 {post : Int32 → St2 → Prop} {k : Int32} (m : Nat) (hm : m < 4) (h2 : a2 0 = nI m) (h0 : ∀ q b3 b4 b5, post (ad_th k (nI m) (a1 m)) (1, 1, q, a1, a2, b3, b4, b5)) : wpX_through post (1, 1, pl, a1, a2, a3, a4, a5) 0 k := by
  refine ad_thK (y := nI m) (v := a1 m) h0 (fun e => ?_)
  refine ad_on 1 (by omega) (ad_l1 hm h2) (fun a ha => ?_)
  refine ad_bk1 (fun b4 b5 hb0 hb1 hb2 _ _ _ => ?_)
  have hm1 : ad_m a2 1 = nI m := h2
  have s0 : a 0 * b4 0 = 0 := by rw [hb0, Int32.mul_zero]
  have s1 : a 1 * b4 1 = a1 m := by
    rw [ha 1 (by omega), hb1, Int32.mul_one, show ad_m a2 1 = nI m from h2, nI_clamp (by omega), show ad_u 1 = 1 from rfl, Int32.one_mul]
    rfl
  have s2 : a 2 * b4 2 = 0 := by rw [ha 2 (by omega), show ad_u 2 = 0 from rfl, Int32.zero_mul, Int32.zero_mul]
  refine ⟨4, ad_ths 0 0 (by omega) (by decide) ⟨fun q => ?_, fun q => rfl⟩ ?_⟩
  · rw [s0, Int32.zero_add]
  refine ad_ths (ad_th k (nI m) (a1 m)) 1 (by omega) (by decide) ⟨fun q => ?_, fun q => ?_⟩ ?_
  · rw [e, if_pos (show nI m = k from by rw [← hm1]; exact q), s1, Int32.zero_add]
  · rw [e, if_neg (show ¬ nI m = k from by rw [← hm1]; exact q)]
  refine ad_ths (ad_th k (nI m) (a1 m)) 2 (by omega) (by decide) ⟨fun q => ?_, fun q => rfl⟩ ?_
  · rw [s2, Int32.add_zero]
  exact br_t (by decide) (h0 _ _ _ _)

/-! bestAt -/
theorem ad_baN {post : Int32 → St2 → Prop} (h : post (-1) (0, z, pl, a1, a2, a3, a4, a5)) : wpX_bestAt post (0, z, pl, a1, a2, a3, a4, a5) 0 := by
  unfold wpX_bestAt
  unfold wpX_isFrame
  exact br_f (by decide) (br_t (by decide) (br_t rfl h))

theorem ad_ba0 {post : Int32 → St2 → Prop} (d : Nat) (hd : d < 10) (h1 : a1 0 = nI d) (H : ∀ b4 b5 : Nat → Int32, post 0 (1, 0, 0, a1, a2, a3, b4, b5)) : wpX_bestAt post (1, 0, pl, a1, a2, a3, a4, a5) 0 := by
  unfold wpX_bestAt
  unfold wpX_isFrame
  refine br_f (by decide) (br_f (by decide) (br_f (by decide) ?_))
  refine ad_gr0 d hd h1 (fun b4 b5 hb => br_t (nI_pos' (by omega)) ⟨2, br_f (by decide) ⟨2, ?_⟩⟩)
  have ew : ad_w 0 a1 0 = nI d := h1
  have eb : b5 ((0 : Int32) * 9 + 0).toNatClampNeg = 1 := by
    rw [show ((0 : Int32) * 9 + 0).toNatClampNeg = 0 from by decide, hb]
  refine br_f (by decide) (br_f (by decide) (br_f (by decide) (ad_mark 0 0 rfl ⟨pk_in 0 54 (by decide), nm_r eb (br_f (by decide) (br_f (by decide) (ad_weight 0 (br_t ?_ (br_f (by decide) (br_t (by decide) (nm_r (e' := 1) (by decide) ?_)))))))⟩)))
  · rw [ew, Int32.one_mul, Int32.mul_one]
  · refine br_t (by decide) (ad_mark 0 0 rfl (ad_weight 0 (nm_e (nm_r (e' := 1) (by decide) (br_t (by decide) (ad_mark 0 0 rfl (H b4 b5)))))))

theorem ad_ba1 {post : Int32 → St2 → Prop} (m d : Nat) (hm : m < 4) (h2 : a2 0 = nI m) (hd : d < 10) (h1 : a1 m = nI d) (H : ∀ b4 b5 : Nat → Int32, post (nI m) (1, 1, 0, a1, a2, a3, b4, b5)) : wpX_bestAt post (1, 1, pl, a1, a2, a3, a4, a5) 0 := by
  unfold wpX_bestAt
  unfold wpX_isFrame
  refine br_f (by decide) (br_f (by decide) (br_f (by decide) ?_))
  refine ad_gr1 m d hm h2 hd h1 (fun b4 b5 hb0 hb1 hb2 => br_t (nI_pos' (by omega)) ⟨2, br_f (by decide) ⟨4, ?_⟩⟩)
  have ew : ad_w 0 a1 m = nI d := h1
  have eb0 : b5 ((0 : Int32) * 9 + 0).toNatClampNeg = -1 := by
    rw [show ((0 : Int32) * 9 + 0).toNatClampNeg = 0 from by decide, hb0]
  have eb1 : b5 ((0 : Int32) * 9 + 1).toNatClampNeg = 1 := by
    rw [show ((0 : Int32) * 9 + 1).toNatClampNeg = 1 from by decide, hb1]
  refine br_f (by decide) (br_f (by decide) (br_f (by decide) (ad_mark 0 0 rfl ⟨pk_in 0 54 (by decide), nm_r eb0 (br_f (by decide) (br_t (by decide) (br_t rfl (nm_r (e' := 1) (by decide) ?_))))⟩)))
  refine br_f (by decide) (br_f (by decide) (br_f (by decide) (ad_mark 1 (nI m) h2 ⟨pk_in 1 54 (by decide), nm_r eb1 (br_f (by decide) (br_f (by decide) (ad_weight m (br_t ?_ (br_f (by decide) (br_t (by decide) (nm_r (e' := 2) (by decide) ?_)))))))⟩)))
  · rw [ew, Int32.one_mul, Int32.mul_one]
  refine br_f (by decide) (br_f (by decide) (br_t (by decide) (ad_mark 2 0 rfl ⟨pk_in 2 54 (by decide), nm_e (br_t rfl (br_t rfl (nm_r (e' := 3) (by decide) ?_)))⟩)))
  exact br_t (by decide) (ad_mark 1 (nI m) h2 (ad_weight m (nm_e (nm_r (e' := 1) (by decide) (br_t (by decide) (ad_mark 1 (nI m) h2 (H b4 b5)))))))
end
end
section
/-! frame -/
section
variable {c z pl : Int32} {a1 a2 a3 a4 a5 : Nat → Int32} {post : Int32 → St2 → Prop}

theorem ad_rem (w : Nat) (hw : w < 10000) : nI w - nI w / 10 * 10 = nI (w % 10) := pk_rem (d := 10) (by omega) (by omega) (by omega)
theorem ad_div (w : Nat) (hw : w < 10000) : nI w / 10 = nI (w / 10) := pk_div (d := 10) (by omega) (by omega) (by omega)
theorem ad_div2 (w : Nat) (hw : w < 10000) : nI w / 100 = nI (w / 100) := pk_div (d := 100) (by omega) (by omega) (by omega)
theorem ad_div3 (w : Nat) (hw : w < 10000) : nI w / 1000 = nI (w / 1000) := pk_div (d := 1000) (by omega) (by omega) (by omega)
theorem ad_dd (w : Nat) : w / 10 / 10 = w / 100 := Nat.div_div_eq_div_mul w 10 10

theorem ad_f17 {x1 : Int32} {n : Nat} (w i : Nat) (hw : w < 10000) (hi : i < 4) (hb : w % 10 = 9 → post (-1) (c, z, pl, a1, a2, a3, a4, a5)) (ho : w % 10 ≠ 9 → wX_frame_17 post x1 c z pl a1 a2 a3 a4 a5 n (nI (w / 10)) (nI (i + 1))) :
    wX_frame_17 post x1 c z pl a1 a2 a3 a4 a5 (n + 1) (nI w) (nI i) :=
  pk_le 4 i (fun q => absurd q (by omega)) (fun _ => ⟨by decide, pk_eq (w % 10) 9 (fun q => hb q) (fun q => ⟨by decide, nm_r (ad_div w hw) (nm_r (nI_1 i) (ho q))⟩) (ad_rem w hw)⟩)

theorem ad_f60 {n : Nat} (w i : Nat) (hw : w < 10000) (hi : i < 4) (h : wX_frame_60 post 0 z pl n (nI (w / 10)) (nI (i + 1)) (upd a1 i (nI (w % 10))) a2 a3 a4 a5) :
    wX_frame_60 post 0 z pl (n + 1) (nI w) (nI i) a1 a2 a3 a4 a5 :=
  pk_le 4 i (fun q => absurd q (by omega)) (fun _ => ⟨by decide, pk_in i 24 (by omega) (ad_0x _), nm_r (by rw [ad_0x, nI_clamp (by omega), ad_rem w hw, ad_byte _ (by omega)]) ⟨by decide, nm_r (ad_div w hw) (nm_r (nI_1 i) h)⟩⟩)

theorem ad_frN (w : Nat) (hw : w ≤ 8888) (hb : w % 10 = 9 ∨ w / 10 % 10 = 9 ∨ w / 100 % 10 = 9) (H : post (-1) (c, z, pl, a1, a2, a3, a4, a5)) : wpX_frame post (c, z, pl, a1, a2, a3, a4, a5) (nI w) := by
  unfold wpX_frame
  refine br_f (nI_pos (by omega)) (pk_le w 8888 (fun _ => ⟨5, ?_⟩) (fun q => absurd q (by omega)))
  refine ad_f17 w 0 (by omega) (by omega) (fun _ => H) (fun q0 => ad_f17 (w / 10) 1 (by omega) (by omega) (fun _ => H) (fun q1 => ad_f17 (w / 10 / 10) 2 (by omega) (by omega) (fun _ => H) (fun q2 => ?_)))
  rw [ad_dd] at q2
  rcases hb with hb | hb | hb
  · exact absurd hb q0
  · exact absurd hb q1
  · exact absurd hb q2

theorem ad_frY (w : Nat) (hw : w ≤ 8888) (h0 : w % 10 ≠ 9) (h1 : w / 10 % 10 ≠ 9) (h2 : w / 100 % 10 ≠ 9)
    (H : ∀ (r : Int32) (A : Nat → Int32), A 0 = nI (w % 10) → A 1 = nI (w / 10 % 10) → A 2 = nI (w / 100 % 10) → A 3 = nI (w / 1000) → post r (1, z, pl, A, a2, a3, a4, a5)) : wpX_frame post (0, z, pl, a1, a2, a3, a4, a5) (nI w) := by
  unfold wpX_frame
  refine br_f (nI_pos (by omega)) (pk_le w 8888 (fun _ => ⟨5, ?_⟩) (fun q => absurd q (by omega)))
  refine ad_f17 w 0 (by omega) (by omega) (fun q => absurd q h0) (fun _ => ad_f17 (w / 10) 1 (by omega) (by omega) (fun q => absurd q h1) (fun _ => ad_f17 (w / 10 / 10) 2 (by omega) (by omega) (fun q => absurd (ad_dd w ▸ q) h2) (fun _ => ad_f17 (w / 10 / 10 / 10) 3 (by omega) (by omega) (fun q => absurd q (by omega)) (fun _ => br_t (by decide) (br_t (by decide) ⟨5, ?_⟩)))))
  refine ad_f60 w 0 (by omega) (by omega) (ad_f60 (w / 10) 1 (by omega) (by omega) (ad_f60 (w / 10 / 10) 2 (by omega) (by omega) (ad_f60 (w / 10 / 10 / 10) 3 (by omega) (by omega) (br_t (by decide) (nm_r (e' := 1) (by decide) ?_)))))
  refine H _ _ rfl rfl ?_ ?_
  · exact congrArg nI (by rw [ad_dd])
  · exact congrArg nI (by omega)
end

/-! the law behind the calls -/
section
variable {post : Int32 → St0 → Prop} {mc ms kc ks : Nat} {x0 x1 x2 x4 x5 x11 x12 x13 x15 : Int32} {c z pl : Int32} {a1 a2 a3 a4 a5 : Nat → Int32}

theorem ad_375n0 (h : post 1 ()) : wL_lawOf_375 post mc ms x2 1 1 1 0 (-1) 1 (-1) kc ks 0 0 pl a1 a2 a3 a4 a5 := by
  unfold wL_lawOf_375
  refine ad_tot (ad_all00 (br_t rfl (ad_ev0 (br_t rfl (ad_pre0 (ad_ev0 (br_t rfl ?_)))))))
  refine ad_pat (ad_all00 (br_t rfl (ad_be00 (br_t rfl ?_))))
  refine ad_nx00 0 (by omega) (fun b2 a => br_t rfl ?_)
  exact ad_thN (br_t rfl (ad_baN (br_t rfl h)))

theorem ad_375n1 (h : post 1 ()) : wL_lawOf_375 post mc ms x2 0 1 0 0 (-1) 0 (-1) kc ks 0 1 pl a1 a2 a3 a4 a5 := by
  unfold wL_lawOf_375
  refine ad_tot (ad_all01 (by decide) (br_t rfl (ad_ev0 (br_t rfl (ad_pre01 (br_t rfl ?_))))))
  refine ad_pat (ad_all01 (by decide) (br_t rfl (ad_be01 (br_t rfl ?_))))
  refine ad_nx00 1 (by omega) (fun b2 a => br_t rfl ?_)
  exact ad_thN (br_t rfl (ad_baN (br_t rfl h)))

theorem ad_375f0 (d0 d1 d2 d3 : Nat) (h0 : d0 < 10) (h1 : d1 < 10) (h2 : d2 < 10) (h3 : d3 < 10) (e0 : a1 0 = nI d0) (e1 : a1 1 = nI d1) (e2 : a1 2 = nI d2) (e3 : a1 3 = nI d3) (h : post 1 ()) :
    wL_lawOf_375 post mc ms x2 (nI d0) (nI d0 + nI d1 + nI d2 + nI d3) (nI d0 + nI d1 + nI d2 + nI d3) (nI (ad_nx d1 d2 d3)) (ad_th x2 0 (nI d0)) 1 0 kc ks 1 0 pl a1 a2 a3 a4 a5 := by
  have es : a1 0 + a1 1 + a1 2 + a1 3 = nI d0 + nI d1 + nI d2 + nI d3 := by rw [e0, e1, e2, e3]
  unfold wL_lawOf_375
  refine ad_tot (ad_all0 (fun a => br_t e0 (ad_ev1 (br_t es (ad_pre0 (ad_ev1 (br_t es ?_)))))))
  refine ad_pat (ad_all0 (fun a => br_t rfl (ad_be0 d0 h0 e0 (fun b4 b5 _ => br_t rfl ?_))))
  refine ad_nx0 d1 d2 d3 h1 h2 h3 e1 e2 e3 (fun b2 a => br_t rfl ?_)
  refine ad_th0 (fun q b3 b4 b5 => br_t (by rw [e0]) ?_)
  exact ad_ba0 d0 h0 e0 (fun b4 b5 => br_t rfl h)

theorem ad_375f1 (m d d0 d1 d2 d3 : Nat) (hm : m < 4) (g2 : a2 0 = nI m) (hd : d < 10) (ed : a1 m = nI d) (e0 : a1 0 = nI d0) (e1 : a1 1 = nI d1) (e2 : a1 2 = nI d2) (e3 : a1 3 = nI d3) (h : post 1 ()) :
    wL_lawOf_375 post mc ms x2 (nI d) (nI d0 + nI d1 + nI d2 + nI d3) (nI d) 0 (ad_th x2 (nI m) (nI d)) 1 (nI m) kc ks 1 1 pl a1 a2 a3 a4 a5 := by
  have es : a1 0 + a1 1 + a1 2 + a1 3 = nI d0 + nI d1 + nI d2 + nI d3 := by rw [e0, e1, e2, e3]
  unfold wL_lawOf_375
  refine ad_tot (ad_all1 m hm g2 (fun a => br_t ed (ad_ev1 (br_t es (ad_pre11 m hm g2 (fun a => br_t ed ?_))))))
  refine ad_pat (ad_all1 m hm g2 (fun a => br_t rfl (ad_be1 m d hm g2 hd ed (fun b4 b5 => br_t rfl ?_))))
  refine ad_nx1 m hm g2 (fun b2 a gb => br_t rfl ?_)
  refine ad_th1 m hm gb (fun q b3 b4 b5 => br_t (by rw [ed]) ?_)
  exact ad_ba1 m d hm gb hd ed (fun b4 b5 => br_t rfl h)

theorem ad_313f (y : Int32) (h : wL_lawOf_375 post mc ms x2 x11 x12 x13 x15 (ad_th x2 y x11) 1 y kc ks c z pl a1 a2 a3 a4 a5) : wL_lawOf_313 post mc ms x2 1 x5 x11 x12 x13 x15 y kc ks c z pl a1 a2 a3 a4 a5 := by
  have F : ∀ v, v = ad_th x2 y x11 → wL_lawOf_345 post mc ms x2 1 x5 x11 x12 x13 x15 y v kc ks c z pl a1 a2 a3 a4 a5 := by
    intro v hv
    rw [hv]
    exact br_f (by decide) (br_f (by decide) h)
  refine br_f (by decide) (br_c (fun q => F (-1) (by unfold ad_th; rw [if_pos q])) (fun q => ?_))
  obtain ⟨j, hj, rfl⟩ := nI_of q
  refine pk_le j 3 (fun q3 => ?_) (fun q3 => F (-1) ?_)
  · have g4 : ¬ (4 : Int32) ≤ nI j := nI_ge (b := 4) (by omega) (by decide)
    exact br_c (fun qe => F x11 (by unfold ad_th; rw [if_neg q, if_neg g4, if_pos qe.symm])) (fun qe => F 0 (by unfold ad_th; rw [if_neg q, if_neg g4, if_neg (fun t => qe t.symm)]))
  · have g4 : (4 : Int32) ≤ nI j := nI_le (a := 4) (by omega) hj
    unfold ad_th
    rw [if_neg q, if_pos g4]

theorem ad_277 (t d1 d2 d3 : Nat) (h1 : d1 < 10) (h2 : d2 < 10) (h3 : d3 < 10)
    (g0 : d1 + d2 + d3 = 0 → wL_lawOf_301 post mc ms x1 x2 x4 0 x11 x12 x13 0 kc ks c z pl a1 a2 a3 a4 a5) (g1 : d1 + d2 + d3 ≠ 0 → wL_lawOf_301 post mc ms x1 x2 x4 0 x11 x12 x13 (nI t) kc ks c z pl a1 a2 a3 a4 a5) :
    wL_lawOf_277 post mc ms x1 x2 x4 0 (nI d1) (nI d2) (nI d3) x11 x12 x13 (nI t) kc ks c z pl a1 a2 a3 a4 a5 :=
  br_t rfl (pk_eq (d1 + d2 + d3) 0 (fun q => g0 q) (fun q => g1 q) (by rw [nI_add, nI_add]))

theorem ad_245 (d1 d2 d3 : Nat) (h1 : d1 < 10) (h2 : d2 < 10) (h3 : d3 < 10)
    (h : wL_lawOf_301 post mc ms x1 x2 x4 0 x11 x12 x13 (nI (ad_nx d1 d2 d3)) kc ks c z pl a1 a2 a3 a4 a5) :
    wL_lawOf_245 post mc ms x1 x2 x4 0 (nI d1) (nI d2) (nI d3) x11 x12 x13 kc ks c z pl a1 a2 a3 a4 a5 := by
  have F : ∀ t, ad_nx d1 d2 d3 = t → wL_lawOf_301 post mc ms x1 x2 x4 0 x11 x12 x13 (nI t) kc ks c z pl a1 a2 a3 a4 a5 := by
    intro t ht
    rw [← ht]
    exact h
  have F0 : d1 + d2 + d3 = 0 → wL_lawOf_301 post mc ms x1 x2 x4 0 x11 x12 x13 0 kc ks c z pl a1 a2 a3 a4 a5 := fun q => F 0 (by unfold ad_nx; rw [if_pos q])
  have B : ¬ (d2 ≤ d1 ∧ d3 ≤ d1) → wL_lawOf_265 post mc ms x1 x2 x4 0 (nI d1) (nI d2) (nI d3) x11 x12 x13 kc ks c z pl a1 a2 a3 a4 a5 := fun q =>
    pk_lt d2 d3 (fun q2 => ad_277 3 d1 d2 d3 h1 h2 h3 F0 (fun q0 => F 3 (by unfold ad_nx; rw [if_neg q0, if_neg q, if_neg (by omega)])))
      (fun q2 => ad_277 2 d1 d2 d3 h1 h2 h3 F0 (fun q0 => F 2 (by unfold ad_nx; rw [if_neg q0, if_neg q, if_pos q2])))
  exact pk_lt d1 d2 (fun q => B (by omega)) (fun q => pk_lt d1 d3 (fun q3 => B (by omega)) (fun q3 => ad_277 1 d1 d2 d3 h1 h2 h3 F0 (fun q0 => F 1 (by unfold ad_nx; rw [if_neg q0, if_pos ⟨q, q3⟩]))))

theorem ad_101n0 (h : post 1 ()) : wL_lawOf_101 post mc ms x0 x1 x2 0 0 0 kc ks 0 0 pl a1 a2 a3 a4 a5 := by
  refine br_t rfl (br_t rfl (br_t rfl (br_t rfl (br_t rfl (br_t rfl (br_t rfl (br_t rfl (br_f (by decide) (br_f (by decide) (br_t rfl (br_t (by decide) (br_t rfl ?_))))))))))))
  exact br_t rfl (br_t rfl (br_t rfl (br_t rfl (ad_375n0 h))))

theorem ad_101n1 (h : post 1 ()) : wL_lawOf_101 post mc ms x0 x1 x2 0 1 0 kc ks 0 1 pl a1 a2 a3 a4 a5 := by
  have K : wL_lawOf_187 post mc ms x1 x2 0 1 0 0 0 0 0 kc ks 0 1 pl a1 a2 a3 a4 a5 := by
    refine br_t rfl (br_f (by decide) (br_t rfl (br_f (by decide) (br_f (by decide) (br_f (by decide) (br_f (by decide) (br_f (by decide) ?_)))))))
    exact br_t rfl (br_t rfl (br_f (by decide) (br_t rfl (ad_375n1 h))))
  exact br_t rfl (br_t rfl (br_t rfl (br_f (by decide) (br_c (fun _ => K) (fun _ => br_c (fun _ => K) (fun _ => K))))))

theorem ad_101f0 (d0 d1 d2 d3 : Nat) (h0 : d0 < 10) (h1 : d1 < 10) (h2 : d2 < 10) (h3 : d3 < 10) (e0 : a1 0 = nI d0) (e1 : a1 1 = nI d1) (e2 : a1 2 = nI d2) (e3 : a1 3 = nI d3)
    (r1 : x0 / 10 - x0 / 10 / 10 * 10 = nI d1) (r2 : x0 / 100 - x0 / 100 / 10 * 10 = nI d2) (r3 : x0 / 1000 = nI d3) (h : post 1 ()) : wL_lawOf_101 post mc ms x0 x1 x2 1 0 (nI d0) kc ks 1 0 pl a1 a2 a3 a4 a5 := by
  refine br_f (by decide) ⟨by decide, by decide, ?_⟩
  rw [r1]
  refine br_f (by decide) ⟨by decide, by decide, ?_⟩
  rw [r2]
  refine br_f (by decide) ⟨by decide, ?_⟩
  rw [r3]
  refine br_t rfl (br_f (by decide) (br_f (by decide) (br_t rfl (ad_245 d1 d2 d3 h1 h2 h3 (br_t rfl (ad_313f 0 ?_))))))
  exact ad_375f0 d0 d1 d2 d3 h0 h1 h2 h3 e0 e1 e2 e3 h

theorem ad_101f1 (m d0 d1 d2 d3 : Nat) (hm1 : 1 ≤ m) (hm3 : m ≤ 3) (g2 : a2 0 = nI m) (h0 : d0 < 10) (h1 : d1 < 10) (h2 : d2 < 10) (h3 : d3 < 10) (e0 : a1 0 = nI d0) (e1 : a1 1 = nI d1) (e2 : a1 2 = nI d2) (e3 : a1 3 = nI d3)
    (r1 : x0 / 10 - x0 / 10 / 10 * 10 = nI d1) (r2 : x0 / 100 - x0 / 100 / 10 * 10 = nI d2) (r3 : x0 / 1000 = nI d3) (h : post 1 ()) : wL_lawOf_101 post mc ms x0 (nI m) x2 1 1 (nI d0) kc ks 1 1 pl a1 a2 a3 a4 a5 := by
  have K : ∀ d, d < 10 → a1 m = nI d → wL_lawOf_187 post mc ms (nI m) x2 1 1 (nI d0) (nI d1) (nI d2) (nI d3) (nI d) kc ks 1 1 pl a1 a2 a3 a4 a5 := by
    intro d hd ed
    have E : wL_lawOf_301 post mc ms (nI m) x2 1 1 (nI d) (nI d0 + nI d1 + nI d2 + nI d3) (nI d) 0 kc ks 1 1 pl a1 a2 a3 a4 a5 :=
      br_f (by decide) (ad_313f (nI m) (ad_375f1 m d d0 d1 d2 d3 (by omega) g2 hd ed e0 e1 e2 e3 h))
    have G : ∀ t, wL_lawOf_277 post mc ms (nI m) x2 1 1 (nI d1) (nI d2) (nI d3) (nI d) (nI d0 + nI d1 + nI d2 + nI d3) (nI d) t kc ks 1 1 pl a1 a2 a3 a4 a5 := fun t => br_f (by decide) E
    have B : wL_lawOf_265 post mc ms (nI m) x2 1 1 (nI d1) (nI d2) (nI d3) (nI d) (nI d0 + nI d1 + nI d2 + nI d3) (nI d) kc ks 1 1 pl a1 a2 a3 a4 a5 := br_c (fun _ => G _) (fun _ => G _)
    exact br_f (by decide) (br_f (by decide) (br_f (by decide) (br_c (fun _ => B) (fun _ => br_c (fun _ => B) (fun _ => G _)))))
  refine br_f (by decide) ⟨by decide, by decide, ?_⟩
  rw [r1]
  refine br_f (by decide) ⟨by decide, by decide, ?_⟩
  rw [r2]
  refine br_f (by decide) ⟨by decide, ?_⟩
  rw [r3]
  refine br_f (by decide) (pk_eq m 1 (fun q => ?_) (fun q => pk_eq m 2 (fun q2 => ?_) (fun q2 => ?_)))
  · exact K d1 h1 (by rw [q]; exact e1)
  · exact K d2 h2 (by rw [q2]; exact e2)
  · exact K d3 h3 (by rw [show m = 3 by omega]; exact e3)

theorem ad_in13 {x : Int32} (h : ¬ x < 1) (h3 : ¬ 3 < x) : ∃ m : Nat, 1 ≤ m ∧ m ≤ 3 ∧ x = nI m := by
  have q : ¬ x.toInt < 1 := fun t => h (Int32.lt_iff_toInt_lt.mpr t)
  have q3 : ¬ 3 < x.toInt := fun t => h3 (Int32.lt_iff_toInt_lt.mpr t)
  have q0 : ¬ x < 0 := fun t => by
    have t' : x.toInt < 0 := Int32.lt_iff_toInt_lt.mp t
    omega
  obtain ⟨j, hj, rfl⟩ := nI_of q0
  rw [nI_toInt hj] at q q3
  exact ⟨j, by omega, by omega, rfl⟩

theorem ad_wrN {p : Int32 → St2 → Prop} {u : St2} (h : x1 < 1 ∨ 3 < x1) (hp : p (-1) u) : wpX_write p u x1 := by
  obtain ⟨c, z, pl, a1, a2, a3, a4, a5⟩ := u
  unfold wpX_write
  refine br_c (fun _ => hp) (fun q => br_f ?_ hp)
  rcases h with h | h
  · exact absurd h q
  · exact Int32.not_le.mpr h

theorem ad_57 (H0 : (∀ (p : Int32 → St2 → Prop) (u : St2), p (-1) u → wpX_write p u x1) → wL_lawOf_74 post mc ms x0 x1 x2 x4 0 kc ks c z pl a1 a2 a3 a4 a5)
    (H1 : ∀ m : Nat, 1 ≤ m → m ≤ 3 → x1 = nI m → wL_lawOf_74 post mc ms x0 x1 x2 x4 1 kc ks c z pl a1 a2 a3 a4 a5) : wL_lawOf_57 post mc ms x0 x1 x2 x4 kc ks c z pl a1 a2 a3 a4 a5 :=
  br_c (fun q => H0 (fun _ _ hp => ad_wrN (Or.inl q) hp)) (fun q => br_c (fun q3 => H0 (fun _ _ hp => ad_wrN (Or.inr q3) hp)) (fun q3 => by
    obtain ⟨m, m1, m3, hm⟩ := ad_in13 q q3
    exact H1 m m1 m3 hm))

theorem ad_57n (hf : ∀ p : Int32 → St2 → Prop, p (-1) (0, 0, 0, a1, a2, a3, a4, a5) → wpX_frame p (0, 0, 0, a1, a2, a3, a4, a5) x0) (h : post 1 ()) : wL_lawOf_57 post mc ms x0 x1 x2 0 kc ks 0 0 0 a1 a2 a3 a4 a5 := by
  refine ad_57 (fun hw => ?_) (fun m m1 m3 hm => ?_)
  · unfold wL_lawOf_74
    refine hf _ (hw _ _ (br_t rfl ?_))
    exact ad_101n0 h
  · rw [hm]
    unfold wL_lawOf_74
    refine hf _ (ad_write 0 m (by omega) m1 m3 (br_t rfl ?_))
    exact ad_101n1 h

theorem ad_57f (w : Nat) (hw : w ≤ 8888) (h0 : w % 10 ≠ 9) (h1 : w / 10 % 10 ≠ 9) (h2 : w / 100 % 10 ≠ 9) (h : post 1 ()) : wL_lawOf_57 post mc ms (nI w) x1 x2 1 kc ks 0 0 0 a1 a2 a3 a4 a5 := by
  have r0 : nI w - nI w / 10 * 10 = nI (w % 10) := ad_rem w (by omega)
  have r1 : nI w / 10 - nI w / 10 / 10 * 10 = nI (w / 10 % 10) := by rw [ad_div w (by omega), ad_rem _ (by omega)]
  have r2 : nI w / 100 - nI w / 100 / 10 * 10 = nI (w / 100 % 10) := by rw [ad_div2 w (by omega), ad_rem _ (by omega)]
  have r3 : nI w / 1000 = nI (w / 1000) := ad_div3 w (by omega)
  refine ad_57 (fun hr => ?_) (fun m m1 m3 hm => ?_)
  · unfold wL_lawOf_74
    refine ad_frY w hw h0 h1 h2 (fun r A e0 e1 e2 e3 => hr _ _ (br_f (by decide) ⟨by decide, ?_⟩))
    rw [r0]
    exact ad_101f0 (w % 10) (w / 10 % 10) (w / 100 % 10) (w / 1000) (by omega) (by omega) (by omega) (by omega) e0 e1 e2 e3 r1 r2 r3 h
  · rw [hm]
    unfold wL_lawOf_74
    refine ad_frY w hw h0 h1 h2 (fun r A e0 e1 e2 e3 => ad_write 0 m (by omega) m1 m3 (br_f (by decide) ⟨by decide, ?_⟩))
    rw [r0]
    exact ad_101f1 m (w % 10) (w / 10 % 10) (w / 100 % 10) (w / 1000) m1 m3 pk_us (by omega) (by omega) (by omega) (by omega) e0 e1 e2 e3 r1 r2 r3 h

theorem ad_law {p0 p1 p2 : Int32} (h : post 1 ()) : wpL_lawOf post 6 198 () p0 p1 p2 := by
  refine ⟨by decide, by decide, 5, 190, by decide, by decide, ?_⟩
  refine ⟨by decide, by decide, by decide, by decide, by decide, by decide, by decide, by decide, by decide, by decide, ?_⟩
  refine br_c (fun q => ad_57n (fun p hp => br_t q hp) h) (fun q => br_c (fun q8 => ad_57n (fun p hp => br_f q (br_f (Int32.not_le.mpr q8) hp)) h) (fun q8 => ⟨by decide, ?_⟩))
  obtain ⟨w, hw, rfl⟩ := nI_of2 (M := 8888) (n := 8888) rfl q (Int32.not_lt.mp q8)
  have r0 : nI w - nI w / 10 * 10 = nI (w % 10) := ad_rem w (by omega)
  have r1 : nI w / 10 - nI w / 10 / 10 * 10 = nI (w / 10 % 10) := by rw [ad_div w (by omega), ad_rem _ (by omega)]
  have r2 : nI w / 100 - nI w / 100 / 10 * 10 = nI (w / 100 % 10) := by rw [ad_div2 w (by omega), ad_rem _ (by omega)]
  refine pk_eq (w % 10) 9 (fun e => ad_57n (fun p hp => ad_frN w hw (Or.inl e) hp) h) (fun e => ⟨by decide, by decide, ?_⟩) r0
  refine pk_eq (w / 10 % 10) 9 (fun e1 => ad_57n (fun p hp => ad_frN w hw (Or.inr (Or.inl e1)) hp) h) (fun e1 => ⟨by decide, by decide, ?_⟩) r1
  exact pk_eq (w / 100 % 10) 9 (fun e2 => ad_57n (fun p hp => ad_frN w hw (Or.inr (Or.inr e2)) hp) h) (fun e2 => ad_57f w hw e e1 e2 h) r2

theorem ad_cell {p : Int32 → Prop} {L : Nat} {xs : Nat → Int32} {x : Int32} (i : Nat) (hi : i < 3) (hL : L ≤ 3) (h : ∀ r, p r) (hx : x = nI i := by rfl) : wpL_cellAt p L xs () x := by
  subst hx
  unfold wpL_cellAt
  exact pk_le L i (fun _ => h _) (fun q => ⟨pk_in i L q, h _⟩)
end

theorem i_vc (xs : Nat → Int32) (L : Nat) (hL : L ≤ 3) : wpL_law (fun r => r = 1) L xs := by
  unfold wpL_law
  refine ad_cell 0 (by omega) hL (fun r1 => ad_cell 1 (by omega) hL (fun r2 => ad_cell 2 (by omega) hL (fun r3 => ⟨6, 198, by omega, by omega, ?_⟩)))
  exact ad_law rfl
end
