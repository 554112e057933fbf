section
/-! tables, small methods -/
theorem pa_sl : ∀ q, q < 8 → (1 : Int32) <<< (nI q &&& 31) = nI (2 ^ q) := by decide +kernel
theorem pa_z : ∀ q, q < 8 → ((0 : Int32) >>> (nI q &&& 31)) &&& 1 = 0 := by decide +kernel
theorem pa_bitV : ∀ r, r < 8 → ∀ n, n < 8 → ((nI (2 ^ r)) >>> (nI n &&& 31)) &&& 1 = nI (if n = r then 1 else 0) := by decide +kernel
theorem pa_bit1 {r : Nat} (h : r < 8) : ((nI (2 ^ r)) >>> (nI r &&& 31)) &&& 1 = 1 := by
  rw [pa_bitV r h r h, if_pos rfl]
  rfl
theorem pa_bit0 {r n : Nat} (h : r < 8) (hn : n < 8) (e : n ≠ r) : ¬ ((nI (2 ^ r)) >>> (nI n &&& 31)) &&& 1 = 1 := by
  rw [pa_bitV r h n hn, if_neg e]
  decide
theorem pa_zb {n : Nat} (hn : n < 8) : ¬ ((0 : Int32) >>> (nI n &&& 31)) &&& 1 = 1 := by
  rw [pa_z n hn]
  decide
theorem pa_ix (s n : Nat) : nI s * 8 + nI n = nI (s * 8 + n) := by
  rw [show (8 : Int32) = nI 8 from rfl, pk_mul, nI_add]
section
variable {md sa mv hg he nx : Int32} {a1 a2 a3 a4 a5 a6 a7 a8 a9 a10 : Nat → Int32}
theorem pa_bl1 {post : Int32 → Prop} {x : Int32} (h : x < 0 ∨ ¬ x ≤ 2) (hp : post 1) : wpX_badLabel post () x :=
  br_c (fun _ => hp) (fun z => br_f (h.resolve_left z) hp)
theorem pa_bl0 {post : Int32 → Prop} {x : Int32} (h0 : ¬ x < 0) (h1 : x ≤ 2) (hp : post 0) : wpX_badLabel post () x :=
  br_f h0 (br_t h1 hp)
theorem pa_bn1 {post : Int32 → Prop} {x : Int32} (h : x < 0 ∨ ¬ x < 8) (hp : post 1) : wpX_badNode post () x :=
  br_c (fun _ => hp) (fun z => br_f (h.resolve_left z) hp)
theorem pa_bn {post : Int32 → Prop} {x : Int32} (h0 : ¬ x < 0) (h1 : x < 8) (hp : post 0) : wpX_badNode post () x :=
  br_f h0 (br_t h1 hp)
theorem pa_bn0 {post : Int32 → Prop} {n : Nat} (h : n < 8) (hp : post 0) : wpX_badNode post () (nI n) :=
  pa_bn (nI_pos (by omega)) (nI_lt (b := 8) h (by decide)) hp
theorem pa_edge_bad {post : Int32 → St2 → Prop} {l e t : Int32} (h : l < 0 ∨ ¬ l ≤ 2) (hp : post (-1) (md, sa, mv, hg, he, nx, a1, a2, a3, a4, a5, a6, a7, a8, a9, a10)) : wpX_edge post (md, sa, mv, hg, he, nx, a1, a2, a3, a4, a5, a6, a7, a8, a9, a10) l e t := by
  unfold wpX_edge
  exact pa_bl1 h (br_f (by decide) hp)
theorem pa_edge_odd {post : Int32 → St2 → Prop} {l e t : Int32} (h0 : ¬ l < 0) (h1 : l ≤ 2) (h : e < 0 ∨ ¬ e ≤ 63) (hp : post (-2) (md, sa, mv, hg, he, nx, a1, a2, a3, a4, a5, a6, a7, a8, a9, a10)) : wpX_edge post (md, sa, mv, hg, he, nx, a1, a2, a3, a4, a5, a6, a7, a8, a9, a10) l e t := by
  unfold wpX_edge
  exact pa_bl0 h0 h1 (br_t rfl (br_c (fun _ => hp) (fun z => br_f (h.resolve_left z) hp)))
theorem pa_edge_ok {post : Int32 → St2 → Prop} {l e : Nat} (hl : l < 3) (hE : e < 64)
    (hp : ∀ b1 b2 : Nat → Int32, (∀ a, a < 8 → b1 (l * 8 + a) = if a = e % 8 then nI (2 ^ (e / 8)) else 0) → post 0 (md, sa, mv, hg, he, nx, b1, b2, a3, a4, a5, a6, a7, a8, a9, a10)) :
    wpX_edge post (md, sa, mv, hg, he, nx, (fun _ => 0), (fun _ => 0), a3, a4, a5, a6, a7, a8, a9, a10) (nI l) (nI e) 1 := by
  unfold wpX_edge
  refine pa_bl0 (nI_pos (by omega)) (nI_le (b := 2) (by omega) (by decide)) (br_t rfl (br_f (nI_pos (by omega)) (br_t (nI_le (b := 63) (by omega) (by decide)) (nm_r (e' := nI (e % 8)) ?_ (nm_r (e' := nI (e / 8)) ?_ ?_)))))
  · exact pk_andN (by omega) 3 (by decide)
  · exact pk_shrN (by omega) _ 3 (by decide)
  · rw [pa_ix, pa_ix, nI_clamp (show l * 8 + e % 8 < 2 ^ 31 by omega), nI_clamp (show l * 8 + e / 8 < 2 ^ 31 by omega)]
    have i1 : vp_in (nI (l * 8 + e % 8)) 24 := pk_in (l * 8 + e % 8) 24 (by omega)
    have i2 : vp_in (nI (l * 8 + e / 8)) 24 := pk_in (l * 8 + e / 8) 24 (by omega)
    refine ⟨i1, nm_r (pa_z (e / 8) (by omega)) ⟨i1, i1, nm_e ⟨i2, i2, nm_e (br_f (by decide) ⟨i1, i1, nm_e ⟨i2, i2, nm_e (hp _ _ ?_)⟩⟩)⟩⟩⟩
    intro a ha
    by_cases e1 : a = e % 8
    · rw [if_pos e1, e1, pk_us, pk_us, Int32.zero_and, Int32.zero_or]
      exact pa_sl _ (by omega)
    · rw [if_neg e1, pk_un (by omega), pk_un (by omega)]
theorem pa_then {post : Int32 → St2 → Prop} (hp : post (-4) (0, sa, mv, 0, he, nx, a1, a2, a3, a4, a5, a6, a7, a8, a9, a10)) : wpX_then post (0, sa, mv, 0, he, nx, a1, a2, a3, a4, a5, a6, a7, a8, a9, a10) := by
  unfold wpX_then wpX_refusal
  exact br_f (by decide) (br_f (by decide) (br_f (by decide) (br_f (by decide) hp)))
theorem pa_push {post : Int32 → St2 → Prop} {H : Nat} {k : Int32} (hH : H < 6)
    (hp : post (nI (H + 1)) (nI (H + 1), nI (2 * H + 2), nI (H + 1), nI (H + 1), he, nx, a1, a2, upd a3 H k, upd a4 H (nI (2 * H)), upd a5 H (nI (2 * H + 1)), upd a6 H (nI (2 * H)), upd a7 H (nI (2 * H + 1)), a8, a9, a10)) :
    wpX_pushMove post (nI H, nI (2 * H), nI H, nI H, he, nx, a1, a2, a3, a4, a5, a6, a7, a8, a9, a10) k := by
  have c : (nI H).toNatClampNeg = H := nI_clamp (by omega)
  have i1 : vp_in (nI H) 56 := pk_in H 56 (by omega)
  have i2 : vp_in (nI H) 6 := pk_in H 6 (by omega)
  unfold wpX_pushMove wpX_refusal
  refine pk_le 14 H (fun z => absurd z (by omega)) (fun _ => br_t rfl (pk_lt H 6 (fun _ => ?_) (fun z => absurd z (by omega))))
  refine pk_le 0 H (fun _ => br_t rfl (nm_r (nI_1 H) ?_)) (fun z => absurd z (by omega))
  unfold wpX_addMove
  exact ⟨i1, nm_r (by rw [c]) ⟨i1, nm_r (by rw [c]) ⟨i1, nm_r (by rw [c, nI_1]) (nm_r (nI_1 H) ⟨i2, nm_r (by rw [c]) ⟨i2, nm_r (by rw [c, nI_1]) (nm_r (nI_add (2 * H) 2) (nm_r (nI_1 H) hp))⟩⟩)⟩⟩⟩
theorem pa_at_far {post : Int32 → St2 → Prop} {n : Int32} (h : n < (-1) ∨ ¬ n < 8) (hp : post (-2) (md, sa, mv, hg, he, nx, a1, a2, a3, a4, a5, a6, a7, a8, a9, a10)) : wpX_at post (md, sa, mv, hg, he, nx, a1, a2, a3, a4, a5, a6, a7, a8, a9, a10) n := by
  unfold wpX_at
  exact br_c (fun _ => hp) (fun z => br_f (h.resolve_left z) hp)
theorem pa_at_m1 {post : Int32 → St2 → Prop} {H : Nat} (hH : H < 6)
    (hp : post (nI (H + 1)) (nI (H + 1), nI (2 * H + 2), nI (H + 1), nI (H + 1), he, nx, a1, a2, upd a3 H 6, upd a4 H (nI (2 * H)), upd a5 H (nI (2 * H + 1)), upd a6 H (nI (2 * H)), upd a7 H (nI (2 * H + 1)), a8, a9, a10)) :
    wpX_at post (nI H, nI (2 * H), nI H, nI H, he, nx, a1, a2, a3, a4, a5, a6, a7, a8, a9, a10) (-1) := by
  unfold wpX_at wX_at_28
  exact br_f (by decide) (br_t (by decide) (br_f (by decide) (pa_push hH hp)))
theorem pa_at_ok {post : Int32 → St2 → Prop} {H n : Nat} (hH : H < 6) (hn : n < 8)
    (hp : post (nI (H + 1)) (nI (H + 1), nI (2 * H + 2), nI (H + 1), nI (H + 1), he, nx, a1, a2, upd a3 H (7 + nI n), upd a4 H (nI (2 * H)), upd a5 H (nI (2 * H + 1)), upd a6 H (nI (2 * H)), upd a7 H (nI (2 * H + 1)), a8, a9, a10)) :
    wpX_at post (nI H, nI (2 * H), nI H, nI H, he, nx, a1, a2, a3, a4, a5, a6, a7, a8, a9, a10) (nI n) := by
  have h0 : ∀ m, m < 8 → ¬ nI m < (-1) := by decide +kernel
  unfold wpX_at wX_at_28
  exact br_f (h0 n hn) (br_t (nI_lt (b := 8) hn (by decide)) (br_t (nI_pos' (by omega)) (pa_push hH hp)))
theorem pa_lab_bad {post : Int32 → St2 → Prop} {l : Int32} (h : l < 0 ∨ ¬ l ≤ 2) (hp : post (-1) (md, sa, mv, hg, he, nx, a1, a2, a3, a4, a5, a6, a7, a8, a9, a10)) : wpX_label post (md, sa, mv, hg, he, nx, a1, a2, a3, a4, a5, a6, a7, a8, a9, a10) l := by
  unfold wpX_label
  exact pa_bl1 h (br_f (by decide) hp)
theorem pa_lab_ok {post : Int32 → St2 → Prop} {H l : Nat} (hH : H < 6) (hl : l < 3)
    (hp : post (nI (H + 1)) (nI (H + 1), nI (2 * H + 2), nI (H + 1), nI (H + 1), he, nx, a1, a2, upd a3 H (nI l), upd a4 H (nI (2 * H)), upd a5 H (nI (2 * H + 1)), upd a6 H (nI (2 * H)), upd a7 H (nI (2 * H + 1)), a8, a9, a10)) :
    wpX_label post (nI H, nI (2 * H), nI H, nI H, he, nx, a1, a2, a3, a4, a5, a6, a7, a8, a9, a10) (nI l) := by
  unfold wpX_label
  exact pa_bl0 (nI_pos (by omega)) (nI_le (b := 2) (by omega) (by decide)) (br_t rfl (pa_push hH hp))
end
end
section
/-! the search -/
section
variable {md sa mv hg he nx : Int32} {a1 a2 a3 a4 a5 a6 a7 a8 a9 a10 : Nat → Int32}
theorem pa_rh {post : St2 → Prop} {s n h : Nat} {d : Int32} (hs : s < 28) (hn : n < 8) (hh : h < 224) (hf : a8 (s * 8 + n) = -1)
    (hp : post (md, sa, mv, hg, nI (h + 1), nx, a1, a2, a3, a4, a5, a6, a7, upd a8 (s * 8 + n) d, upd a9 h (nI (s * 8 + n)), a10)) :
    wpX_reachHere post (md, sa, mv, hg, nI h, nx, a1, a2, a3, a4, a5, a6, a7, a8, a9, a10) (nI s) (nI n) d := by
  unfold wpX_reachHere
  refine nm_r (pa_ix s n) ⟨pk_in (s * 8 + n) 224 (by omega), ?_⟩
  rw [nI_clamp (show s * 8 + n < 2 ^ 31 by omega)]
  refine br_t ?_ ⟨pk_in (s * 8 + n) 224 (by omega), nm_e ⟨pk_in h 224 hh, nm_r ?_ (nm_r (nI_1 h) hp)⟩⟩
  · rw [hf]
    decide
  · rw [nI_clamp (show h < 2 ^ 31 by omega)]
theorem pa_ic {post : Int32 → Prop} {x : Int32} (hp : post 0) : wpX_isComing post (md, sa, mv, hg, he, 0, a1, a2, a3, a4, a5, a6, a7, a8, a9, a10) x := by
  unfold wpX_isComing
  exact ⟨1, br_t (by decide) hp⟩
theorem pa_kc0 {post : St2 → Prop} {x : Int32} (hp : post (md, sa, mv, hg, he, 0, a1, a2, a3, a4, a5, a6, a7, a8, a9, a10)) : wpX_keepComing post (md, sa, mv, hg, he, 0, a1, a2, a3, a4, a5, a6, a7, a8, a9, a10) x 0 := by
  unfold wpX_keepComing
  exact pk_loop (σ := Unit) (fun n i _ => wX_keepComing_2 post x 0 md sa mv hg he n (nI i) 0 a1 a2 a3 a4 a5 a6 a7 a8 a9 a10) (fun _ _ => True) 8 0 () (by omega) trivial
    (fun n _ _ => pk_le 8 8 (fun _ => hp) (fun z => absurd z (by omega)))
    (fun n i _ hi _ hw => pk_le 8 i (fun z => absurd z (by omega)) (fun _ => nm_e (br_f (pa_zb hi) (nm_r (nI_1 i) (hw () trivial)))))
theorem pa_kc1 {post : St2 → Prop} {s r : Nat} (hs : s < 28) (hr : r < 8) (hf : a8 (s * 8 + r) = -1)
    (hp : post (md, sa, mv, hg, he, 1, a1, a2, a3, a4, a5, a6, a7, a8, a9, upd a10 0 (nI (s * 8 + r)))) :
    wpX_keepComing post (md, sa, mv, hg, he, 0, a1, a2, a3, a4, a5, a6, a7, a8, a9, a10) (nI s) (nI (2 ^ r)) := by
  unfold wpX_keepComing
  refine pk_loop (σ := Int32 × (Nat → Int32)) (fun n i t => wX_keepComing_2 post (nI s) (nI (2 ^ r)) md sa mv hg he n (nI i) t.1 a1 a2 a3 a4 a5 a6 a7 a8 a9 t.2) (fun i t => t = if i ≤ r then (0, a10) else (1, upd a10 0 (nI (s * 8 + r)))) 8 0 (0, a10) (by omega) (by rw [if_pos (by omega)]) ?_ ?_
  · intro n t h
    rw [if_neg (by omega)] at h
    subst h
    exact pk_le 8 8 (fun _ => hp) (fun z => absurd z (by omega))
  · intro n i t hi h hw
    refine pk_le 8 i (fun z => absurd z (by omega)) (fun _ => nm_r (pa_ix s i) ?_)
    by_cases e : i = r
    · subst e
      rw [if_pos (by omega)] at h
      subst h
      refine br_t (pa_bit1 hr) ⟨pk_in (s * 8 + i) 224 (by omega), ?_⟩
      rw [nI_clamp (show s * 8 + i < 2 ^ 31 by omega)]
      refine br_f ?_ (br_f (show ¬ (224 : Int32) ≤ 0 from by decide) (pa_ic (br_t rfl ⟨pk_in 0 224 (by omega), nm_r (e' := upd a10 0 (nI (s * 8 + i))) (by rw [sb_cl0]) (nm_r (e' := 1) (show (0 : Int32) + 1 = 1 from by decide) (nm_r (nI_1 i) (hw (1, upd a10 0 (nI (s * 8 + i))) ?_)))⟩)))
      · rw [hf]
        decide
      · rw [if_neg (by omega)]
    · refine br_f (pa_bit0 hr hi e) (nm_r (nI_1 i) (hw t ?_))
      rw [h]
      by_cases g : i < r
      · rw [if_pos (by omega), if_pos (by omega)]
      · rw [if_neg (by omega), if_neg (by omega)]
theorem pa_fX {post : St2 → Prop} {m a h s : Nat} {d : Int32} (hm : m < 56) (hk : a3 m = 6 ∨ a3 m = 7 + nI a) (h5 : a5 m = nI s) (hs : s < 28) (ha : a < 8) (hh : h < 224) (hf : a8 (s * 8 + a) = -1)
    (hp : post (md, sa, mv, hg, nI (h + 1), nx, a1, a2, a3, a4, a5, a6, a7, upd a8 (s * 8 + a) d, upd a9 h (nI (s * 8 + a)), a10)) :
    wpX_follow post (md, sa, mv, hg, nI h, nx, a1, a2, a3, a4, a5, a6, a7, a8, a9, a10) (nI m) (nI a) d := by
  have c : (nI m).toNatClampNeg = m := nI_clamp (by omega)
  have B : wX_follow_24 post (nI m) (nI a) d md sa mv hg (nI h) nx a1 a2 a3 a4 a5 a6 a7 a8 a9 a10 := by
    unfold wX_follow_24
    refine ⟨pk_in m 56 hm, ?_⟩
    rw [c, h5]
    exact pa_rh hs ha hh hf hp
  unfold wpX_follow
  exact ⟨pk_in m 56 hm, nm_r (e' := a3 m) (by rw [c]) (br_c (fun _ => B) (fun z => br_t (hk.resolve_left z) B))⟩
theorem pa_fY {post : St2 → Prop} {m a n : Nat} {d : Int32} (hm : m < 56) (ha : a < 8) (hn : n < 8) (hna : n ≠ a) (hk : a3 m = nI (7 + n))
    (hp : post (md, sa, mv, hg, he, nx, a1, a2, a3, a4, a5, a6, a7, a8, a9, a10)) : wpX_follow post (md, sa, mv, hg, he, nx, a1, a2, a3, a4, a5, a6, a7, a8, a9, a10) (nI m) (nI a) d := by
  have c : (nI m).toNatClampNeg = m := nI_clamp (by omega)
  unfold wpX_follow
  exact ⟨pk_in m 56 hm, nm_r (e' := nI (7 + n)) (by rw [c, hk]) (pk_eq (7 + n) 6 (fun z => absurd z (by omega)) (fun _ => pk_eq (7 + n) (7 + a) (fun z => absurd z (by omega)) (fun _ => pk_le 3 (7 + n) (fun _ => pk_le 6 (7 + n) (fun _ => hp) (fun z => absurd z (by omega))) (fun z => absurd z (by omega))) rfl (nI_add 7 a)))⟩
theorem pa_fZ {post : St2 → Prop} {m a l s : Nat} {d M : Int32} (hm : m < 56) (ha : a < 8) (hl : l < 3) (hk : a3 m = nI l) (h5 : a5 m = nI s) (hM : a1 (l * 8 + a) = M)
    (hp : ∀ Q : St2 → Prop, (∀ u, post u → Q u) → wpX_keepComing Q (md, sa, mv, hg, he, nx, a1, a2, a3, a4, a5, a6, a7, a8, a9, a10) (nI s) M) : wpX_follow post (md, sa, mv, hg, he, nx, a1, a2, a3, a4, a5, a6, a7, a8, a9, a10) (nI m) (nI a) d := by
  have c : (nI m).toNatClampNeg = m := nI_clamp (by omega)
  unfold wpX_follow
  refine ⟨pk_in m 56 hm, nm_r (e' := nI l) (by rw [c, hk]) (pk_eq l 6 (fun z => absurd z (by omega)) (fun _ => pk_eq l (7 + a) (fun z => absurd z (by omega)) (fun _ => pk_le 3 l (fun z => absurd z (by omega)) (fun _ => ⟨pk_in m 56 hm, pk_in (l * 8 + a) 24 (by omega) (pa_ix l a), ?_⟩)) rfl (nI_add 7 a)))⟩
  rw [c, pa_ix, nI_clamp (show l * 8 + a < 2 ^ 31 by omega), h5, hM]
  exact hp _ (fun u h => h)
theorem pa_39s {post : St2 → Prop} {J : Int32 → Int32 → Int32 → Int32 → Int32 → Int32 → Int32 → (Nat → Int32) → (Nat → Int32) → (Nat → Int32) → (Nat → Int32) → (Nat → Int32) → (Nat → Int32) → (Nat → Int32) → (Nat → Int32) → (Nat → Int32) → (Nat → Int32) → Prop} {x1 x4 : Int32} {i s H : Nat}
    (hH : H ≤ 6) (h4 : ∀ j, j < H → a4 j = nI (2 * j)) (hs : ∀ j, j < H → 2 * j ≠ s) (hs' : s < 56)
    (hj : J (nI (i + 1)) md sa (nI H) hg he nx a1 a2 a3 a4 a5 a6 a7 a8 a9 a10) : ∃ n, wX_workLevel_39 post J x1 (nI i) (nI s) x4 n 0 md sa (nI H) hg he nx a1 a2 a3 a4 a5 a6 a7 a8 a9 a10 :=
  pk_loop (σ := Unit) (fun n k _ => wX_workLevel_39 post J x1 (nI i) (nI s) x4 n (nI k) md sa (nI H) hg he nx a1 a2 a3 a4 a5 a6 a7 a8 a9 a10) (fun _ _ => True) H 0 () (by omega) trivial
    (fun n _ _ => pk_le H H (fun _ => nm_r (nI_1 i) hj) (fun z => absurd z (by omega)))
    (fun n k _ hk _ hw => pk_le H k (fun z => absurd z (by omega)) (fun _ => ⟨pk_in k 56 (by omega), pk_eq (2 * k) s (fun z => absurd z (hs k hk)) (fun _ => nm_r (nI_1 k) (hw () trivial)) (by rw [nI_clamp (by omega)]; exact h4 k hk)⟩))
theorem pa_39o {post : St2 → Prop} {J : Int32 → Int32 → Int32 → Int32 → Int32 → Int32 → Int32 → (Nat → Int32) → (Nat → Int32) → (Nat → Int32) → (Nat → Int32) → (Nat → Int32) → (Nat → Int32) → (Nat → Int32) → (Nat → Int32) → (Nat → Int32) → (Nat → Int32) → Prop} {x1 x4 : Int32} {i m : Nat}
    {he' nx' : Int32} {b8 b9 b10 : Nat → Int32} (hm : m < 6) (h4 : ∀ j, j < m + 1 → a4 j = nI (2 * j))
    (hF : ∀ Q : St2 → Prop, Q (md, sa, nI (m + 1), hg, he', nx', a1, a2, a3, a4, a5, a6, a7, b8, b9, b10) → wpX_follow Q (md, sa, nI (m + 1), hg, he, nx, a1, a2, a3, a4, a5, a6, a7, a8, a9, a10) (nI m) x4 x1)
    (hj : J (nI (i + 1)) md sa (nI (m + 1)) hg he' nx' a1 a2 a3 a4 a5 a6 a7 b8 b9 b10) : ∃ n, wX_workLevel_39 post J x1 (nI i) (nI (2 * m)) x4 n 0 md sa (nI (m + 1)) hg he nx a1 a2 a3 a4 a5 a6 a7 a8 a9 a10 := by
  refine pk_loop (σ := Int32 × Int32 × (Nat → Int32) × (Nat → Int32) × (Nat → Int32)) (fun n k t => wX_workLevel_39 post J x1 (nI i) (nI (2 * m)) x4 n (nI k) md sa (nI (m + 1)) hg t.1 t.2.1 a1 a2 a3 a4 a5 a6 a7 t.2.2.1 t.2.2.2.1 t.2.2.2.2) (fun k t => t = if k ≤ m then (he, nx, a8, a9, a10) else (he', nx', b8, b9, b10)) (m + 1) 0 (he, nx, a8, a9, a10) (by omega) (by rw [if_pos (by omega)]) ?_ ?_
  · intro n t h
    rw [if_neg (by omega)] at h
    subst h
    exact pk_le (m + 1) (m + 1) (fun _ => nm_r (nI_1 i) hj) (fun z => absurd z (by omega))
  · intro n k t hk h hw
    rw [if_pos (by omega)] at h
    subst h
    refine pk_le (m + 1) k (fun z => absurd z (by omega)) (fun _ => ⟨pk_in k 56 (by omega), pk_eq (2 * k) (2 * m) (fun z => ?_) (fun z => ?_) (by rw [nI_clamp (by omega)]; exact h4 k hk)⟩)
    · have e : k = m := by omega
      subst e
      exact hF _ (nm_r (nI_1 k) (hw (he', nx', b8, b9, b10) (by rw [if_neg (by omega)])))
    · exact nm_r (nI_1 k) (hw (he, nx, a8, a9, a10) (by rw [if_pos (by omega)]))
theorem pa_7e {post : St2 → Prop} {x1 : Int32} {n i h : Nat} (hi : h ≤ i) (hb : i < 300) (hp : post (md, sa, mv, hg, nI h, nx, a1, a2, a3, a4, a5, a6, a7, a8, a9, a10)) : wX_workLevel_7 post x1 (n + 1) (nI i) md sa mv hg (nI h) nx a1 a2 a3 a4 a5 a6 a7 a8 a9 a10 :=
  pk_le h i (fun _ => hp) (fun z => absurd z (by omega))
theorem pa_7s {post : St2 → Prop} {x1 : Int32} {n i h s a : Nat} (hi : i < h) (hh : h ≤ 224) (hs : s < 28) (ha : a < 8) (h9 : a9 i = nI (s * 8 + a))
    (hw : ∃ k, wX_workLevel_39 post (wX_workLevel_7 post x1 n) x1 (nI i) (nI s) (nI a) k 0 md sa mv hg (nI h) nx a1 a2 a3 a4 a5 a6 a7 a8 a9 a10) : wX_workLevel_7 post x1 (n + 1) (nI i) md sa mv hg (nI h) nx a1 a2 a3 a4 a5 a6 a7 a8 a9 a10 := by
  have i1 : vp_in (nI i) 224 := pk_in i 224 (by omega)
  have c : (nI i).toNatClampNeg = i := nI_clamp (by omega)
  refine pk_le h i (fun z => absurd z (by omega)) (fun _ => ⟨i1, by decide, nm_r (e' := nI s) ?_ ⟨i1, by decide, nm_r (e' := nI a) ?_ hw⟩⟩)
  · rw [c, h9]
    have q := pk_div (a := s * 8 + a) (d := 8) (by omega) (by omega) (by omega)
    rw [show (s * 8 + a) / 8 = s by omega] at q
    exact q
  · rw [c, h9]
    have q := pk_rem (a := s * 8 + a) (d := 8) (by omega) (by omega) (by omega)
    rw [show (s * 8 + a) % 8 = a by omega] at q
    exact q
/-- a level of one pair: the last move is followed and puts nothing on the level -/
theorem pa_wlA {post : St2 → Prop} {d nx' : Int32} {b10 : Nat → Int32} {m a : Nat} (hm : m < 6) (ha : a < 8) (h4 : ∀ j, j < m + 1 → a4 j = nI (2 * j)) (h9 : a9 0 = nI (2 * m * 8 + a))
    (hF : ∀ Q : St2 → Prop, Q (md, sa, nI (m + 1), hg, nI 1, nx', a1, a2, a3, a4, a5, a6, a7, a8, a9, b10) → wpX_follow Q (md, sa, nI (m + 1), hg, nI 1, 0, a1, a2, a3, a4, a5, a6, a7, a8, a9, a10) (nI m) (nI a) d)
    (hp : post (md, sa, nI (m + 1), hg, nI 1, nx', a1, a2, a3, a4, a5, a6, a7, a8, a9, b10)) : wpX_workLevel post (md, sa, nI (m + 1), hg, nI 1, nx, a1, a2, a3, a4, a5, a6, a7, a8, a9, a10) d := by
  unfold wpX_workLevel
  exact ⟨2, pa_7s (i := 0) (h := 1) (s := 2 * m) (a := a) (by omega) (by omega) (by omega) ha h9 (pa_39o (i := 0) hm h4 hF (pa_7e (i := 1) (h := 1) (by omega) (by omega) hp))⟩
/-- a level of one pair: the last move is silent and puts one pair on the level -/
theorem pa_wlX {post : St2 → Prop} {d : Int32} {b8 b9 : Nat → Int32} {m a : Nat} (hm : m < 6) (ha : a < 8) (h4 : ∀ j, j < m + 1 → a4 j = nI (2 * j)) (h9 : a9 0 = nI (2 * m * 8 + a)) (h9' : b9 1 = nI ((2 * m + 1) * 8 + a))
    (hF : ∀ Q : St2 → Prop, Q (md, sa, nI (m + 1), hg, nI 2, 0, a1, a2, a3, a4, a5, a6, a7, b8, b9, a10) → wpX_follow Q (md, sa, nI (m + 1), hg, nI 1, 0, a1, a2, a3, a4, a5, a6, a7, a8, a9, a10) (nI m) (nI a) d)
    (hp : post (md, sa, nI (m + 1), hg, nI 2, 0, a1, a2, a3, a4, a5, a6, a7, b8, b9, a10)) : wpX_workLevel post (md, sa, nI (m + 1), hg, nI 1, nx, a1, a2, a3, a4, a5, a6, a7, a8, a9, a10) d := by
  unfold wpX_workLevel
  exact ⟨3, pa_7s (i := 0) (h := 1) (s := 2 * m) (a := a) (by omega) (by omega) (by omega) ha h9 (pa_39o (i := 0) hm h4 hF (pa_7s (i := 1) (h := 2) (s := 2 * m + 1) (a := a) (by omega) (by omega) (by omega) ha h9' (pa_39s (i := 1) (by omega) h4 (fun j _ => by omega) (by omega) (pa_7e (i := 2) (h := 2) (by omega) (by omega) hp))))⟩
/-- a level of one pair that no move leaves -/
theorem pa_wlS {post : St2 → Prop} {d : Int32} {m a : Nat} (hm : m < 6) (ha : a < 8) (h4 : ∀ j, j < m + 1 → a4 j = nI (2 * j)) (h9 : a9 0 = nI ((2 * m + 1) * 8 + a))
    (hp : post (md, sa, nI (m + 1), hg, nI 1, 0, a1, a2, a3, a4, a5, a6, a7, a8, a9, a10)) : wpX_workLevel post (md, sa, nI (m + 1), hg, nI 1, nx, a1, a2, a3, a4, a5, a6, a7, a8, a9, a10) d := by
  unfold wpX_workLevel
  exact ⟨2, pa_7s (i := 0) (h := 1) (s := 2 * m + 1) (a := a) (by omega) (by omega) (by omega) ha h9 (pa_39s (i := 0) (by omega) h4 (fun j _ => by omega) (by omega) (pa_7e (i := 1) (h := 1) (by omega) (by omega) hp))⟩
theorem pa_80z {post : St2 → Prop} {J : Int32 → Int32 → Int32 → Int32 → Int32 → Int32 → Int32 → (Nat → Int32) → (Nat → Int32) → (Nat → Int32) → (Nat → Int32) → (Nat → Int32) → (Nat → Int32) → (Nat → Int32) → (Nat → Int32) → (Nat → Int32) → (Nat → Int32) → Prop} {x : Nat}
    (hj : J (nI (x + 1)) md sa mv hg he 0 a1 a2 a3 a4 a5 a6 a7 a8 a9 a10) : ∃ n, wX_search_80 post J (nI x) n 0 md sa mv hg he 0 a1 a2 a3 a4 a5 a6 a7 a8 a9 a10 :=
  ⟨1, br_t (by decide) (nm_r (nI_1 x) hj)⟩
theorem pa_80o {post : St2 → Prop} {J : Int32 → Int32 → Int32 → Int32 → Int32 → Int32 → Int32 → (Nat → Int32) → (Nat → Int32) → (Nat → Int32) → (Nat → Int32) → (Nat → Int32) → (Nat → Int32) → (Nat → Int32) → (Nat → Int32) → (Nat → Int32) → (Nat → Int32) → Prop} {x s r : Nat}
    (hs : s < 28) (hr : r < 8) (h10 : a10 0 = nI (s * 8 + r)) (hf : a8 (s * 8 + r) = -1)
    (hj : J (nI (x + 1)) md sa mv hg (nI 1) 1 a1 a2 a3 a4 a5 a6 a7 (upd a8 (s * 8 + r) (nI (x + 1))) (upd a9 0 (nI (s * 8 + r))) a10) : ∃ n, wX_search_80 post J (nI x) n 0 md sa mv hg 0 1 a1 a2 a3 a4 a5 a6 a7 a8 a9 a10 := by
  have q := pk_div (a := s * 8 + r) (d := 8) (by omega) (by omega) (by omega)
  rw [show (s * 8 + r) / 8 = s by omega] at q
  have q' := pk_rem (a := s * 8 + r) (d := 8) (by omega) (by omega) (by omega)
  rw [show (s * 8 + r) % 8 = r by omega] at q'
  have q1 : nI (s * 8 + r) / 8 = nI s := q
  have q2 : nI (s * 8 + r) - nI (s * 8 + r) / 8 * 8 = nI r := q'
  have i1 : vp_in 0 224 := pk_in 0 224 (by omega)
  refine ⟨2, pk_le 1 0 (fun z => absurd z (by omega)) (fun _ => ⟨i1, by decide, i1, by decide, ?_⟩)⟩
  rw [sb_cl0, h10, q2, q1, nI_1]
  exact pa_rh (h := 0) hs hr (by omega) hf (nm_r (nI_1 0) (br_t (by decide) (nm_r (nI_1 x) hj)))
theorem pa_54e {post : St2 → Prop} {n x : Nat} (hx : x ≤ 224) (hp : post (md, sa, mv, hg, 0, nx, a1, a2, a3, a4, a5, a6, a7, a8, a9, a10)) : wX_search_54 post (n + 1) (nI x) md sa mv hg 0 nx a1 a2 a3 a4 a5 a6 a7 a8 a9 a10 :=
  pk_lt 224 x (fun z => absurd z (by omega)) (fun _ => br_t (by decide) hp)
end
end
section
/-! what a search answers -/
/-- the last move leads from node a to node r (8: to none), at length v -/
def pa_mv (k : Int32) (a1 : Nat → Int32) (a r : Nat) (v : Int32) : Prop :=
  ((k = 6 ∨ k = 7 + nI a) ∧ r = a ∧ v = 0) ∨ (∃ n, n < 8 ∧ n ≠ a ∧ k = nI (7 + n) ∧ r = 8) ∨ (∃ l, l < 3 ∧ k = nI l ∧ ((r = 8 ∧ a1 (l * 8 + a) = 0) ∨ (r < 8 ∧ v = 1 ∧ a1 (l * 8 + a) = nI (2 ^ r))))
/-- H expressions of one move each -/
def pa_P (H : Nat) (a4 a5 a6 a7 : Nat → Int32) : Prop := ∀ j, j < H → a4 j = nI (2 * j) ∧ a5 j = nI (2 * j + 1) ∧ a6 j = nI (2 * j) ∧ a7 j = nI (2 * j + 1)
def pa_ok (H : Nat) (a1 a3 a4 a5 a6 a7 : Nat → Int32) (R : Nat → Nat) (v : Int32) : Prop :=
  H ≤ 6 ∧ pa_P H a4 a5 a6 a7 ∧ (v = 0 ∨ v = 1) ∧ (H = 0 → ∀ a, a < 8 → R a = 8) ∧ (∀ m, H = m + 1 → ∀ a, a < 8 → pa_mv (a3 m) a1 a (R a) v)
/-- what lengthTo answers -/
def pa_D (H : Nat) (a7 a8 : Nat → Int32) (D : Nat → Int32) : Prop :=
  (H = 0 ∧ ∀ b, b < 8 → D b = -1) ∨ (∃ m, H = m + 1 ∧ m < 6 ∧ a7 m = nI (2 * m + 1) ∧ ∀ b, b < 8 → a8 ((2 * m + 1) * 8 + b) = D b)
def pa_cnt (R : Nat → Nat) : Nat → Nat
  | 0 => 0
  | n + 1 => pa_cnt R n + if R n < 8 then 1 else 0
section
variable {md sa mv hg he nx : Int32} {a1 a2 a3 a4 a5 a6 a7 a8 a9 a10 : Nat → Int32} {R : Nat → Nat} {v : Int32}
theorem pa_s54 {post : St2 → Prop} {m a r : Nat} (hm : m < 6) (ha : a < 8) (P : pa_P (m + 1) a4 a5 a6 a7) (K : pa_mv (a3 m) a1 a r v)
    (h8 : ∀ b, b < 8 → a8 ((2 * m + 1) * 8 + b) = -1) (h9 : a9 0 = nI (2 * m * 8 + a))
    (hp : ∀ (he' nx' : Int32) (b8 b9 b10 : Nat → Int32), (∀ b, b < 8 → b8 ((2 * m + 1) * 8 + b) = if b = r then v else -1) → post (md, sa, nI (m + 1), hg, he', nx', a1, a2, a3, a4, a5, a6, a7, b8, b9, b10)) :
    ∃ n, wX_search_54 post n 0 md sa (nI (m + 1)) hg (nI 1) nx a1 a2 a3 a4 a5 a6 a7 a8 a9 a10 := by
  have h4 : ∀ j, j < m + 1 → a4 j = nI (2 * j) := fun j hj => (P j hj).1
  have h5 : a5 m = nI (2 * m + 1) := (P m (by omega)).2.1
  refine ⟨3, br_f (by decide) (br_f (by decide) ?_)⟩
  rcases K with ⟨hk, hr, hv⟩ | ⟨n, hn, hna, hk, hr⟩ | ⟨l, hl, hk, ⟨hr, hM⟩ | ⟨hr, hv, hM⟩⟩
  · refine pa_wlX (b8 := upd a8 ((2 * m + 1) * 8 + a) 0) (b9 := upd a9 1 (nI ((2 * m + 1) * 8 + a))) hm ha h4 h9 pk_us (fun Q hQ => pa_fX (h := 1) (by omega) hk h5 (by omega) ha (by omega) (h8 a ha) hQ) ?_
    refine pa_80z (x := 0) (pa_54e (x := 1) (by omega) (hp _ _ _ _ _ ?_))
    intro b hb
    by_cases e : b = r
    · rw [if_pos e, e, hr, pk_us, hv]
    · rw [if_neg e, pk_un (by omega)]
      exact h8 b hb
  · refine pa_wlA (nx' := 0) (b10 := a10) hm ha h4 h9 (fun Q hQ => pa_fY (by omega) ha hn hna hk hQ) ?_
    refine pa_80z (x := 0) (pa_54e (x := 1) (by omega) (hp _ _ _ _ _ ?_))
    intro b hb
    rw [if_neg (by omega)]
    exact h8 b hb
  · refine pa_wlA (nx' := 0) (b10 := a10) hm ha h4 h9 (fun Q hQ => pa_fZ (post := Q) (by omega) ha hl hk h5 hM (fun Q' hQ' => pa_kc0 (hQ' _ hQ))) ?_
    refine pa_80z (x := 0) (pa_54e (x := 1) (by omega) (hp _ _ _ _ _ ?_))
    intro b hb
    rw [if_neg (by omega)]
    exact h8 b hb
  · refine pa_wlA (nx' := 1) (b10 := upd a10 0 (nI ((2 * m + 1) * 8 + r))) hm ha h4 h9 (fun Q hQ => pa_fZ (post := Q) (by omega) ha hl hk h5 hM (fun Q' hQ' => pa_kc1 (by omega) hr (h8 r hr) (hQ' _ hQ))) ?_
    refine pa_80o (x := 0) (s := 2 * m + 1) (r := r) (by omega) hr pk_us (h8 r hr) (br_f (by decide) (br_f (by decide) ?_))
    refine pa_wlS (a := r) hm hr h4 pk_us (pa_80z (x := 1) (pa_54e (x := 2) (by omega) (hp _ _ _ _ _ ?_)))
    intro b hb
    by_cases e : b = r
    · rw [if_pos e, e, pk_us, hv]
      rfl
    · rw [if_neg e, pk_un (by omega)]
      exact h8 b hb
theorem pa_fill {post : St2 → Prop} {p : Int32} (hp : ∀ (n : Nat) (b8 : Nat → Int32), (∀ j, j < 224 → b8 j = -1) → wX_search_2 post p md sa mv hg he nx (n + 1) (nI 224) a1 a2 a3 a4 a5 a6 a7 b8 a9 a10) :
    wpX_search post (md, sa, mv, hg, he, nx, a1, a2, a3, a4, a5, a6, a7, a8, a9, a10) p := by
  unfold wpX_search
  exact pk_loop (fun n i s => wX_search_2 post p md sa mv hg he nx n (nI i) a1 a2 a3 a4 a5 a6 a7 s a9 a10) (fun i s => ∀ j, j < i → s j = -1) 224 0 a8 (by omega) (fun j hj => absurd hj (by omega))
    (fun n s h => hp n s h)
    (fun n i s hi h hw => pk_le 224 i (fun z => absurd z (by omega)) (fun _ => ⟨pk_in i 224 hi, nm_r (e' := upd s i (-1)) (by rw [nI_clamp (by omega)]) (nm_r (nI_1 i) (hw _ (fun j hj => by
      by_cases e : j = i
      · rw [e, pk_us]
      · rw [pk_un e]
        exact h j (by omega))))⟩))
theorem pa_search {post : St2 → Prop} {H a : Nat} (ok : pa_ok H a1 a3 a4 a5 a6 a7 R v) (ha : a < 8)
    (hp : ∀ (he' nx' : Int32) (b8 b9 b10 : Nat → Int32), pa_D H a7 b8 (fun b => if b = R a then v else -1) → post (md, sa, nI H, nI H, he', nx', a1, a2, a3, a4, a5, a6, a7, b8, b9, b10)) :
    wpX_search post (md, sa, nI H, nI H, he, nx, a1, a2, a3, a4, a5, a6, a7, a8, a9, a10) (nI a) := by
  obtain ⟨h6, P, hv, h0, h1⟩ := ok
  refine pa_fill (fun n b8 hb => pk_le 224 224 (fun _ => ?_) (fun z => absurd z (by omega)))
  cases H with
  | zero =>
    refine br_t rfl (hp _ _ _ _ _ (Or.inl ⟨rfl, fun b hb => ?_⟩))
    show (if b = R a then v else -1) = -1
    rw [h0 rfl a ha, if_neg (by omega)]
  | succ m =>
    refine br_f (nI_ne0 (by omega) (by omega)) ⟨pk_in m 6 (by omega) (nI_pred m), ?_⟩
    rw [nI_pred, nI_clamp (show m < 2 ^ 31 by omega), (P m (by omega)).2.2.1]
    refine pa_rh (h := 0) (by omega) ha (by omega) (hb _ (by omega)) (pa_s54 (by omega) ha P (h1 m rfl a ha) (fun b hb' => ?_) pk_us (fun he' nx' c8 c9 c10 hc => hp _ _ _ _ _ (Or.inr ⟨m, rfl, by omega, (P m (by omega)).2.2.2, hc⟩)))
    rw [pk_un (by omega)]
    exact hb _ (by omega)
theorem pa_len {post : Int32 → Prop} {H b : Nat} {D : Nat → Int32} (h : pa_D H a7 a8 D) (hb : b < 8) (hp : post (D b)) : wpX_lengthTo post (md, sa, mv, nI H, he, nx, a1, a2, a3, a4, a5, a6, a7, a8, a9, a10) (nI b) := by
  unfold wpX_lengthTo
  rcases h with ⟨e, hD⟩ | ⟨m, e, hm, h7, hD⟩
  · subst e
    rw [hD b hb] at hp
    exact br_t rfl hp
  · subst e
    refine br_f (nI_ne0 (by omega) (by omega)) ⟨pk_in m 6 hm (nI_pred m), ?_⟩
    rw [nI_pred, nI_clamp (show m < 2 ^ 31 by omega), h7, pa_ix, nI_clamp (show (2 * m + 1) * 8 + b < 2 ^ 31 by omega), hD b hb]
    exact ⟨pk_in ((2 * m + 1) * 8 + b) 224 (by omega), hp⟩
theorem pa_v0 (hv : v = 0 ∨ v = 1) : 0 ≤ v := by
  rcases hv with e | e <;> rw [e] <;> decide
theorem pa_v1 (hv : v = 0 ∨ v = 1) : ¬ v < 0 := by
  rcases hv with e | e <;> rw [e] <;> decide
theorem pa_short {post : Int32 → St2 → Prop} {H a b : Nat} (ok : pa_ok H a1 a3 a4 a5 a6 a7 R v) (ha : a < 8) (hb : b < 8)
    (hp : ∀ (he' nx' : Int32) (b8 b9 b10 : Nat → Int32), post (if b = R a then v else -5) (md, sa, nI H, nI H, he', nx', a1, a2, a3, a4, a5, a6, a7, b8, b9, b10)) :
    wpX_shortest post (md, sa, nI H, nI H, he, nx, a1, a2, a3, a4, a5, a6, a7, a8, a9, a10) (nI a) (nI b) := by
  unfold wpX_shortest
  refine pa_bn0 ha (br_t rfl (pa_bn0 hb (br_t rfl (pa_search ok ha (fun he' nx' b8 b9 b10 hD => pa_len hD hb ?_)))))
  have q := hp he' nx' b8 b9 b10
  by_cases e : b = R a
  · rw [if_pos e] at q
    show (0 ≤ (if b = R a then v else -1) → _) ∧ _
    rw [if_pos e]
    exact br_t (pa_v0 ok.2.2.1) q
  · rw [if_neg e] at q
    show (0 ≤ (if b = R a then v else -1) → _) ∧ _
    rw [if_neg e]
    exact br_f (by decide) q
theorem pa_leads {post : Int32 → St2 → Prop} {H a b : Nat} (ok : pa_ok H a1 a3 a4 a5 a6 a7 R v) (ha : a < 8) (hb : b < 8)
    (hp : ∀ (he' nx' : Int32) (b8 b9 b10 : Nat → Int32), post (if b = R a then 1 else 0) (md, sa, nI H, nI H, he', nx', a1, a2, a3, a4, a5, a6, a7, b8, b9, b10)) :
    wpX_leads post (md, sa, nI H, nI H, he, nx, a1, a2, a3, a4, a5, a6, a7, a8, a9, a10) (nI a) (nI b) := by
  unfold wpX_leads
  refine pa_bn0 ha (br_t rfl (pa_bn0 hb (br_t rfl (pa_search ok ha (fun he' nx' b8 b9 b10 hD => pa_len hD hb ?_)))))
  have q := hp he' nx' b8 b9 b10
  by_cases e : b = R a
  · rw [if_pos e] at q
    show ((if b = R a then v else -1) < 0 → _) ∧ _
    rw [if_pos e]
    exact br_f (pa_v1 ok.2.2.1) q
  · rw [if_neg e] at q
    show ((if b = R a then v else -1) < 0 → _) ∧ _
    rw [if_neg e]
    exact br_t (by decide) q
theorem pa_short_bad {post : Int32 → St2 → Prop} {x y : Int32} (h : (x < 0 ∨ ¬ x < 8) ∨ (y < 0 ∨ ¬ y < 8)) (hp : post (-2) (md, sa, mv, hg, he, nx, a1, a2, a3, a4, a5, a6, a7, a8, a9, a10)) : wpX_shortest post (md, sa, mv, hg, he, nx, a1, a2, a3, a4, a5, a6, a7, a8, a9, a10) x y := by
  unfold wpX_shortest
  by_cases hx : x < 0 ∨ ¬ x < 8
  · exact pa_bn1 hx (br_f (by decide) hp)
  · exact pa_bn (fun z => hx (Or.inl z)) (Classical.byContradiction fun z => hx (Or.inr z)) (br_t rfl (pa_bn1 (h.resolve_left hx) (br_f (by decide) hp)))
theorem pa_leads_bad {post : Int32 → St2 → Prop} {x y : Int32} (h : (x < 0 ∨ ¬ x < 8) ∨ (y < 0 ∨ ¬ y < 8)) (hp : post 0 (md, sa, mv, hg, he, nx, a1, a2, a3, a4, a5, a6, a7, a8, a9, a10)) : wpX_leads post (md, sa, mv, hg, he, nx, a1, a2, a3, a4, a5, a6, a7, a8, a9, a10) x y := by
  unfold wpX_leads
  by_cases hx : x < 0 ∨ ¬ x < 8
  · exact pa_bn1 hx (br_f (by decide) hp)
  · exact pa_bn (fun z => hx (Or.inl z)) (Classical.byContradiction fun z => hx (Or.inr z)) (br_t rfl (pa_bn1 (h.resolve_left hx) (br_f (by decide) hp)))
def pa_set (r : Nat) : Nat := if r < 8 then 2 ^ r else 0
theorem pa_rf {post : Int32 → St2 → Prop} {H a : Nat} (ok : pa_ok H a1 a3 a4 a5 a6 a7 R v) (ha : a < 8)
    (hp : ∀ (he' nx' : Int32) (b8 b9 b10 : Nat → Int32), post (nI (pa_set (R a))) (md, sa, nI H, nI H, he', nx', a1, a2, a3, a4, a5, a6, a7, b8, b9, b10)) :
    wpX_reachFrom post (md, sa, nI H, nI H, he, nx, a1, a2, a3, a4, a5, a6, a7, a8, a9, a10) (nI a) := by
  unfold wpX_reachFrom
  refine pa_search ok ha (fun he' nx' b8 b9 b10 hD => ?_)
  refine pk_loop (σ := Int32) (fun n i s => wX_reachFrom_9 post md sa (nI H) (nI H) he' nx' a1 a2 a3 a4 a5 a6 a7 b8 b9 b10 n s (nI i)) (fun i s => s = nI (if R a < i then 2 ^ (R a) else 0)) 8 0 0 (by omega) (by rw [if_neg (by omega)]; rfl) ?_ ?_
  · intro n s h
    subst h
    exact pk_le 8 8 (fun _ => hp _ _ _ _ _) (fun z => absurd z (by omega))
  · intro n i s hi h hw
    refine pk_le 8 i (fun z => absurd z (by omega)) (fun _ => pa_len hD hi ?_)
    by_cases e : i = R a
    · show ((if i = R a then v else -1) < 0 → _) ∧ _
      rw [if_pos e]
      rw [if_neg (by omega)] at h
      refine br_f (pa_v1 ok.2.2.1) (nm_r (e' := nI (2 ^ i)) ?_ (nm_r (nI_1 i) (hw (nI (2 ^ i)) ?_)))
      · rw [h, nI_0, Int32.zero_or]
        exact pa_sl i hi
      · rw [if_pos (by omega), ← e]
    · show ((if i = R a then v else -1) < 0 → _) ∧ _
      rw [if_neg e]
      refine br_t (by decide) (nm_r (nI_1 i) (hw s ?_))
      rw [h]
      by_cases g : R a < i
      · rw [if_pos g, if_pos (by omega)]
      · rw [if_neg g, if_neg (by omega)]
theorem pa_setbit {r i : Nat} (hi : i < 8) : ((nI (pa_set r)) >>> (nI i &&& 31)) &&& 1 = nI (if i = r then 1 else 0) := by
  unfold pa_set
  by_cases h : r < 8
  · rw [if_pos h]
    exact pa_bitV r h i hi
  · rw [if_neg h, if_neg (by omega)]
    exact pa_z i hi
theorem pa_19 {post : Int32 → St2 → Prop} {J : Int32 → Int32 → Int32 → Int32 → Int32 → Int32 → Int32 → Int32 → (Nat → Int32) → (Nat → Int32) → (Nat → Int32) → (Nat → Int32) → (Nat → Int32) → (Nat → Int32) → (Nat → Int32) → (Nat → Int32) → (Nat → Int32) → (Nat → Int32) → Prop} {c a r : Nat}
    (hj : J (nI (c + if r < 8 then 1 else 0)) (nI (a + 1)) md sa mv hg he nx a1 a2 a3 a4 a5 a6 a7 a8 a9 a10) : ∃ n, wX_pairs_19 post J (nI a) (nI (pa_set r)) md sa mv hg he nx a1 a2 a3 a4 a5 a6 a7 a8 a9 a10 n (nI c) 0 := by
  refine pk_loop (σ := Int32) (fun n i s => wX_pairs_19 post J (nI a) (nI (pa_set r)) md sa mv hg he nx a1 a2 a3 a4 a5 a6 a7 a8 a9 a10 n s (nI i)) (fun i s => s = nI (c + if r < i then 1 else 0)) 8 0 (nI c) (by omega) (by rw [if_neg (by omega)]; rfl) ?_ ?_
  · intro n s h
    subst h
    exact pk_le 8 8 (fun _ => nm_r (nI_1 a) hj) (fun z => absurd z (by omega))
  · intro n i s hi h hw
    refine pk_le 8 i (fun z => absurd z (by omega)) (fun _ => nm_r (e' := nI (c + if r < i + 1 then 1 else 0)) ?_ (nm_r (nI_1 i) (hw _ rfl)))
    rw [pa_setbit hi, h, nI_add]
    by_cases e : i = r
    · rw [if_neg (by omega), if_pos e, if_pos (by omega)]
    · rw [if_neg e]
      by_cases g : r < i
      · rw [if_pos g, if_pos (by omega)]
      · rw [if_neg g, if_neg (by omega)]
theorem pa_pairs {post : Int32 → St2 → Prop} {H : Nat} (ok : pa_ok H a1 a3 a4 a5 a6 a7 R v)
    (hp : ∀ (he' nx' : Int32) (b8 b9 b10 : Nat → Int32), post (nI (pa_cnt R 8)) (md, sa, nI H, nI H, he', nx', a1, a2, a3, a4, a5, a6, a7, b8, b9, b10)) :
    wpX_pairs post (md, sa, nI H, nI H, he, nx, a1, a2, a3, a4, a5, a6, a7, a8, a9, a10) := by
  unfold wpX_pairs
  refine pk_loop (σ := Int32 × Int32 × Int32 × (Nat → Int32) × (Nat → Int32) × (Nat → Int32)) (fun n i t => wX_pairs_4 post n t.1 (nI i) md sa (nI H) (nI H) t.2.1 t.2.2.1 a1 a2 a3 a4 a5 a6 a7 t.2.2.2.1 t.2.2.2.2.1 t.2.2.2.2.2) (fun i t => t.1 = nI (pa_cnt R i)) 8 0 (0, he, nx, a8, a9, a10) (by omega) rfl ?_ ?_
  · intro n t h
    obtain ⟨t1, t2, t3, t4, t5, t6⟩ := t
    have h' : t1 = nI (pa_cnt R 8) := h
    subst h'
    exact pk_le 8 8 (fun _ => hp _ _ _ _ _) (fun z => absurd z (by omega))
  · intro n i t hi h hw
    obtain ⟨t1, t2, t3, t4, t5, t6⟩ := t
    have h' : t1 = nI (pa_cnt R i) := h
    subst h'
    exact pk_le 8 i (fun z => absurd z (by omega)) (fun _ => pa_rf ok hi (fun he' nx' b8 b9 b10 => pa_19 (hw (nI (pa_cnt R (i + 1)), he', nx', b8, b9, b10) rfl)))
theorem pa_P_push {H : Nat} (P : pa_P H a4 a5 a6 a7) : pa_P (H + 1) (upd a4 H (nI (2 * H))) (upd a5 H (nI (2 * H + 1))) (upd a6 H (nI (2 * H))) (upd a7 H (nI (2 * H + 1))) := by
  intro j hj
  by_cases e : j = H
  · rw [e, pk_us, pk_us, pk_us, pk_us]
    exact ⟨rfl, rfl, rfl, rfl⟩
  · rw [pk_un e, pk_un e, pk_un e, pk_un e]
    exact P j (by omega)
theorem pa_ok_push {H : Nat} {k : Int32} (hH : H < 6) (P : pa_P H a4 a5 a6 a7) (hv : v = 0 ∨ v = 1) (hk : ∀ a, a < 8 → pa_mv k a1 a (R a) v) :
    pa_ok (H + 1) a1 (upd a3 H k) (upd a4 H (nI (2 * H))) (upd a5 H (nI (2 * H + 1))) (upd a6 H (nI (2 * H))) (upd a7 H (nI (2 * H + 1))) R v := by
  refine ⟨by omega, pa_P_push P, hv, fun z => absurd z (by omega), fun m hm a ha => ?_⟩
  have e : m = H := by omega
  rw [e, pk_us]
  exact hk a ha
end
end
section
/-! the law -/
/-- what the law expects of pairs() -/
def pa_C (x2 x6 x7 x8 : Int32) (c : Nat) : Prop :=
  (x6 = 0 → x7 = 0 → c = 1) ∧ (x6 = 0 → ¬ x7 = 0 → c = 0) ∧ (¬ x6 = 0 → x8 = 0 → x2 = (-1) → c = 8) ∧ (¬ x6 = 0 → x8 = 0 → ¬ x2 = (-1) → c = 1) ∧ (¬ x6 = 0 → ¬ x8 = 0 → c = 0)
/-- the edges of label l: from each node a to G a (8: to none) -/
def pa_G (a1 : Nat → Int32) (l : Nat) (G : Nat → Nat) : Prop := ∀ a, a < 8 → (G a = 8 ∧ a1 (l * 8 + a) = 0) ∨ (G a < 8 ∧ a1 (l * 8 + a) = nI (2 ^ (G a)))
/-- label and edges, against the flags bad (x6) and odd (x7) -/
def pa_E (a1 : Nat → Int32) (x0 x6 x7 : Int32) : Prop :=
  (x6 = 0 ∧ ∃ (l : Nat) (G : Nat → Nat), l < 3 ∧ x0 = nI l ∧ pa_G a1 l G ∧ (x7 = 0 → pa_cnt G 8 = 1) ∧ (¬ x7 = 0 → pa_cnt G 8 = 0)) ∨ (¬ x6 = 0 ∧ (x0 < 0 ∨ ¬ x0 ≤ 2))
/-- the first expression against n (x2) and the flag far (x8) -/
def pa_N (x2 x8 : Int32) (H : Nat) (R : Nat → Nat) : Prop :=
  ((x8 = 0 ∧ H = 1) ∨ (¬ x8 = 0 ∧ H = 0)) ∧ (∀ a b, a < 8 → b < 8 → (b = R a ↔ (x8 = 0 ∧ a = b ∧ (x2 = (-1) ∨ x2 = nI a)))) ∧ (x8 = 0 → x2 = (-1) → pa_cnt R 8 = 8) ∧ (x8 = 0 → ¬ x2 = (-1) → pa_cnt R 8 = 1) ∧ (¬ x8 = 0 → pa_cnt R 8 = 0)
section
variable {md sa mv hg he nx : Int32} {a1 a2 a3 a4 a5 a6 a7 a8 a9 a10 : Nat → Int32} {R : Nat → Nat} {v : Int32} {post : Int32 → St0 → Prop} {mc ms kc ks : Nat} {x0 x1 x2 x3 x4 x6 x7 x8 x9 x10 z0 z1 : Int32}
theorem pa_340 {k c : Nat} (e : c = k) (hp : post 1 ()) : wL_lawOf_340 post mc ms (nI k) (nI c) kc ks := by
  unfold wL_lawOf_340
  exact br_t (by rw [e]) hp
theorem pa_284 {H : Nat} (hz : z1 + z0 = nI H) (ok : pa_ok H a1 a3 a4 a5 a6 a7 R v) (hC : pa_C x2 x6 x7 x8 (pa_cnt R 8)) (hp : post 1 ()) :
    wL_lawOf_284 post mc ms x2 x6 x7 x8 z0 z1 kc ks (nI H) sa (nI H) (nI H) he nx a1 a2 a3 a4 a5 a6 a7 a8 a9 a10 := by
  obtain ⟨c1, c2, c3, c4, c5⟩ := hC
  unfold wL_lawOf_284 wpX_steps
  exact nm_r hz (br_t rfl (pa_pairs ok (fun he' nx' b8 b9 b10 => br_c
    (fun h6 => br_c (fun h7 => pa_340 (k := 1) (c1 h6 h7) hp) (fun h7 => pa_340 (k := 0) (c2 h6 h7) hp))
    (fun h6 => br_c (fun h8 => br_c (fun h2 => pa_340 (k := 8) (c3 h6 h8 h2) hp) (fun h2 => pa_340 (k := 1) (c4 h6 h8 h2) hp)) (fun h8 => pa_340 (k := 0) (c5 h6 h8) hp)))))
theorem pa_259 {H : Nat} (hz : z1 = z0) (h1 : x8 = 0 → x6 = 0 → H = 2) (h2 : x8 = 0 → ¬ x6 = 0 → H = 1) (h3 : ¬ x8 = 0 → x6 = 0 → H = 1) (h4 : ¬ x8 = 0 → ¬ x6 = 0 → H = 0)
    (ok : pa_ok H a1 a3 a4 a5 a6 a7 R v) (hC : pa_C x2 x6 x7 x8 (pa_cnt R 8)) (hp : post 1 ()) :
    wL_lawOf_259 post mc ms x2 x6 x7 x8 z0 z1 kc ks (nI H) sa (nI H) (nI H) he nx a1 a2 a3 a4 a5 a6 a7 a8 a9 a10 := by
  unfold wL_lawOf_259 wL_lawOf_274
  exact br_t hz (br_c
    (fun h8 => br_c (fun h6 => pa_284 (by rw [h1 h8 h6]; rfl) ok hC hp) (fun h6 => pa_284 (by rw [h2 h8 h6]; rfl) ok hC hp))
    (fun h8 => br_c (fun h6 => pa_284 (by rw [h3 h8 h6]; rfl) ok hC hp) (fun h6 => pa_284 (by rw [h4 h8 h6]; rfl) ok hC hp)))
theorem pa_216 {H : Nat} (hz : z1 = z0) (hE : pa_E a1 x0 x6 x7) (hN : pa_N x2 x8 H R) (ok : pa_ok H a1 a3 a4 a5 a6 a7 R v)
    (hl : ∀ Q : Int32 → St2 → Prop, (∀ (he' nx' : Int32) (b8 b9 b10 : Nat → Int32), Q x10 (nI H, nI (2 * H), nI H, nI H, he', nx', a1, a2, a3, a4, a5, a6, a7, b8, b9, b10)) → wpX_leads Q (nI H, nI (2 * H), nI H, nI H, he, nx, a1, a2, a3, a4, a5, a6, a7, a8, a9, a10) x3 x4) (hp : post 1 ()) :
    wL_lawOf_216 post mc ms x0 x2 x3 x4 x6 x7 x8 x10 z0 z1 kc ks (nI H) (nI (2 * H)) (nI H) (nI H) he nx a1 a2 a3 a4 a5 a6 a7 a8 a9 a10 := by
  obtain ⟨hH, _, n3, n4, n5⟩ := hN
  unfold wL_lawOf_216
  refine br_t hz (hl _ (fun he' nx' b8 b9 b10 => br_t rfl ?_))
  rcases hE with ⟨h6, l, G, hl, e0, hG, g1, g2⟩ | ⟨h6, hb⟩
  · subst e0
    have hH6 : H < 6 := by rcases hH with h | h <;> omega
    refine pa_lab_ok hH6 hl (br_t h6 ?_)
    have ok' : pa_ok (H + 1) a1 (upd a3 H (nI l)) (upd a4 H (nI (2 * H))) (upd a5 H (nI (2 * H + 1))) (upd a6 H (nI (2 * H))) (upd a7 H (nI (2 * H + 1))) G 1 := by
      refine pa_ok_push hH6 ok.2.1 (Or.inr rfl) (fun a ha => Or.inr (Or.inr ⟨l, hl, rfl, ?_⟩))
      rcases hG a ha with h | h
      · exact Or.inl h
      · exact Or.inr ⟨h.1, rfl, h.2⟩
    have hC : pa_C x2 x6 x7 x8 (pa_cnt G 8) := ⟨fun _ => g1, fun _ => g2, fun h => absurd h6 h, fun h => absurd h6 h, fun h => absurd h6 h⟩
    rcases hH with ⟨h8, e⟩ | ⟨h8, e⟩
    · subst e
      exact br_t h8 (pa_259 rfl (fun _ _ => rfl) (fun _ h => absurd h6 h) (fun h => absurd h8 h) (fun h => absurd h8 h) ok' hC hp)
    · subst e
      exact br_f h8 (pa_259 rfl (fun h => absurd h h8) (fun h => absurd h h8) (fun _ _ => rfl) (fun _ h => absurd h6 h) ok' hC hp)
  · have hC : pa_C x2 x6 x7 x8 (pa_cnt R 8) := ⟨fun h => absurd h h6, fun h => absurd h h6, fun _ => n3, fun _ => n4, fun _ => n5⟩
    refine pa_lab_bad hb (br_f h6 (pa_259 rfl (fun _ h => absurd h h6) (fun h8 _ => ?_) (fun _ h => absurd h h6) (fun h8 _ => ?_) ok hC hp))
    · rcases hH with h | h
      · exact h.2
      · exact absurd h8 h.1
    · rcases hH with h | h
      · exact absurd h.1 h8
      · exact h.2
/-- the nodes are out of range -/
theorem pa_185o {H : Nat} (h : (x3 < 0 ∨ ¬ x3 < 8) ∨ (x4 < 0 ∨ ¬ x4 < 8)) (hE : pa_E a1 x0 x6 x7) (hN : pa_N x2 x8 H R) (ok : pa_ok H a1 a3 a4 a5 a6 a7 R 0) (hp : post 1 ()) :
    wL_lawOf_185 post mc ms x0 x2 x3 x4 x6 x7 x8 0 0 kc ks (nI H) (nI (2 * H)) (nI H) (nI H) he nx a1 a2 a3 a4 a5 a6 a7 a8 a9 a10 := by
  unfold wL_lawOf_185
  exact pa_short_bad h (br_t rfl (pa_216 rfl hE hN ok (fun Q hQ => pa_leads_bad h (hQ _ _ _ _ _)) hp))
/-- the nodes are in range -/
theorem pa_185i {H a b : Nat} (ha : a < 8) (hb : b < 8) (hz : z0 = if b = R a then 1 else 0) (hE : pa_E a1 x0 x6 x7) (hN : pa_N x2 x8 H R) (ok : pa_ok H a1 a3 a4 a5 a6 a7 R 0) (hp : post 1 ()) :
    wL_lawOf_185 post mc ms x0 x2 (nI a) (nI b) x6 x7 x8 1 z0 kc ks (nI H) (nI (2 * H)) (nI H) (nI H) he nx a1 a2 a3 a4 a5 a6 a7 a8 a9 a10 := by
  unfold wL_lawOf_185
  refine pa_short ok ha hb (fun he' nx' b8 b9 b10 => br_f (by decide) ?_)
  by_cases e : b = R a
  · rw [if_pos e] at hz
    subst hz
    refine br_f (by decide) (pa_216 (by rw [if_pos e]) hE hN ok (fun Q hQ => pa_leads ok ha hb ?_) hp)
    rw [if_pos e]
    exact hQ
  · rw [if_neg e] at hz
    subst hz
    refine br_t rfl (pa_216 (by rw [if_neg e]) hE hN ok (fun Q hQ => pa_leads ok ha hb ?_) hp)
    rw [if_neg e]
    exact hQ
theorem pa_152o {H : Nat} (h : (x3 < 0 ∨ ¬ x3 < 8) ∨ (x4 < 0 ∨ ¬ x4 < 8)) (hE : pa_E a1 x0 x6 x7) (hN : pa_N x2 x8 H R) (ok : pa_ok H a1 a3 a4 a5 a6 a7 R 0) (hp : post 1 ()) :
    wL_lawOf_151 post mc ms x0 x2 x3 x4 x6 x7 x8 kc ks (nI H) (nI (2 * H)) (nI H) (nI H) he nx a1 a2 a3 a4 a5 a6 a7 a8 a9 a10 := by
  unfold wL_lawOf_151 wL_lawOf_152 wL_lawOf_184
  exact br_c (fun _ => br_t rfl (pa_185o h hE hN ok hp)) (fun _ => pa_185o h hE hN ok hp)
theorem pa_152i {H a b : Nat} (ha : a < 8) (hb : b < 8) (hE : pa_E a1 x0 x6 x7) (hN : pa_N x2 x8 H R) (ok : pa_ok H a1 a3 a4 a5 a6 a7 R 0) (hp : post 1 ()) :
    wL_lawOf_152 post mc ms x0 x2 (nI a) (nI b) x6 x7 x8 1 kc ks (nI H) (nI (2 * H)) (nI H) (nI H) he nx a1 a2 a3 a4 a5 a6 a7 a8 a9 a10 := by
  have hI := hN.2.1 a b ha hb
  have Y : (x8 = 0 ∧ a = b ∧ (x2 = (-1) ∨ x2 = nI a)) → wL_lawOf_185 post mc ms x0 x2 (nI a) (nI b) x6 x7 x8 1 1 kc ks (nI H) (nI (2 * H)) (nI H) (nI H) he nx a1 a2 a3 a4 a5 a6 a7 a8 a9 a10 :=
    fun h => pa_185i ha hb (by rw [if_pos (hI.mpr h)]) hE hN ok hp
  have N : ¬ (x8 = 0 ∧ a = b ∧ (x2 = (-1) ∨ x2 = nI a)) → wL_lawOf_185 post mc ms x0 x2 (nI a) (nI b) x6 x7 x8 1 0 kc ks (nI H) (nI (2 * H)) (nI H) (nI H) he nx a1 a2 a3 a4 a5 a6 a7 a8 a9 a10 :=
    fun h => pa_185i ha hb (by rw [if_neg (fun z => h (hI.mp z))]) hE hN ok hp
  unfold wL_lawOf_152 wL_lawOf_184 wL_lawOf_180
  exact br_c (fun h8 => br_f (by decide) (pk_eq a b
      (fun e => br_c (fun h2 => Y ⟨h8, e, Or.inl h2⟩) (fun h2 => br_c (fun h3 => Y ⟨h8, e, Or.inr h3⟩) (fun h3 => N (fun z => z.2.2.elim h2 h3))))
      (fun e => N (fun z => e z.2.1))))
    (fun h8 => N (fun z => h8 z.1))
theorem pa_ge8 {x : Int32} (h : 8 ≤ x) : ¬ x < 8 := fun z => absurd h (Int32.not_le.mpr z)
theorem pa_of8 {x : Int32} (h0 : ¬ x < 0) (h : ¬ 8 ≤ x) : ∃ a : Nat, a < 8 ∧ x = nI a := by
  rcases pk_ix x (n := 8) (by decide) with z | z | z
  · exact absurd z h0
  · exact absurd z h
  · exact z
theorem pa_120 {H : Nat} (hz : z1 = z0) (hE : pa_E a1 x0 x6 x7) (hN : pa_N x2 x8 H R) (ok : pa_ok H a1 a3 a4 a5 a6 a7 R 0) (hp : post 1 ()) :
    wL_lawOf_120 post mc ms x0 x2 x3 x4 x6 x7 x8 z0 z1 kc ks (nI H) (nI (2 * H)) (nI H) (nI H) he nx a1 a2 a3 a4 a5 a6 a7 a8 a9 a10 := by
  unfold wL_lawOf_120
  refine br_t hz (br_c (fun h => pa_152o (Or.inl (Or.inl h)) hE hN ok hp) (fun h3 => br_c (fun h => pa_152o (Or.inl (Or.inr (pa_ge8 h))) hE hN ok hp) (fun h3' => br_c (fun h => pa_152o (Or.inr (Or.inl h)) hE hN ok hp) (fun h4 => br_c (fun h => pa_152o (Or.inr (Or.inr (pa_ge8 h))) hE hN ok hp) (fun h4' => ?_)))))
  obtain ⟨a, ha, rfl⟩ := pa_of8 h3 h3'
  obtain ⟨b, hb, rfl⟩ := pa_of8 h4 h4'
  exact pa_152i ha hb hE hN ok hp
/-- n is out of range -/
theorem pa_101f (h : x2 < (-1) ∨ ¬ x2 < 8) (hE : pa_E a1 x0 x6 x7) (hp : post 1 ()) :
    wL_lawOf_101 post mc ms x0 x2 x3 x4 x6 x7 1 kc ks 0 0 0 0 he nx a1 a2 a3 a4 a5 a6 a7 a8 a9 a10 := by
  unfold wL_lawOf_101
  refine pa_at_far h (br_f (by decide) ?_)
  exact pa_120 (H := 0) (R := fun _ => 8) rfl hE ⟨Or.inr ⟨by decide, rfl⟩, fun a b _ hb => ⟨fun z => absurd (show b = 8 from z) (by omega), fun z => absurd z.1 (by decide)⟩, fun z => absurd z (by decide), fun z => absurd z (by decide), fun _ => rfl⟩
    ⟨by omega, fun j hj => absurd hj (by omega), Or.inl rfl, fun _ _ _ => rfl, fun m hm => absurd hm (by omega)⟩ hp
theorem pa_nm1 : ∀ n, n < 8 → ¬ nI n = (-1) := by decide +kernel
theorem pa_c1 : ∀ n, n < 8 → pa_cnt (fun a => if a = n then a else 8) 8 = 1 := by decide +kernel
theorem pa_101m (hE : pa_E a1 x0 x6 x7) (hp : post 1 ()) :
    wL_lawOf_101 post mc ms x0 (-1) x3 x4 x6 x7 0 kc ks 0 0 0 0 he nx a1 a2 a3 a4 a5 a6 a7 a8 a9 a10 := by
  unfold wL_lawOf_101
  refine pa_at_m1 (H := 0) (by omega) (br_t rfl ?_)
  exact pa_120 (H := 1) (R := fun a => a) rfl hE ⟨Or.inl ⟨rfl, rfl⟩, fun a b _ hb => ⟨fun z => ⟨rfl, z.symm, Or.inl rfl⟩, fun z => z.2.1.symm⟩, fun _ _ => rfl, fun _ z => absurd rfl z, fun z => absurd rfl z⟩
    (pa_ok_push (by omega) (fun j hj => absurd hj (by omega)) (Or.inl rfl) (fun a ha => Or.inl ⟨Or.inl rfl, rfl, rfl⟩)) hp
theorem pa_101n {n : Nat} (hn : n < 8) (hE : pa_E a1 x0 x6 x7) (hp : post 1 ()) :
    wL_lawOf_101 post mc ms x0 (nI n) x3 x4 x6 x7 0 kc ks 0 0 0 0 he nx a1 a2 a3 a4 a5 a6 a7 a8 a9 a10 := by
  unfold wL_lawOf_101
  refine pa_at_ok (H := 0) (by omega) hn (br_t rfl ?_)
  refine pa_120 (H := 1) (R := fun a => if a = n then a else 8) rfl hE ⟨Or.inl ⟨rfl, rfl⟩, fun a b ha hb => ?_, fun _ z => absurd z (pa_nm1 n hn), fun _ _ => pa_c1 n hn, fun z => absurd rfl z⟩
    (pa_ok_push (by omega) (fun j hj => absurd hj (by omega)) (Or.inl rfl) (fun a ha => ?_)) hp
  · dsimp only
    by_cases e : a = n
    · rw [if_pos e, e]
      exact ⟨fun z => ⟨rfl, z.symm, Or.inr rfl⟩, fun z => z.2.1.symm⟩
    · rw [if_neg e]
      refine ⟨fun z => absurd z (by omega), fun z => ?_⟩
      rcases z.2.2 with g | g
      · exact absurd g (pa_nm1 n hn)
      · exact absurd ((nI_eq (by omega) (by omega)).mp g).symm e
  · by_cases e : a = n
    · refine Or.inl ⟨Or.inr (by rw [e]), ?_, rfl⟩
      rw [if_pos e]
    · refine Or.inr (Or.inl ⟨n, hn, fun z => e z.symm, nI_add 7 n, ?_⟩)
      rw [if_neg e]
theorem pa_70 (hz : z1 = z0) (hE : pa_E a1 x0 x6 x7) (hp : post 1 ()) :
    wL_lawOf_70 post mc ms x0 x2 x3 x4 x6 x7 z0 z1 kc ks 0 0 0 0 he nx a1 a2 a3 a4 a5 a6 a7 a8 a9 a10 := by
  unfold wL_lawOf_70 wL_lawOf_96
  refine br_t hz (pa_then (br_t rfl (br_c (fun h => pa_101f (Or.inl h) hE hp) (fun h => br_c (fun h' => ?_) (fun h' => pa_101f (Or.inr ?_) hE hp)))))
  · by_cases e : x2 = (-1)
    · subst e
      exact pa_101m hE hp
    · have h0 : ¬ x2 < 0 := fun z => by
        have t1 := Int32.lt_iff_toInt_lt.mp z
        have t2 := Int32.le_iff_toInt_le.mp (Int32.not_lt.mp h)
        have q0 : (0 : Int32).toInt = 0 := rfl
        have q1 : (-1 : Int32).toInt = -1 := rfl
        rw [q0] at t1
        rw [q1] at t2
        exact e (Int32.toInt_inj.mp (by rw [q1]; omega))
      obtain ⟨n, hn, rfl⟩ := nI_of2 (M := 7) (n := 7) rfl h0 h'
      exact pa_101n (by omega) hE hp
  · intro z
    refine h' ?_
    have t := Int32.lt_iff_toInt_lt.mp z
    refine Int32.le_iff_toInt_le.mpr ?_
    have q0 : (8 : Int32).toInt = 8 := rfl
    have q1 : (7 : Int32).toInt = 7 := rfl
    rw [q0] at t
    rw [q1]
    omega
end
section
variable {he nx : Int32} {a3 a4 a5 a6 a7 a8 a9 a10 : Nat → Int32} {post : Int32 → St0 → Prop} {mc ms kc ks : Nat} {x0 x1 x2 x3 x4 : Int32}
theorem pa_c2 : ∀ c, c < 8 → ∀ t, t < 8 → pa_cnt (fun a => if a = c then t else 8) 8 = 1 := by decide +kernel
/-- the label is out of range -/
theorem pa_40b {z : Int32} (h : x0 < 0 ∨ ¬ x0 ≤ 2) (hp : post 1 ()) :
    wL_lawOf_40 post mc ms x0 x1 x2 x3 x4 1 z kc ks 0 0 0 0 he nx (fun _ => 0) (fun _ => 0) a3 a4 a5 a6 a7 a8 a9 a10 := by
  unfold wL_lawOf_40
  exact pa_edge_bad h (br_f (by decide) (pa_70 rfl (Or.inr ⟨by decide, h⟩) hp))
theorem pa_23b (h : x0 < 0 ∨ ¬ x0 ≤ 2) (hp : post 1 ()) :
    wL_lawOf_23 post mc ms x0 x1 x2 x3 x4 1 kc ks 0 0 0 0 he nx (fun _ => 0) (fun _ => 0) a3 a4 a5 a6 a7 a8 a9 a10 := by
  unfold wL_lawOf_23 wL_lawOf_35
  exact br_c (fun _ => pa_40b h hp) (fun _ => br_c (fun _ => pa_40b h hp) (fun _ => pa_40b h hp))
theorem pa_23g (h0 : ¬ x0 < 0) (h1 : x0 ≤ 2) (hp : post 1 ()) :
    wL_lawOf_23 post mc ms x0 x1 x2 x3 x4 0 kc ks 0 0 0 0 he nx (fun _ => 0) (fun _ => 0) a3 a4 a5 a6 a7 a8 a9 a10 := by
  unfold wL_lawOf_23 wL_lawOf_35 wL_lawOf_40
  obtain ⟨l, hl, rfl⟩ := nI_of2 (M := 2) (n := 2) rfl h0 h1
  have O : pa_E (fun _ => 0) (nI l) 0 1 := Or.inl ⟨rfl, l, fun _ => 8, by omega, rfl, fun a ha => Or.inl ⟨rfl, rfl⟩, fun z => absurd z (by decide), fun _ => rfl⟩
  refine br_c (fun h => pa_edge_odd h0 h1 (Or.inl h) (br_t rfl (br_f (by decide) (pa_70 rfl O hp)))) (fun h => br_c (fun h' => ?_) (fun h' => pa_edge_odd h0 h1 (Or.inr h') (br_t rfl (br_f (by decide) (pa_70 rfl O hp)))))
  obtain ⟨e, hE, rfl⟩ := nI_of2 (M := 63) (n := 63) rfl h h'
  refine pa_edge_ok (by omega) (by omega) (fun b1 b2 hb => br_t rfl (br_t rfl (pa_70 rfl (Or.inl ⟨rfl, l, fun a => if a = e % 8 then e / 8 else 8, by omega, rfl, fun a ha => ?_, fun _ => pa_c2 _ (by omega) _ (by omega), fun z => absurd rfl z⟩) hp)))
  rw [hb a ha]
  dsimp only
  by_cases g : a = e % 8
  · rw [if_pos g, if_pos g]
    exact Or.inr ⟨by omega, rfl⟩
  · rw [if_neg g, if_neg g]
    exact Or.inl ⟨rfl, rfl⟩
theorem pa_lawOf (hp : post 1 ()) : wpL_lawOf post 11 916 () x0 x1 x2 x3 x4 := by
  unfold wpL_lawOf wL_lawOf_18
  refine ⟨by omega, by omega, 10, 900, by omega, by omega, ?_⟩
  unfold wpX_init
  refine ⟨by omega, by omega, by omega, by omega, by omega, by omega, by omega, by omega, by omega, by omega, by omega, by omega, by omega, by omega, by omega, by omega, by omega, by omega, by omega, by omega, ?_⟩
  exact br_c (fun h => pa_23b (Or.inl h) hp) (fun h => br_c (fun h' => pa_23g h h' hp) (fun h' => pa_23b (Or.inr h') hp))
end
theorem pa_cell {post : Int32 → Prop} {L : Nat} {xs : Nat → Int32} {k : Nat} (hL : L ≤ 5) (hk : k < 5) (hp : ∀ x, post x) : wpL_cellAt post L xs () (nI k) :=
  pk_le L k (fun _ => hp _) (fun z => ⟨pk_in k L z, hp _⟩)
theorem i_vc (xs : Nat → Int32) (L : Nat) (hL : L ≤ 5) : wpL_law (fun r => r = 1) L xs := by
  unfold wpL_law
  exact pa_cell (k := 0) hL (by omega) (fun r1 => pa_cell (k := 1) hL (by omega) (fun r2 => pa_cell (k := 2) hL (by omega) (fun r3 => pa_cell (k := 3) hL (by omega) (fun r4 => pa_cell (k := 4) hL (by omega) (fun r5 => ⟨11, 916, by omega, by omega, pa_lawOf rfl⟩)))))
end
