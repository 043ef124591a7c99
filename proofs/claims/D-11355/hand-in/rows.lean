section
/-! numbers -/
theorem gf_sh {n : Nat} (h : n < 1024) : nI n >>> ((5 : Int32) &&& 31) = nI (n / 32) := pk_shrN (by omega) _ 5 (by decide)
theorem gf_an {n : Nat} (h : n < 1024) : nI n &&& 31 = nI (n % 32) := pk_andN (by omega) 5 (by decide)
theorem gf_p10 (x : Int32) : ∃ j : Nat, j < 1024 ∧ x &&& 1023 = nI j := pk_andE x 10 (by decide)
theorem gf_join (n : Nat) : 32 * nI (n / 32) + nI (n % 32) = nI n := by
  have e : (32 : Int32) = nI 32 := rfl
  rw [e, pk_mul, nI_add, Nat.div_add_mod]
theorem gf_z (x : Int32) : 4 * 0 + x = x := by
  have e : (4 : Int32) * 0 = 0 := by decide
  rw [e, Int32.zero_add]
theorem gf_end {a4 : Nat → Int32} {n : Nat} (h4 : a4 0 = nI n) : 4 * 0 + a4 (0 : Int32).toNatClampNeg = nI n := by
  rw [gf_z, sb_cl0, h4]
theorem gf_m1 : (-1 : Int32) < 0 := by decide
theorem gf_m2 : (-2 : Int32) < 0 := by decide
theorem gf_nn {k : Nat} (h : k < 2 ^ 31) : ¬ nI k < 0 := nI_pos h
/-! one column, one row -/
theorem gf_col {post : Int32 → Prop} {cnt h : Int32} {a1 a2 a3 a4 a5 a6 a7 a8 a9 a10 a11 a12 a13 : Nat → Int32} (hp : post 0) (x : Int32) : wpX_columnOf post (1, 1, 1, cnt, h, a1, a2, a3, a4, a5, a6, a7, a8, a9, a10, a11, a12, a13) x :=
  nm_r (show (1 : Int32) - 1 = 0 by decide) ⟨0 + 1, pk_le 6 0 (fun z => absurd z (by omega)) (fun _ => pk_le 0 0 (fun _ => hp) (fun z => absurd z (by omega)))⟩
theorem gf_row {post : Int32 → Prop} {cnt h : Int32} {a1 a2 a3 a4 a5 a6 a7 a8 a9 a10 a11 a12 a13 : Nat → Int32} (hp : post 0) (x : Int32) : wpX_rowOf post (1, 1, 1, cnt, h, a1, a2, a3, a4, a5, a6, a7, a8, a9, a10, a11, a12, a13) x :=
  nm_r (show (1 : Int32) - 1 = 0 by decide) ⟨0 + 1, pk_le 6 0 (fun z => absurd z (by omega)) (fun _ => pk_le 0 0 (fun _ => hp) (fun z => absurd z (by omega)))⟩
theorem gf_bk {post : Int32 → Prop} {cnt h : Int32} {a1 a2 a3 a4 a5 a6 a7 a8 a9 a10 a11 a12 a13 : Nat → Int32} (h3 : a3 0 = 0) (hp : post 0) (x y : Int32) : wpX_bucketAt post (1, 1, 1, cnt, h, a1, a2, a3, a4, a5, a6, a7, a8, a9, a10, a11, a12, a13) x y := by
  unfold wpX_bucketAt
  refine gf_col ?_ x
  refine gf_row ?_ y
  have e : ((32 * (0 : Int32)) + 0).toNatClampNeg = 0 := by decide
  refine ⟨pk_in 0 1024 (by omega), ?_⟩
  rw [e, h3]
  exact hp
theorem gf_pl {post : Int32 → Prop} {i j : Nat} (hi : i < 32) (hj : j < 32) (hp : post 1) : wpX_isPlace post () (nI i) (nI j) :=
  br_f (gf_nn (by omega)) (pk_le 32 i (fun z => absurd z (by omega)) (fun _ => br_f (gf_nn (by omega)) (pk_le 32 j (fun z => absurd z (by omega)) (fun _ => hp))))
/-! find: the first place k that holds t, or none (k = n) -/
theorem gf_f12 {post : Int32 → Prop} {cnt h : Int32} {a1 a2 a3 a4 a5 a6 a7 a8 a9 a10 a11 a12 a13 : Nat → Int32} {x y t : Int32} {n k : Nat} (h4 : a4 0 = nI n) (hn : n ≤ 4) (hk : k ≤ n) (ht : 32 * x + y = t) (hlt : ∀ j, j < k → ¬ a9 j = t)
    (hp : (k = n ∧ post (-1)) ∨ (k < n ∧ a9 k = t ∧ post (nI k))) : ∃ fu, wX_find_12 post x y 0 1 1 1 cnt h a1 a2 a3 a4 a5 a6 a7 a8 a9 a10 a11 a12 a13 fu 0 := by
  subst ht
  refine pk_loop (σ := Unit) (fun f i _ => wX_find_12 post x y 0 1 1 1 cnt h a1 a2 a3 a4 a5 a6 a7 a8 a9 a10 a11 a12 a13 f (nI i)) (fun _ _ => True) k 0 () (by omega) trivial (fun f _ _ => ?_) (fun f i _ hi _ hw => ?_)
  · rcases hp with ⟨e, hp⟩ | ⟨hl, e, hp⟩
    · exact ⟨pk_in 0 64 (by omega), pk_le n k (fun _ => hp) (fun z => absurd z (by omega)) (gf_end h4)⟩
    · refine ⟨pk_in 0 64 (by omega), pk_le n k (fun z => absurd z (by omega)) (fun _ => ⟨pk_in k 256 (by omega), br_t ?_ hp⟩) (gf_end h4)⟩
      rw [nI_clamp (by omega)]
      exact e
  · refine ⟨pk_in 0 64 (by omega), pk_le n i (fun z => absurd z (by omega)) (fun _ => ⟨pk_in i 256 (by omega), br_f ?_ (nm_r (nI_1 i) (hw () trivial))⟩) (gf_end h4)⟩
    rw [nI_clamp (by omega)]
    exact hlt i hi
theorem gf_find {post : Int32 → Prop} {cnt h : Int32} {a1 a2 a3 a4 a5 a6 a7 a8 a9 a10 a11 a12 a13 : Nat → Int32} {x y t : Int32} {n : Nat} (k : Nat) (h3 : a3 0 = 0) (h4 : a4 0 = nI n) (hn : n ≤ 4) (hk : k ≤ n) (ht : 32 * x + y = t) (hlt : ∀ j, j < k → ¬ a9 j = t)
    (hp : (k = n ∧ post (-1)) ∨ (k < n ∧ a9 k = t ∧ post (nI k))) : wpX_find post (1, 1, 1, cnt, h, a1, a2, a3, a4, a5, a6, a7, a8, a9, a10, a11, a12, a13) x y := by
  unfold wpX_find
  refine gf_bk h3 ?_ _ _
  exact nm_r (show (4 : Int32) * 0 = 0 by decide) (gf_f12 h4 hn hk ht hlt hp)
/-! insert: the bucket isn't full -/
theorem gf_ins {post : St2 → Prop} {cnt h : Int32} {a1 a2 a3 a4 a5 a6 a7 a8 a9 a10 a11 a12 a13 : Nat → Int32} {x v : Int32} {n : Nat} (h3 : a3 0 = 0) (h4 : a4 0 = nI n) (hn : n < 4)
    (hp : post (1, 1, 1, cnt, h, a1, a2, a3, upd a4 0 (nI (n + 1)), a5, a6, a7, a8, upd a9 n x, upd a10 n v, a11, a12, a13)) : wpX_insert post (1, 1, 1, cnt, h, a1, a2, a3, a4, a5, a6, a7, a8, a9, a10, a11, a12, a13) x v := by
  unfold wpX_insert
  refine gf_bk h3 ?_ _ _
  refine ⟨0 + 1, ?_⟩
  refine pk_le 64 0 (fun z => absurd z (by omega)) (fun _ => ⟨pk_in 0 64 (by omega), ?_⟩)
  refine pk_eq n 4 (fun z => absurd z (by omega)) (fun _ => ?_) (by rw [sb_cl0, h4])
  unfold wX_insert_71
  rw [sb_cl0, h4, gf_z, nI_clamp (by omega), nI_1]
  exact ⟨pk_in 0 64 (by omega), pk_in n 256 (by omega), nm_e ⟨pk_in 0 64 (by omega), pk_in n 256 (by omega), nm_e ⟨pk_in 0 64 (by omega), pk_in 0 64 (by omega), nm_e hp⟩⟩⟩
/-! put -/
theorem gf_put_bad {post : Int32 → St2 → Prop} {cnt h : Int32} {a1 a2 a3 a4 a5 a6 a7 a8 a9 a10 a11 a12 a13 : Nat → Int32} {x y v : Int32} (hx : x < 0) (hp : post (-1) (1, 1, 1, cnt, h, a1, a2, a3, a4, a5, a6, a7, a8, a9, a10, a11, a12, a13)) : wpX_put post (1, 1, 1, cnt, h, a1, a2, a3, a4, a5, a6, a7, a8, a9, a10, a11, a12, a13) x y v := by
  unfold wpX_put
  exact br_t hx (br_t rfl hp)
theorem gf_put_old {post : Int32 → St2 → Prop} {cnt h : Int32} {a1 a2 a3 a4 a5 a6 a7 a8 a9 a10 a11 a12 a13 : Nat → Int32} {v : Int32} {n t : Nat} (k : Nat) (h3 : a3 0 = 0) (h4 : a4 0 = nI n) (hn : n ≤ 4) (ht : t < 1024) (hk : k < n) (hlt : ∀ j, j < k → ¬ a9 j = nI t) (he : a9 k = nI t)
    (hp : post 0 (1, 1, 1, cnt, h, a1, a2, a3, a4, a5, a6, a7, a8, a9, upd a10 k v, a11, a12, a13)) : wpX_put post (1, 1, 1, cnt, h, a1, a2, a3, a4, a5, a6, a7, a8, a9, a10, a11, a12, a13) (nI (t / 32)) (nI (t % 32)) v := by
  unfold wpX_put
  refine gf_pl (by omega) (by omega) ?_
  refine br_f (by decide) ?_
  refine gf_find k h3 h4 hn (by omega) (gf_join t) hlt (Or.inr ⟨hk, he, ?_⟩)
  refine br_f (gf_nn (by omega)) ⟨pk_in k 256 (by omega), ?_⟩
  rw [nI_clamp (by omega)]
  exact nm_e hp
theorem gf_put_new {post : Int32 → St2 → Prop} {cnt h : Int32} {a1 a2 a3 a4 a5 a6 a7 a8 a9 a10 a11 a12 a13 : Nat → Int32} {v : Int32} {n t : Nat} (hc : cnt = nI n) (h3 : a3 0 = 0) (h4 : a4 0 = nI n) (hn : n < 4) (ht : t < 1024) (hlt : ∀ j, j < n → ¬ a9 j = nI t)
    (hp : post 1 (1, 1, 1, nI (n + 1), h, a1, a2, a3, upd a4 0 (nI (n + 1)), a5, a6, a7, a8, upd a9 n (nI t), upd a10 n v, a11, a12, a13)) : wpX_put post (1, 1, 1, cnt, h, a1, a2, a3, a4, a5, a6, a7, a8, a9, a10, a11, a12, a13) (nI (t / 32)) (nI (t % 32)) v := by
  subst hc
  unfold wpX_put
  refine gf_pl (by omega) (by omega) ?_
  refine br_f (by decide) ?_
  refine gf_find n h3 h4 (by omega) (by omega) (gf_join t) hlt (Or.inl ⟨rfl, ?_⟩)
  refine br_t gf_m1 ?_
  refine pk_eq n 40 (fun z => absurd z (by omega)) (fun _ => ?_)
  rw [gf_join]
  exact gf_ins h3 h4 hn (nm_r (nI_1 n) hp)
/-! drop: the last point -/
theorem gf_drop {post : St2 → Prop} {cnt h : Int32} {a1 a2 a3 a4 a5 a6 a7 a8 a9 a10 a11 a12 a13 : Nat → Int32} {k : Nat} (hc : cnt = nI (k + 1)) (h4 : a4 0 = nI (k + 1)) (hk : k < 4)
    (hp : post (1, 1, 1, nI k, h, a1, a2, a3, upd a4 0 (nI k), a5, a6, a7, a8, upd a9 k (a9 k), upd a10 k (a10 k), a11, a12, a13)) : wpX_drop post (1, 1, 1, cnt, h, a1, a2, a3, a4, a5, a6, a7, a8, a9, a10, a11, a12, a13) (nI k) := by
  subst hc
  unfold wpX_drop
  have e : nI k / 4 = 0 := by
    have e4 : (4 : Int32) = nI 4 := rfl
    rw [e4, pk_div (by omega) (by omega) (by omega), show k / 4 = 0 by omega]
    rfl
  refine br_t (nI_pos' (by omega)) ⟨by decide, nm_r e ?_⟩
  rw [sb_cl0, h4, nI_pred, nI_clamp (by omega)]
  refine ⟨pk_in 0 64 (by omega), pk_in 0 64 (by omega), nm_e ?_⟩
  rw [pk_us, gf_z, nI_clamp (by omega)]
  exact ⟨pk_in 0 64 (by omega), pk_in k 256 (by omega), pk_in k 256 (by omega), nm_e ⟨pk_in 0 64 (by omega), pk_in k 256 (by omega), pk_in k 256 (by omega), nm_e (nm_e hp)⟩⟩
/-! move -/
theorem gf_mv_b0 {post : Int32 → St2 → Prop} {cnt h : Int32} {a1 a2 a3 a4 a5 a6 a7 a8 a9 a10 a11 a12 a13 : Nat → Int32} {x y : Int32} (hx : x < 0 ∨ 1023 < x ∨ y < 0 ∨ ¬ y ≤ 1023) (hp : post (-1) (1, 1, 1, cnt, h, a1, a2, a3, a4, a5, a6, a7, a8, a9, a10, a11, a12, a13)) : wpX_move post (1, 1, 1, cnt, h, a1, a2, a3, a4, a5, a6, a7, a8, a9, a10, a11, a12, a13) x y := by
  unfold wpX_move
  refine br_c (fun _ => hp) (fun c1 => br_c (fun _ => hp) (fun c2 => br_c (fun _ => hp) (fun c3 => br_c (fun c4 => ?_) (fun _ => hp))))
  rcases hx with z | z | z | z
  · exact absurd z c1
  · exact absurd z c2
  · exact absurd z c3
  · exact absurd c4 z
theorem gf_lim {t : Nat} (ht : t < 1024) : nI t ≤ 1023 := nI_le (b := 1023) (by omega) (by decide)
theorem gf_nlim {t : Nat} (ht : t < 1024) : ¬ 1023 < nI t := nI_nlt (a := 1023) (by omega) (by decide)
theorem gf_mv_tk {post : Int32 → St2 → Prop} {cnt h : Int32} {a1 a2 a3 a4 a5 a6 a7 a8 a9 a10 a11 a12 a13 : Nat → Int32} {n f t : Nat} (k l : Nat) (h3 : a3 0 = 0) (h4 : a4 0 = nI n) (hn : n ≤ 4) (hf : f < 1024) (ht : t < 1024)
    (hk : k < n) (hlt : ∀ j, j < k → ¬ a9 j = nI f) (he : a9 k = nI f) (hl : l < n) (hlt' : ∀ j, j < l → ¬ a9 j = nI t) (he' : a9 l = nI t)
    (hp : post (-3) (1, 1, 1, cnt, h, a1, a2, a3, a4, a5, a6, a7, a8, a9, a10, a11, a12, a13)) : wpX_move post (1, 1, 1, cnt, h, a1, a2, a3, a4, a5, a6, a7, a8, a9, a10, a11, a12, a13) (nI f) (nI t) := by
  unfold wpX_move
  refine br_f (gf_nn (by omega)) (br_f (gf_nlim hf) (br_f (gf_nn (by omega)) (br_t (gf_lim ht) ?_)))
  rw [gf_sh hf, gf_an hf, gf_sh ht, gf_an ht]
  refine gf_find k h3 h4 hn (by omega) (gf_join f) hlt (Or.inr ⟨hk, he, ?_⟩)
  refine br_t (nI_pos' (by omega)) ?_
  refine gf_find l h3 h4 hn (by omega) (gf_join t) hlt' (Or.inr ⟨hl, he', ?_⟩)
  exact br_f (gf_nn (by omega)) hp
theorem gf_mv_ok {post : Int32 → St2 → Prop} {cnt h : Int32} {a1 a2 a3 a4 a5 a6 a7 a8 a9 a10 a11 a12 a13 : Nat → Int32} {f t : Nat} (k : Nat) (hc : cnt = nI (k + 1)) (h3 : a3 0 = 0) (h4 : a4 0 = nI (k + 1)) (hn : k < 4) (hf : f < 1024) (ht : t < 1024)
    (hlt : ∀ j, j < k → ¬ a9 j = nI f) (he : a9 k = nI f) (hlt' : ∀ j, j < k + 1 → ¬ a9 j = nI t)
    (hp : post 0 (1, 1, 1, cnt, h, a1, a2, a3, upd (upd a4 0 (nI k)) 0 (nI (k + 1)), a5, a6, a7, a8, upd (upd a9 k (a9 k)) k (nI t), upd (upd a10 k (a10 k)) k (a10 k), a11, a12, a13)) : wpX_move post (1, 1, 1, cnt, h, a1, a2, a3, a4, a5, a6, a7, a8, a9, a10, a11, a12, a13) (nI f) (nI t) := by
  unfold wpX_move
  refine br_f (gf_nn (by omega)) (br_f (gf_nlim hf) (br_f (gf_nn (by omega)) (br_t (gf_lim ht) ?_)))
  rw [gf_sh hf, gf_an hf, gf_sh ht, gf_an ht]
  refine gf_find k h3 h4 (by omega) (by omega) (gf_join f) hlt (Or.inr ⟨by omega, he, ?_⟩)
  refine br_t (nI_pos' (by omega)) ?_
  refine gf_find (k + 1) h3 h4 (by omega) (by omega) (gf_join t) hlt' (Or.inl ⟨rfl, ?_⟩)
  refine br_t gf_m1 ⟨pk_in k 256 (by omega), nm_r (by rw [nI_clamp (by omega)]) ?_⟩
  refine gf_drop hc h4 hn ?_
  refine gf_ins h3 pk_us (by omega) ?_
  refine nm_r (nI_1 k) ?_
  rw [hc] at hp
  exact hp
end
section
/-! gather and collect over the whole plane: all n points, in their order -/
theorem gf_s0 : (0 : Int32) >>> ((5 : Int32) &&& 31) = nI 0 := by decide
theorem gf_s1 : (1023 : Int32) >>> ((5 : Int32) &&& 31) = nI 31 := by decide
theorem gf_n0 : (0 : Int32) &&& 31 = nI 0 := by decide
theorem gf_n1 : (1023 : Int32) &&& 31 = nI 31 := by decide
theorem gf_lts {P : Nat → Prop} {i : Nat} (h : ∀ j, j < i → P j) (hi : P i) : ∀ j, j < i + 1 → P j := lt_s h hi
theorem gf_keep {s s' a b : Nat → Int32} {i : Nat} {x y : Int32} (hx : x = a i) (hy : y = b i) (h : ∀ j, j < i → s j = a j ∧ s' j = b j) : ∀ j, j < i + 1 → upd s i x j = a j ∧ upd s' i y j = b j := by
  intro j hj
  by_cases e : j = i
  · rw [e, pk_us, pk_us]
    exact ⟨hx, hy⟩
  · rw [pk_un e, pk_un e]
    exact h j (by omega)
theorem gf_g5 {post : St2 → Prop} {cnt h : Int32} {a1 a2 a3 a4 a5 a6 a7 a8 a9 a10 a11 a12 a13 : Nat → Int32} {n : Nat} (h4 : a4 0 = nI n) (hn : n ≤ 4) (h9 : ∀ j, j < n → ∃ t : Nat, t < 1024 ∧ a9 j = nI t)
    (hp : ∀ b11 b12 : Nat → Int32, (∀ j, j < n → b11 j = a9 j ∧ b12 j = a10 j) → post (1, 1, 1, cnt, nI n, a1, a2, a3, a4, a5, a6, a7, a8, a9, a10, b11, b12, a13)) : ∃ fu, wX_gather_5 post 0 0 1023 1 1 1 cnt fu 0 0 a1 a2 a3 a4 a5 a6 a7 a8 a9 a10 a11 a12 a13 := by
  refine pk_loop (σ := (Nat → Int32) × (Nat → Int32)) (fun f i s => wX_gather_5 post 0 0 1023 1 1 1 cnt f (nI i) (nI i) a1 a2 a3 a4 a5 a6 a7 a8 a9 a10 s.1 s.2 a13) (fun i s => ∀ j, j < i → s.1 j = a9 j ∧ s.2 j = a10 j) n 0 (a11, a12) (by omega) (fun j hj => absurd hj (by omega)) (fun f s hs => ?_) (fun f i s hi hs hw => ?_)
  · exact ⟨pk_in 0 64 (by omega), pk_le n n (fun _ => hp s.1 s.2 hs) (fun z => absurd z (by omega)) (gf_end h4)⟩
  · obtain ⟨t, ht, et⟩ := h9 i hi
    have ec : (nI i).toNatClampNeg = i := nI_clamp (by omega)
    have q := hw (upd s.1 i (a9 i), upd s.2 i (a10 i)) (gf_keep rfl rfl hs)
    refine ⟨pk_in 0 64 (by omega), pk_le n i (fun z => absurd z (by omega)) (fun _ => ?_) (gf_end h4)⟩
    refine ⟨pk_in i 256 (by omega), nm_r (by rw [ec, et, gf_sh ht]) ⟨pk_in i 256 (by omega), nm_r (by rw [ec, et, gf_an ht]) ?_⟩⟩
    refine pk_lt (t / 32) 0 (fun z => absurd z (by omega)) (fun _ => ?_) rfl gf_s0
    refine pk_lt 31 (t / 32) (fun z => absurd z (by omega)) (fun _ => ?_) gf_s1 rfl
    refine br_f (by decide) ?_
    refine pk_lt (t % 32) 0 (fun z => absurd z (by omega)) (fun _ => ?_) rfl gf_n0
    refine pk_lt 31 (t % 32) (fun z => absurd z (by omega)) (fun _ => ?_) gf_n1 rfl
    refine ⟨pk_in i 256 (by omega), pk_in i 40 (by omega), nm_r (by rw [ec]) ⟨pk_in i 256 (by omega), pk_in i 40 (by omega), nm_r (by rw [ec]) (nm_r (nI_1 i) (nm_r (nI_1 i) q))⟩⟩
theorem gf_col_all {post : St2 → Prop} {cnt h : Int32} {a1 a2 a3 a4 a5 a6 a7 a8 a9 a10 a11 a12 a13 : Nat → Int32} {n : Nat} (h3 : a3 0 = 0) (h4 : a4 0 = nI n) (hn : n ≤ 4) (h9 : ∀ j, j < n → ∃ t : Nat, t < 1024 ∧ a9 j = nI t)
    (hp : ∀ b11 b12 b13 : Nat → Int32, (∀ j, j < n → b11 j = a9 j ∧ b12 j = a10 j) → post (1, 1, 1, cnt, nI n, a1, a2, a3, a4, a5, a6, a7, a8, a9, a10, b11, b12, b13)) : wpX_collect post (1, 1, 1, cnt, h, a1, a2, a3, a4, a5, a6, a7, a8, a9, a10, a11, a12, a13) 0 1023 := by
  unfold wpX_collect
  refine ⟨0 + 1 + 1, ?_⟩
  refine pk_le 1 0 (fun z => absurd z (by omega)) (fun _ => ⟨pk_in 0 64 (by omega), nm_e (nm_r (show (0 : Int32) + 1 = 1 by decide) ?_)⟩)
  refine pk_le 1 1 (fun _ => ?_) (fun z => absurd z (by omega))
  refine gf_col ?_ _
  refine gf_row ?_ _
  refine gf_col ?_ _
  refine ⟨0 + 1 + 1, ?_⟩
  refine pk_lt 0 0 (fun z => absurd z (by omega)) (fun _ => ?_)
  refine gf_row ?_ _
  refine ⟨0 + 1 + 1, ?_⟩
  have e : ((32 * (0 : Int32)) + 0).toNatClampNeg = 0 := by decide
  refine pk_lt 0 0 (fun z => absurd z (by omega)) (fun _ => ⟨pk_in 0 1024 (by omega), nm_r (by rw [e, h3]) ⟨pk_in 0 64 (by omega), br_t ?_ ?_⟩⟩)
  · exact pk_us
  refine ⟨pk_in 0 64 (by omega), nm_e ?_⟩
  unfold wpX_gather
  refine nm_r (show (4 : Int32) * 0 = 0 by decide) (gf_g5 (h := h) h4 hn h9 (fun b11 b12 hb => ?_))
  refine nm_r (show (0 : Int32) + 1 = 1 by decide) ?_
  refine pk_lt 0 1 (fun _ => ?_) (fun z => absurd z (by omega))
  refine nm_r (show (0 : Int32) + 1 = 1 by decide) ?_
  exact pk_lt 0 1 (fun _ => hp b11 b12 _ hb) (fun z => absurd z (by omega))
/-! sortHits -/
theorem gf_so1 {post : St2 → Prop} {cnt h : Int32} {a1 a2 a3 a4 a5 a6 a7 a8 a9 a10 a11 a12 a13 : Nat → Int32} (hh : h = nI 1) (hp : post (1, 1, 1, cnt, h, a1, a2, a3, a4, a5, a6, a7, a8, a9, a10, a11, a12, a13)) : wpX_sortHits post (1, 1, 1, cnt, h, a1, a2, a3, a4, a5, a6, a7, a8, a9, a10, a11, a12, a13) := by
  subst hh
  unfold wpX_sortHits
  exact ⟨0 + 1, pk_le 1 1 (fun _ => hp) (fun z => absurd z (by omega))⟩
theorem gf_so2 {post : St2 → Prop} {cnt h : Int32} {a1 a2 a3 a4 a5 a6 a7 a8 a9 a10 a11 a12 a13 : Nat → Int32} {s t : Nat} (hh : h = nI 2) (hs : s < 1024) (ht : t < 1024) (e0 : a11 0 = nI s) (e1 : a11 1 = nI t)
    (hp : ∀ (b11 b12 : Nat → Int32), b11 0 = nI (min s t) → b11 1 = nI (max s t) → post (1, 1, 1, cnt, h, a1, a2, a3, a4, a5, a6, a7, a8, a9, a10, b11, b12, a13)) : wpX_sortHits post (1, 1, 1, cnt, h, a1, a2, a3, a4, a5, a6, a7, a8, a9, a10, a11, a12, a13) := by
  subst hh
  unfold wpX_sortHits
  have c1 : (1 : Int32).toNatClampNeg = 1 := by decide
  have c0 : ((1 : Int32) - 1).toNatClampNeg = 0 := by decide
  refine ⟨0 + 1 + 1, ?_⟩
  refine pk_le 2 1 (fun z => absurd z (by omega)) (fun _ => ⟨pk_in 1 40 (by omega), nm_r (by rw [c1, e1]) ⟨pk_in 1 40 (by omega), nm_r (by rw [c1]) ⟨0 + 1 + 1, ?_⟩⟩⟩)
  refine pk_le 1 0 (fun z => absurd z (by omega)) (fun _ => ⟨pk_in 0 40 (by omega), ?_⟩)
  refine pk_le s t (fun z => ?_) (fun z => ?_) (by rw [c0, e0])
  · refine ⟨pk_in 1 40 (by omega), nm_r (by rw [c1]) ⟨pk_in 1 40 (by omega), nm_r (by rw [c1]) (nm_r (show (1 : Int32) + 1 = 2 by decide) ?_)⟩⟩
    refine pk_le 2 2 (fun _ => hp _ _ ?_ ?_) (fun z => absurd z (by omega))
    · rw [pk_un (by decide), e0, Nat.min_eq_left z]
    · rw [pk_us, Nat.max_eq_right z]
  · refine ⟨pk_in 0 40 (by omega), pk_in 1 40 (by omega), nm_r (by rw [c0, c1, e0]) ⟨pk_in 0 40 (by omega), pk_in 1 40 (by omega), nm_r (by rw [c0, c1]) (nm_r (show (1 : Int32) + (-1) = 0 by decide) ?_)⟩⟩
    refine pk_le 0 0 (fun _ => ?_) (fun z => absurd z (by omega))
    refine ⟨pk_in 0 40 (by omega), nm_r (by rw [sb_cl0]) ⟨pk_in 0 40 (by omega), nm_r (by rw [sb_cl0]) (nm_r (show (1 : Int32) + 1 = 2 by decide) ?_)⟩⟩
    refine pk_le 2 2 (fun _ => hp _ _ ?_ ?_) (fun z => absurd z (by omega))
    · rw [pk_us, Nat.min_eq_right (by omega)]
    · rw [pk_un (by decide), pk_us, Nat.max_eq_left (by omega)]
/-! the pictures: one point, two points -/
def gf_K (n : Nat) (a3 a4 a5 a6 a7 a8 : Nat → Int32) : Prop := a3 0 = 0 ∧ a4 0 = nI n ∧ a5 0 = 0 ∧ a6 0 = 31 ∧ a7 0 = 0 ∧ a8 0 = 31
def gf_K1 (q : Nat) (w : Int32) (a3 a4 a5 a6 a7 a8 a9 a10 : Nat → Int32) : Prop := q < 1024 ∧ gf_K 1 a3 a4 a5 a6 a7 a8 ∧ a9 0 = nI q ∧ a10 0 = w
def gf_K2 (p q : Nat) (v w : Int32) (a3 a4 a5 a6 a7 a8 a9 a10 : Nat → Int32) : Prop := p < 1024 ∧ q < 1024 ∧ p ≠ q ∧ gf_K 2 a3 a4 a5 a6 a7 a8 ∧ a9 0 = nI p ∧ a10 0 = v ∧ a9 1 = nI q ∧ a10 1 = w
theorem gf_all1 {P : Nat → Prop} (h0 : P 0) : ∀ j, j < 1 → P j := fun j hj => by
  obtain rfl : j = 0 := by omega
  exact h0
theorem gf_all2 {P : Nat → Prop} (h0 : P 0) (h1 : P 1) : ∀ j, j < 2 → P j := fun j hj => by
  by_cases e : j = 0
  · rw [e]; exact h0
  · obtain rfl : j = 1 := by omega
    exact h1
theorem gf_co1 {post : St2 → Prop} {cnt h : Int32} {a1 a2 a3 a4 a5 a6 a7 a8 a9 a10 a11 a12 a13 : Nat → Int32} {q : Nat} {w : Int32} (k : gf_K1 q w a3 a4 a5 a6 a7 a8 a9 a10)
    (hp : ∀ b11 b12 b13 : Nat → Int32, b11 0 = nI q → b12 0 = w → post (1, 1, 1, cnt, nI 1, a1, a2, a3, a4, a5, a6, a7, a8, a9, a10, b11, b12, b13)) : wpX_collect post (1, 1, 1, cnt, h, a1, a2, a3, a4, a5, a6, a7, a8, a9, a10, a11, a12, a13) 0 1023 := by
  obtain ⟨hq, ⟨h3, h4, _⟩, h9, h10⟩ := k
  refine gf_col_all h3 h4 (by omega) (gf_all1 ⟨q, hq, h9⟩) (fun b11 b12 b13 hb => hp b11 b12 b13 ?_ ?_)
  · rw [(hb 0 (by omega)).1, h9]
  · rw [(hb 0 (by omega)).2, h10]
theorem gf_co2 {post : St2 → Prop} {cnt h : Int32} {a1 a2 a3 a4 a5 a6 a7 a8 a9 a10 a11 a12 a13 : Nat → Int32} {p q : Nat} {v w : Int32} (k : gf_K2 p q v w a3 a4 a5 a6 a7 a8 a9 a10)
    (hp : ∀ b11 b12 b13 : Nat → Int32, b11 0 = nI p → b11 1 = nI q → b12 0 = v → b12 1 = w → post (1, 1, 1, cnt, nI 2, a1, a2, a3, a4, a5, a6, a7, a8, a9, a10, b11, b12, b13)) : wpX_collect post (1, 1, 1, cnt, h, a1, a2, a3, a4, a5, a6, a7, a8, a9, a10, a11, a12, a13) 0 1023 := by
  obtain ⟨hp', hq, _, ⟨h3, h4, _⟩, h9, h10, h9', h10'⟩ := k
  refine gf_col_all h3 h4 (by omega) (gf_all2 ⟨p, hp', h9⟩ ⟨q, hq, h9'⟩) (fun b11 b12 b13 hb => hp b11 b12 b13 ?_ ?_ ?_ ?_)
  · rw [(hb 0 (by omega)).1, h9]
  · rw [(hb 1 (by omega)).1, h9']
  · rw [(hb 0 (by omega)).2, h10]
  · rw [(hb 1 (by omega)).2, h10']
end
section
/-! distances -/
theorem gf_sq (a b : Int32) : (a - b) * (a - b) = (b - a) * (b - a) := by grind
theorem gf_d0 (a b : Int32) : (a - a) * (a - a) + (b - b) * (b - b) = 0 := by
  rw [Int32.sub_self, Int32.sub_self]
  decide
theorem gf_sqN {a b : Nat} : (nI a - nI b) * (nI a - nI b) = nI (((a - b) + (b - a)) * ((a - b) + (b - a))) := by
  rcases Nat.le_total b a with h | h
  · rw [pk_sub h, pk_mul, show (a - b) + (b - a) = a - b by omega]
  · rw [gf_sq, pk_sub h, pk_mul, show (a - b) + (b - a) = b - a by omega]
theorem gf_dpos {p q : Nat} (hp : p < 1024) (hq : q < 1024) (ne : p ≠ q) : 0 < (nI (p / 32) - nI (q / 32)) * (nI (p / 32) - nI (q / 32)) + (nI (p % 32) - nI (q % 32)) * (nI (p % 32) - nI (q % 32)) := by
  rw [gf_sqN, gf_sqN, nI_add]
  have hd : (p / 32 - q / 32) + (q / 32 - p / 32) ≤ 31 := by omega
  have he : (p % 32 - q % 32) + (q % 32 - p % 32) ≤ 31 := by omega
  have hs : 0 < (p / 32 - q / 32) + (q / 32 - p / 32) ∨ 0 < (p % 32 - q % 32) + (q % 32 - p % 32) := by omega
  generalize (p / 32 - q / 32) + (q / 32 - p / 32) = d at hd hs ⊢
  generalize (p % 32 - q % 32) + (q % 32 - p % 32) = e at he hs ⊢
  have b1 : d * d ≤ 31 * 31 := Nat.mul_le_mul hd hd
  have b2 : e * e ≤ 31 * 31 := Nat.mul_le_mul he he
  have b3 : 0 < d * d + e * e := by
    rcases hs with z | z
    · have := Nat.mul_pos z z
      omega
    · have := Nat.mul_pos z z
      omega
  exact nI_lt (a := 0) b3 (by omega)
theorem gf_dist {post : Int32 → Prop} {t : Nat} {x y : Int32} (ht : t < 1024) (hp : post ((nI (t / 32) - x) * (nI (t / 32) - x) + (nI (t % 32) - y) * (nI (t % 32) - y))) : wpX_distance post () (nI t) x y := by
  unfold wpX_distance
  rw [gf_sh ht, gf_an ht]
  exact nm_e (nm_e hp)
theorem gf_gtm {n : Nat} (h : n < 2 ^ 31) : ¬ nI n ≤ -1 := by
  rw [Int32.le_iff_toInt_le, nI_toInt h, show (-1 : Int32).toInt = -1 by decide]
  omega
theorem gf_c1 : (1 : Int32).toNatClampNeg = 1 := by decide
theorem gf_i01 : (0 : Int32) + 1 = 1 := by decide
theorem gf_i12 : (1 : Int32) + 1 = 2 := by decide
theorem gf_i0m : (0 : Int32) + (-1) = -1 := by decide
theorem gf_i1m : (1 : Int32) + (-1) = 0 := by decide
theorem gf_40 : (4 : Int32) * 0 = 0 := by decide
/-! closest -/
theorem gf_cl1 {post : Int32 → St2 → Prop} {cnt h : Int32} {a1 a2 a3 a4 a5 a6 a7 a8 a9 a10 a11 a12 a13 : Nat → Int32} {q : Nat} {w : Int32} (k : gf_K1 q w a3 a4 a5 a6 a7 a8 a9 a10)
    (hp : ∀ (h' : Int32) (b11 b12 b13 : Nat → Int32), post (-1) (1, 1, 1, cnt, h', a1, a2, a3, a4, a5, a6, a7, a8, a9, a10, b11, b12, b13)) : wpX_closest post (1, 1, 1, cnt, h, a1, a2, a3, a4, a5, a6, a7, a8, a9, a10, a11, a12, a13) := by
  unfold wpX_closest
  refine gf_co1 k (fun b11 b12 b13 e0 _ => ?_)
  refine gf_so1 rfl ?_
  exact ⟨0 + 1, pk_le 1 1 (fun _ => hp _ _ _ _) (fun z => absurd z (by omega))⟩
theorem gf_cl2 {post : Int32 → St2 → Prop} {cnt h : Int32} {a1 a2 a3 a4 a5 a6 a7 a8 a9 a10 a11 a12 a13 : Nat → Int32} {p q : Nat} {v w : Int32} (k : gf_K2 p q v w a3 a4 a5 a6 a7 a8 a9 a10)
    (hp : ∀ (h' : Int32) (b11 b12 b13 : Nat → Int32), post ((nI (q / 32) - nI (p / 32)) * (nI (q / 32) - nI (p / 32)) + (nI (q % 32) - nI (p % 32)) * (nI (q % 32) - nI (p % 32))) (1, 1, 1, cnt, h', a1, a2, a3, a4, a5, a6, a7, a8, a9, a10, b11, b12, b13)) : wpX_closest post (1, 1, 1, cnt, h, a1, a2, a3, a4, a5, a6, a7, a8, a9, a10, a11, a12, a13) := by
  unfold wpX_closest
  have hp' := k.1
  have hq := k.2.1
  refine gf_co2 k (fun b11 b12 b13 e0 e1 _ _ => ?_)
  refine gf_so2 rfl hp' hq e0 e1 (fun c11 c12 f0 f1 => ?_)
  refine ⟨0 + 1 + 1, pk_le 2 1 (fun z => absurd z (by omega)) (fun _ => nm_r (show (1 : Int32) - 1 = 0 by decide) ⟨0 + 1 + 1, ?_⟩)⟩
  refine pk_lt 0 0 (fun z => absurd z (by omega)) (fun _ => ⟨pk_in 1 40 (by omega), pk_in 0 40 (by omega), nm_e (br_t gf_m1 ?_)⟩)
  unfold wX_closest_67
  refine ⟨pk_in 0 40 (by omega), pk_in 1 40 (by omega), pk_in 1 40 (by omega), ?_⟩
  rw [sb_cl0, gf_c1, f0, f1, gf_sh (by omega), gf_an (by omega)]
  refine gf_dist (by omega) ?_
  refine br_t gf_m1 (nm_r gf_i0m ?_)
  refine br_t gf_m1 (nm_r gf_i12 ?_)
  refine pk_le 2 2 (fun _ => ?_) (fun z => absurd z (by omega))
  rcases Nat.le_total p q with z | z
  · rw [Nat.min_eq_left z, Nat.max_eq_right z, gf_sq (nI (p / 32)), gf_sq (nI (p % 32))]
    exact hp _ _ _ _
  · rw [Nat.min_eq_right z, Nat.max_eq_left z]
    exact hp _ _ _ _
/-! sum -/
theorem gf_rect {post : Int32 → Prop} (hp : post 1) : wpX_isRectangle post () 0 1023 :=
  br_f (by decide) (br_f (by decide) (br_f (by decide) (br_f (by decide) (br_f (by decide) (br_f (by decide) (br_f (by decide) hp))))))
theorem gf_su1 {post : Int32 → St2 → Prop} {cnt h : Int32} {a1 a2 a3 a4 a5 a6 a7 a8 a9 a10 a11 a12 a13 : Nat → Int32} {q : Nat} {w : Int32} (k : gf_K1 q w a3 a4 a5 a6 a7 a8 a9 a10)
    (hp : ∀ (h' : Int32) (b11 b12 b13 : Nat → Int32), post w (1, 1, 1, cnt, h', a1, a2, a3, a4, a5, a6, a7, a8, a9, a10, b11, b12, b13)) : wpX_sum post (1, 1, 1, cnt, h, a1, a2, a3, a4, a5, a6, a7, a8, a9, a10, a11, a12, a13) 0 1023 := by
  unfold wpX_sum
  refine gf_rect (br_f (by decide) ?_)
  refine gf_co1 k (fun b11 b12 b13 _ e0 => ?_)
  refine ⟨0 + 1 + 1, pk_le 1 0 (fun z => absurd z (by omega)) (fun _ => ⟨pk_in 0 40 (by omega), nm_r (by rw [sb_cl0, e0, Int32.zero_add]) (nm_r gf_i01 ?_)⟩)⟩
  exact pk_le 1 1 (fun _ => hp _ _ _ _) (fun z => absurd z (by omega))
theorem gf_su2 {post : Int32 → St2 → Prop} {cnt h : Int32} {a1 a2 a3 a4 a5 a6 a7 a8 a9 a10 a11 a12 a13 : Nat → Int32} {p q : Nat} {v w : Int32} (k : gf_K2 p q v w a3 a4 a5 a6 a7 a8 a9 a10)
    (hp : ∀ (h' : Int32) (b11 b12 b13 : Nat → Int32), post (v + w) (1, 1, 1, cnt, h', a1, a2, a3, a4, a5, a6, a7, a8, a9, a10, b11, b12, b13)) : wpX_sum post (1, 1, 1, cnt, h, a1, a2, a3, a4, a5, a6, a7, a8, a9, a10, a11, a12, a13) 0 1023 := by
  unfold wpX_sum
  refine gf_rect (br_f (by decide) ?_)
  refine gf_co2 k (fun b11 b12 b13 _ _ e0 e1 => ?_)
  refine ⟨0 + 1 + 1 + 1, pk_le 2 0 (fun z => absurd z (by omega)) (fun _ => ⟨pk_in 0 40 (by omega), nm_r (by rw [sb_cl0, e0, Int32.zero_add]) (nm_r gf_i01 ?_)⟩)⟩
  refine pk_le 2 1 (fun z => absurd z (by omega)) (fun _ => ⟨pk_in 1 40 (by omega), nm_r (by rw [gf_c1, e1]) (nm_r gf_i12 ?_)⟩)
  exact pk_le 2 2 (fun _ => hp _ _ _ _) (fun z => absurd z (by omega))
/-! frontier -/
theorem gf_fr1 {post : Int32 → St2 → Prop} {cnt h : Int32} {a1 a2 a3 a4 a5 a6 a7 a8 a9 a10 a11 a12 a13 : Nat → Int32} {q : Nat} {w : Int32} (k : gf_K1 q w a3 a4 a5 a6 a7 a8 a9 a10)
    (hp : ∀ (h' : Int32) (b11 b12 b13 : Nat → Int32), post 1 (1, 1, 1, cnt, h', a1, a2, a3, a4, a5, a6, a7, a8, a9, a10, b11, b12, b13)) : wpX_frontier post (1, 1, 1, cnt, h, a1, a2, a3, a4, a5, a6, a7, a8, a9, a10, a11, a12, a13) := by
  unfold wpX_frontier
  have hq := k.1
  refine gf_co1 k (fun b11 b12 b13 e0 _ => ?_)
  refine gf_so1 rfl ?_
  refine nm_r (show nI 1 - 1 = 0 by decide) ⟨0 + 1 + 1, ?_⟩
  refine pk_lt 0 0 (fun z => absurd z (by omega)) (fun _ => ⟨pk_in 0 40 (by omega), br_f ?_ ⟨pk_in 0 40 (by omega), nm_e (nm_r gf_i01 (nm_r gf_i0m ?_))⟩⟩)
  · rw [sb_cl0, e0, gf_an hq]
    exact gf_gtm (by omega)
  · exact br_t gf_m1 (hp _ _ _ _)
theorem gf_fr2 {post : Int32 → St2 → Prop} {cnt h : Int32} {a1 a2 a3 a4 a5 a6 a7 a8 a9 a10 a11 a12 a13 : Nat → Int32} {p q : Nat} {v w : Int32} (k : gf_K2 p q v w a3 a4 a5 a6 a7 a8 a9 a10)
    (hp : ∀ (r h' : Int32) (b11 b12 b13 : Nat → Int32), (max p q % 32 < min p q % 32 ∧ r = 2) ∨ (min p q % 32 ≤ max p q % 32 ∧ r = 1) → post r (1, 1, 1, cnt, h', a1, a2, a3, a4, a5, a6, a7, a8, a9, a10, b11, b12, b13)) : wpX_frontier post (1, 1, 1, cnt, h, a1, a2, a3, a4, a5, a6, a7, a8, a9, a10, a11, a12, a13) := by
  unfold wpX_frontier
  have hp' := k.1
  have hq := k.2.1
  refine gf_co2 k (fun b11 b12 b13 e0 e1 _ _ => ?_)
  refine gf_so2 rfl hp' hq e0 e1 (fun c11 c12 f0 f1 => ?_)
  have hm : min p q < 1024 := by omega
  have hM : max p q < 1024 := by omega
  refine nm_r (show nI 2 - 1 = 1 by decide) ⟨0 + 1 + 1 + 1, ?_⟩
  refine pk_lt 1 0 (fun z => absurd z (by omega)) (fun _ => ⟨pk_in 1 40 (by omega), br_f ?_ ⟨pk_in 1 40 (by omega), nm_r (by rw [gf_c1, f1, gf_an hM]) (nm_r gf_i01 (nm_r gf_i1m ?_))⟩⟩)
  · rw [gf_c1, f1, gf_an hM]
    exact gf_gtm (by omega)
  · refine pk_lt 0 0 (fun z => absurd z (by omega)) (fun _ => ⟨pk_in 0 40 (by omega), ?_⟩)
    refine pk_le (min p q % 32) (max p q % 32) (fun z => nm_r gf_i0m (br_t gf_m1 (hp _ _ _ _ _ (Or.inr ⟨z, rfl⟩)))) (fun z => ⟨pk_in 0 40 (by omega), nm_e (nm_r gf_i12 (nm_r gf_i0m (br_t gf_m1 (hp _ _ _ _ _ (Or.inl ⟨z, rfl⟩)))))⟩) (by rw [sb_cl0, f0, gf_an hm])
/-! valueAt -/
theorem gf_va {post : Int32 → Prop} {cnt h : Int32} {a1 a2 a3 a4 a5 a6 a7 a8 a9 a10 a11 a12 a13 : Nat → Int32} {n t : Nat} (k : Nat) (h3 : a3 0 = 0) (h4 : a4 0 = nI n) (hn : n ≤ 4) (ht : t < 1024) (hk : k < n) (hlt : ∀ j, j < k → ¬ a9 j = nI t) (he : a9 k = nI t) (hp : post (a10 k)) :
    wpX_valueAt post (1, 1, 1, cnt, h, a1, a2, a3, a4, a5, a6, a7, a8, a9, a10, a11, a12, a13) (nI (t / 32)) (nI (t % 32)) := by
  unfold wpX_valueAt
  refine gf_pl (by omega) (by omega) (br_f (by decide) ?_)
  refine gf_find k h3 h4 hn (by omega) (gf_join t) hlt (Or.inr ⟨hk, he, ?_⟩)
  refine br_t (nI_pos' (by omega)) ⟨pk_in k 256 (by omega), ?_⟩
  rw [nI_clamp (by omega)]
  exact hp
/-! gap, nextBucket -/
theorem gf_gap {post : Int32 → Prop} {cnt h : Int32} {a1 a2 a3 a4 a5 a6 a7 a8 a9 a10 a11 a12 a13 : Nat → Int32} {n i j : Nat} (k : gf_K n a3 a4 a5 a6 a7 a8) (hi : i < 32) (hj : j < 32) (hp : post 0) : wpX_gap post (1, 1, 1, cnt, h, a1, a2, a3, a4, a5, a6, a7, a8, a9, a10, a11, a12, a13) 0 (nI i) (nI j) := by
  obtain ⟨_, _, h5, h6, h7, h8⟩ := k
  unfold wpX_gap
  refine ⟨pk_in 0 64 (by omega), pk_le 0 i (fun _ => ?_) (fun z => absurd z (by omega)) (by rw [sb_cl0]; exact h5)⟩
  refine ⟨pk_in 0 64 (by omega), pk_le i 31 (fun _ => ?_) (fun z => absurd z (by omega)) rfl (by rw [sb_cl0]; exact h6)⟩
  refine ⟨pk_in 0 64 (by omega), pk_le 0 j (fun _ => ?_) (fun z => absurd z (by omega)) (by rw [sb_cl0]; exact h7)⟩
  refine ⟨pk_in 0 64 (by omega), pk_le j 31 (fun _ => ?_) (fun z => absurd z (by omega)) rfl (by rw [sb_cl0]; exact h8)⟩
  unfold wX_gap_96
  have e : (0 : Int32) * 0 + 0 * 0 = 0 := by decide
  rw [e]
  exact hp
theorem gf_nb {post : Int32 → Prop} {cnt h : Int32} {a1 a2 a3 a4 a5 a6 a7 a8 a9 a10 a11 a12 a13 : Nat → Int32} {x y : Int32} (hs : a13 0 = 0) (hp : post 0) : wpX_nextBucket post (1, 1, 1, cnt, h, a1, a2, a3, a4, a5, a6, a7, a8, a9, a10, a11, a12, a13) x y := by
  unfold wpX_nextBucket
  refine ⟨0 + 1 + 1, pk_le 1 0 (fun z => absurd z (by omega)) (fun _ => ⟨pk_in 0 64 (by omega), br_t (by rw [sb_cl0]; exact hs) (br_t rfl (nm_r gf_i01 ?_))⟩)⟩
  exact pk_le 1 1 (fun _ => hp) (fun z => absurd z (by omega))
/-! nearest -/
theorem gf_nr {post : Int32 → St2 → Prop} {cnt h : Int32} {a1 a2 a3 a4 a5 a6 a7 a8 a9 a10 a11 a12 a13 : Nat → Int32} {n i j : Nat} (hn : 0 < n) (hn' : n ≤ 4) (h4 : a4 0 = nI n) (hi : i < 32) (hj : j < 32)
    (H : ∀ b13, ∃ fu, wX_nearest_112 post (wX_nearest_55 post (nI i) (nI j) 1 1 1 cnt h (0 + 1)) (nI i) (nI j) 0 0 1 1 1 cnt h a1 a2 a3 a4 a5 a6 a7 a8 a9 a10 a11 a12 b13 fu (-2) 0 0) : wpX_nearest post (1, 1, 1, cnt, h, a1, a2, a3, a4, a5, a6, a7, a8, a9, a10, a11, a12, a13) (nI i) (nI j) := by
  unfold wpX_nearest
  refine gf_pl hi hj (br_f (by decide) ⟨0 + 1 + 1, ?_⟩)
  refine pk_le 1 0 (fun z => absurd z (by omega)) (fun _ => ⟨pk_in 0 64 (by omega), pk_eq n 0 (fun z => absurd z (by omega)) (fun _ => ⟨pk_in 0 64 (by omega), nm_e (nm_r gf_i01 ?_)⟩) (by rw [sb_cl0]; exact h4)⟩)
  refine pk_le 1 1 (fun _ => ⟨0 + 1 + 1, ?_⟩) (fun z => absurd z (by omega))
  refine pk_le 1 0 (fun z => absurd z (by omega)) (fun _ => ?_)
  refine gf_nb pk_us (br_f (by decide) (br_t gf_m2 ?_))
  exact ⟨pk_in 0 64 (by omega), nm_e (nm_r gf_40 (H _))⟩
theorem gf_nr1 {post : Int32 → St2 → Prop} {cnt h : Int32} {a1 a2 a3 a4 a5 a6 a7 a8 a9 a10 a11 a12 a13 : Nat → Int32} {q : Nat} {w : Int32} (k : gf_K1 q w a3 a4 a5 a6 a7 a8 a9 a10)
    (hp : ∀ b13 : Nat → Int32, post (nI q) (1, 1, 1, cnt, h, a1, a2, a3, a4, a5, a6, a7, a8, a9, a10, a11, a12, b13)) : wpX_nearest post (1, 1, 1, cnt, h, a1, a2, a3, a4, a5, a6, a7, a8, a9, a10, a11, a12, a13) (nI (q / 32)) (nI (q % 32)) := by
  obtain ⟨hq, ⟨h3, h4, _⟩, h9, h10⟩ := k
  refine gf_nr (n := 1) (by omega) (by omega) h4 (by omega) (by omega) (fun b13 => ⟨0 + 1 + 1, ?_⟩)
  refine ⟨pk_in 0 64 (by omega), pk_le 1 0 (fun z => absurd z (by omega)) (fun _ => ⟨pk_in 0 256 (by omega), ?_⟩) (gf_end h4)⟩
  rw [sb_cl0, h9]
  refine gf_dist hq (br_t gf_m2 ⟨pk_in 0 256 (by omega), nm_r (by rw [sb_cl0, h9]) (nm_r gf_i01 ?_)⟩)
  refine ⟨pk_in 0 64 (by omega), pk_le 1 1 (fun _ => nm_r gf_i01 ?_) (fun z => absurd z (by omega)) (gf_end h4)⟩
  exact pk_le 1 1 (fun _ => hp _) (fun z => absurd z (by omega))
theorem gf_nr2 {post : Int32 → St2 → Prop} {cnt h : Int32} {a1 a2 a3 a4 a5 a6 a7 a8 a9 a10 a11 a12 a13 : Nat → Int32} {p q : Nat} {v w : Int32} (k : gf_K2 p q v w a3 a4 a5 a6 a7 a8 a9 a10)
    (hp : ∀ b13 : Nat → Int32, post (nI q) (1, 1, 1, cnt, h, a1, a2, a3, a4, a5, a6, a7, a8, a9, a10, a11, a12, b13)) : wpX_nearest post (1, 1, 1, cnt, h, a1, a2, a3, a4, a5, a6, a7, a8, a9, a10, a11, a12, a13) (nI (q / 32)) (nI (q % 32)) := by
  obtain ⟨hp', hq, ne, ⟨h3, h4, _⟩, h9, h10, h9', h10'⟩ := k
  refine gf_nr (n := 2) (by omega) (by omega) h4 (by omega) (by omega) (fun b13 => ⟨0 + 1 + 1 + 1, ?_⟩)
  refine ⟨pk_in 0 64 (by omega), pk_le 2 0 (fun z => absurd z (by omega)) (fun _ => ⟨pk_in 0 256 (by omega), ?_⟩) (gf_end h4)⟩
  rw [sb_cl0, h9]
  refine gf_dist hp' (br_t gf_m2 ⟨pk_in 0 256 (by omega), nm_r (by rw [sb_cl0, h9]) (nm_r gf_i01 ?_)⟩)
  refine ⟨pk_in 0 64 (by omega), pk_le 2 1 (fun z => absurd z (by omega)) (fun _ => ⟨pk_in 1 256 (by omega), ?_⟩) (gf_end h4)⟩
  rw [gf_c1, h9']
  refine gf_dist hq (br_f (gf_nn (by omega)) (br_t ?_ ⟨pk_in 1 256 (by omega), nm_r (by rw [gf_c1, h9']) (nm_r gf_i12 ?_)⟩))
  · rw [gf_d0]
    exact gf_dpos hp' hq ne
  · refine ⟨pk_in 0 64 (by omega), pk_le 2 2 (fun _ => nm_r gf_i01 ?_) (fun z => absurd z (by omega)) (gf_end h4)⟩
    exact pk_le 1 1 (fun _ => hp _) (fun z => absurd z (by omega))
/-! within -/
theorem gf_wi1 {post : Int32 → Prop} {cnt h : Int32} {a1 a2 a3 a4 a5 a6 a7 a8 a9 a10 a11 a12 a13 : Nat → Int32} {q : Nat} {w : Int32} (k : gf_K1 q w a3 a4 a5 a6 a7 a8 a9 a10) (hp : post 1) : wpX_within post (1, 1, 1, cnt, h, a1, a2, a3, a4, a5, a6, a7, a8, a9, a10, a11, a12, a13) (nI (q / 32)) (nI (q % 32)) 0 := by
  obtain ⟨hq, kk, h9, h10⟩ := k
  have h4 := kk.2.1
  unfold wpX_within
  refine gf_pl (by omega) (by omega) (br_f (by decide) ⟨0 + 1 + 1, ?_⟩)
  refine pk_le 1 0 (fun z => absurd z (by omega)) (fun _ => gf_gap kk (by omega) (by omega) (br_f (by decide) (nm_r gf_40 ⟨0 + 1 + 1, ?_⟩)))
  refine ⟨pk_in 0 64 (by omega), pk_le 1 0 (fun z => absurd z (by omega)) (fun _ => ⟨pk_in 0 256 (by omega), ?_⟩) (gf_end h4)⟩
  rw [sb_cl0, h9]
  refine gf_dist hq (br_f ?_ (nm_r gf_i01 (nm_r gf_i01 ?_)))
  · rw [gf_d0]
    decide
  · refine ⟨pk_in 0 64 (by omega), pk_le 1 1 (fun _ => nm_r gf_i01 ?_) (fun z => absurd z (by omega)) (gf_end h4)⟩
    exact pk_le 1 1 (fun _ => hp) (fun z => absurd z (by omega))
theorem gf_wi2 {post : Int32 → Prop} {cnt h : Int32} {a1 a2 a3 a4 a5 a6 a7 a8 a9 a10 a11 a12 a13 : Nat → Int32} {p q : Nat} {v w : Int32} (k : gf_K2 p q v w a3 a4 a5 a6 a7 a8 a9 a10) (hp : post 1) : wpX_within post (1, 1, 1, cnt, h, a1, a2, a3, a4, a5, a6, a7, a8, a9, a10, a11, a12, a13) (nI (q / 32)) (nI (q % 32)) 0 := by
  obtain ⟨hp', hq, ne, kk, h9, h10, h9', h10'⟩ := k
  have h4 := kk.2.1
  unfold wpX_within
  refine gf_pl (by omega) (by omega) (br_f (by decide) ⟨0 + 1 + 1, ?_⟩)
  refine pk_le 1 0 (fun z => absurd z (by omega)) (fun _ => gf_gap kk (by omega) (by omega) (br_f (by decide) (nm_r gf_40 ⟨0 + 1 + 1 + 1, ?_⟩)))
  refine ⟨pk_in 0 64 (by omega), pk_le 2 0 (fun z => absurd z (by omega)) (fun _ => ⟨pk_in 0 256 (by omega), ?_⟩) (gf_end h4)⟩
  rw [sb_cl0, h9]
  refine gf_dist hp' (br_t (gf_dpos hp' hq ne) (nm_r (show (0 : Int32) + 0 = 0 by decide) (nm_r gf_i01 ?_)))
  refine ⟨pk_in 0 64 (by omega), pk_le 2 1 (fun z => absurd z (by omega)) (fun _ => ⟨pk_in 1 256 (by omega), ?_⟩) (gf_end h4)⟩
  rw [gf_c1, h9']
  refine gf_dist hq (br_f ?_ (nm_r gf_i01 (nm_r gf_i12 ?_)))
  · rw [gf_d0]
    decide
  · refine ⟨pk_in 0 64 (by omega), pk_le 2 2 (fun _ => nm_r gf_i01 ?_) (fun z => absurd z (by omega)) (gf_end h4)⟩
    exact pk_le 1 1 (fun _ => hp) (fun z => absurd z (by omega))
end
section
/-! the tail of the law, one point -/
section
variable {post : Int32 → St0 → Prop} {mc ms kc ks : Nat}
theorem gf_452_1 {cnt h : Int32} {a1 a2 a3 a4 a5 a6 a7 a8 a9 a10 a11 a12 a13 : Nat → Int32} {q : Nat} {w z0 z1 : Int32} (k : gf_K1 q w a3 a4 a5 a6 a7 a8 a9 a10) (hz : z1 = z0) (hp : post 1 ()) : wL_lawOf_452 post mc ms (nI q) z0 z1 kc ks 1 1 1 cnt h a1 a2 a3 a4 a5 a6 a7 a8 a9 a10 a11 a12 a13 := by
  unfold wL_lawOf_452
  rw [gf_sh k.1, gf_an k.1]
  exact br_t hz (gf_nr1 k (fun b13 => br_t rfl (gf_wi1 k (br_t rfl hp))))
theorem gf_452_2 {cnt h : Int32} {a1 a2 a3 a4 a5 a6 a7 a8 a9 a10 a11 a12 a13 : Nat → Int32} {p q : Nat} {v w z0 z1 : Int32} (k : gf_K2 p q v w a3 a4 a5 a6 a7 a8 a9 a10) (hz : z1 = z0) (hp : post 1 ()) : wL_lawOf_452 post mc ms (nI q) z0 z1 kc ks 1 1 1 cnt h a1 a2 a3 a4 a5 a6 a7 a8 a9 a10 a11 a12 a13 := by
  unfold wL_lawOf_452
  rw [gf_sh k.2.1, gf_an k.2.1]
  exact br_t hz (gf_nr2 k (fun b13 => br_t rfl (gf_wi2 k (br_t rfl hp))))
theorem gf_423_1 {cnt h : Int32} {a1 a2 a3 a4 a5 a6 a7 a8 a9 a10 a11 a12 a13 : Nat → Int32} {q : Nat} {w x3 x8 z0 z1 : Int32} (k : gf_K1 q w a3 a4 a5 a6 a7 a8 a9 a10) (hz : z1 = z0) (hx : (x8 = 0 → w = 3) ∧ (¬ x8 = 0 → w = x3)) (hp : post 1 ()) : wL_lawOf_423 post mc ms x3 x8 (nI q) z0 z1 kc ks 1 1 1 cnt h a1 a2 a3 a4 a5 a6 a7 a8 a9 a10 a11 a12 a13 := by
  unfold wL_lawOf_423
  rw [gf_sh k.1, gf_an k.1]
  have h10 := k.2.2.2
  refine br_t hz (gf_va 0 k.2.1.1 k.2.1.2.1 (by omega) k.1 (by omega) (fun j hj => absurd hj (by omega)) k.2.2.1 ?_)
  exact br_c (fun e => gf_452_1 k (h10.trans (hx.1 e)) hp) (fun e => gf_452_1 k (h10.trans (hx.2 e)) hp)
theorem gf_423_2 {cnt h : Int32} {a1 a2 a3 a4 a5 a6 a7 a8 a9 a10 a11 a12 a13 : Nat → Int32} {p q : Nat} {v w x8 z0 z1 : Int32} (k : gf_K2 p q v w a3 a4 a5 a6 a7 a8 a9 a10) (hz : z1 = z0) (hx : ¬ x8 = 0) (hp : post 1 ()) : wL_lawOf_423 post mc ms w x8 (nI q) z0 z1 kc ks 1 1 1 cnt h a1 a2 a3 a4 a5 a6 a7 a8 a9 a10 a11 a12 a13 := by
  have k' := k
  obtain ⟨hp', hq, ne, ⟨h3, h4, _⟩, h9, h10, h9', h10'⟩ := k'
  unfold wL_lawOf_423
  rw [gf_sh hq, gf_an hq]
  refine br_t hz (gf_va 1 h3 h4 (by omega) hq (by omega) (gf_all1 (P := fun j => ¬ a9 j = nI q) ?_) h9' ?_)
  · intro e
    rw [h9] at e
    exact ne ((nI_eq (by omega) (by omega)).mp e)
  · exact br_f hx (gf_452_2 k h10' hp)
theorem gf_400_1 {cnt h : Int32} {a1 a2 a3 a4 a5 a6 a7 a8 a9 a10 a11 a12 a13 : Nat → Int32} {q : Nat} {w x3 x8 z0 : Int32} (k : gf_K1 q w a3 a4 a5 a6 a7 a8 a9 a10) (hx : (x8 = 0 → w = 3) ∧ (¬ x8 = 0 → w = x3)) (hp : post 1 ()) : wL_lawOf_400 post mc ms x3 x8 (nI q) 1 z0 kc ks 1 1 1 cnt h a1 a2 a3 a4 a5 a6 a7 a8 a9 a10 a11 a12 a13 := by
  unfold wL_lawOf_400
  exact gf_fr1 k (fun h' b11 b12 b13 => br_f (by decide) (gf_423_1 k rfl hx hp))
theorem gf_400_2 {cnt h : Int32} {a1 a2 a3 a4 a5 a6 a7 a8 a9 a10 a11 a12 a13 : Nat → Int32} {p q : Nat} {v w x8 z0 : Int32} (k : gf_K2 p q v w a3 a4 a5 a6 a7 a8 a9 a10) (hx : ¬ x8 = 0) (hz : z0 = 0 ↔ max p q % 32 < min p q % 32) (hp : post 1 ()) : wL_lawOf_400 post mc ms w x8 (nI q) 2 z0 kc ks 1 1 1 cnt h a1 a2 a3 a4 a5 a6 a7 a8 a9 a10 a11 a12 a13 := by
  unfold wL_lawOf_400
  refine gf_fr2 k (fun r h' b11 b12 b13 hr => br_t rfl (br_c (fun e => gf_423_2 k ?_ hx hp) (fun e => gf_423_2 k ?_ hx hp)))
  · have := hz.mp e
    rcases hr with ⟨_, z⟩ | ⟨y, _⟩
    · exact z
    · omega
  · rcases hr with ⟨y, _⟩ | ⟨_, z⟩
    · exact absurd (hz.mpr y) e
    · exact z
theorem gf_385 {cnt h : Int32} {a1 a2 a3 a4 a5 a6 a7 a8 a9 a10 a11 a12 a13 : Nat → Int32} {x3 x8 x15 x17 x18 x19 : Int32} (hn : ¬ (¬ x18 < 0 ∧ 0 ≤ x19))
    (H : ∀ z : Int32, (z = 0 ↔ ¬ ((¬ x18 < 0 ∧ 0 ≤ x19) ∨ (¬ 0 < x18 ∧ ¬ 0 < x19))) → wL_lawOf_400 post mc ms x3 x8 x15 x17 z kc ks 1 1 1 cnt h a1 a2 a3 a4 a5 a6 a7 a8 a9 a10 a11 a12 a13) : wL_lawOf_385 post mc ms x3 x8 x15 x17 x18 x19 kc ks 1 1 1 cnt h a1 a2 a3 a4 a5 a6 a7 a8 a9 a10 a11 a12 a13 := by
  unfold wL_lawOf_385
  refine br_c (fun a => H 0 ⟨fun _ t => t.elim hn (fun u => u.1 a), fun _ => rfl⟩) (fun a => br_c (fun b => H 0 ⟨fun _ t => t.elim hn (fun u => u.2 b), fun _ => rfl⟩) (fun b => H 1 ⟨fun t => absurd t (by decide), fun t => absurd (Or.inr ⟨a, b⟩) t⟩))
theorem gf_370 {cnt h : Int32} {a1 a2 a3 a4 a5 a6 a7 a8 a9 a10 a11 a12 a13 : Nat → Int32} {x3 x8 x15 x17 x18 x19 z0 z1 : Int32} (hz : z1 = z0)
    (H : ∀ z : Int32, (z = 0 ↔ ¬ ((¬ x18 < 0 ∧ 0 ≤ x19) ∨ (¬ 0 < x18 ∧ ¬ 0 < x19))) → wL_lawOf_400 post mc ms x3 x8 x15 x17 z kc ks 1 1 1 cnt h a1 a2 a3 a4 a5 a6 a7 a8 a9 a10 a11 a12 a13) : wL_lawOf_370 post mc ms x3 x8 x15 x17 x18 x19 z0 z1 kc ks 1 1 1 cnt h a1 a2 a3 a4 a5 a6 a7 a8 a9 a10 a11 a12 a13 := by
  unfold wL_lawOf_370
  refine br_t hz (br_c (fun a => gf_385 (fun t => t.1 a) H) (fun a => br_c (fun b => H 1 ⟨fun t => absurd t (by decide), fun t => absurd (Or.inl ⟨a, b⟩) t⟩) (fun b => gf_385 (fun t => b t.2) H)))
/-- which of two places is above -/
theorem gf_chain {p q : Nat} (hp : p < 1024) (hq : q < 1024) (ne : p ≠ q) : ¬ ((¬ nI (q / 32) - nI (p / 32) < 0 ∧ 0 ≤ nI (q % 32) - nI (p % 32)) ∨ (¬ 0 < nI (q / 32) - nI (p / 32) ∧ ¬ 0 < nI (q % 32) - nI (p % 32))) ↔ max p q % 32 < min p q % 32 := by
  rw [Int32.lt_iff_toInt_lt, Int32.le_iff_toInt_le, Int32.lt_iff_toInt_lt, Int32.lt_iff_toInt_lt, pk_sub_toInt (by omega) (by omega), pk_sub_toInt (by omega) (by omega), show (0 : Int32).toInt = 0 by decide]
  rcases Nat.le_total p q with z | z
  · rw [Nat.max_eq_right z, Nat.min_eq_left z]
    omega
  · rw [Nat.max_eq_left z, Nat.min_eq_right z]
    omega
theorem gf_fin1 {cnt h : Int32} {a1 a2 a3 a4 a5 a6 a7 a8 a9 a10 a11 a12 a13 : Nat → Int32} {q : Nat} {w x3 x8 x11 : Int32} (hc : cnt = nI 1) (k : gf_K1 q w a3 a4 a5 a6 a7 a8 a9 a10) (hx : (x8 = 0 → w = 3) ∧ (¬ x8 = 0 → w = x3)) (hy : (x11 = 0 → w = 3) ∧ (¬ x11 = 0 → w = x3)) (hp : post 1 ()) :
    wL_lawOf_272 post mc ms x3 x8 x11 (nI q) (nI q) 1 kc ks 1 1 1 cnt h a1 a2 a3 a4 a5 a6 a7 a8 a9 a10 a11 a12 a13 := by
  unfold wL_lawOf_272
  refine nm_e (nm_e ?_)
  unfold wpX_size
  refine br_t hc (gf_cl1 k (fun h' b11 b12 b13 => br_f (by decide) ?_))
  refine br_t rfl (gf_su1 k (fun h' b11 b12 b13 => br_f (by decide) (br_c (fun e => ?_) (fun e => ?_))))
  · exact gf_370 (hy.1 e) (fun z _ => gf_400_1 k hx hp)
  · exact gf_370 (hy.2 e) (fun z _ => gf_400_1 k hx hp)
theorem gf_fin2 {cnt h : Int32} {a1 a2 a3 a4 a5 a6 a7 a8 a9 a10 a11 a12 a13 : Nat → Int32} {p q : Nat} {w x8 x11 : Int32} (hc : cnt = nI 2) (k : gf_K2 p q 3 w a3 a4 a5 a6 a7 a8 a9 a10) (hx : ¬ x8 = 0) (hp : post 1 ()) :
    wL_lawOf_272 post mc ms w x8 x11 (nI q) (nI p) 2 kc ks 1 1 1 cnt h a1 a2 a3 a4 a5 a6 a7 a8 a9 a10 a11 a12 a13 := by
  have hp' := k.1
  have hq := k.2.1
  unfold wL_lawOf_272
  rw [gf_sh hp', gf_an hp', gf_sh hq, gf_an hq]
  refine nm_e (nm_e ?_)
  unfold wpX_size
  refine br_t hc (gf_cl2 k (fun h' b11 b12 b13 => br_t rfl ?_))
  refine br_t rfl (gf_su2 k (fun h' b11 b12 b13 => br_t rfl ?_))
  exact gf_370 rfl (fun z hz => gf_400_2 k hx (hz.trans (gf_chain hp' hq k.2.2.1)) hp)
/-! the head: what is due of the move -/
theorem gf_178 {cnt h : Int32} {a1 a2 a3 a4 a5 a6 a7 a8 a9 a10 a11 a12 a13 : Nat → Int32} {x0 x1 x3 x5 x8 x11 x12 z0 : Int32}
    (H1 : (x8 = 0 ∨ x12 = 0) → wL_lawOf_205 post mc ms x0 x1 x3 x5 x8 x11 (-1) kc ks 1 1 1 cnt h a1 a2 a3 a4 a5 a6 a7 a8 a9 a10 a11 a12 a13) (H2 : ¬ x8 = 0 → ¬ x12 = 0 → z0 = 0 → wL_lawOf_205 post mc ms x0 x1 x3 x5 x8 x11 0 kc ks 1 1 1 cnt h a1 a2 a3 a4 a5 a6 a7 a8 a9 a10 a11 a12 a13)
    (H3 : ¬ x8 = 0 → ¬ x12 = 0 → ¬ z0 = 0 → wL_lawOf_205 post mc ms x0 x1 x3 x5 x8 x11 (-3) kc ks 1 1 1 cnt h a1 a2 a3 a4 a5 a6 a7 a8 a9 a10 a11 a12 a13) : wL_lawOf_178 post mc ms x0 x1 x3 x5 x8 x11 x12 z0 kc ks 1 1 1 cnt h a1 a2 a3 a4 a5 a6 a7 a8 a9 a10 a11 a12 a13 := by
  unfold wL_lawOf_178
  exact br_c (fun a => H1 (Or.inl a)) (fun a => br_c (fun b => H1 (Or.inr b)) (fun b => br_c (fun c => H2 a b c) (fun c => H3 a b c)))
theorem gf_134 {cnt h : Int32} {a1 a2 a3 a4 a5 a6 a7 a8 a9 a10 a11 a12 a13 : Nat → Int32} {x0 x1 x3 x5 x8 x11 z0 z1 : Int32} (hz : z1 = z0)
    (H1 : (x8 = 0 ∨ x1 < 0 ∨ 1023 < x1) → wL_lawOf_205 post mc ms x0 x1 x3 x5 x8 x11 (-1) kc ks 1 1 1 cnt h a1 a2 a3 a4 a5 a6 a7 a8 a9 a10 a11 a12 a13)
    (H2 : ¬ x8 = 0 → ¬ x1 < 0 → ¬ 1023 < x1 → ¬ x1 = x0 → ¬ x1 = x5 → wL_lawOf_205 post mc ms x0 x1 x3 x5 x8 x11 0 kc ks 1 1 1 cnt h a1 a2 a3 a4 a5 a6 a7 a8 a9 a10 a11 a12 a13)
    (H3 : ¬ x8 = 0 → ¬ x1 < 0 → ¬ 1023 < x1 → (x1 = x0 ∨ x1 = x5) → wL_lawOf_205 post mc ms x0 x1 x3 x5 x8 x11 (-3) kc ks 1 1 1 cnt h a1 a2 a3 a4 a5 a6 a7 a8 a9 a10 a11 a12 a13) : wL_lawOf_134 post mc ms x0 x1 x3 x5 x8 x11 z0 z1 kc ks 1 1 1 cnt h a1 a2 a3 a4 a5 a6 a7 a8 a9 a10 a11 a12 a13 := by
  have B : (x1 < 0 ∨ 1023 < x1) → wL_lawOf_154 post mc ms x0 x1 x3 x5 x8 x11 kc ks 1 1 1 cnt h a1 a2 a3 a4 a5 a6 a7 a8 a9 a10 a11 a12 a13 := by
    intro g
    unfold wL_lawOf_154 wL_lawOf_155 wL_lawOf_177
    exact br_t rfl (gf_178 (fun _ => H1 (Or.inr g)) (fun _ t => absurd rfl t) (fun _ t => absurd rfl t))
  unfold wL_lawOf_134
  refine br_t hz (br_c (fun a => B (Or.inl a)) (fun a => br_c (fun b => B (Or.inr b)) (fun b => ?_)))
  unfold wL_lawOf_155 wL_lawOf_177 wL_lawOf_173
  have n10 : ¬ (1 : Int32) = 0 := by decide
  have R : ∀ z : Int32, (x8 = 0 ∨ (1 : Int32) = 0) → wL_lawOf_205 post mc ms x0 x1 x3 x5 x8 x11 (-1) kc ks 1 1 1 cnt h a1 a2 a3 a4 a5 a6 a7 a8 a9 a10 a11 a12 a13 := fun _ t => t.elim (fun t => H1 (Or.inl t)) (fun t => absurd t n10)
  refine br_f n10 (br_c (fun c => ?_) (fun c => br_c (fun d => ?_) (fun d => ?_)))
  · exact gf_178 (R 0) (fun _ _ t => absurd t n10) (fun e _ _ => H3 e a b (Or.inl c))
  · exact gf_178 (R 0) (fun _ _ t => absurd t n10) (fun e _ _ => H3 e a b (Or.inr d))
  · exact gf_178 (R 0) (fun e _ _ => H2 e a b c d) (fun _ _ t => absurd rfl t)
/-! behind the move -/
theorem gf_k1set {p t : Nat} {w : Int32} {a3 a4 a5 a6 a7 a8 a9 a10 : Nat → Int32} {x y : Int32} (k : gf_K1 p w a3 a4 a5 a6 a7 a8 a9 a10) (ht : t < 1024) :
    gf_K1 t w a3 (upd (upd a4 0 x) 0 (nI 1)) a5 a6 a7 a8 (upd (upd a9 0 y) 0 (nI t)) (upd (upd a10 0 (a10 0)) 0 (a10 0)) := by
  obtain ⟨_, ⟨h3, h4, h5⟩, h9, h10⟩ := k
  exact ⟨ht, ⟨h3, pk_us, h5⟩, pk_us, pk_us.trans h10⟩
theorem gf_k2set {p f t : Nat} {v w : Int32} {a3 a4 a5 a6 a7 a8 a9 a10 : Nat → Int32} {x y : Int32} (k : gf_K2 p f v w a3 a4 a5 a6 a7 a8 a9 a10) (ht : t < 1024) (ne : p ≠ t) :
    gf_K2 p t v w a3 (upd (upd a4 0 x) 0 (nI 2)) a5 a6 a7 a8 (upd (upd a9 1 y) 1 (nI t)) (upd (upd a10 1 (a10 1)) 1 (a10 1)) := by
  obtain ⟨hp, _, _, ⟨h3, h4, h5⟩, h9, h10, h9', h10'⟩ := k
  refine ⟨hp, ht, ne, ⟨h3, pk_us, h5⟩, ?_, ?_, pk_us, pk_us.trans h10'⟩
  · rw [pk_un (by decide), pk_un (by decide), h9]
  · rw [pk_un (by decide), pk_un (by decide), h10]
theorem gf_k2new {p f : Nat} {v w : Int32} {a3 a4 a5 a6 a7 a8 a9 a10 : Nat → Int32} (k : gf_K1 p v a3 a4 a5 a6 a7 a8 a9 a10) (hf : f < 1024) (ne : p ≠ f) :
    gf_K2 p f v w a3 (upd a4 0 (nI 2)) a5 a6 a7 a8 (upd a9 1 (nI f)) (upd a10 1 w) := by
  obtain ⟨hp, ⟨h3, h4, h5⟩, h9, h10⟩ := k
  refine ⟨hp, hf, ne, ⟨h3, pk_us, h5⟩, ?_, ?_, pk_us, pk_us⟩
  · rw [pk_un (by decide), h9]
  · rw [pk_un (by decide), h10]
theorem gf_of {x : Int32} (h0 : ¬ x < 0) (h1 : ¬ 1023 < x) : ∃ t : Nat, t < 1024 ∧ x = nI t := by
  obtain ⟨j, hj, rfl⟩ := nI_of h0
  refine ⟨j, ?_, rfl⟩
  rcases Nat.lt_or_ge j 1024 with z | z
  · exact z
  · exact absurd (nI_lt (a := 1023) (by omega) hj) h1
theorem gf_ni {s t : Nat} (hs : s < 1024) (ht : t < 1024) (h : s ≠ t) : ¬ nI s = nI t := fun e => h ((nI_eq (by omega) (by omega)).mp e)
/-- the answers of the law behind a move on one point -/
theorem gf_241_1 {cnt h : Int32} {a1 a2 a3 a4 a5 a6 a7 a8 a9 a10 a11 a12 a13 : Nat → Int32} {q : Nat} {w x3 x5 x8 x11 : Int32} (hc : cnt = nI 1) (k : gf_K1 q w a3 a4 a5 a6 a7 a8 a9 a10) (hx : (x8 = 0 → w = 3) ∧ (¬ x8 = 0 → w = x3)) (hy : (x11 = 0 → x8 = 0 ∧ w = 3 ∧ x5 = nI q) ∧ (¬ x11 = 0 → w = x3)) (hp : post 1 ()) :
    wL_lawOf_241 post mc ms x3 x5 x8 x11 (nI q) kc ks 1 1 1 cnt h a1 a2 a3 a4 a5 a6 a7 a8 a9 a10 a11 a12 a13 := by
  unfold wL_lawOf_241
  have F : wL_lawOf_272 post mc ms x3 x8 x11 (nI q) (nI q) 1 kc ks 1 1 1 cnt h a1 a2 a3 a4 a5 a6 a7 a8 a9 a10 a11 a12 a13 := gf_fin1 hc k hx ⟨fun e => (hy.1 e).2.1, hy.2⟩ hp
  refine br_c (fun e => ?_) (fun e => ?_)
  · rw [(hy.1 e).2.2]
    unfold wL_lawOf_255
    exact br_t (hy.1 e).1 F
  · unfold wL_lawOf_255
    exact br_c (fun _ => F) (fun _ => br_f e F)
theorem gf_241_2 {cnt h : Int32} {a1 a2 a3 a4 a5 a6 a7 a8 a9 a10 a11 a12 a13 : Nat → Int32} {p q : Nat} {x3 : Int32} (hc : cnt = nI 2) (k : gf_K2 p q 3 x3 a3 a4 a5 a6 a7 a8 a9 a10) (hp : post 1 ()) :
    wL_lawOf_241 post mc ms x3 (nI p) 1 0 (nI q) kc ks 1 1 1 cnt h a1 a2 a3 a4 a5 a6 a7 a8 a9 a10 a11 a12 a13 := by
  unfold wL_lawOf_241
  refine br_t rfl ?_
  unfold wL_lawOf_255
  exact br_f (by decide) (br_t rfl (gf_fin2 hc k (by decide) hp))
/-! the three ways of the head -/
theorem gf_bad {cnt h : Int32} {a1 a2 a3 a4 a5 a6 a7 a8 a9 a10 a11 a12 a13 : Nat → Int32} {p : Nat} {x0 x1 x3 : Int32} (hc : cnt = nI 1) (k : gf_K1 p 3 a3 a4 a5 a6 a7 a8 a9 a10) (hb : x0 < 0 ∨ 1023 < x0) (hp : post 1 ()) : wL_lawOf_55 post mc ms x0 x1 x3 (nI p) kc ks 1 1 1 cnt h a1 a2 a3 a4 a5 a6 a7 a8 a9 a10 a11 a12 a13 := by
  have n10 : ¬ (-1 : Int32) = 0 := by decide
  unfold wL_lawOf_55 wL_lawOf_56
  refine br_t rfl ?_
  unfold wL_lawOf_70
  refine br_t rfl ?_
  unfold wL_lawOf_85
  refine br_t rfl ?_
  unfold wL_lawOf_102 wL_lawOf_103
  refine gf_put_bad gf_m1 (br_t rfl ?_)
  refine gf_134 rfl (fun _ => ?_) (fun t => absurd rfl t) (fun t => absurd rfl t)
  unfold wL_lawOf_205
  refine gf_mv_b0 (hb.elim Or.inl (fun t => Or.inr (Or.inl t))) (br_t rfl (br_f n10 (br_t rfl ?_)))
  exact gf_241_1 hc k ⟨fun _ => rfl, fun t => absurd rfl t⟩ ⟨fun _ => ⟨rfl, rfl, rfl⟩, fun t => absurd rfl t⟩ hp
theorem gf_same {cnt h : Int32} {a1 a2 a3 a4 a5 a6 a7 a8 a9 a10 a11 a12 a13 : Nat → Int32} {p : Nat} {x1 x3 : Int32} (hc : cnt = nI 1) (k : gf_K1 p x3 a3 a4 a5 a6 a7 a8 a9 a10) (hp : post 1 ()) : wL_lawOf_134 post mc ms (nI p) x1 x3 (nI p) 1 1 0 0 kc ks 1 1 1 cnt h a1 a2 a3 a4 a5 a6 a7 a8 a9 a10 a11 a12 a13 := by
  have n10 : ¬ (1 : Int32) = 0 := by decide
  have m10 : ¬ (-1 : Int32) = 0 := by decide
  have m30 : ¬ (-3 : Int32) = 0 := by decide
  have hp' := k.1
  have X : ((1 : Int32) = 0 → x3 = 3) ∧ (¬ (1 : Int32) = 0 → x3 = x3) := ⟨fun t => absurd t n10, fun _ => rfl⟩
  have Y : ∀ q : Nat, ((1 : Int32) = 0 → (1 : Int32) = 0 ∧ x3 = 3 ∧ nI p = nI q) ∧ (¬ (1 : Int32) = 0 → x3 = x3) := fun q => ⟨fun t => absurd t n10, fun _ => rfl⟩
  have h3 := k.2.1.1
  have h4 := k.2.1.2.1
  have h9 := k.2.2.1
  refine gf_134 rfl (fun g => ?_) (fun _ g0 g1 g2 g3 => ?_) (fun _ g0 g1 g2 => ?_)
  · unfold wL_lawOf_205
    refine gf_mv_b0 ?_ (br_t rfl (br_f m10 (br_f n10 (gf_241_1 hc k X (Y p) hp))))
    rcases g with z | z | z
    · exact absurd z n10
    · exact Or.inr (Or.inr (Or.inl z))
    · refine Or.inr (Or.inr (Or.inr (fun y => ?_)))
      rw [Int32.lt_iff_toInt_lt] at z
      rw [Int32.le_iff_toInt_le] at y
      omega
  · obtain ⟨t, ht, rfl⟩ := gf_of g0 g1
    unfold wL_lawOf_205
    refine gf_mv_ok 0 hc h3 h4 (by omega) hp' ht (fun j hj => absurd hj (by omega)) h9 (gf_all1 (P := fun j => ¬ a9 j = nI t) ?_) (br_t rfl (br_t rfl ?_))
    · rw [h9]
      exact fun e => g2 e.symm
    · exact gf_241_1 hc (gf_k1set k ht) X (Y t) hp
  · have e : x1 = nI p := g2.elim id id
    subst e
    unfold wL_lawOf_205
    refine gf_mv_tk 0 0 h3 h4 (by omega) hp' hp' (by omega) (fun j hj => absurd hj (by omega)) h9 (by omega) (fun j hj => absurd hj (by omega)) h9 ?_
    exact br_t rfl (br_f m30 (br_f n10 (gf_241_1 hc k X (Y p) hp)))
theorem gf_two {cnt h : Int32} {a1 a2 a3 a4 a5 a6 a7 a8 a9 a10 a11 a12 a13 : Nat → Int32} {p f : Nat} {x1 x3 : Int32} (hc : cnt = nI 2) (k : gf_K2 p f 3 x3 a3 a4 a5 a6 a7 a8 a9 a10) (hp : post 1 ()) : wL_lawOf_134 post mc ms (nI f) x1 x3 (nI p) 1 0 1 1 kc ks 1 1 1 cnt h a1 a2 a3 a4 a5 a6 a7 a8 a9 a10 a11 a12 a13 := by
  have n10 : ¬ (1 : Int32) = 0 := by decide
  have m10 : ¬ (-1 : Int32) = 0 := by decide
  have m30 : ¬ (-3 : Int32) = 0 := by decide
  have k' := k
  obtain ⟨hp', hf, ne, ⟨h3, h4, _⟩, h9, h10, h9', h10'⟩ := k'
  have L : ∀ j, j < 1 → ¬ a9 j = nI f := gf_all1 (P := fun j => ¬ a9 j = nI f) (by rw [h9]; exact gf_ni hp' hf ne)
  refine gf_134 rfl (fun g => ?_) (fun _ g0 g1 g2 g3 => ?_) (fun _ g0 g1 g2 => ?_)
  · unfold wL_lawOf_205
    refine gf_mv_b0 ?_ (br_t rfl (br_f m10 (br_f n10 (gf_241_2 hc k hp))))
    rcases g with z | z | z
    · exact absurd z n10
    · exact Or.inr (Or.inr (Or.inl z))
    · refine Or.inr (Or.inr (Or.inr (fun y => ?_)))
      rw [Int32.lt_iff_toInt_lt] at z
      rw [Int32.le_iff_toInt_le] at y
      omega
  · obtain ⟨t, ht, rfl⟩ := gf_of g0 g1
    unfold wL_lawOf_205
    refine gf_mv_ok 1 hc h3 h4 (by omega) hf ht L h9' (gf_all2 (P := fun j => ¬ a9 j = nI t) ?_ ?_) (br_t rfl (br_t rfl ?_))
    · rw [h9]
      exact fun e => g3 e.symm
    · rw [h9']
      exact fun e => g2 e.symm
    · exact gf_241_2 hc (gf_k2set k ht (fun e => g3 (by rw [e]))) hp
  · unfold wL_lawOf_205
    rcases g2 with e | e
    · subst e
      refine gf_mv_tk 1 1 h3 h4 (by omega) hf hf (by omega) L h9' (by omega) L h9' ?_
      exact br_t rfl (br_f m30 (br_f n10 (gf_241_2 hc k hp)))
    · subst e
      refine gf_mv_tk 1 0 h3 h4 (by omega) hf hp' (by omega) L h9' (by omega) (fun j hj => absurd hj (by omega)) h9 ?_
      exact br_t rfl (br_f m30 (br_f n10 (gf_241_2 hc k hp)))
theorem gf_good {cnt h : Int32} {a1 a2 a3 a4 a5 a6 a7 a8 a9 a10 a11 a12 a13 : Nat → Int32} {p f : Nat} {x1 x3 : Int32} (hc : cnt = nI 1) (k : gf_K1 p 3 a3 a4 a5 a6 a7 a8 a9 a10) (hf : f < 1024) (hp : post 1 ()) : wL_lawOf_56 post mc ms (nI f) x1 x3 (nI p) 1 kc ks 1 1 1 cnt h a1 a2 a3 a4 a5 a6 a7 a8 a9 a10 a11 a12 a13 := by
  have n10 : ¬ (1 : Int32) = 0 := by decide
  have hp' := k.1
  have h3 := k.2.1.1
  have h4 := k.2.1.2.1
  have h9 := k.2.2.1
  unfold wL_lawOf_56
  refine br_f n10 ?_
  unfold wL_lawOf_70
  refine br_f n10 ?_
  unfold wL_lawOf_85
  rw [gf_sh hf, gf_an hf]
  refine br_f n10 (pk_eq f p (fun e => ?_) (fun e => ?_))
  · subst e
    unfold wL_lawOf_103
    refine gf_put_old (n := 1) 0 h3 h4 (by omega) hf (by omega) (fun j hj => absurd hj (by omega)) h9 (br_f n10 (br_f n10 ?_))
    exact gf_same hc ⟨hp', k.2.1, h9, pk_us⟩ hp
  · unfold wL_lawOf_102 wL_lawOf_103
    refine gf_put_new (n := 1) hc h3 h4 (by omega) hf (gf_all1 (P := fun j => ¬ a9 j = nI f) ?_) (br_f n10 (br_t rfl ?_))
    · rw [h9]
      exact gf_ni hp' hf (fun t => e t.symm)
    · exact gf_two rfl (gf_k2new k hf (fun t => e t.symm)) hp
end
/-! the whole -/
theorem gf_init {post : St2 → Prop} {mc ms : Nat} (hc : 13 ≤ mc) (hs : 2066 ≤ ms)
    (hp : ∀ a1 a2 a3 a4 a5 a6 a7 a8 a9 a10 a11 a12 a13 : Nat → Int32, gf_K 0 a3 a4 a5 a6 a7 a8 → post (1, 1, 1, 0, 0, a1, a2, a3, a4, a5, a6, a7, a8, a9, a10, a11, a12, a13)) : wpX_init post mc ms (0, 0, 0, 0, 0) := by
  unfold wpX_init
  refine ⟨by omega, by omega, by omega, by omega, by omega, by omega, by omega, by omega, by omega, by omega, by omega, by omega, by omega, by omega, by omega, by omega, by omega, by omega, by omega, by omega, by omega, by omega, by omega, by omega, by omega, by omega, ?_⟩
  unfold wpX_reset
  refine nm_e (nm_e (nm_e (nm_e (nm_e (nm_e (nm_e (nm_e (nm_e (nm_e ?_)))))))))
  exact hp _ _ _ _ _ _ _ _ _ _ _ _ _ ⟨pk_us, pk_us, pk_us, pk_us, pk_us, pk_us⟩
theorem gf_lawOf {post : Int32 → St0 → Prop} {x0 x1 x2 x3 : Int32} (hp : post 1 ()) : wpL_lawOf post 14 2084 () x0 x1 x2 x3 := by
  unfold wpL_lawOf
  refine ⟨by omega, by omega, 13, 2066, by omega, by omega, ?_⟩
  refine gf_init (by omega) (by omega) (fun a1 a2 a3 a4 a5 a6 a7 a8 a9 a10 a11 a12 a13 k => ?_)
  obtain ⟨p, hp', ep⟩ := gf_p10 x2
  refine nm_r ep (nm_r (gf_sh hp') (nm_r (gf_an hp') ?_))
  refine gf_put_new (n := 0) rfl k.1 k.2.1 (by omega) hp' (fun j hj => absurd hj (by omega)) ?_
  have K : gf_K1 p 3 a3 (upd a4 0 (nI 1)) a5 a6 a7 a8 (upd a9 0 (nI p)) (upd a10 0 3) := ⟨hp', ⟨k.1, pk_us, k.2.2⟩, pk_us, pk_us⟩
  refine br_c (fun z => gf_bad rfl K (Or.inl z) hp) (fun z => br_c (fun y => gf_bad rfl K (Or.inr y) hp) (fun y => ?_))
  obtain ⟨f, hf, rfl⟩ := gf_of z y
  exact gf_good rfl K hf hp
end
section
theorem gf_cell {post : Int32 → Prop} {L : Nat} {xs : Nat → Int32} (hL : L ≤ 4) (i : Nat) (hi : i < 4) (x : Int32) (hx : x = nI i) (h : ∀ y, post y) : wpL_cellAt post L xs () x := by
  unfold wpL_cellAt
  exact pk_le L i (fun _ => h 0) (fun z => ⟨pk_in i L z hx, h _⟩) rfl hx
theorem i_vc (xs : Nat → Int32) (L : Nat) (hL : L ≤ 4) : wpL_law (fun r => r = 1) L xs := by
  unfold wpL_law
  exact gf_cell hL 0 (by omega) _ rfl (fun r1 => gf_cell hL 1 (by omega) _ rfl (fun r2 => gf_cell hL 2 (by omega) _ rfl (fun r3 => gf_cell hL 3 (by omega) _ rfl (fun r4 => ⟨14, 2084, by omega, by omega, gf_lawOf rfl⟩))))
end
