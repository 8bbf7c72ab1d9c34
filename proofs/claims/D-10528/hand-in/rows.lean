section
section
variable {dr sz ps lo hi : Int32} {a1 a2 a3 a4 a5 a6 a7 : Nat → Int32}
/-- how many k below n have q -/
def ei_cnt (q : Nat → Bool) : Nat → Nat
  | 0 => 0
  | n + 1 => ei_cnt q n + (if q n then 1 else 0)
theorem ei_ct {q : Nat → Bool} {n : Nat} (h : q n = true) : ei_cnt q (n + 1) = ei_cnt q n + 1 := by
  show ei_cnt q n + (if q n then 1 else 0) = _
  rw [h]; rfl
theorem ei_cf {q : Nat → Bool} {n : Nat} (h : q n = false) : ei_cnt q (n + 1) = ei_cnt q n := by
  show ei_cnt q n + (if q n then 1 else 0) = _
  rw [h]; rfl
theorem ei_c_le {q : Nat → Bool} : ∀ n, ei_cnt q n ≤ n
  | 0 => Nat.le_refl 0
  | n + 1 => by
    have ih := ei_c_le (q := q) n
    cases h : q n
    · rw [ei_cf h]; omega
    · rw [ei_ct h]; omega
/-- the texts among the first n slots -/
def ei_tx (a : Nat → Int32) (n : Nat) : Nat := ei_cnt (fun k => decide (¬ a k ≤ 0)) n
/-- the letters less than c among the first n places -/
def ei_ls (c : Int32) (a : Nat → Int32) (n : Nat) : Nat := ei_cnt (fun k => decide (¬ c ≤ a k)) n
/-- the letters c among the first n places -/
def ei_up (c : Int32) (a : Nat → Int32) (n : Nat) : Nat := ei_cnt (fun k => decide (a k = c)) n
theorem ei_tx_t {a : Nat → Int32} {n : Nat} (h : ¬ a n ≤ 0) : ei_tx a (n + 1) = ei_tx a n + 1 := ei_ct (decide_eq_true h)
theorem ei_tx_f {a : Nat → Int32} {n : Nat} (h : a n ≤ 0) : ei_tx a (n + 1) = ei_tx a n := ei_cf (decide_eq_false (fun z => z h))
theorem ei_ls_t {c : Int32} {a : Nat → Int32} {n : Nat} (h : ¬ c ≤ a n) : ei_ls c a (n + 1) = ei_ls c a n + 1 := ei_ct (decide_eq_true h)
theorem ei_ls_f {c : Int32} {a : Nat → Int32} {n : Nat} (h : c ≤ a n) : ei_ls c a (n + 1) = ei_ls c a n := ei_cf (decide_eq_false (fun z => z h))
theorem ei_up_t {c : Int32} {a : Nat → Int32} {n : Nat} (h : a n = c) : ei_up c a (n + 1) = ei_up c a n + 1 := ei_ct (decide_eq_true h)
theorem ei_up_f {c : Int32} {a : Nat → Int32} {n : Nat} (h : ¬ a n = c) : ei_up c a (n + 1) = ei_up c a n := ei_cf (decide_eq_false h)
theorem ei_s1 {m m' : Nat} (h : m' = m + 1) : nI m + 1 = nI m' := by rw [h, nI_1]

theorem ei_slots {post : Int32 → Prop} {s : Nat} (hs : s ≤ 6) (H : post (nI (ei_tx a3 s))) :
    wpX_slotsBelow post (dr, sz, ps, lo, hi, a1, a2, a3, a4, a5, a6, a7) (nI s) := by
  unfold wpX_slotsBelow
  exact pk_loop (σ := Unit) (fun n i _ => wX_slotsBelow_4 post (nI s) dr sz ps lo hi a1 a2 a3 a4 a5 a6 a7 n (nI (ei_tx a3 i)) (nI i)) (fun _ _ => True) s 0 () (by omega) trivial
    (fun n _ _ => pk_le s s (fun _ => H) (fun z => absurd z (by omega)))
    (fun n i _ hj _ hw => pk_le s i (fun z => absurd z (by omega)) (fun _ => ⟨pk_in i 6 (by omega), by
      have hw := hw () trivial
      rw [nI_clamp (show i < 2 ^ 31 by omega)]
      refine br_c (fun g => nm_r (nI_1 i) ?_) (fun g => nm_r (ei_s1 (ei_tx_t g)) (nm_r (nI_1 i) hw))
      rw [ei_tx_f g] at hw
      exact hw⟩))

theorem ei_texts {post : Int32 → Prop} (H : post (nI (ei_tx a3 6))) :
    wpX_texts post (dr, sz, ps, lo, hi, a1, a2, a3, a4, a5, a6, a7) := by
  unfold wpX_texts
  exact pk_loop (σ := Unit) (fun n i _ => wX_texts_4 post dr sz ps lo hi a1 a2 a3 a4 a5 a6 a7 n (nI (ei_tx a3 i)) (nI i)) (fun _ _ => True) 6 0 () (by omega) trivial
    (fun n _ _ => pk_le 6 6 (fun _ => H) (fun z => absurd z (by omega)))
    (fun n i _ hj _ hw => pk_le 6 i (fun z => absurd z (by omega)) (fun _ => ⟨pk_in i 6 (by omega), by
      have hw := hw () trivial
      rw [nI_clamp (show i < 2 ^ 31 by omega)]
      refine br_c (fun g => nm_r (nI_1 i) ?_) (fun g => nm_r (ei_s1 (ei_tx_t g)) (nm_r (nI_1 i) hw))
      rw [ei_tx_f g] at hw
      exact hw⟩))

theorem ei_lesser {post : Int32 → Prop} {c : Int32} {m : Nat} (hm : m ≤ 60) (H : post (nI (ei_tx a3 6 + ei_ls c a2 m))) :
    wpX_lesser post (dr, nI m, ps, lo, hi, a1, a2, a3, a4, a5, a6, a7) c := by
  unfold wpX_lesser
  refine ei_texts ?_
  exact pk_loop (σ := Unit) (fun n i _ => wX_lesser_7 post c dr (nI m) ps lo hi a1 a2 a3 a4 a5 a6 a7 n (nI (ei_tx a3 6 + ei_ls c a2 i)) (nI i)) (fun _ _ => True) m 0 () (by omega) trivial
    (fun n _ _ => pk_le m m (fun _ => H) (fun z => absurd z (by omega)))
    (fun n i _ hj _ hw => pk_le m i (fun z => absurd z (by omega)) (fun _ => ⟨pk_in i 60 (by omega), by
      have hw := hw () trivial
      rw [nI_clamp (show i < 2 ^ 31 by omega)]
      refine br_c (fun g => nm_r (nI_1 i) ?_) (fun g => nm_r (ei_s1 (by rw [ei_ls_t g, Nat.add_assoc])) (nm_r (nI_1 i) hw))
      rw [ei_ls_f g] at hw
      exact hw⟩))

theorem ei_upTo {post : Int32 → Prop} {c : Int32} {e : Nat} (he : e ≤ 60) (H : post (nI (ei_up c a2 e))) :
    wpX_upTo post (dr, sz, ps, lo, hi, a1, a2, a3, a4, a5, a6, a7) c (nI e) := by
  unfold wpX_upTo
  exact pk_loop (σ := Unit) (fun n i _ => wX_upTo_5 post c (nI e) dr sz ps lo hi a1 a2 a3 a4 a5 a6 a7 n (nI (ei_up c a2 i)) (nI i)) (fun _ _ => True) e 0 () (by omega) trivial
    (fun n _ _ => pk_le e e (fun _ => H) (fun z => absurd z (by omega)))
    (fun n i _ hj _ hw => pk_le e i (fun z => absurd z (by omega)) (fun _ => ⟨pk_in i 60 (by omega), by
      have hw := hw () trivial
      rw [nI_clamp (show i < 2 ^ 31 by omega)]
      refine br_c (fun g => nm_r (ei_s1 (ei_up_t g)) (nm_r (nI_1 i) hw)) (fun g => nm_r (nI_1 i) ?_)
      rw [ei_up_f g] at hw
      exact hw⟩))

theorem ei_step {post : Int32 → Prop} {c : Int32} {m e : Nat} (hm : m ≤ 60) (he : e ≤ 60) (H : post (nI (ei_tx a3 6 + ei_ls c a2 m + ei_up c a2 e))) :
    wpX_step post (dr, nI m, ps, lo, hi, a1, a2, a3, a4, a5, a6, a7) c (nI e) := by
  unfold wpX_step
  refine ei_lesser hm (ei_upTo he ?_)
  rw [nI_add]
  exact H

theorem ei_extend {post : St2 → Prop} {c : Int32} {m x y : Nat} (hm : m ≤ 60) (hx : x ≤ 60) (hy : y ≤ 60)
    (H : post (dr, nI m, ps, nI (ei_tx a3 6 + ei_ls c a2 m + ei_up c a2 x), nI (ei_tx a3 6 + ei_ls c a2 m + ei_up c a2 y), a1, a2, a3, a4, a5, a6, a7)) :
    wpX_extend post (dr, nI m, ps, nI x, nI y, a1, a2, a3, a4, a5, a6, a7) c := by
  unfold wpX_extend
  refine ei_lesser hm (ei_upTo hx (ei_upTo hy ?_))
  exact nm_r (nI_add _ _) (nm_r (nI_add _ _) H)

theorem ei_insert {post : St2 → Prop} {c : Int32} {k : Nat} (hk : k < 60)
    (H : post (dr, nI (k + 1), ps, lo, hi, a1, upd a2 k c, a3, a4, a5, a6, a7)) :
    wpX_insert post (dr, nI k, ps, lo, hi, a1, a2, a3, a4, a5, a6, a7) (nI k) c := by
  unfold wpX_insert
  refine ⟨0 + 1, pk_le k k (fun _ => ⟨pk_in k 60 hk, nm_r (e' := upd a2 k c) ?_ (nm_r (nI_1 k) H)⟩) (fun z => absurd z (by omega))⟩
  rw [nI_clamp (show k < 2 ^ 31 by omega)]

theorem ei_delete {post : St2 → Prop} {k : Nat} (hk : k < 60)
    (H : post (dr, nI k, ps, lo, hi, a1, a2, a3, a4, a5, a6, a7)) :
    wpX_delete post (dr, nI (k + 1), ps, lo, hi, a1, a2, a3, a4, a5, a6, a7) (nI k) := by
  unfold wpX_delete
  refine nm_r (nI_pred k) ⟨0 + 1, pk_le k k (fun _ => H) (fun z => absurd z (by omega))⟩

theorem ei_good {post : Int32 → Prop} {s : Nat} (hs : s < 6) (H : post 0) :
    wpX_badSlot post (dr, sz, ps, lo, hi, a1, a2, a3, a4, a5, a6, a7) (nI s) := by
  unfold wpX_badSlot
  exact br_f (nI_pos (by omega)) (pk_lt s 6 (fun _ => H) (fun z => absurd z (by omega)))
theorem ei_bad {post : Int32 → Prop} {s : Int32} (hs : s < 0 ∨ nI 6 ≤ s) (H : post 1) :
    wpX_badSlot post (dr, sz, ps, lo, hi, a1, a2, a3, a4, a5, a6, a7) s := by
  unfold wpX_badSlot
  refine br_c (fun _ => H) (fun g => br_f ?_ H)
  rcases hs with h | h
  · exact absurd h g
  · exact Int32.not_lt.mpr h
end
end
section
section
variable {dr sz ps lo hi : Int32} {a1 a2 a3 a4 a5 a6 a7 : Nat → Int32}
theorem ei_00 : nI 0 ≤ 0 := by decide
/-- one text of one letter l in the slot s -/
def ei_O (l s : Nat) (a2 a3 : Nat → Int32) : Prop := a2 0 = nI l ∧ a2 1 = nI (4 + s) ∧ a3 s = nI 1 ∧ ∀ k, k ≠ s → a3 k = nI 0
theorem ei_tx_if {s : Nat} (h1 : a3 s = nI 1) (h0 : ∀ k, k ≠ s → a3 k = nI 0) : ∀ n, ei_tx a3 n = if s < n then 1 else 0
  | 0 => rfl
  | n + 1 => by
    have ih := ei_tx_if h1 h0 n
    by_cases e : n = s
    · have h : ¬ a3 n ≤ 0 := by rw [e, h1]; exact nI_nle (by omega) (by omega)
      rw [ei_tx_t h, ih, if_neg (by omega), if_pos (by omega)]
    · have h : a3 n ≤ 0 := by rw [h0 n e]; exact ei_00
      rw [ei_tx_f h, ih]
      by_cases g : s < n
      · rw [if_pos g, if_pos (by omega)]
      · rw [if_neg g, if_neg (by omega)]
theorem ei_tx6 {s : Nat} (hs : s < 6) (h1 : a3 s = nI 1) (h0 : ∀ k, k ≠ s → a3 k = nI 0) : ei_tx a3 6 = 1 := by
  rw [ei_tx_if h1 h0, if_pos hs]
theorem ei_txs {s : Nat} (h1 : a3 s = nI 1) (h0 : ∀ k, k ≠ s → a3 k = nI 0) : ei_tx a3 s = 0 := by
  rw [ei_tx_if h1 h0, if_neg (by omega)]
theorem ei_ls1 {l c : Nat} (hl : l < 4) (hc : c < 4) (h : a2 0 = nI l) : ei_ls (nI c) a2 1 = if l < c then 1 else 0 := by
  by_cases g : l < c
  · rw [if_pos g]
    exact ei_ls_t (n := 0) (by rw [h]; exact nI_ge g (by omega))
  · rw [if_neg g]
    exact ei_ls_f (n := 0) (by rw [h]; exact nI_le (by omega) (by omega))
theorem ei_ls2 {l s c : Nat} (hl : l < 4) (hc : c < 4) (hs : s < 6) (h : a2 0 = nI l) (h' : a2 1 = nI (4 + s)) : ei_ls (nI c) a2 2 = if l < c then 1 else 0 := by
  rw [← ei_ls1 hl hc h]
  exact ei_ls_f (n := 1) (by rw [h']; exact nI_le (by omega) (by omega))
theorem ei_up1 {l c : Nat} (hl : l < 4) (hc : c < 4) (h : a2 0 = nI l) : ei_up (nI c) a2 1 = if l = c then 1 else 0 := by
  by_cases g : l = c
  · rw [if_pos g]
    exact ei_up_t (n := 0) (by rw [h, g])
  · rw [if_neg g]
    exact ei_up_f (n := 0) (by rw [h]; exact fun z => g ((nI_eq (by omega) (by omega)).mp z))
theorem ei_up2 {l s c : Nat} (hl : l < 4) (hc : c < 4) (hs : s < 6) (h : a2 0 = nI l) (h' : a2 1 = nI (4 + s)) : ei_up (nI c) a2 2 = if l = c then 1 else 0 := by
  rw [← ei_up1 hl hc h]
  refine ei_up_f (n := 1) (fun z => ?_)
  rw [h'] at z
  have := (nI_eq (by omega) (by omega)).mp z
  omega

theorem ei_draft0 {post : Int32 → St2 → Prop} {l : Int32} (hl : l < 0 ∨ nI 4 ≤ l)
    (H : post (-1) (dr, sz, ps, lo, hi, a1, a2, a3, a4, a5, a6, a7)) :
    wpX_draft post (dr, sz, ps, lo, hi, a1, a2, a3, a4, a5, a6, a7) l := by
  unfold wpX_draft
  refine br_c (fun _ => H) (fun g => br_f ?_ H)
  rcases hl with h | h
  · exact absurd h g
  · exact Int32.not_lt.mpr h
theorem ei_draft1 {post : Int32 → St2 → Prop} {l : Nat} (hl : l < 4)
    (H : post (nI 1) (nI 1, sz, ps, lo, hi, upd a1 0 (nI l), a2, a3, a4, a5, a6, a7)) :
    wpX_draft post (nI 0, sz, ps, lo, hi, a1, a2, a3, a4, a5, a6, a7) (nI l) := by
  unfold wpX_draft
  refine br_f (nI_pos (by omega)) (pk_lt l 4 (fun _ => ?_) (fun z => absurd z (by omega)))
  refine pk_eq 0 9 (fun z => absurd z (by omega)) (fun _ => ⟨pk_in 0 9 (by omega), nm_r (e' := upd a1 0 (nI l)) ?_ (nm_r (nI_1 0) H)⟩)
  rw [nI_clamp (by omega)]

/-- add: a bad slot -/
theorem ei_add_bad {post : Int32 → St2 → Prop} {s : Int32} (hs : s < 0 ∨ nI 6 ≤ s)
    (H : post (-1) (dr, sz, ps, lo, hi, a1, a2, a3, a4, a5, a6, a7)) :
    wpX_add post (dr, sz, ps, lo, hi, a1, a2, a3, a4, a5, a6, a7) s := by
  unfold wpX_add
  exact ei_bad hs (br_f (by decide) H)
/-- add: nothing drafted, a free slot -/
theorem ei_add_none {post : Int32 → St2 → Prop} {s : Nat} (hs : s < 6) (h3 : a3 s = nI 0)
    (H : post (-4) (nI 0, sz, ps, lo, hi, a1, a2, a3, a4, a5, a6, a7)) :
    wpX_add post (nI 0, sz, ps, lo, hi, a1, a2, a3, a4, a5, a6, a7) (nI s) := by
  unfold wpX_add
  refine ei_good hs (br_t rfl ⟨pk_in s 6 hs, ?_⟩)
  rw [nI_clamp (show s < 2 ^ 31 by omega), h3]
  exact br_t ei_00 (br_t rfl H)
/-- add: the slot holds a text -/
theorem ei_add_full {post : Int32 → St2 → Prop} {s : Nat} (hs : s < 6) (h3 : a3 s = nI 1)
    (H : post (-2) (dr, sz, ps, lo, hi, a1, a2, a3, a4, a5, a6, a7)) :
    wpX_add post (dr, sz, ps, lo, hi, a1, a2, a3, a4, a5, a6, a7) (nI s) := by
  unfold wpX_add
  refine ei_good hs (br_t rfl ⟨pk_in s 6 hs, ?_⟩)
  rw [nI_clamp (show s < 2 ^ 31 by omega), h3]
  exact br_f (nI_nle (by omega) (by omega)) H
theorem ei_add_l1 {post : Int32 → St2 → Prop} {s n : Nat}
    (H : post (nI 2) (nI 0, nI 2, ps, lo, hi, a1, upd a2 1 (4 + nI s), a3, a4, a5, a6, a7)) :
    wX_add_55 post (nI s) (n + 1) (nI 1) (-1) dr (nI 1) ps lo hi a1 a2 a3 a4 a5 a6 a7 :=
  br_t (by decide) (ei_insert (by omega) H)
theorem ei_add_l0 {post : Int32 → St2 → Prop} {l s n : Nat} (hl : l < 4) (hs : s < 6) (h1 : a1 0 = nI l) (t1 : a3 s = nI 1) (t0 : ∀ k, k ≠ s → a3 k = nI 0)
    (H : post (nI 2) (nI 0, nI 2, ps, lo, hi, a1, upd (upd a2 0 (nI l)) 1 (4 + nI s), a3, a4, a5, a6, a7)) :
    wX_add_55 post (nI s) (n + 1 + 1) (nI 0) (nI 0) dr (nI 0) ps lo hi a1 a2 a3 a4 a5 a6 a7 := by
  refine br_f (nI_pos (by omega)) ⟨pk_in 0 9 (by omega), ?_⟩
  rw [nI_clamp (show 0 < 2 ^ 31 by omega), h1]
  refine ei_insert (by omega) ⟨pk_in 0 9 (by omega), ?_⟩
  rw [h1]
  refine ei_step (by omega) (by omega) ?_
  rw [ei_tx6 hs t1 t0, ei_ls1 (l := l) hl hl pk_us, if_neg (by omega)]
  exact nm_r (e' := -1) (by decide) (ei_add_l1 H)
/-- add: the drafted letter becomes the text of a free slot; the first text of all -/
theorem ei_add_one {post : Int32 → St2 → Prop} {l s : Nat} (hl : l < 4) (hs : s < 6) (h1 : a1 0 = nI l) (h3 : ∀ k, a3 k = nI 0)
    (H : ∀ b2 b3, ei_O l s b2 b3 → post (nI 2) (nI 0, nI 2, ps, lo, hi, a1, b2, b3, a4, a5, a6, a7)) :
    wpX_add post (nI 1, nI 0, ps, lo, hi, a1, a2, a3, a4, a5, a6, a7) (nI s) := by
  have t1 : upd a3 s (nI 1) s = nI 1 := pk_us
  have t0 : ∀ k, k ≠ s → upd a3 s (nI 1) k = nI 0 := fun k hk => by rw [pk_un hk, h3]
  unfold wpX_add
  refine ei_good hs (br_t rfl ⟨pk_in s 6 hs, ?_⟩)
  rw [nI_clamp (show s < 2 ^ 31 by omega), h3]
  refine br_t ei_00 (pk_eq 1 0 (fun z => absurd z (by omega)) (fun _ => ⟨pk_in s 6 hs, nm_e (ei_slots (by omega) ?_)⟩))
  rw [ei_txs t1 t0]
  refine nm_r (nI_pred 0) ⟨0 + 1 + 1, ei_add_l0 hl hs h1 t1 t0 (H _ _ ⟨?_, ?_, t1, t0⟩)⟩
  · rw [pk_un (by omega), pk_us]
  · rw [pk_us]
    exact nI_add 4 s

theorem ei_letter_bad {post : Int32 → Prop} {s i : Int32} (hs : s < 0 ∨ nI 6 ≤ s) (H : post (-4)) :
    wpX_letter post (dr, sz, ps, lo, hi, a1, a2, a3, a4, a5, a6, a7) s i := by
  unfold wpX_letter
  exact ei_bad hs (br_f (by decide) H)
theorem ei_letter_none {post : Int32 → Prop} {s : Nat} {i : Int32} (hs : s < 6) (h3 : a3 s = nI 0) (H : post (-4)) :
    wpX_letter post (dr, sz, ps, lo, hi, a1, a2, a3, a4, a5, a6, a7) (nI s) i := by
  unfold wpX_letter
  refine ei_good hs (br_t rfl (br_c (fun _ => H) (fun g => ⟨pk_in s 6 hs, ?_⟩)))
  rw [nI_clamp (show s < 2 ^ 31 by omega), h3]
  exact br_f g H
theorem ei_letter_one {post : Int32 → Prop} {l s : Nat} {i : Int32} (hs : s < 6) (h : ei_O l s a2 a3) (H0 : i = 0 → post (nI l)) (H : i ≠ 0 → post (-4)) :
    wpX_letter post (dr, sz, ps, lo, hi, a1, a2, a3, a4, a5, a6, a7) (nI s) i := by
  obtain ⟨r0, r1, t1, t0⟩ := h
  unfold wpX_letter
  refine ei_good hs (br_t rfl (br_c (fun g => H (fun z => absurd g (by rw [z]; decide))) (fun g => ⟨pk_in s 6 hs, ?_⟩)))
  obtain ⟨j, hj, e⟩ := nI_of g
  rw [nI_clamp (show s < 2 ^ 31 by omega), t1, e]
  refine pk_lt j 1 (fun z => ?_) (fun z => H (by rw [e]; exact nI_ne0 (by omega) hj))
  have ej : j = 0 := by omega
  subst ej
  unfold wpX_rankOf
  refine ei_slots (by omega) ⟨pk_in s 6 hs, ?_⟩
  rw [nI_clamp (show s < 2 ^ 31 by omega), t1, ei_txs t1 t0]
  refine nm_e ⟨0 + 1, pk_le 1 1 (fun _ => ⟨pk_in 0 60 (by omega), ?_⟩) (fun z => absurd z (by omega)) rfl (nI_1 0)⟩
  rw [nI_clamp (show 0 < 2 ^ 31 by omega), r0]
  exact H0 e
end
end
section
section
variable {dr sz ps lo hi : Int32} {a1 a2 a3 a4 a5 a6 a7 : Nat → Int32}
/-- the numbers of patterns -/
def ei_Pat (p : Int) : Prop := p = 1 ∨ (4 ≤ p ∧ p ≤ 7) ∨ (16 ≤ p ∧ p ≤ 31) ∨ (64 ≤ p ∧ p ≤ 127) ∨ (256 ≤ p ∧ p ≤ 511) ∨ (1024 ≤ p ∧ p ≤ 2047) ∨ (4096 ≤ p ∧ p ≤ 8191)
theorem ei_pm {q : Nat} (hq : q < 8192) : ∃ m, m ≤ 6 ∧ q / 4 ^ m ≤ 1 ∧ ∀ j, j < m → 1 < q / 4 ^ j := by
  have h6 : q / 4 ^ 6 ≤ 1 := by
    have : q / 4096 ≤ 1 := by omega
    exact this
  obtain ⟨k, hk, hj⟩ := pk_least (fun k => q / 4 ^ k ≤ 1) ⟨6, h6⟩
  refine ⟨k, ?_, hk, fun j h => Nat.lt_of_not_le (hj j h)⟩
  rcases Nat.lt_or_ge 6 k with h | h
  · exact absurd h6 (hj 6 h)
  · exact h
theorem ei_c7 {P : Nat → Prop} (h0 : P 0) (h1 : P 1) (h2 : P 2) (h3 : P 3) (h4 : P 4) (h5 : P 5) (h6 : P 6) : ∀ m, m ≤ 6 → P m
  | 0, _ => h0
  | 1, _ => h1
  | 2, _ => h2
  | 3, _ => h3
  | 4, _ => h4
  | 5, _ => h5
  | 6, _ => h6
  | n + 7, h => absurd h (by omega)
/-- a number is a pattern's if its first bit stands at an even place; which one tells the pattern's size -/
theorem ei_pat {q : Nat} (hq : 1 ≤ q) : ∀ m, m ≤ 6 → q / 4 ^ m ≤ 1 → (∀ j, j < m → 1 < q / 4 ^ j) → ((q / 4 ^ m = 1 → ei_Pat q) ∧ (¬ q / 4 ^ m = 1 → ¬ ei_Pat q) ∧ (q = 1 ↔ m = 0) ∧ (q / 4 ^ m = 1 → ((4 ≤ q ∧ q ≤ 7) ↔ m = 1))) := by
  apply ei_c7
  · intro h1 _
    simp only [Nat.pow_zero, Nat.div_one] at h1 ⊢
    unfold ei_Pat
    exact ⟨by omega, by omega, ⟨fun _ => trivial, fun _ => by omega⟩, by omega⟩
  · intro h1 hj
    have h0 := hj 0 (by omega)
    simp only [Nat.reducePow, Nat.div_one] at h1 h0 ⊢
    unfold ei_Pat
    exact ⟨by omega, by omega, by omega, fun _ => ⟨fun _ => trivial, fun _ => by omega⟩⟩
  · intro h1 hj
    have h0 := hj 1 (by omega)
    simp only [Nat.reducePow] at h1 h0 ⊢
    unfold ei_Pat
    omega
  · intro h1 hj
    have h0 := hj 2 (by omega)
    simp only [Nat.reducePow] at h1 h0 ⊢
    unfold ei_Pat
    omega
  · intro h1 hj
    have h0 := hj 3 (by omega)
    simp only [Nat.reducePow] at h1 h0 ⊢
    unfold ei_Pat
    omega
  · intro h1 hj
    have h0 := hj 4 (by omega)
    simp only [Nat.reducePow] at h1 h0 ⊢
    unfold ei_Pat
    omega
  · intro h1 hj
    have h0 := hj 5 (by omega)
    simp only [Nat.reducePow] at h1 h0 ⊢
    unfold ei_Pat
    omega

theorem ei_spread {post : Int32 → St2 → Prop} {q m : Nat} (hq : 1 ≤ q) (hq' : q < 8192) (hm : m ≤ 6) (h1 : q / 4 ^ m ≤ 1) (hj : ∀ j, j < m → 1 < q / 4 ^ j)
    (H1 : q / 4 ^ m = 1 → ∀ b, (∀ j, j < m → b j = nI (q / 4 ^ j % 2 ^ 2)) → post 1 (dr, sz, nI m, lo, hi, a1, a2, a3, b, a5, a6, a7))
    (H0 : ¬ q / 4 ^ m = 1 → ∀ b, post 0 (dr, sz, nI m, lo, hi, a1, a2, a3, b, a5, a6, a7)) :
    wpX_spread post (dr, sz, ps, lo, hi, a1, a2, a3, a4, a5, a6, a7) (nI q) := by
  unfold wpX_spread
  have hd : ∀ i, q / 4 ^ i < 8192 := fun i => Nat.lt_of_le_of_lt (Nat.div_le_self _ _) hq'
  refine pk_lt q 1 (fun z => absurd z (by omega)) (fun _ => pk_lt q 8192 (fun _ => ?_) (fun z => absurd z (by omega)))
  refine Exists.elim (pk_loop (fun n i (b : Nat → Int32) => wX_spread_23 post dr sz lo hi n (nI (q / 4 ^ i)) (nI i) (nI i) a1 a2 a3 b a5 a6 a7) (fun i b => ∀ j, j < i → b j = nI (q / 4 ^ j % 2 ^ 2)) m 0 a4 (by omega) (fun j hj => absurd hj (by omega)) ?_ ?_) (fun n hn => ?_)
  rotate_left 2
  · have hn' : wX_spread_23 post dr sz lo hi n (nI (q / 4 ^ 0)) (nI 0) (nI 0) a1 a2 a3 a4 a5 a6 a7 := hn
    rw [Nat.pow_zero, Nat.div_one] at hn'
    exact ⟨n, hn'⟩
  · intro n b hb
    have hdm := hd m
    exact pk_le 7 m (fun z => absurd z (by omega)) (fun _ => pk_le (q / 4 ^ m) 1 (fun _ => pk_eq (q / 4 ^ m) 1 (fun z => H1 z b hb) (fun z => H0 z b)) (fun z => absurd z (by omega)))
  · intro n i b hi' hb hw
    have hdi := hd i
    have hji := hj i hi'
    refine pk_le 7 i (fun z => absurd z (by omega)) (fun _ => pk_le (q / 4 ^ i) 1 (fun z => absurd z (by omega)) (fun _ => ⟨pk_in i 8 (by omega), nm_r (e' := upd b i (nI (q / 4 ^ i % 2 ^ 2))) ?_ (nm_r (nI_1 i) (nm_r (e' := nI (q / 4 ^ (i + 1))) ?_ (nm_r (nI_1 i) (hw _ ?_))))⟩))
    · rw [nI_clamp (show i < 2 ^ 31 by omega), pk_andN (by omega) 2 (by decide)]
    · rw [pk_shrN (by omega) _ 2 (by decide), Nat.div_div_eq_div_mul]
      show nI (q / (4 ^ i * 4)) = _
      rw [← Nat.pow_succ]
    · intro j hj'
      by_cases e : j = i
      · rw [e, pk_us]
      · rw [pk_un e]
        exact hb j (by omega)

theorem ei_narrow0 {post : St2 → Prop} {m : Nat} (hm : m ≤ 6) (H : post (dr, nI 0, nI m, nI 0, nI 0, a1, a2, a3, a4, a5, a6, a7)) :
    wpX_narrow post (dr, nI 0, nI m, lo, hi, a1, a2, a3, a4, a5, a6, a7) := by
  unfold wpX_narrow
  exact ⟨0 + 1, pk_le m 0 (fun _ => H) (fun _ => br_t ei_00 H)⟩

theorem ei_narrow1 {post : St2 → Prop} {l s m : Nat} {c : Nat → Nat} (hl : l < 4) (hs : s < 6) (h : ei_O l s a2 a3) (hm : m ≤ 6) (hc : ∀ j, j < m → a4 j = nI (c j) ∧ c j < 4)
    (H : ∀ x y, x ≤ y → y ≤ 9 → (m = 0 → y - x = 2) → (m = 1 → l = c 0 → y - x = 1) → (¬ m = 0 → ¬ (m = 1 ∧ l = c 0) → y - x = 0) → post (dr, nI 2, nI m, nI x, nI y, a1, a2, a3, a4, a5, a6, a7)) :
    wpX_narrow post (dr, nI 2, nI m, lo, hi, a1, a2, a3, a4, a5, a6, a7) := by
  obtain ⟨r0, r1, t1, t0⟩ := h
  have T := ei_tx6 hs t1 t0
  unfold wpX_narrow
  refine ⟨0 + 1 + 1 + 1, pk_le m 0 (fun z => H 0 2 (by omega) (by omega) (fun _ => rfl) (fun g => absurd g (by omega)) (fun g => absurd z (by omega))) (fun z => pk_le 2 0 (fun g => absurd g (by omega)) (fun _ => ⟨pk_in 0 8 (by omega), ?_⟩))⟩
  obtain ⟨k0, c0⟩ := hc 0 z
  rw [show (0 : Int32).toNatClampNeg = 0 from rfl, k0]
  refine ei_extend (x := 0) (by omega) (by omega) (by omega) (nm_r (nI_1 0) ?_)
  rw [T, ei_ls2 hl c0 hs r0 r1, ei_up2 hl c0 hs r0 r1]
  show wX_narrow_15 post (0 + 1 + 1) (nI 1) dr (nI 2) (nI m) (nI (1 + (if l < c 0 then 1 else 0) + 0)) (nI (1 + (if l < c 0 then 1 else 0) + (if l = c 0 then 1 else 0))) a1 a2 a3 a4 a5 a6 a7
  by_cases e : l = c 0
  · rw [if_neg (by omega), if_pos e]
    refine pk_le m 1 (fun g => H 1 2 (by omega) (by omega) (fun _ => by omega) (fun _ _ => rfl) (fun _ n => absurd (show m = 1 ∧ l = c 0 from ⟨by omega, e⟩) n)) (fun g => pk_le 2 1 (fun y => absurd y (by omega)) (fun _ => ⟨pk_in 1 8 (by omega), ?_⟩))
    obtain ⟨k1, c1⟩ := hc 1 g
    rw [nI_clamp (show 1 < 2 ^ 31 by omega), k1]
    refine ei_extend (x := 1) (y := 2) (by omega) (by omega) (by omega) (nm_r (nI_1 1) ?_)
    rw [T, ei_ls2 hl c1 hs r0 r1, ei_up2 hl c1 hs r0 r1, ei_up1 hl c1 r0]
    have hb : 1 + (if l < c 1 then 1 else 0) + (if l = c 1 then 1 else 0) ≤ 9 := by
      split <;> split <;> omega
    generalize 1 + (if l < c 1 then 1 else 0) + (if l = c 1 then 1 else 0) = w at hb ⊢
    have K : post (dr, nI 2, nI m, nI w, nI w, a1, a2, a3, a4, a5, a6, a7) := H w w (by omega) hb (fun g => by omega) (fun g => by omega) (fun _ _ => by omega)
    exact pk_le m 2 (fun _ => K) (fun _ => pk_le w w (fun _ => K) (fun y => absurd y (by omega)))
  · rw [if_neg e]
    have hb : 1 + (if l < c 0 then 1 else 0) ≤ 9 := by
      split <;> omega
    generalize 1 + (if l < c 0 then 1 else 0) = w at hb ⊢
    have K : post (dr, nI 2, nI m, nI w, nI w, a1, a2, a3, a4, a5, a6, a7) := H w w (by omega) hb (fun g => by omega) (fun _ g => absurd g e) (fun _ _ => by omega)
    exact pk_le m 1 (fun _ => K) (fun _ => pk_le w w (fun _ => K) (fun y => absurd y (by omega)))

theorem ei_count_bad {post : Int32 → St2 → Prop} {p : Int32} (hp : p < 1 ∨ nI 8192 ≤ p)
    (H : post (-1) (dr, sz, ps, lo, hi, a1, a2, a3, a4, a5, a6, a7)) :
    wpX_count post (dr, sz, ps, lo, hi, a1, a2, a3, a4, a5, a6, a7) p := by
  unfold wpX_count
  unfold wpX_spread
  refine br_c (fun _ => br_t rfl H) (fun g => br_f ?_ (br_t rfl H))
  rcases hp with h | h
  · exact absurd h g
  · exact Int32.not_lt.mpr h

theorem ei_count0 {post : Int32 → St2 → Prop} {q m : Nat} (hq : 1 ≤ q) (hq' : q < 8192) (hm : m ≤ 6) (h1 : q / 4 ^ m ≤ 1) (hj : ∀ j, j < m → 1 < q / 4 ^ j)
    (H1 : q / 4 ^ m = 1 → ∀ ps lo hi b, post 0 (dr, nI 0, ps, lo, hi, a1, a2, a3, b, a5, a6, a7))
    (H0 : ¬ q / 4 ^ m = 1 → ∀ ps lo hi b, post (-1) (dr, nI 0, ps, lo, hi, a1, a2, a3, b, a5, a6, a7)) :
    wpX_count post (dr, nI 0, ps, lo, hi, a1, a2, a3, a4, a5, a6, a7) (nI q) := by
  unfold wpX_count
  refine ei_spread hq hq' hm h1 hj (fun e b hb => ?_) (fun e b => br_t rfl (H0 e _ _ _ b))
  refine br_f (by decide) (ei_narrow0 hm ?_)
  exact br_t ei_00 (H1 e _ _ _ b)

theorem ei_count1 {post : Int32 → St2 → Prop} {l s q m : Nat} (hl : l < 4) (hs : s < 6) (h : ei_O l s a2 a3) (hq : 1 ≤ q) (hq' : q < 8192) (hm : m ≤ 6) (h1 : q / 4 ^ m ≤ 1) (hj : ∀ j, j < m → 1 < q / 4 ^ j)
    (H1 : q / 4 ^ m = 1 → ∀ v ps lo hi b, (m = 0 → v = 2) → (m = 1 → l = q % 2 ^ 2 → v = 1) → (¬ m = 0 → ¬ (m = 1 ∧ l = q % 2 ^ 2) → v = 0) → post (nI v) (dr, nI 2, ps, lo, hi, a1, a2, a3, b, a5, a6, a7))
    (H0 : ¬ q / 4 ^ m = 1 → ∀ ps lo hi b, post (-1) (dr, nI 2, ps, lo, hi, a1, a2, a3, b, a5, a6, a7)) :
    wpX_count post (dr, nI 2, ps, lo, hi, a1, a2, a3, a4, a5, a6, a7) (nI q) := by
  unfold wpX_count
  refine ei_spread hq hq' hm h1 hj (fun e b hb => ?_) (fun e b => br_t rfl (H0 e _ _ _ b))
  refine br_f (by decide) (ei_narrow1 (c := fun j => q / 4 ^ j % 2 ^ 2) hl hs h hm (fun j hj' => ⟨hb j hj', Nat.mod_lt _ (by decide)⟩) (fun x y hxy hy g2 g1 g0 => ?_))
  have e0 : q / 4 ^ 0 % 2 ^ 2 = q % 2 ^ 2 := by rw [Nat.pow_zero, Nat.div_one]
  rw [e0] at g1 g0
  refine pk_le y x (fun z => ?_) (fun z => ?_)
  · have t := H1 e (y - x) (nI m) (nI x) (nI y) b g2 g1 g0
    rw [show y - x = 0 by omega] at t
    exact t
  · rw [pk_sub (by omega)]
    exact H1 e (y - x) (nI m) (nI x) (nI y) b g2 g1 g0
end
end
section
section
variable {dr sz ps lo hi : Int32} {a1 a2 a3 a4 a5 a6 a7 : Nat → Int32}
theorem ei_rem_bad {post : Int32 → St2 → Prop} {s : Int32} (hs : s < 0 ∨ nI 6 ≤ s) (H : ∀ u, post (-1) u) :
    wpX_remove post (dr, sz, ps, lo, hi, a1, a2, a3, a4, a5, a6, a7) s := by
  unfold wpX_remove
  exact ei_bad hs (br_f (by decide) (H _))
theorem ei_rem_none {post : Int32 → St2 → Prop} {s : Nat} (hs : s < 6) (h3 : a3 s = nI 0) (H : ∀ u, post (-4) u) :
    wpX_remove post (dr, sz, ps, lo, hi, a1, a2, a3, a4, a5, a6, a7) (nI s) := by
  unfold wpX_remove
  refine ei_good hs (br_t rfl ⟨pk_in s 6 hs, ?_⟩)
  rw [nI_clamp (show s < 2 ^ 31 by omega), h3]
  exact br_t rfl (H _)
theorem ei_r83z {post : Int32 → St2 → Prop} {s n : Nat} (hs : s < 6) (H : ∀ u, post (nI 0) u) :
    wX_remove_83 post (nI s) (nI 1) (n + 1) (nI 2) dr (nI 0) ps lo hi a1 a2 a3 a4 a5 a6 a7 :=
  pk_lt 1 2 (fun _ => ⟨pk_in s 6 hs, nm_e (H _)⟩) (fun z => absurd z (by omega))
theorem ei_r95a {post : Int32 → St2 → Prop} {J : Int32 → Int32 → Int32 → Int32 → Int32 → Int32 → (Nat → Int32) → (Nat → Int32) → (Nat → Int32) → (Nat → Int32) → (Nat → Int32) → (Nat → Int32) → (Nat → Int32) → Prop} {x1 : Int32}
    (p0 : a5 0 = nI 0) (p1 : a5 1 = nI 1) (HJ : ∀ b, b 0 = nI 0 → b 1 = -1 → J (nI 1) dr (nI 1) ps lo hi a1 a2 a3 a4 b a6 a7) :
    ∃ n, wX_remove_95 post J x1 (nI 1) (nI 0) dr (nI 2) ps lo hi a1 a2 a3 a4 a5 a6 a7 n (nI 0) (nI 0) := by
  refine ⟨0 + 1 + 1 + 1, pk_lt 1 0 (fun z => absurd z (by omega)) (fun _ => ⟨pk_in 0 10 (by omega), pk_in 0 10 (by omega), br_t (Int32.le_refl _) (nm_r (nI_1 0) ?_)⟩)⟩
  refine pk_lt 1 1 (fun z => absurd z (by omega)) (fun _ => ⟨pk_in 1 10 (by omega), pk_in 0 10 (by omega), ?_⟩)
  rw [nI_clamp (show 1 < 2 ^ 31 by omega), nI_clamp (show 0 < 2 ^ 31 by omega), p0, p1]
  refine pk_le 1 0 (fun z => absurd z (by omega)) (fun _ => nm_r (nI_1 1) ?_)
  refine pk_lt 1 2 (fun _ => ⟨pk_in 1 10 (by omega), ?_⟩) (fun z => absurd z (by omega))
  rw [nI_clamp (show 1 < 2 ^ 31 by omega), p1]
  refine ei_delete (by omega) ⟨pk_in 1 10 (by omega), nm_e (nm_r (nI_1 0) (HJ _ ?_ ?_))⟩
  · rw [pk_un (by omega), p0]
  · rw [pk_us]
theorem ei_r95b {post : Int32 → St2 → Prop} {J : Int32 → Int32 → Int32 → Int32 → Int32 → Int32 → (Nat → Int32) → (Nat → Int32) → (Nat → Int32) → (Nat → Int32) → (Nat → Int32) → (Nat → Int32) → (Nat → Int32) → Prop} {x1 : Int32}
    (p0 : a5 0 = nI 0) (p1 : a5 1 = -1) (HJ : ∀ b, J (nI 2) dr (nI 0) ps lo hi a1 a2 a3 a4 b a6 a7) :
    ∃ n, wX_remove_95 post J x1 (nI 1) (nI 1) dr (nI 1) ps lo hi a1 a2 a3 a4 a5 a6 a7 n (nI 0) (nI 0) := by
  refine ⟨0 + 1 + 1 + 1, pk_lt 1 0 (fun z => absurd z (by omega)) (fun _ => ⟨pk_in 0 10 (by omega), pk_in 0 10 (by omega), br_t (Int32.le_refl _) (nm_r (nI_1 0) ?_)⟩)⟩
  refine pk_lt 1 1 (fun z => absurd z (by omega)) (fun _ => ⟨pk_in 1 10 (by omega), pk_in 0 10 (by omega), ?_⟩)
  rw [nI_clamp (show 1 < 2 ^ 31 by omega), nI_clamp (show 0 < 2 ^ 31 by omega), p0, p1]
  refine br_t (by decide) (nm_r (nI_1 1) ?_)
  refine pk_lt 1 2 (fun _ => ⟨pk_in 0 10 (by omega), ?_⟩) (fun z => absurd z (by omega))
  rw [nI_clamp (show 0 < 2 ^ 31 by omega), p0]
  exact ei_delete (by omega) ⟨pk_in 0 10 (by omega), nm_e (nm_r (nI_1 1) (HJ _))⟩
theorem ei_r83 {post : Int32 → St2 → Prop} {s n : Nat} (hs : s < 6) (p0 : a5 0 = nI 0) (p1 : a5 1 = nI 1) (H : ∀ u, post (nI 0) u) :
    wX_remove_83 post (nI s) (nI 1) (n + 1 + 1 + 1) (nI 0) dr (nI 2) ps lo hi a1 a2 a3 a4 a5 a6 a7 :=
  pk_lt 1 0 (fun z => absurd z (by omega)) (fun _ => ei_r95a p0 p1 (fun b b0 b1 => pk_lt 1 1 (fun z => absurd z (by omega)) (fun _ => ei_r95b b0 b1 (fun b' => ei_r83z hs H))))
theorem ei_r38c {post : Int32 → St2 → Prop} {s n : Nat} {x3 : Int32} (hs : s < 6) (p0 : a5 0 = nI 0) (p1 : a5 1 = nI 1) (H : ∀ u, post (nI 0) u) :
    wX_remove_38 post (nI s) (nI 1) dr (nI 2) ps lo hi (n + 1) x3 (nI 2) a1 a2 a3 a4 a5 a6 a7 :=
  pk_lt 1 2 (fun _ => ⟨0 + 1 + 1 + 1, ei_r83 hs p0 p1 H⟩) (fun z => absurd z (by omega))
theorem ei_r38b {post : Int32 → St2 → Prop} {s n : Nat} (hs : s < 6) (r1 : a2 1 = nI (4 + s)) (p0 : a5 0 = nI 0) (H : ∀ u, post (nI 0) u) :
    wX_remove_38 post (nI s) (nI 1) dr (nI 2) ps lo hi (n + 1 + 1) (nI 1) (nI 1) a1 a2 a3 a4 a5 a6 a7 := by
  refine pk_lt 1 1 (fun z => absurd z (by omega)) (fun _ => ⟨pk_in 1 10 (by omega), nm_r (e' := upd a5 1 (nI 1)) (by rw [nI_clamp (by omega)]) ⟨pk_in 1 60 (by omega), ?_⟩⟩)
  rw [nI_clamp (show 1 < 2 ^ 31 by omega), r1]
  exact pk_le 4 (4 + s) (fun _ => nm_r (nI_1 1) (ei_r38c hs (by rw [pk_un (by omega), p0]) pk_us H)) (fun z => absurd z (by omega))
theorem ei_r38a {post : Int32 → St2 → Prop} {l s n : Nat} (hl : l < 4) (hs : s < 6) (h : ei_O l s a2 a3) (H : ∀ u, post (nI 0) u) :
    wX_remove_38 post (nI s) (nI 1) dr (nI 2) ps lo hi (n + 1 + 1 + 1) (nI 0) (nI 0) a1 a2 a3 a4 a5 a6 a7 := by
  obtain ⟨r0, r1, t1, t0⟩ := h
  refine pk_lt 1 0 (fun z => absurd z (by omega)) (fun _ => ⟨pk_in 0 10 (by omega), nm_r (e' := upd a5 0 (nI 0)) (by rw [nI_clamp (by omega)]) ⟨pk_in 0 60 (by omega), ?_⟩⟩)
  rw [nI_clamp (show 0 < 2 ^ 31 by omega), r0]
  refine pk_le 4 l (fun z => absurd z (by omega)) (fun _ => ⟨pk_in 0 60 (by omega), ei_step (by omega) (by omega) ?_⟩)
  rw [ei_tx6 hs t1 t0, ei_ls2 hl hl hs r0 r1, if_neg (by omega)]
  exact nm_r (nI_1 0) (ei_r38b hs r1 pk_us H)
theorem ei_rem_one {post : Int32 → St2 → Prop} {l s : Nat} (hl : l < 4) (hs : s < 6) (h : ei_O l s a2 a3) (H : ∀ u, post (nI 0) u) :
    wpX_remove post (dr, nI 2, ps, lo, hi, a1, a2, a3, a4, a5, a6, a7) (nI s) := by
  have h' := h
  obtain ⟨r0, r1, t1, t0⟩ := h'
  unfold wpX_remove
  refine ei_good hs (br_t rfl ⟨pk_in s 6 hs, ?_⟩)
  rw [nI_clamp (show s < 2 ^ 31 by omega), t1]
  refine pk_eq 1 0 (fun z => absurd z (by omega)) (fun _ => ⟨pk_in s 6 hs, nm_e (ei_slots (by omega) ?_)⟩)
  rw [ei_txs t1 t0]
  exact ⟨0 + 1 + 1 + 1, ei_r38a hl hs h H⟩
end
end
section
section
variable {mc ms kc ks : Nat} {x0 x1 x2 x3 x4 x6 x7 x8 x9 x10 x11 x12 x13 x14 x15 x16 x17 x18 x19 z0 z1 : Int32}
theorem ei_T452 (h : z1 = z0) : wL_lawOf_452 (fun r _ => r = 1) mc ms z0 z1 kc ks := br_t h rfl
theorem ei_T441 (h : (x18 = 0 → z0 = -4) ∧ (¬ x18 = 0 → z0 = 0)) : wL_lawOf_441 (fun r _ => r = 1) mc ms x18 z0 kc ks := br_c (fun g => ei_T452 (h.1 g)) (fun g => ei_T452 (h.2 g))
theorem ei_T410 (hz : z1 = z0) (hd : x10 = x19) (g1 : x14 = 0 → x11 = -1) (g2 : ¬ x14 = 0 → ¬ x15 = 0 → x2 = x1 → x11 = 0) (g3 : ¬ x14 = 0 → ¬ (¬ x15 = 0 ∧ x2 = x1) → (x18 = 0 → x11 = -4) ∧ (¬ x18 = 0 → x11 = 0)) :
    wL_lawOf_410 (fun r _ => r = 1) mc ms x1 x2 x10 x11 x14 x15 x18 x19 z0 z1 kc ks :=
  br_t hz (br_t hd (br_c (fun a => ei_T452 (g1 a)) (fun a => br_c (fun b => ei_T441 (g3 a (fun t => t.1 b))) (fun b => br_c (fun c => ei_T452 (g2 a b c)) (fun c => ei_T441 (g3 a (fun t => c t.2)))))))
theorem ei_T359 (hz : z1 = z0) (K : ∀ w, x9 = w → wL_lawOf_410 (fun r _ => r = 1) mc ms x1 x2 x10 x11 x14 x15 x18 x19 w x9 kc ks)
    (n1 : x17 = 0 → x9 = -1) (n2 : ¬ x17 = 0 → x15 = 0 → x9 = 0) (n3 : ¬ x17 = 0 → ¬ x15 = 0 → x4 = 1 → x9 = 2) (n4 : ¬ x17 = 0 → ¬ x15 = 0 → ¬ x4 = 1 → ¬ x16 = 0 → (x4 &&& 3) = x0 → x9 = 1) (n5 : ¬ x17 = 0 → ¬ x15 = 0 → ¬ x4 = 1 → ¬ (¬ x16 = 0 ∧ (x4 &&& 3) = x0) → x9 = 0) :
    wL_lawOf_359 (fun r _ => r = 1) mc ms x0 x1 x2 x4 x9 x10 x11 x14 x15 x16 x17 x18 x19 z0 z1 kc ks :=
  br_t hz (br_c (fun a => K _ (n1 a)) (fun a => br_c (fun b => K _ (n2 a b)) (fun b => br_c (fun c => K _ (n3 a b c)) (fun c => br_c (fun d => K _ (n5 a b c (fun t => t.1 d))) (fun d => br_c (fun e => K _ (n4 a b c d e)) (fun e => K _ (n5 a b c (fun t => e t.2))))))))
theorem ei_T339 (hz : z1 = z0) (K : ∀ w, x8 = w → wL_lawOf_359 (fun r _ => r = 1) mc ms x0 x1 x2 x4 x9 x10 x11 x14 x15 x16 x17 x18 x19 w x8 kc ks)
    (m1 : ¬ x15 = 0 → x3 = 0 → x8 = x0) (m2 : ¬ (¬ x15 = 0 ∧ x3 = 0) → x8 = -4) :
    wL_lawOf_339 (fun r _ => r = 1) mc ms x0 x1 x2 x3 x4 x8 x9 x10 x11 x14 x15 x16 x17 x18 x19 z0 z1 kc ks :=
  br_t hz (br_c (fun a => K _ (m2 (fun t => t.1 a))) (fun a => br_c (fun b => K _ (m1 a b)) (fun b => K _ (m2 (fun t => b t.2)))))
theorem ei_T314 (hz : z1 = z0) (K : ∀ w, x7 = w → wL_lawOf_339 (fun r _ => r = 1) mc ms x0 x1 x2 x3 x4 x8 x9 x10 x11 x14 x15 x16 x17 x18 x19 w x7 kc ks)
    (k1 : x13 = 0 → x7 = -1) (k2 : ¬ x13 = 0 → x12 = 0 → x7 = -4) (k3 : ¬ x13 = 0 → ¬ x12 = 0 → x7 = 2) :
    wL_lawOf_314 (fun r _ => r = 1) mc ms x0 x1 x2 x3 x4 x7 x8 x9 x10 x11 x12 x13 x14 x15 x16 x17 x18 x19 z0 z1 kc ks :=
  br_t hz (br_c (fun a => K _ (k1 a)) (fun a => br_c (fun b => K _ (k2 a b)) (fun b => K _ (k3 a b))))
theorem ei_T300 (K : ∀ w, x6 = w → wL_lawOf_314 (fun r _ => r = 1) mc ms x0 x1 x2 x3 x4 x7 x8 x9 x10 x11 x12 x13 x14 x15 x16 x17 x18 z0 w x6 kc ks)
    (j1 : x12 = 0 → x6 = -1) (j2 : ¬ x12 = 0 → x6 = 1) :
    wL_lawOf_300 (fun r _ => r = 1) mc ms x0 x1 x2 x3 x4 x6 x7 x8 x9 x10 x11 x12 x13 x14 x15 x16 x17 x18 z0 kc ks :=
  br_c (fun a => K _ (j1 a)) (fun a => K _ (j2 a))
theorem ei_T289 (K : ∀ w, x10 = w → wL_lawOf_300 (fun r _ => r = 1) mc ms x0 x1 x2 x3 x4 x6 x7 x8 x9 x10 x11 x12 x13 x14 x15 x16 x17 x18 w kc ks)
    (h : (x18 = 0 → x10 = -4) ∧ (¬ x18 = 0 → x10 = 2)) :
    wL_lawOf_289 (fun r _ => r = 1) mc ms x0 x1 x2 x3 x4 x6 x7 x8 x9 x10 x11 x12 x13 x14 x15 x16 x17 x18 kc ks :=
  br_c (fun a => K _ (h.1 a)) (fun a => K _ (h.2 a))
theorem ei_T263 (K : ∀ w, x10 = w → wL_lawOf_300 (fun r _ => r = 1) mc ms x0 x1 x2 x3 x4 x6 x7 x8 x9 x10 x11 x12 x13 x14 x15 x16 x17 z0 w kc ks)
    (d1 : x14 = 0 → x10 = -1) (d2 : ¬ x14 = 0 → ¬ x15 = 0 → x2 = x1 → x10 = -2) (d3 : ¬ x14 = 0 → ¬ (¬ x15 = 0 ∧ x2 = x1) → (z0 = 0 → x10 = -4) ∧ (¬ z0 = 0 → x10 = 2)) :
    wL_lawOf_263 (fun r _ => r = 1) mc ms x0 x1 x2 x3 x4 x6 x7 x8 x9 x10 x11 x12 x13 x14 x15 x16 x17 z0 kc ks :=
  br_c (fun a => K _ (d1 a)) (fun a => br_c (fun b => ei_T289 K (d3 a (fun t => t.1 b))) (fun b => br_c (fun c => K _ (d2 a b c)) (fun c => ei_T289 K (d3 a (fun t => c t.2)))))
theorem ei_T236 (K : ∀ w : Int32, (w = 0 ↔ ¬ (¬ x14 = 0 ∧ ¬ x2 = x1 ∧ ¬ x12 = 0 ∧ x13 = 0)) → wL_lawOf_263 (fun r _ => r = 1) mc ms x0 x1 x2 x3 x4 x6 x7 x8 x9 x10 x11 x12 x13 x14 x15 x16 z0 w kc ks) :
    wL_lawOf_236 (fun r _ => r = 1) mc ms x0 x1 x2 x3 x4 x6 x7 x8 x9 x10 x11 x12 x13 x14 x15 x16 z0 kc ks := by
  have n : ¬ (¬ x14 = 0 ∧ ¬ x2 = x1 ∧ ¬ x12 = 0 ∧ x13 = 0) → wL_lawOf_262 (fun r _ => r = 1) mc ms x0 x1 x2 x3 x4 x6 x7 x8 x9 x10 x11 x12 x13 x14 x15 x16 z0 kc ks := fun h => K 0 ⟨fun _ => h, fun _ => rfl⟩
  exact br_c (fun a => n (fun t => t.1 a)) (fun a => br_c (fun b => n (fun t => t.2.1 b)) (fun b => br_c (fun c => n (fun t => t.2.2.1 c)) (fun c => br_c (fun d => K 1 ⟨fun h => absurd h (by decide), fun h => absurd ⟨a, b, c, d⟩ h⟩) (fun d => n (fun t => d t.2.2.2)))))
theorem ei_lt {x : Int32} {n : Nat} (hn : n < 2 ^ 31) : x < nI n ↔ x.toInt < n := by rw [Int32.lt_iff_toInt_lt, nI_toInt hn]
theorem ei_gt {x : Int32} {n : Nat} (hn : n < 2 ^ 31) : nI n < x ↔ (n : Int) < x.toInt := by rw [Int32.lt_iff_toInt_lt, nI_toInt hn]
theorem ei_le {x : Int32} {n : Nat} (hn : n < 2 ^ 31) : x ≤ nI n ↔ x.toInt ≤ n := by rw [Int32.le_iff_toInt_le, nI_toInt hn]
theorem ei_ge {x : Int32} {n : Nat} (hn : n < 2 ^ 31) : nI n ≤ x ↔ (n : Int) ≤ x.toInt := by rw [Int32.le_iff_toInt_le, nI_toInt hn]
theorem ei_eq {x : Int32} {n : Nat} (hn : n < 2 ^ 31) : x = nI n ↔ x.toInt = n := by rw [← Int32.toInt_inj, nI_toInt hn]
/-- a condition x < n, read off in whole numbers -/
theorem ei_blt {x y : Int32} {A B : Prop} (n : Nat) (f : x.toInt < n → A) (g : (n : Int) ≤ x.toInt → B) (hy : y = nI n := by rfl) (hn : n < 2 ^ 31 := by omega) : (x < y → A) ∧ (¬ x < y → B) := by
  subst hy
  exact ⟨fun h => f ((ei_lt hn).mp h), fun h => g (by have := mt (ei_lt hn).mpr h; omega)⟩
theorem ei_bgt {x y : Int32} {A B : Prop} (n : Nat) (f : (n : Int) < x.toInt → A) (g : x.toInt ≤ n → B) (hy : y = nI n := by rfl) (hn : n < 2 ^ 31 := by omega) : (y < x → A) ∧ (¬ y < x → B) := by
  subst hy
  exact ⟨fun h => f ((ei_gt hn).mp h), fun h => g (by have := mt (ei_gt hn).mpr h; omega)⟩
theorem ei_ble {x y : Int32} {A B : Prop} (n : Nat) (f : x.toInt ≤ n → A) (g : (n : Int) < x.toInt → B) (hy : y = nI n := by rfl) (hn : n < 2 ^ 31 := by omega) : (x ≤ y → A) ∧ (¬ x ≤ y → B) := by
  subst hy
  exact ⟨fun h => f ((ei_le hn).mp h), fun h => g (by have := mt (ei_le hn).mpr h; omega)⟩
theorem ei_beq {x y : Int32} {A B : Prop} (n : Nat) (f : x.toInt = n → A) (g : ¬ x.toInt = n → B) (hy : y = nI n := by rfl) (hn : n < 2 ^ 31 := by omega) : (x = y → A) ∧ (¬ x = y → B) := by
  subst hy
  exact ⟨fun h => f ((ei_eq hn).mp h), fun h => g (mt (ei_eq hn).mpr h)⟩
def ei_In (l : Int) : Prop := 0 ≤ l ∧ l ≤ 3
def ei_Sl (s : Int) : Prop := 0 ≤ s ∧ s ≤ 5
def ei_Oe (p : Int) : Prop := 4 ≤ p ∧ p ≤ 7
theorem ei_fl0 {P : Prop} (h : ¬ P) : (0 : Int32) = 0 ↔ ¬ P := ⟨fun _ => h, fun _ => rfl⟩
theorem ei_fl1 {P : Prop} (h : P) : (1 : Int32) = 0 ↔ ¬ P := ⟨fun z => absurd z (by decide), fun z => absurd h z⟩
theorem ei_T231 (K : ∀ w : Int32, (w = 0 ↔ ¬ ei_Pat x4.toInt) → wL_lawOf_236 (fun r _ => r = 1) mc ms x0 x1 x2 x3 x4 x6 x7 x8 x9 x10 x11 x12 x13 x14 x15 x16 w kc ks) (h : ei_Pat x4.toInt) : wL_lawOf_231 (fun r _ => r = 1) mc ms x0 x1 x2 x3 x4 x6 x7 x8 x9 x10 x11 x12 x13 x14 x15 x16 kc ks := K 1 (ei_fl1 h)
theorem ei_T235 (K : ∀ w : Int32, (w = 0 ↔ ¬ ei_Pat x4.toInt) → wL_lawOf_236 (fun r _ => r = 1) mc ms x0 x1 x2 x3 x4 x6 x7 x8 x9 x10 x11 x12 x13 x14 x15 x16 w kc ks) (h : ¬ ei_Pat x4.toInt) : wL_lawOf_235 (fun r _ => r = 1) mc ms x0 x1 x2 x3 x4 x6 x7 x8 x9 x10 x11 x12 x13 x14 x15 x16 kc ks := K 0 (ei_fl0 h)
theorem ei_T215 (K : ∀ w : Int32, (w = 0 ↔ ¬ ei_Pat x4.toInt) → wL_lawOf_236 (fun r _ => r = 1) mc ms x0 x1 x2 x3 x4 x6 x7 x8 x9 x10 x11 x12 x13 x14 x15 x16 w kc ks) (h : x4.toInt ≠ 1 ∧ (x4.toInt < 4 ∨ 7 < x4.toInt) ∧ (x4.toInt < 16 ∨ 31 < x4.toInt) ∧ (x4.toInt < 64 ∨ 127 < x4.toInt) ∧ (x4.toInt < 256 ∨ 511 < x4.toInt) ∧ (x4.toInt < 1024 ∨ 2047 < x4.toInt)) :
    wL_lawOf_215 (fun r _ => r = 1) mc ms x0 x1 x2 x3 x4 x6 x7 x8 x9 x10 x11 x12 x13 x14 x15 x16 kc ks :=
  ei_blt 4096 (fun a => ei_T235 K (by unfold ei_Pat; omega)) (fun a => ei_bgt 8191 (fun b => ei_T235 K (by unfold ei_Pat; omega)) (fun b => ei_T231 K (by unfold ei_Pat; omega)))
theorem ei_T199 (K : ∀ w : Int32, (w = 0 ↔ ¬ ei_Pat x4.toInt) → wL_lawOf_236 (fun r _ => r = 1) mc ms x0 x1 x2 x3 x4 x6 x7 x8 x9 x10 x11 x12 x13 x14 x15 x16 w kc ks) (h : x4.toInt ≠ 1 ∧ (x4.toInt < 4 ∨ 7 < x4.toInt) ∧ (x4.toInt < 16 ∨ 31 < x4.toInt) ∧ (x4.toInt < 64 ∨ 127 < x4.toInt) ∧ (x4.toInt < 256 ∨ 511 < x4.toInt)) :
    wL_lawOf_199 (fun r _ => r = 1) mc ms x0 x1 x2 x3 x4 x6 x7 x8 x9 x10 x11 x12 x13 x14 x15 x16 kc ks :=
  ei_blt 1024 (fun a => ei_T215 K (by omega)) (fun a => ei_ble 2047 (fun b => ei_T231 K (by unfold ei_Pat; omega)) (fun b => ei_T215 K (by omega)))
theorem ei_T183 (K : ∀ w : Int32, (w = 0 ↔ ¬ ei_Pat x4.toInt) → wL_lawOf_236 (fun r _ => r = 1) mc ms x0 x1 x2 x3 x4 x6 x7 x8 x9 x10 x11 x12 x13 x14 x15 x16 w kc ks) (h : x4.toInt ≠ 1 ∧ (x4.toInt < 4 ∨ 7 < x4.toInt) ∧ (x4.toInt < 16 ∨ 31 < x4.toInt) ∧ (x4.toInt < 64 ∨ 127 < x4.toInt)) :
    wL_lawOf_183 (fun r _ => r = 1) mc ms x0 x1 x2 x3 x4 x6 x7 x8 x9 x10 x11 x12 x13 x14 x15 x16 kc ks :=
  ei_blt 256 (fun a => ei_T199 K (by omega)) (fun a => ei_ble 511 (fun b => ei_T231 K (by unfold ei_Pat; omega)) (fun b => ei_T199 K (by omega)))
theorem ei_T169 (K : ∀ w : Int32, (w = 0 ↔ ¬ ei_Pat x4.toInt) → wL_lawOf_236 (fun r _ => r = 1) mc ms x0 x1 x2 x3 x4 x6 x7 x8 x9 x10 x11 x12 x13 x14 x15 x16 w kc ks) (h : x4.toInt ≠ 1 ∧ (x4.toInt < 4 ∨ 7 < x4.toInt) ∧ (x4.toInt < 16 ∨ 31 < x4.toInt)) :
    wL_lawOf_169 (fun r _ => r = 1) mc ms x0 x1 x2 x3 x4 x6 x7 x8 x9 x10 x11 x12 x13 x14 x15 x16 kc ks :=
  ei_blt 64 (fun a => ei_T183 K (by omega)) (fun a => ei_ble 127 (fun b => ei_T231 K (by unfold ei_Pat; omega)) (fun b => ei_T183 K (by omega)))
theorem ei_T142 (K : ∀ w : Int32, (w = 0 ↔ ¬ ei_Pat x4.toInt) → wL_lawOf_236 (fun r _ => r = 1) mc ms x0 x1 x2 x3 x4 x6 x7 x8 x9 x10 x11 x12 x13 x14 x15 z0 w kc ks) (h : z0 = 0 ↔ ¬ ei_Oe x4.toInt) :
    wL_lawOf_142 (fun r _ => r = 1) mc ms x0 x1 x2 x3 x4 x6 x7 x8 x9 x10 x11 x12 x13 x14 x15 z0 kc ks :=
  ei_beq 1 (fun a => ei_T231 K (by unfold ei_Pat; omega)) (fun a => br_c (fun b => by
    have b := h.mp b
    unfold ei_Oe at b
    exact ei_blt 16 (fun c => ei_T169 K (by omega)) (fun c => ei_ble 31 (fun d => ei_T231 K (by unfold ei_Pat; omega)) (fun d => ei_T169 K (by omega)))) (fun b => ei_T231 K (by
    have b := Classical.not_not.mp (mt h.mpr b)
    unfold ei_Oe at b
    unfold ei_Pat
    omega)))
theorem ei_T122 (K : ∀ w : Int32, (w = 0 ↔ ¬ ei_Oe x4.toInt) → wL_lawOf_142 (fun r _ => r = 1) mc ms x0 x1 x2 x3 x4 x6 x7 x8 x9 x10 x11 x12 x13 x14 z0 w kc ks) :
    wL_lawOf_122 (fun r _ => r = 1) mc ms x0 x1 x2 x3 x4 x6 x7 x8 x9 x10 x11 x12 x13 x14 z0 kc ks :=
  ei_blt 4 (fun a => K 0 (ei_fl0 (by unfold ei_Oe; omega))) (fun a => ei_bgt 7 (fun b => K 0 (ei_fl0 (by unfold ei_Oe; omega))) (fun b => K 1 (ei_fl1 (by unfold ei_Oe; omega))))
theorem ei_T105 (K : ∀ w : Int32, (w = 0 ↔ ¬ (¬ x12 = 0 ∧ ¬ x13 = 0)) → wL_lawOf_122 (fun r _ => r = 1) mc ms x0 x1 x2 x3 x4 x6 x7 x8 x9 x10 x11 x12 x13 z0 w kc ks) :
    wL_lawOf_105 (fun r _ => r = 1) mc ms x0 x1 x2 x3 x4 x6 x7 x8 x9 x10 x11 x12 x13 z0 kc ks :=
  br_c (fun a => K 0 (ei_fl0 (fun t => t.1 a))) (fun a => br_c (fun b => K 0 (ei_fl0 (fun t => t.2 b))) (fun b => K 1 (ei_fl1 ⟨a, b⟩)))
theorem ei_T89 (K : ∀ w : Int32, (w = 0 ↔ ¬ ei_Sl x2.toInt) → wL_lawOf_105 (fun r _ => r = 1) mc ms x0 x1 x2 x3 x4 x6 x7 x8 x9 x10 x11 x12 z0 w kc ks) :
    wL_lawOf_89 (fun r _ => r = 1) mc ms x0 x1 x2 x3 x4 x6 x7 x8 x9 x10 x11 x12 z0 kc ks :=
  ei_blt 0 (fun a => K 0 (ei_fl0 (by unfold ei_Sl; omega))) (fun a => ei_bgt 5 (fun b => K 0 (ei_fl0 (by unfold ei_Sl; omega))) (fun b => K 1 (ei_fl1 (by unfold ei_Sl; omega))))
theorem ei_T73 (K : ∀ w : Int32, (w = 0 ↔ ¬ ei_Sl x1.toInt) → wL_lawOf_89 (fun r _ => r = 1) mc ms x0 x1 x2 x3 x4 x6 x7 x8 x9 x10 x11 z0 w kc ks) :
    wL_lawOf_73 (fun r _ => r = 1) mc ms x0 x1 x2 x3 x4 x6 x7 x8 x9 x10 x11 z0 kc ks :=
  ei_blt 0 (fun a => K 0 (ei_fl0 (by unfold ei_Sl; omega))) (fun a => ei_bgt 5 (fun b => K 0 (ei_fl0 (by unfold ei_Sl; omega))) (fun b => K 1 (ei_fl1 (by unfold ei_Sl; omega))))
theorem ei_T0 (K : ∀ w : Int32, (w = 0 ↔ ¬ ei_In x0.toInt) → wL_lawOf_73 (fun r _ => r = 1) mc ms x0 x1 x2 x3 x4 x6 x7 x8 x9 x10 x11 w kc ks) :
    ((x0 < 0 → (wL_lawOf_72 (fun r _ => r = 1) mc ms x0 x1 x2 x3 x4 x6 x7 x8 x9 x10 x11 kc ks)) ∧ (¬ x0 < 0 → (((3 < x0 → (wL_lawOf_72 (fun r _ => r = 1) mc ms x0 x1 x2 x3 x4 x6 x7 x8 x9 x10 x11 kc ks)) ∧ (¬ 3 < x0 → (wL_lawOf_73 (fun r _ => r = 1) mc ms x0 x1 x2 x3 x4 x6 x7 x8 x9 x10 x11 1 kc ks)))))) :=
  ei_blt 0 (fun a => K 0 (ei_fl0 (by unfold ei_In; omega))) (fun a => ei_bgt 3 (fun b => K 0 (ei_fl0 (by unfold ei_In; omega))) (fun b => K 1 (ei_fl1 (by unfold ei_In; omega))))
/-- what the six answers must be; A: the letter is one, B, C: the slots are slots, D: a pattern of one letter, E: a pattern -/
def ei_S (A B C D E : Prop) (x0 x1 x2 x3 x4 x6 x7 x8 x9 x10 x11 : Int32) : Prop :=
  ((¬ A → x6 = -1) ∧ (A → x6 = 1)) ∧
  ((¬ B → x7 = -1) ∧ (B → ¬ A → x7 = -4) ∧ (B → A → x7 = 2)) ∧
  ((A ∧ B → x3 = 0 → x8 = x0) ∧ (¬ ((A ∧ B) ∧ x3 = 0) → x8 = -4)) ∧
  ((¬ E → x9 = -1) ∧ (E → ¬ (A ∧ B) → x9 = 0) ∧ (E → A ∧ B → x4 = 1 → x9 = 2) ∧ (E → A ∧ B → ¬ x4 = 1 → D → (x4 &&& 3) = x0 → x9 = 1) ∧ (E → A ∧ B → ¬ x4 = 1 → ¬ (D ∧ (x4 &&& 3) = x0) → x9 = 0)) ∧
  ((¬ C → x10 = -1) ∧ (C → A ∧ B → x2 = x1 → x10 = -2) ∧ (C → ¬ ((A ∧ B) ∧ x2 = x1) → ¬ (A ∧ ¬ B ∧ ¬ x2 = x1) → x10 = -4) ∧ (C → ¬ ((A ∧ B) ∧ x2 = x1) → (A ∧ ¬ B ∧ ¬ x2 = x1) → x10 = 2)) ∧
  ((¬ C → x11 = -1) ∧ (C → A ∧ B → x2 = x1 → x11 = 0) ∧ (C → ¬ ((A ∧ B) ∧ x2 = x1) → ¬ (A ∧ ¬ B ∧ ¬ x2 = x1) → x11 = -4) ∧ (C → ¬ ((A ∧ B) ∧ x2 = x1) → (A ∧ ¬ B ∧ ¬ x2 = x1) → x11 = 0))
theorem ei_ff {z : Int32} {P : Prop} (h : z = 0 ↔ ¬ P) (g : ¬ z = 0) : P := Classical.not_not.mp (mt h.mpr g)
theorem ei_fp {z : Int32} {P : Prop} (h : z = 0 ↔ ¬ P) (p : P) : ¬ z = 0 := fun g => h.mp g p
theorem ei_tail (S : ei_S (ei_In x0.toInt) (ei_Sl x1.toInt) (ei_Sl x2.toInt) (ei_Oe x4.toInt) (ei_Pat x4.toInt) x0 x1 x2 x3 x4 x6 x7 x8 x9 x10 x11) :
    ((x0 < 0 → (wL_lawOf_72 (fun r _ => r = 1) mc ms x0 x1 x2 x3 x4 x6 x7 x8 x9 x10 x11 kc ks)) ∧ (¬ x0 < 0 → (((3 < x0 → (wL_lawOf_72 (fun r _ => r = 1) mc ms x0 x1 x2 x3 x4 x6 x7 x8 x9 x10 x11 kc ks)) ∧ (¬ 3 < x0 → (wL_lawOf_73 (fun r _ => r = 1) mc ms x0 x1 x2 x3 x4 x6 x7 x8 x9 x10 x11 1 kc ks)))))) := by
  obtain ⟨⟨s60, s61⟩, ⟨s70, s71, s72⟩, ⟨s80, s81⟩, ⟨s90, s91, s92, s93, s94⟩, ⟨t0, t1, t2, t3⟩, ⟨u0, u1, u2, u3⟩⟩ := S
  refine ei_T0 (fun x12 f12 => ei_T73 (fun x13 f13 => ei_T89 (fun x14 f14 => ei_T105 (fun x15 g15 => ei_T122 (fun x16 f16 => ei_T142 (fun x17 f17 => ei_T236 (fun x18 g18 => ?_)) f16)))))
  have f15 : x15 = 0 ↔ ¬ (ei_In x0.toInt ∧ ei_Sl x1.toInt) := by
    rw [g15, f12, f13, Classical.not_not, Classical.not_not]
  have f18 : x18 = 0 ↔ ¬ (ei_Sl x2.toInt ∧ ¬ x2 = x1 ∧ ei_In x0.toInt ∧ ¬ ei_Sl x1.toInt) := by
    rw [g18, f12, f13, f14, Classical.not_not, Classical.not_not]
  have n15 : ∀ {Q : Prop}, ¬ (¬ x15 = 0 ∧ Q) → ¬ ((ei_In x0.toInt ∧ ei_Sl x1.toInt) ∧ Q) := fun h t => h ⟨ei_fp f15 t.1, t.2⟩
  refine ei_T263 (fun x19 f19 => ei_T300 (fun z6 h6 => ei_T314 h6 (fun z7 h7 => ei_T339 h7 (fun z8 h8 => ei_T359 h8 (fun z9 h9 => ei_T410 h9 f19 ?_ ?_ ?_) ?_ ?_ ?_ ?_ ?_) ?_ ?_) ?_ ?_ ?_) ?_ ?_) ?_ ?_ ?_
  · exact fun h => u0 (f14.mp h)
  · exact fun h g e => u1 (ei_ff f14 h) (ei_ff f15 g) e
  · exact fun h g => ⟨fun z => u2 (ei_ff f14 h) (n15 g) (fun t => f18.mp z ⟨ei_ff f14 h, t.2.2, t.1, t.2.1⟩), fun z => u3 (ei_ff f14 h) (n15 g) ⟨(ei_ff f18 z).2.2.1, (ei_ff f18 z).2.2.2, (ei_ff f18 z).2.1⟩⟩
  · exact fun h => s90 (f17.mp h)
  · exact fun h g => s91 (ei_ff f17 h) (f15.mp g)
  · exact fun h g e => s92 (ei_ff f17 h) (ei_ff f15 g) e
  · exact fun h g e d k => s93 (ei_ff f17 h) (ei_ff f15 g) e (ei_ff f16 d) k
  · exact fun h g e d => s94 (ei_ff f17 h) (ei_ff f15 g) e (fun t => d ⟨ei_fp f16 t.1, t.2⟩)
  · exact fun h e => s80 (ei_ff f15 h) e
  · exact fun h => s81 (n15 h)
  · exact fun h => s70 (f13.mp h)
  · exact fun h g => s71 (ei_ff f13 h) (f12.mp g)
  · exact fun h g => s72 (ei_ff f13 h) (ei_ff f12 g)
  · exact fun h => s60 (f12.mp h)
  · exact fun h => s61 (ei_ff f12 h)
  · exact fun h => t0 (f14.mp h)
  · exact fun h g e => t1 (ei_ff f14 h) (ei_ff f15 g) e
  · exact fun h g => ⟨fun z => t2 (ei_ff f14 h) (n15 g) (fun t => f18.mp z ⟨ei_ff f14 h, t.2.2, t.1, t.2.1⟩), fun z => t3 (ei_ff f14 h) (n15 g) ⟨(ei_ff f18 z).2.2.1, (ei_ff f18 z).2.2.2, (ei_ff f18 z).2.1⟩⟩
end
end
section
section
variable {dr sz ps lo hi : Int32} {a1 a2 a3 a4 a5 a6 a7 : Nat → Int32}
theorem ei_sl_no {s : Int32} (h : s < 0 ∨ nI 6 ≤ s) : ¬ ei_Sl s.toInt := by
  unfold ei_Sl
  rcases h with h | h
  · have := (ei_lt (n := 0) (by omega)).mp h
    omega
  · have := (ei_ge (n := 6) (by omega)).mp h
    omega
theorem ei_sl_yes {s : Nat} (h : s < 6) : ei_Sl (nI s).toInt := by
  unfold ei_Sl
  rw [nI_toInt (by omega)]
  omega
theorem ei_in_no {l : Int32} (h : l < 0 ∨ nI 4 ≤ l) : ¬ ei_In l.toInt := by
  unfold ei_In
  rcases h with h | h
  · have := (ei_lt (n := 0) (by omega)).mp h
    omega
  · have := (ei_ge (n := 4) (by omega)).mp h
    omega
theorem ei_in_yes {l : Nat} (h : l < 4) : ei_In (nI l).toInt := by
  unfold ei_In
  rw [nI_toInt (by omega)]
  omega
/-- a letter or not -/
theorem ei_ix (x : Int32) {n : Nat} (hn : n < 2 ^ 31) : (x < 0 ∨ nI n ≤ x) ∨ ∃ j : Nat, j < n ∧ x = nI j := by
  rcases pk_ix x hn with h | h | h
  · exact .inl (.inl h)
  · exact .inl (.inr h)
  · exact .inr h
theorem ei_px (p : Int32) : (p < 1 ∨ nI 8192 ≤ p) ∨ ∃ q : Nat, 1 ≤ q ∧ q < 8192 ∧ p = nI q := by
  rcases pk_ix p (n := 8192) (by omega) with h | h | ⟨j, hj, e⟩
  · refine .inl (.inl ?_)
    have := (ei_lt (n := 0) (by omega)).mp h
    exact (ei_lt (n := 1) (by omega)).mpr (by omega)
  · exact .inl (.inr h)
  · by_cases g : 1 ≤ j
    · exact .inr ⟨j, g, hj, e⟩
    · refine .inl (.inl ?_)
      rw [e]
      exact nI_lt (b := 1) (by omega) (by omega)
theorem ei_px_no {p : Int32} (h : p < 1 ∨ nI 8192 ≤ p) : ¬ ei_Pat p.toInt := by
  unfold ei_Pat
  rcases h with h | h
  · have := (ei_lt (n := 1) (by omega)).mp h
    omega
  · have := (ei_ge (n := 8192) (by omega)).mp h
    omega

/-- count, no text -/
theorem ei_cE {post : Int32 → St2 → Prop} {p : Int32} (H : ∀ v ps lo hi b, (¬ ei_Pat p.toInt → v = -1) → (ei_Pat p.toInt → v = 0) → post v (dr, nI 0, ps, lo, hi, a1, a2, a3, b, a5, a6, a7)) :
    wpX_count post (dr, nI 0, ps, lo, hi, a1, a2, a3, a4, a5, a6, a7) p := by
  rcases ei_px p with h | ⟨q, h1, h2, e⟩
  · exact ei_count_bad h (H _ _ _ _ _ (fun _ => rfl) (fun z => absurd z (ei_px_no h)))
  · obtain ⟨m, hm, q1, qj⟩ := ei_pm h2
    obtain ⟨k1, k0, _, _⟩ := ei_pat h1 m hm q1 qj
    subst e
    rw [nI_toInt (by omega)] at H
    exact ei_count0 h1 h2 hm q1 qj (fun g ps lo hi b => H 0 ps lo hi b (fun z => absurd (k1 g) z) (fun _ => rfl)) (fun g ps lo hi b => H (-1) ps lo hi b (fun _ => rfl) (fun z => absurd z (k0 g)))
/-- count, one text of one letter -/
theorem ei_cO {post : Int32 → St2 → Prop} {p : Int32} {l s : Nat} (hl : l < 4) (hs : s < 6) (h : ei_O l s a2 a3)
    (H : ∀ v ps lo hi b, (¬ ei_Pat p.toInt → v = -1) → (ei_Pat p.toInt → p = 1 → v = 2) → (ei_Pat p.toInt → ¬ p = 1 → ei_Oe p.toInt → (p &&& 3) = nI l → v = 1) → (ei_Pat p.toInt → ¬ p = 1 → ¬ (ei_Oe p.toInt ∧ (p &&& 3) = nI l) → v = 0) → post v (dr, nI 2, ps, lo, hi, a1, a2, a3, b, a5, a6, a7)) :
    wpX_count post (dr, nI 2, ps, lo, hi, a1, a2, a3, a4, a5, a6, a7) p := by
  rcases ei_px p with h' | ⟨q, h1, h2, e⟩
  · exact ei_count_bad h' (H _ _ _ _ _ (fun _ => rfl) (fun z => absurd z (ei_px_no h')) (fun z => absurd z (ei_px_no h')) (fun z => absurd z (ei_px_no h')))
  · obtain ⟨m, hm, q1, qj⟩ := ei_pm h2
    obtain ⟨k1, k0, kz, ko⟩ := ei_pat h1 m hm q1 qj
    subst e
    have e1 : nI q = 1 ↔ m = 0 := by rw [← kz]; exact nI_eq (b := 1) (by omega) (by omega)
    have e3 : (nI q &&& 3) = nI l ↔ l = q % 2 ^ 2 := by
      rw [pk_andN (by omega) 2 (by decide), nI_eq (by omega) (by omega)]
      exact eq_comm
    rw [nI_toInt (by omega), e1, e3] at H
    refine ei_count1 hl hs h h1 h2 hm q1 qj (fun g v ps lo hi b g2 g1 g0 => H (nI v) ps lo hi b ?_ ?_ ?_ ?_) (fun g ps lo hi b => H (-1) ps lo hi b (fun _ => rfl) (fun z => absurd z (k0 g)) (fun z => absurd z (k0 g)) (fun z => absurd z (k0 g)))
    · exact fun z => absurd (k1 g) z
    · exact fun _ z => by rw [g2 z]; rfl
    · exact fun _ _ o c => by
        unfold ei_Oe at o
        rw [g1 ((ko g).mp (by omega)) c]; rfl
    · intro _ z o
      have hn : ¬ (m = 1 ∧ l = q % 2 ^ 2) := fun t => o ⟨by have := (ko g).mpr t.1; unfold ei_Oe; omega, t.2⟩
      rw [g0 z hn]; rfl
/-- add and remove, one text in s -/
theorem ei_aO {post : Int32 → St2 → Prop} {t : Int32} {l s : Nat} (hs : s < 6) (h : ei_O l s a2 a3)
    (H : ∀ v, (¬ ei_Sl t.toInt → v = -1) → (ei_Sl t.toInt → t = nI s → v = -2) → (ei_Sl t.toInt → ¬ t = nI s → v = -4) → post v (nI 0, sz, ps, lo, hi, a1, a2, a3, a4, a5, a6, a7)) :
    wpX_add post (nI 0, sz, ps, lo, hi, a1, a2, a3, a4, a5, a6, a7) t := by
  rcases ei_ix t (n := 6) (by omega) with g | ⟨j, hj, e⟩
  · exact ei_add_bad g (H _ (fun _ => rfl) (fun z => absurd z (ei_sl_no g)) (fun z => absurd z (ei_sl_no g)))
  · subst e
    by_cases ej : j = s
    · subst ej
      exact ei_add_full hj h.2.2.1 (H _ (fun z => absurd (ei_sl_yes hj) z) (fun _ _ => rfl) (fun _ z => absurd rfl z))
    · exact ei_add_none hj (h.2.2.2 j ej) (H _ (fun z => absurd (ei_sl_yes hj) z) (fun _ z => absurd ((nI_eq (by omega) (by omega)).mp z) ej) (fun _ _ => rfl))
theorem ei_mO {post : Int32 → St2 → Prop} {t : Int32} {l s : Nat} (hl : l < 4) (hs : s < 6) (h : ei_O l s a2 a3)
    (H : ∀ v u, (¬ ei_Sl t.toInt → v = -1) → (ei_Sl t.toInt → t = nI s → v = 0) → (ei_Sl t.toInt → ¬ t = nI s → v = -4) → post v u) :
    wpX_remove post (dr, nI 2, ps, lo, hi, a1, a2, a3, a4, a5, a6, a7) t := by
  rcases ei_ix t (n := 6) (by omega) with g | ⟨j, hj, e⟩
  · exact ei_rem_bad g (fun u => H _ u (fun _ => rfl) (fun z => absurd z (ei_sl_no g)) (fun z => absurd z (ei_sl_no g)))
  · subst e
    by_cases ej : j = s
    · subst ej
      exact ei_rem_one hl hj h (fun u => H _ u (fun z => absurd (ei_sl_yes hj) z) (fun _ _ => rfl) (fun _ z => absurd rfl z))
    · exact ei_rem_none hj (h.2.2.2 j ej) (fun u => H _ u (fun z => absurd (ei_sl_yes hj) z) (fun _ z => absurd ((nI_eq (by omega) (by omega)).mp z) ej) (fun _ _ => rfl))
/-- add and remove, no text, nothing drafted -/
theorem ei_aE {post : Int32 → St2 → Prop} {t : Int32} (h : ∀ k, a3 k = nI 0)
    (H : ∀ v, (¬ ei_Sl t.toInt → v = -1) → (ei_Sl t.toInt → v = -4) → post v (nI 0, sz, ps, lo, hi, a1, a2, a3, a4, a5, a6, a7)) :
    wpX_add post (nI 0, sz, ps, lo, hi, a1, a2, a3, a4, a5, a6, a7) t := by
  rcases ei_ix t (n := 6) (by omega) with g | ⟨j, hj, e⟩
  · exact ei_add_bad g (H _ (fun _ => rfl) (fun z => absurd z (ei_sl_no g)))
  · subst e
    exact ei_add_none hj (h j) (H _ (fun z => absurd (ei_sl_yes hj) z) (fun _ => rfl))
theorem ei_mE {post : Int32 → St2 → Prop} {t : Int32} (h : ∀ k, a3 k = nI 0)
    (H : ∀ v u, (¬ ei_Sl t.toInt → v = -1) → (ei_Sl t.toInt → v = -4) → post v u) :
    wpX_remove post (dr, sz, ps, lo, hi, a1, a2, a3, a4, a5, a6, a7) t := by
  rcases ei_ix t (n := 6) (by omega) with g | ⟨j, hj, e⟩
  · exact ei_rem_bad g (fun u => H _ u (fun _ => rfl) (fun z => absurd z (ei_sl_no g)))
  · subst e
    exact ei_rem_none hj (h j) (fun u => H _ u (fun z => absurd (ei_sl_yes hj) z) (fun _ => rfl))
/-- letter, no text -/
theorem ei_lE {post : Int32 → Prop} {s i : Int32} (h : ∀ k, a3 k = nI 0) (H : post (-4)) :
    wpX_letter post (dr, sz, ps, lo, hi, a1, a2, a3, a4, a5, a6, a7) s i := by
  rcases ei_ix s (n := 6) (by omega) with g | ⟨j, hj, e⟩
  · exact ei_letter_bad g H
  · subst e
    exact ei_letter_none hj (h j) H
theorem ei_lO {post : Int32 → Prop} {l s : Nat} {i : Int32} (hs : s < 6) (h : ei_O l s a2 a3) (H : ∀ v, (i = 0 → v = nI l) → (¬ i = 0 → v = -4) → post v) :
    wpX_letter post (dr, sz, ps, lo, hi, a1, a2, a3, a4, a5, a6, a7) (nI s) i :=
  ei_letter_one hs h (fun z => H _ (fun _ => rfl) (fun n => absurd z n)) (fun z => H _ (fun n => absurd n z) (fun _ => rfl))
end
end
section
theorem ei_lawOf (l s t i p : Int32) : wpL_lawOf (fun r _ => r = 1) 126 2016 () l s t i p := by
  unfold wpL_lawOf
  refine ⟨by omega, by omega, 7, 207, by omega, by omega, ?_⟩
  unfold wpX_init
  refine ⟨by omega, by omega, by omega, by omega, by omega, by omega, by omega, by omega, by omega, by omega, by omega, by omega, by omega, by omega, ?_⟩
  have z3 : ∀ k, (fun _ : Nat => (0 : Int32)) k = nI 0 := fun _ => rfl
  rcases ei_ix l (n := 4) (by omega) with hl | ⟨l', hl, rfl⟩
  · have hA := ei_in_no hl
    refine ei_draft0 hl ?_
    rcases ei_ix s (n := 6) (by omega) with hs | ⟨s', hs, rfl⟩
    · have hB := ei_sl_no hs
      refine ei_add_bad hs (ei_lE z3 (ei_cE (fun v9 ps lo hi b c0 c1 => ei_aE z3 (fun v10 d0 d1 => ei_mE z3 (fun v11 u m0 m1 => ei_tail ?_)))))
      refine ⟨⟨fun _ => rfl, fun z => absurd z hA⟩, ⟨fun _ => rfl, fun z => absurd z hB, fun z => absurd z hB⟩, ⟨fun z => absurd z.1 hA, fun _ => rfl⟩, ⟨c0, fun z _ => c1 z, fun _ z => absurd z.1 hA, fun _ z => absurd z.1 hA, fun _ z => absurd z.1 hA⟩, ⟨d0, fun _ z => absurd z.1 hA, fun z _ _ => d1 z, fun _ _ z => absurd z.1 hA⟩, ⟨m0, fun _ z => absurd z.1 hA, fun z _ _ => m1 z, fun _ _ z => absurd z.1 hA⟩⟩
    · have hB := ei_sl_yes hs
      refine ei_add_none hs rfl (ei_lE z3 (ei_cE (fun v9 ps lo hi b c0 c1 => ei_aE z3 (fun v10 d0 d1 => ei_mE z3 (fun v11 u m0 m1 => ei_tail ?_)))))
      refine ⟨⟨fun _ => rfl, fun z => absurd z hA⟩, ⟨fun z => absurd hB z, fun _ _ => rfl, fun _ z => absurd z hA⟩, ⟨fun z => absurd z.1 hA, fun _ => rfl⟩, ⟨c0, fun z _ => c1 z, fun _ z => absurd z.1 hA, fun _ z => absurd z.1 hA, fun _ z => absurd z.1 hA⟩, ⟨d0, fun _ z => absurd z.1 hA, fun z _ _ => d1 z, fun _ _ z => absurd z.1 hA⟩, ⟨m0, fun _ z => absurd z.1 hA, fun z _ _ => m1 z, fun _ _ z => absurd z.1 hA⟩⟩
  · have hA := ei_in_yes hl
    refine ei_draft1 hl ?_
    rcases ei_ix s (n := 6) (by omega) with hs | ⟨s', hs, rfl⟩
    · have hB := ei_sl_no hs
      refine ei_add_bad hs (ei_lE z3 (ei_cE (fun v9 ps lo hi b c0 c1 => ?_)))
      rcases ei_ix t (n := 6) (by omega) with ht | ⟨t', ht, rfl⟩
      · have hC := ei_sl_no ht
        refine ei_add_bad ht (ei_rem_bad ht (fun u => ei_tail ?_))
        refine ⟨⟨fun z => absurd hA z, fun _ => rfl⟩, ⟨fun _ => rfl, fun z => absurd z hB, fun z => absurd z hB⟩, ⟨fun z => absurd z.2 hB, fun _ => rfl⟩, ⟨c0, fun z _ => c1 z, fun _ z => absurd z.2 hB, fun _ z => absurd z.2 hB, fun _ z => absurd z.2 hB⟩, ⟨fun _ => rfl, fun z => absurd z hC, fun z => absurd z hC, fun z => absurd z hC⟩, ⟨fun _ => rfl, fun z => absurd z hC, fun z => absurd z hC, fun z => absurd z hC⟩⟩
      · have hC := ei_sl_yes ht
        have hts : ¬ nI t' = s := fun z => hB (z ▸ hC)
        refine ei_add_one hl ht pk_us z3 (fun b2 b3 hO => ei_rem_one hl ht hO (fun u => ei_tail ?_))
        refine ⟨⟨fun z => absurd hA z, fun _ => rfl⟩, ⟨fun _ => rfl, fun z => absurd z hB, fun z => absurd z hB⟩, ⟨fun z => absurd z.2 hB, fun _ => rfl⟩, ⟨c0, fun z _ => c1 z, fun _ z => absurd z.2 hB, fun _ z => absurd z.2 hB, fun _ z => absurd z.2 hB⟩, ⟨fun z => absurd hC z, fun _ z => absurd z.2 hB, fun _ _ z => absurd (show _ ∧ _ ∧ _ from ⟨hA, hB, hts⟩) z, fun _ _ _ => rfl⟩, ⟨fun z => absurd hC z, fun _ z => absurd z.2 hB, fun _ _ z => absurd (show _ ∧ _ ∧ _ from ⟨hA, hB, hts⟩) z, fun _ _ _ => rfl⟩⟩
    · have hB := ei_sl_yes hs
      refine ei_add_one hl hs pk_us z3 (fun b2 b3 hO => ei_lO hs hO (fun v8 l0 l1 => ei_cO hl hs hO (fun v9 ps lo hi b c0 c1 c2 c3 => ei_aO hs hO (fun v10 d0 d1 d2 => ei_mO hl hs hO (fun v11 u m0 m1 m2 => ei_tail ?_)))))
      refine ⟨⟨fun z => absurd hA z, fun _ => rfl⟩, ⟨fun z => absurd hB z, fun _ z => absurd hA z, fun _ _ => rfl⟩, ⟨fun _ z => l0 z, fun z => l1 (fun w => z ⟨⟨hA, hB⟩, w⟩)⟩, ⟨c0, fun _ z => absurd (And.intro hA hB) z, fun z _ w => c1 z w, fun z _ w o k => c2 z w o k, fun z _ w o => c3 z w o⟩, ⟨d0, fun z _ w => d1 z w, fun z w _ => d2 z (fun k => w ⟨⟨hA, hB⟩, k⟩), fun _ _ z => absurd hB z.2.1⟩, ⟨m0, fun z _ w => m1 z w, fun z w _ => m2 z (fun k => w ⟨⟨hA, hB⟩, k⟩), fun _ _ z => absurd hB z.2.1⟩⟩
theorem ei_cell {post : Int32 → Prop} {L k : Nat} {xs : Nat → Int32} (hL : L ≤ 5) (hk : k ≤ 4) (H : ∀ r, post r) : wpL_cellAt post L xs () (nI k) :=
  pk_le L k (fun _ => H 0) (fun z => ⟨pk_in k L z, H _⟩)
theorem i_vc (xs : Nat → Int32) (L : Nat) (hL : L ≤ 5) : wpL_law (fun r => r = 1) L xs := by
  unfold wpL_law
  exact ei_cell (k := 0) hL (by omega) (fun l => ei_cell (k := 1) hL (by omega) (fun s => ei_cell (k := 2) hL (by omega) (fun t => ei_cell (k := 3) hL (by omega) (fun i => ei_cell (k := 4) hL (by omega) (fun p => ⟨126, 2016, by omega, by omega, ei_lawOf l s t i p⟩)))))
end
