section
/-! numbers, the law's 'meets' -/
theorem sq_in {x : Int32} {N : Nat} (h : 0 ≤ x.toInt ∧ x.toInt < (N : Int)) : vp_in x N := vp_in_iff.mpr h
theorem sq_ne {x a b : Int32} (h : x = a) (n : ¬ a = b) : ¬ x = b := fun e => n (h.symm.trans e)
def sq_M (k u v : Int32) : Prop := k = 0 ∨ (k = 1 ∧ u < v) ∨ (k = 2 ∧ v < u) ∨ (k = 3 ∧ v = 3) ∨ (k = 4 ∧ v = u)
def sq_K (k : Int32) : Prop := k = 0 ∨ k = 1 ∨ k = 2 ∨ k = 3 ∨ k = 4
theorem sq_M1 {u v : Int32} : sq_M 1 u v ↔ u < v := by
  constructor
  · intro z
    rcases z with z | ⟨_, z⟩ | ⟨z, _⟩ | ⟨z, _⟩ | ⟨z, _⟩
    · exact absurd z (by decide)
    · exact z
    all_goals exact absurd z (by decide)
  · exact fun z => Or.inr (Or.inl ⟨rfl, z⟩)
theorem sq_M2 {u v : Int32} : sq_M 2 u v ↔ v < u := by
  constructor
  · intro z
    rcases z with z | ⟨z, _⟩ | ⟨_, z⟩ | ⟨z, _⟩ | ⟨z, _⟩
    · exact absurd z (by decide)
    · exact absurd z (by decide)
    · exact z
    all_goals exact absurd z (by decide)
  · exact fun z => Or.inr (Or.inr (Or.inl ⟨rfl, z⟩))
theorem sq_M3 {u v : Int32} : sq_M 3 u v ↔ v = 3 := by
  constructor
  · intro z
    rcases z with z | ⟨z, _⟩ | ⟨z, _⟩ | ⟨_, z⟩ | ⟨z, _⟩
    · exact absurd z (by decide)
    · exact absurd z (by decide)
    · exact absurd z (by decide)
    · exact z
    all_goals exact absurd z (by decide)
  · exact fun z => Or.inr (Or.inr (Or.inr (Or.inl ⟨rfl, z⟩)))
theorem sq_M4 {u v : Int32} : sq_M 4 u v ↔ v = u := by
  constructor
  · intro z
    rcases z with z | ⟨z, _⟩ | ⟨z, _⟩ | ⟨z, _⟩ | ⟨_, z⟩
    · exact absurd z (by decide)
    · exact absurd z (by decide)
    · exact absurd z (by decide)
    · exact absurd z (by decide)
    · exact z
  · exact fun z => Or.inr (Or.inr (Or.inr (Or.inr ⟨rfl, z⟩)))
/-! the small methods -/
theorem sq_me0 {post : Int32 → Prop} {s w c fi e : Int32} {a1 a2 a3 a4 a5 a6 a7 a8 a9 a10 : Nat → Int32} (h1 : a1 0 = 4) (h3 : a3 0 = 0) (hp : post 1) : wpX_meets post (s, w, c, fi, a1, a2, a3, a4, a5, a6, a7, a8, a9, a10) 0 (-1) e := by
  unfold wpX_meets
  refine ⟨sq_in (by decide), br_t h1 ?_⟩
  unfold wX_meets_27
  exact ⟨sq_in (by decide), br_f (sq_ne h3 (by decide)) ⟨sq_in (by decide), br_f (sq_ne h3 (by decide)) ⟨sq_in (by decide), br_f (sq_ne h3 (by decide)) ⟨sq_in (by decide), br_f (sq_ne h3 (by decide)) hp⟩⟩⟩⟩
theorem sq_me1 {post : Int32 → Prop} {s w c x k : Int32} {a1 a2 a3 a4 a5 a6 a7 a8 a9 a10 : Nat → Int32} (hx : x = 1) (h1 : a1 1 = 4) (h2 : a2 1 = 3) (h3 : a3 1 = k) (hk : sq_K k) (hy : sq_M k (a6 0) (a6 1) → post 1) (hn : ¬ sq_M k (a6 0) (a6 1) → post 0) : wpX_meets post (s, w, c, 0, a1, a2, a3, a4, a5, a6, a7, a8, a9, a10) x 0 1 := by
  subst hx
  unfold wpX_meets
  refine ⟨sq_in (by decide), br_t h1 ?_⟩
  unfold wX_meets_27
  rcases hk with hk | hk | hk | hk | hk
  · subst hk
    exact ⟨sq_in (by decide), br_f (sq_ne h3 (by decide)) ⟨sq_in (by decide), br_f (sq_ne h3 (by decide)) ⟨sq_in (by decide), br_f (sq_ne h3 (by decide)) ⟨sq_in (by decide), br_f (sq_ne h3 (by decide)) (hy (Or.inl rfl))⟩⟩⟩⟩
  · subst hk
    exact ⟨sq_in (by decide), br_t h3 (br_f (by decide) ⟨sq_in (by decide), sq_in (by decide), br_c (fun g => hn (fun z => Int32.not_le.mpr (sq_M1.mp z) g)) (fun g => hy (sq_M1.mpr (Int32.not_le.mp g)))⟩)⟩
  · subst hk
    exact ⟨sq_in (by decide), br_f (sq_ne h3 (by decide)) ⟨sq_in (by decide), br_t h3 (br_f (by decide) ⟨sq_in (by decide), sq_in (by decide), br_c (fun g => hn (fun z => Int32.not_le.mpr (sq_M2.mp z) g)) (fun g => hy (sq_M2.mpr (Int32.not_le.mp g)))⟩)⟩⟩
  · subst hk
    exact ⟨sq_in (by decide), br_f (sq_ne h3 (by decide)) ⟨sq_in (by decide), br_f (sq_ne h3 (by decide)) ⟨sq_in (by decide), br_t h3 ⟨sq_in (by decide), sq_in (by decide), br_c (fun g => hy (sq_M3.mpr (g.trans h2))) (fun g => hn (fun z => g ((sq_M3.mp z).trans h2.symm)))⟩⟩⟩⟩
  · subst hk
    exact ⟨sq_in (by decide), br_f (sq_ne h3 (by decide)) ⟨sq_in (by decide), br_f (sq_ne h3 (by decide)) ⟨sq_in (by decide), br_f (sq_ne h3 (by decide)) ⟨sq_in (by decide), br_t h3 ⟨sq_in (by decide), sq_in (by decide), br_c (fun g => hy (sq_M4.mpr g)) (fun g => hn (fun z => g (sq_M4.mp z)))⟩⟩⟩⟩⟩
theorem sq_inw {post : Int32 → Prop} {s w c x : Int32} {a1 a2 a3 a4 a5 a6 a7 a8 a9 a10 : Nat → Int32} (hx : x = 1) (hy : ¬ w < a7 1 - a7 0 → post 1) (hn : w < a7 1 - a7 0 → post 0) : wpX_inWindow post (s, w, c, 0, a1, a2, a3, a4, a5, a6, a7, a8, a9, a10) x := by
  subst hx
  unfold wpX_inWindow
  exact ⟨sq_in (by decide), sq_in (by decide), br_c hn hy⟩
theorem sq_noE {post : Int32 → Prop} {s w c fi x : Int32} {a1 a2 a3 a4 a5 a6 a7 a8 a9 a10 : Nat → Int32} (h0 : ¬ x < 0) (h1 : x < c) (hp : post 0) : wpX_noEvent post (s, w, c, fi, a1, a2, a3, a4, a5, a6, a7, a8, a9, a10) x := by
  unfold wpX_noEvent
  exact br_f h0 (br_t h1 hp)
theorem sq_noY {post : Int32 → Prop} {s w c fi x : Int32} {a1 a2 a3 a4 a5 a6 a7 a8 a9 a10 : Nat → Int32} (h0 : ¬ x < 0) (h1 : ¬ x < c) (hp : post 1) : wpX_noEvent post (s, w, c, fi, a1, a2, a3, a4, a5, a6, a7, a8, a9, a10) x := by
  unfold wpX_noEvent
  exact br_f h0 (br_f h1 hp)
theorem sq_wh {post : Int32 → Prop} {s w c fi x p : Int32} {a1 a2 a3 a4 a5 a6 a7 a8 a9 a10 : Nat → Int32} (hs : ¬ s = 0) (hi : vp_in (((s - 1) * 10) + x) 40) (he : a8 (((s - 1) * 10) + x).toNatClampNeg = p) (hp : post p) : wpX_whole post (s, w, c, fi, a1, a2, a3, a4, a5, a6, a7, a8, a9, a10) x := by
  subst he
  unfold wpX_whole
  exact br_f hs ⟨hi, hp⟩
theorem sq_add {post : St2 → Prop} {s w c fi p m l : Int32} {a1 a2 a3 a4 a5 a6 a7 a8 a9 a10 : Nat → Int32} (hi : vp_in p 40) (hn : ¬ l ≤ a10 p.toNatClampNeg) (hp : post (s, w, c, fi, a1, a2, a3, a4, a5, a6, a7, upd a8 p.toNatClampNeg (a8 p.toNatClampNeg + m), a9, upd a10 p.toNatClampNeg l)) : wpX_add post (s, w, c, fi, a1, a2, a3, a4, a5, a6, a7, a8, a9, a10) p m l := by
  unfold wpX_add
  exact ⟨hi, hi, nm_e ⟨hi, br_f hn ⟨hi, nm_e hp⟩⟩⟩
/-! runFrom -/
theorem sq_fill {i k : Nat} {x : Int32} {t : Nat → Int32} (hk : k = i) (hx : x = 0) (h : ∀ j, j < i → t j = 0) : ∀ j, j < i + 1 → upd t k x j = 0 := by
  intro j hj
  rw [hk, hx]
  by_cases e : j = i
  · rw [e, pk_us]
  · rw [pk_un e]
    exact h j (by omega)
theorem sq_clr {post : St2 → Prop} {x1 s w c fi : Int32} {a1 a2 a3 a4 a5 a6 a7 a8 a9 a10 : Nat → Int32}
    (H : ∀ (n : Nat) (b8 b10 : Nat → Int32), (∀ j, j < 40 → b8 j = 0) → (∀ j, j < 40 → b10 j = 0) → wX_runFrom_7 post x1 s w c fi (n + 1) 40 a1 a2 a3 a4 a5 a6 a7 b8 a9 b10) :
    ∃ n, wX_runFrom_7 post x1 s w c fi n 0 a1 a2 a3 a4 a5 a6 a7 a8 a9 a10 :=
  pk_loop (fun n i (t : (Nat → Int32) × (Nat → Int32)) => wX_runFrom_7 post x1 s w c fi n (nI i) a1 a2 a3 a4 a5 a6 a7 t.1 a9 t.2)
    (fun i (t : (Nat → Int32) × (Nat → Int32)) => (∀ j, j < i → t.1 j = 0) ∧ (∀ j, j < i → t.2 j = 0)) 40 0 (a8, a10) (by omega)
    ⟨fun j hj => absurd hj (by omega), fun j hj => absurd hj (by omega)⟩
    (fun n t h => H n t.1 t.2 h.1 h.2)
    (fun n i t hi h hw => pk_le 40 i (fun z => absurd z (by omega)) (fun _ => ⟨pk_in i 40 hi, nm_e ⟨pk_in i 40 hi, nm_e (nm_r (nI_1 i) (hw (_, _) ⟨sq_fill (nI_clamp (by omega)) rfl h.1, sq_fill (nI_clamp (by omega)) rfl h.2⟩))⟩⟩))
theorem sq_run {post : St2 → Prop} {x1 s w c fi : Int32} {a1 a2 a3 a4 a5 a6 a7 a8 a9 a10 : Nat → Int32} (f : Nat) (hf : f < 10) (hx : x1 = nI f) (hs : ¬ s ≤ 0) (h1 : a1 0 = 4) (h3 : a3 0 = 0)
    (H : ∀ b8 b10 : Nat → Int32, (∀ j, j < 40 → b8 j = if j = f then 1 else 0) → (∀ j, j < 40 → b10 j = if j = f then 1 else 0) → ∃ n, wX_runFrom_61 post x1 n (x1 + 1) s w c x1 a1 a2 a3 a4 a5 a6 a7 b8 a9 b10) :
    wpX_runFrom post (s, w, c, fi, a1, a2, a3, a4, a5, a6, a7, a8, a9, a10) x1 := by
  have hc : x1.toNatClampNeg = f := by
    rw [hx]
    exact nI_clamp (by omega)
  unfold wpX_runFrom
  refine sq_clr (fun n b8 b10 h8 h10 => ?_)
  refine br_t (by decide) (br_f hs ?_)
  refine sq_me0 h1 h3 ?_
  refine br_f (by decide) ?_
  refine sq_add (pk_in f 40 (by omega) hx) ?_ ?_
  · rw [hc, h10 f (by omega)]
    decide
  · refine nm_e (H _ _ ?_ ?_)
    · intro j hj
      rw [hc]
      by_cases e : j = f
      · rw [e, pk_us, h8 f (by omega), if_pos rfl]
        rfl
      · rw [pk_un e, h8 j hj, if_neg e]
    · intro j hj
      rw [hc]
      by_cases e : j = f
      · rw [e, pk_us, if_pos rfl]
      · rw [pk_un e, h10 j hj, if_neg e]
end
section
/-! extend, extendAll, runFrom by cases -/
theorem sq_ext1 {post : St2 → Prop} {w c fi x : Int32} {a1 a2 a3 a4 a5 a6 a7 a8 a9 a10 : Nat → Int32} (h4 : a4 0 = 0) (hp : post (1, w, c, fi, a1, a2, a3, a4, a5, a6, a7, a8, a9, a10)) : wpX_extend post (1, w, c, fi, a1, a2, a3, a4, a5, a6, a7, a8, a9, a10) 0 0 x := by
  unfold wpX_extend
  refine nm_r (e' := 0) (by decide) ⟨sq_in (by decide), br_c (fun _ => hp) (fun _ => ⟨sq_in (by decide), br_t h4 ?_⟩)⟩
  unfold wX_extend_64
  exact br_t (by decide) hp
theorem sq_ex1 {post : St2 → Prop} {w c fi x : Int32} {a1 a2 a3 a4 a5 a6 a7 a8 a9 a10 : Nat → Int32} (h4 : a4 0 = 0) (hp : post (1, w, c, fi, a1, a2, a3, a4, a5, a6, a7, a8, a9, a10)) : wpX_extendAll post (1, w, c, fi, a1, a2, a3, a4, a5, a6, a7, a8, a9, a10) 0 x := by
  unfold wpX_extendAll
  refine ⟨2, br_f (by decide) (sq_ext1 h4 ?_)⟩
  exact nm_r (e' := 1) (by decide) (br_t (by decide) hp)
theorem sq_ext2a {post : St2 → Prop} {w c x k : Int32} {a1 a2 a3 a4 a5 a6 a7 a8 a9 a10 : Nat → Int32} (hx : x = 1) (h4 : a4 0 = 0) (h8 : ¬ a8 0 = 0) (h10 : ¬ a10 0 + 1 ≤ a10 11)
    (h1 : a1 1 = 4) (h2 : a2 1 = 3) (h3 : a3 1 = k) (hk : sq_K k)
    (hy : sq_M k (a6 0) (a6 1) → post (2, w, c, 0, a1, a2, a3, a4, a5, a6, a7, upd a8 11 (a8 11 + a8 0), a9, upd a10 11 (a10 0 + 1))) (hn : ¬ sq_M k (a6 0) (a6 1) → post (2, w, c, 0, a1, a2, a3, a4, a5, a6, a7, a8, a9, a10)) :
    wpX_extend post (2, w, c, 0, a1, a2, a3, a4, a5, a6, a7, a8, a9, a10) 0 0 x := by
  subst hx
  unfold wpX_extend
  refine nm_r (e' := 0) (by decide) ⟨sq_in (by decide), br_f h8 ⟨sq_in (by decide), br_t h4 ?_⟩⟩
  unfold wX_extend_64
  refine br_f (by decide) ?_
  refine sq_me1 (by decide) h1 h2 h3 hk (fun g => ?_) (fun g => br_t rfl (hn g))
  refine br_f (by decide) ⟨sq_in (by decide), sq_in (by decide), ?_⟩
  exact sq_add (sq_in (by decide)) h10 (hy g)
theorem sq_ext2b {post : St2 → Prop} {w c fi x : Int32} {a1 a2 a3 a4 a5 a6 a7 a8 a9 a10 : Nat → Int32} (h8 : a8 10 = 0) (hp : post (2, w, c, fi, a1, a2, a3, a4, a5, a6, a7, a8, a9, a10)) : wpX_extend post (2, w, c, fi, a1, a2, a3, a4, a5, a6, a7, a8, a9, a10) 1 0 x := by
  unfold wpX_extend
  exact nm_r (e' := 10) (by decide) ⟨sq_in (by decide), br_t h8 hp⟩
theorem sq_ex2 {post : St2 → Prop} {w c x k : Int32} {a1 a2 a3 a4 a5 a6 a7 a8 a9 a10 : Nat → Int32} (hx : x = 1) (h4 : a4 0 = 0) (h8 : ¬ a8 0 = 0) (h8' : a8 10 = 0) (h10 : ¬ a10 0 + 1 ≤ a10 11)
    (h1 : a1 1 = 4) (h2 : a2 1 = 3) (h3 : a3 1 = k) (hk : sq_K k)
    (hy : sq_M k (a6 0) (a6 1) → post (2, w, c, 0, a1, a2, a3, a4, a5, a6, a7, upd a8 11 (a8 11 + a8 0), a9, upd a10 11 (a10 0 + 1))) (hn : ¬ sq_M k (a6 0) (a6 1) → post (2, w, c, 0, a1, a2, a3, a4, a5, a6, a7, a8, a9, a10)) :
    wpX_extendAll post (2, w, c, 0, a1, a2, a3, a4, a5, a6, a7, a8, a9, a10) 0 x := by
  unfold wpX_extendAll
  refine ⟨3, br_f (by decide) (sq_ext2a hx h4 h8 h10 h1 h2 h3 hk (fun g => ?_) (fun g => ?_))⟩
  · refine nm_r (e' := 1) (by decide) (br_f (by decide) (sq_ext2b ?_ ?_))
    · rw [pk_un (by decide)]
      exact h8'
    · exact nm_r (e' := 2) (by decide) (br_t (by decide) (hy g))
  · refine nm_r (e' := 1) (by decide) (br_f (by decide) (sq_ext2b h8' ?_))
    exact nm_r (e' := 2) (by decide) (br_t (by decide) (hn g))
theorem sq_rf1 {post : St2 → Prop} {s w fi : Int32} {a1 a2 a3 a4 a5 a6 a7 a8 a9 a10 : Nat → Int32} (hs : ¬ s ≤ 0) (h1 : a1 0 = 4) (h3 : a3 0 = 0)
    (H : ∀ b8 b10 : Nat → Int32, (∀ j, j < 40 → b8 j = if j = 0 then 1 else 0) → (∀ j, j < 40 → b10 j = if j = 0 then 1 else 0) → post (s, w, 1, 0, a1, a2, a3, a4, a5, a6, a7, b8, a9, b10)) :
    wpX_runFrom post (s, w, 1, fi, a1, a2, a3, a4, a5, a6, a7, a8, a9, a10) 0 :=
  sq_run 0 (by decide) rfl hs h1 h3 (fun b8 b10 h8 h10 => ⟨1, br_t (by decide) (H b8 b10 h8 h10)⟩)
theorem sq_rf2 {post : St2 → Prop} {s w fi : Int32} {a1 a2 a3 a4 a5 a6 a7 a8 a9 a10 : Nat → Int32} (hs : ¬ s ≤ 0) (h1 : a1 0 = 4) (h3 : a3 0 = 0)
    (H : ∀ b8 b10 : Nat → Int32, (∀ j, j < 40 → b8 j = if j = 1 then 1 else 0) → (∀ j, j < 40 → b10 j = if j = 1 then 1 else 0) → post (s, w, 2, 1, a1, a2, a3, a4, a5, a6, a7, b8, a9, b10)) :
    wpX_runFrom post (s, w, 2, fi, a1, a2, a3, a4, a5, a6, a7, a8, a9, a10) 1 :=
  sq_run 1 (by decide) rfl hs h1 h3 (fun b8 b10 h8 h10 => ⟨1, br_t (by decide) (H b8 b10 h8 h10)⟩)
theorem sq_rf3 {post : St2 → Prop} {w fi : Int32} {a1 a2 a3 a4 a5 a6 a7 a8 a9 a10 : Nat → Int32} (h1 : a1 0 = 4) (h3 : a3 0 = 0) (h4 : a4 0 = 0)
    (H : ∀ b8 b10 : Nat → Int32, (∀ j, j < 40 → b8 j = if j = 0 then 1 else 0) → (∀ j, j < 40 → b10 j = if j = 0 then 1 else 0) → post (1, w, 2, 0, a1, a2, a3, a4, a5, a6, a7, b8, a9, b10)) :
    wpX_runFrom post (1, w, 2, fi, a1, a2, a3, a4, a5, a6, a7, a8, a9, a10) 0 := by
  refine sq_run 0 (by decide) rfl (by decide) h1 h3 (fun b8 b10 h8 h10 => ⟨2, br_f (by decide) (sq_inw (by decide) (fun g => ?_) (fun g => ?_))⟩)
  · refine br_f (by decide) ⟨2, br_f (by decide) (sq_ex1 h4 ?_)⟩
    exact nm_r (e' := 1) (by decide) (br_t (by decide) (nm_r (e' := 2) (by decide) (br_t (by decide) (H b8 b10 h8 h10))))
  · exact br_t rfl (nm_r (e' := 2) (by decide) (br_t (by decide) (H b8 b10 h8 h10)))
theorem sq_rf4 {post : St2 → Prop} {w fi k : Int32} {a1 a2 a3 a4 a5 a6 a7 a8 a9 a10 : Nat → Int32} (h1 : a1 0 = 4) (h3 : a3 0 = 0) (h4 : a4 0 = 0)
    (h1' : a1 1 = 4) (h2' : a2 1 = 3) (h3' : a3 1 = k) (hk : sq_K k)
    (H1 : (sq_M k (a6 0) (a6 1) ∧ ¬ w < a7 1 - a7 0) → ∀ b8 b10 : Nat → Int32, (∀ j, j < 40 → b8 j = if j = 11 then 1 else if j = 0 then 1 else 0) → (∀ j, j < 40 → b10 j = if j = 11 then 2 else if j = 0 then 1 else 0) → post (2, w, 2, 0, a1, a2, a3, a4, a5, a6, a7, b8, a9, b10))
    (H0 : ¬ (sq_M k (a6 0) (a6 1) ∧ ¬ w < a7 1 - a7 0) → ∀ b8 b10 : Nat → Int32, (∀ j, j < 40 → b8 j = if j = 0 then 1 else 0) → (∀ j, j < 40 → b10 j = if j = 0 then 1 else 0) → post (2, w, 2, 0, a1, a2, a3, a4, a5, a6, a7, b8, a9, b10)) :
    wpX_runFrom post (2, w, 2, fi, a1, a2, a3, a4, a5, a6, a7, a8, a9, a10) 0 := by
  refine sq_run 0 (by decide) rfl (by decide) h1 h3 (fun b8 b10 h8 h10 => ⟨2, br_f (by decide) (sq_inw (by decide) (fun g => ?_) (fun g => ?_))⟩)
  · have e8 : b8 0 = 1 := h8 0 (by decide)
    have e8' : b8 10 = 0 := h8 10 (by decide)
    have e8'' : b8 11 = 0 := h8 11 (by decide)
    have e10 : b10 0 = 1 := h10 0 (by decide)
    have e10' : b10 11 = 0 := h10 11 (by decide)
    refine br_f (by decide) ⟨2, br_f (by decide) (sq_ex2 (by decide) h4 (sq_ne e8 (by decide)) e8' (by rw [e10, e10']; decide) h1' h2' h3' hk (fun m => ?_) (fun m => ?_))⟩
    · refine nm_r (e' := 1) (by decide) (br_t (by decide) (nm_r (e' := 2) (by decide) (br_t (by decide) (H1 ⟨m, g⟩ _ _ ?_ ?_))))
      · intro j hj
        by_cases e : j = 11
        · rw [e, pk_us, e8, e8'', if_pos rfl]
          rfl
        · rw [pk_un e, h8 j hj, if_neg e]
      · intro j hj
        by_cases e : j = 11
        · rw [e, pk_us, e10, if_pos rfl]
          rfl
        · rw [pk_un e, h10 j hj, if_neg e]
    · exact nm_r (e' := 1) (by decide) (br_t (by decide) (nm_r (e' := 2) (by decide) (br_t (by decide) (H0 (fun z => m z.1) b8 b10 h8 h10))))
  · exact br_t rfl (nm_r (e' := 2) (by decide) (br_t (by decide) (H0 (fun z => z.2 g) b8 b10 h8 h10)))
/-- what runFrom 0 leaves: one run in step 0 at event 0; what stands in the last step -/
def sq_R0 (s w c : Int32) (a1 a2 a3 a4 a5 a6 a7 : Nat → Int32) (p0 p1 m0 m1 : Int32) : Prop := ∀ (post : St2 → Prop) (fi : Int32) (a8 a9 a10 : Nat → Int32),
  (∀ b8 b10 : Nat → Int32, b8 0 = 1 → b8 (((s - 1) * 10) + 0).toNatClampNeg = p0 → b8 (((s - 1) * 10) + 1).toNatClampNeg = p1 → b10 (((s - 1) * 10) + 0).toNatClampNeg = m0 → b10 (((s - 1) * 10) + 1).toNatClampNeg = m1 → post (s, w, c, 0, a1, a2, a3, a4, a5, a6, a7, b8, a9, b10)) →
  wpX_runFrom post (s, w, c, fi, a1, a2, a3, a4, a5, a6, a7, a8, a9, a10) 0
def sq_R1 (s w c : Int32) (a1 a2 a3 a4 a5 a6 a7 : Nat → Int32) (p1 m1 : Int32) : Prop := ∀ (post : St2 → Prop) (fi : Int32) (a8 a9 a10 : Nat → Int32),
  (∀ b8 b10 : Nat → Int32, b8 (((s - 1) * 10) + 1).toNatClampNeg = p1 → b10 (((s - 1) * 10) + 1).toNatClampNeg = m1 → post (s, w, c, 1, a1, a2, a3, a4, a5, a6, a7, b8, a9, b10)) →
  wpX_runFrom post (s, w, c, fi, a1, a2, a3, a4, a5, a6, a7, a8, a9, a10) 1
def sq_s (s : Int32) : Prop := ¬ s = 0 ∧ vp_in (((s - 1) * 10) + 0) 40 ∧ vp_in (((s - 1) * 10) + 1) 40
theorem sq_s1 : sq_s 1 := ⟨by decide, sq_in (by decide), sq_in (by decide)⟩
theorem sq_s2 : sq_s 2 := ⟨by decide, sq_in (by decide), sq_in (by decide)⟩
theorem sq_a1 {w : Int32} {a1 a2 a3 a4 a5 a6 a7 : Nat → Int32} (h1 : a1 0 = 4) (h3 : a3 0 = 0) : sq_R0 1 w 1 a1 a2 a3 a4 a5 a6 a7 1 0 1 0 :=
  fun post fi a8 a9 a10 H => sq_rf1 (by decide) h1 h3 (fun b8 b10 h8 h10 => H b8 b10 (h8 0 (by decide)) (h8 0 (by decide)) (h8 1 (by decide)) (h10 0 (by decide)) (h10 1 (by decide)))
theorem sq_a2 {w : Int32} {a1 a2 a3 a4 a5 a6 a7 : Nat → Int32} (h1 : a1 0 = 4) (h3 : a3 0 = 0) : sq_R0 2 w 1 a1 a2 a3 a4 a5 a6 a7 0 0 0 0 :=
  fun post fi a8 a9 a10 H => sq_rf1 (by decide) h1 h3 (fun b8 b10 h8 h10 => H b8 b10 (h8 0 (by decide)) (h8 10 (by decide)) (h8 11 (by decide)) (h10 10 (by decide)) (h10 11 (by decide)))
theorem sq_b1 {w : Int32} {a1 a2 a3 a4 a5 a6 a7 : Nat → Int32} (h1 : a1 0 = 4) (h3 : a3 0 = 0) (h4 : a4 0 = 0) : sq_R0 1 w 2 a1 a2 a3 a4 a5 a6 a7 1 0 1 0 :=
  fun post fi a8 a9 a10 H => sq_rf3 h1 h3 h4 (fun b8 b10 h8 h10 => H b8 b10 (h8 0 (by decide)) (h8 0 (by decide)) (h8 1 (by decide)) (h10 0 (by decide)) (h10 1 (by decide)))
theorem sq_b1' {w : Int32} {a1 a2 a3 a4 a5 a6 a7 : Nat → Int32} (h1 : a1 0 = 4) (h3 : a3 0 = 0) : sq_R1 1 w 2 a1 a2 a3 a4 a5 a6 a7 1 1 :=
  fun post fi a8 a9 a10 H => sq_rf2 (by decide) h1 h3 (fun b8 b10 h8 h10 => H b8 b10 (h8 1 (by decide)) (h10 1 (by decide)))
theorem sq_b2' {w : Int32} {a1 a2 a3 a4 a5 a6 a7 : Nat → Int32} (h1 : a1 0 = 4) (h3 : a3 0 = 0) : sq_R1 2 w 2 a1 a2 a3 a4 a5 a6 a7 0 0 :=
  fun post fi a8 a9 a10 H => sq_rf2 (by decide) h1 h3 (fun b8 b10 h8 h10 => H b8 b10 (h8 11 (by decide)) (h10 11 (by decide)))
theorem sq_b2y {w k u v d : Int32} {a1 a2 a3 a4 a5 a6 a7 : Nat → Int32} (h1 : a1 0 = 4) (h3 : a3 0 = 0) (h4 : a4 0 = 0) (h1' : a1 1 = 4) (h2' : a2 1 = 3) (h3' : a3 1 = k) (hk : sq_K k) (e0 : a6 0 = u) (e1 : a6 1 = v) (ed : a7 1 - a7 0 = d) (g : sq_M k u v ∧ ¬ w < d) : sq_R0 2 w 2 a1 a2 a3 a4 a5 a6 a7 0 1 0 2 := by
  subst e0 e1 ed
  exact fun post fi a8 a9 a10 H => sq_rf4 h1 h3 h4 h1' h2' h3' hk (fun _ b8 b10 h8 h10 => H b8 b10 (h8 0 (by decide)) (h8 10 (by decide)) (h8 11 (by decide)) (h10 10 (by decide)) (h10 11 (by decide))) (fun z => absurd g z)
theorem sq_b2n {w k u v d : Int32} {a1 a2 a3 a4 a5 a6 a7 : Nat → Int32} (h1 : a1 0 = 4) (h3 : a3 0 = 0) (h4 : a4 0 = 0) (h1' : a1 1 = 4) (h2' : a2 1 = 3) (h3' : a3 1 = k) (hk : sq_K k) (e0 : a6 0 = u) (e1 : a6 1 = v) (ed : a7 1 - a7 0 = d) (g : ¬ (sq_M k u v ∧ ¬ w < d)) : sq_R0 2 w 2 a1 a2 a3 a4 a5 a6 a7 0 0 0 0 := by
  subst e0 e1 ed
  exact fun post fi a8 a9 a10 H => sq_rf4 h1 h3 h4 h1' h2' h3' hk (fun z => absurd z g) (fun _ b8 b10 h8 h10 => H b8 b10 (h8 0 (by decide)) (h8 10 (by decide)) (h8 11 (by decide)) (h10 10 (by decide)) (h10 11 (by decide)))
end
section
/-! endingAt, beginningAt, finds, lastValues -/
theorem sq_end0 {post : Int32 → St2 → Prop} {s w c fi x p0 p1 m0 m1 : Int32} {a1 a2 a3 a4 a5 a6 a7 a8 a9 a10 : Nat → Int32} (hs : sq_s s) (hx : x = 0) (hc : (0 : Int32) < c) (R : sq_R0 s w c a1 a2 a3 a4 a5 a6 a7 p0 p1 m0 m1)
    (hp : ∀ (fi : Int32) (b8 b10 : Nat → Int32), post (0 + p0) (s, w, c, fi, a1, a2, a3, a4, a5, a6, a7, b8, a9, b10)) : wpX_endingAt post (s, w, c, fi, a1, a2, a3, a4, a5, a6, a7, a8, a9, a10) x := by
  subst hx
  unfold wpX_endingAt
  refine sq_noE (by decide) hc (br_t rfl ⟨2, br_f (by decide) (R _ _ _ _ _ (fun b8 b10 _ e0 _ _ _ => ?_))⟩)
  refine sq_wh hs.1 hs.2.1 e0 ?_
  exact nm_e (nm_r (e' := 1) (by decide) (br_t (by decide) (hp _ _ _)))
theorem sq_end1 {post : Int32 → St2 → Prop} {s w c fi x p0 p1 m0 m1 q1 n1 : Int32} {a1 a2 a3 a4 a5 a6 a7 a8 a9 a10 : Nat → Int32} (hs : sq_s s) (hx : x = 1) (hc : (1 : Int32) < c) (R : sq_R0 s w c a1 a2 a3 a4 a5 a6 a7 p0 p1 m0 m1) (R' : sq_R1 s w c a1 a2 a3 a4 a5 a6 a7 q1 n1)
    (hp : ∀ (fi : Int32) (b8 b10 : Nat → Int32), post (0 + p1 + q1) (s, w, c, fi, a1, a2, a3, a4, a5, a6, a7, b8, a9, b10)) : wpX_endingAt post (s, w, c, fi, a1, a2, a3, a4, a5, a6, a7, a8, a9, a10) x := by
  subst hx
  unfold wpX_endingAt
  refine sq_noE (by decide) hc (br_t rfl ⟨3, br_f (by decide) (R _ _ _ _ _ (fun b8 b10 _ _ e1 _ _ => ?_))⟩)
  refine sq_wh hs.1 hs.2.2 e1 ?_
  refine nm_e (nm_r (e' := 1) (by decide) (br_f (by decide) (R' _ _ _ _ _ (fun d8 d10 e2 _ => ?_))))
  refine sq_wh hs.1 hs.2.2 e2 ?_
  exact nm_e (nm_r (e' := 2) (by decide) (br_t (by decide) (hp _ _ _)))
theorem sq_beg1 {post : Int32 → St2 → Prop} {s w fi p0 p1 m0 m1 : Int32} {a1 a2 a3 a4 a5 a6 a7 a8 a9 a10 : Nat → Int32} (hs : sq_s s) (R : sq_R0 s w 1 a1 a2 a3 a4 a5 a6 a7 p0 p1 m0 m1)
    (hp : ∀ (fi : Int32) (b8 b10 : Nat → Int32), post (0 + p0) (s, w, 1, fi, a1, a2, a3, a4, a5, a6, a7, b8, a9, b10)) : wpX_beginningAt post (s, w, 1, fi, a1, a2, a3, a4, a5, a6, a7, a8, a9, a10) 0 := by
  unfold wpX_beginningAt
  refine sq_noE (by decide) (by decide) (br_t rfl (R _ _ _ _ _ (fun b8 b10 _ e0 _ _ _ => ?_)))
  refine ⟨2, br_f (by decide) (sq_wh hs.1 hs.2.1 e0 ?_)⟩
  exact nm_e (nm_r (e' := 1) (by decide) (br_t (by decide) (hp _ _ _)))
theorem sq_beg2 {post : Int32 → St2 → Prop} {s w fi p0 p1 m0 m1 : Int32} {a1 a2 a3 a4 a5 a6 a7 a8 a9 a10 : Nat → Int32} (hs : sq_s s) (R : sq_R0 s w 2 a1 a2 a3 a4 a5 a6 a7 p0 p1 m0 m1)
    (hp : ∀ (fi : Int32) (b8 b10 : Nat → Int32), post (0 + p0 + p1) (s, w, 2, fi, a1, a2, a3, a4, a5, a6, a7, b8, a9, b10)) : wpX_beginningAt post (s, w, 2, fi, a1, a2, a3, a4, a5, a6, a7, a8, a9, a10) 0 := by
  unfold wpX_beginningAt
  refine sq_noE (by decide) (by decide) (br_t rfl (R _ _ _ _ _ (fun b8 b10 _ e0 e1 _ _ => ?_)))
  refine ⟨3, br_f (by decide) (sq_wh hs.1 hs.2.1 e0 ?_)⟩
  refine nm_e (nm_r (e' := 1) (by decide) (br_f (by decide) (sq_wh hs.1 hs.2.2 e1 ?_)))
  exact nm_e (nm_r (e' := 2) (by decide) (br_t (by decide) (hp _ _ _)))
theorem sq_beg3 {post : Int32 → St2 → Prop} {s w fi q1 n1 : Int32} {a1 a2 a3 a4 a5 a6 a7 a8 a9 a10 : Nat → Int32} (hs : sq_s s) (R' : sq_R1 s w 2 a1 a2 a3 a4 a5 a6 a7 q1 n1)
    (hp : ∀ (fi : Int32) (b8 b10 : Nat → Int32), post (0 + q1) (s, w, 2, fi, a1, a2, a3, a4, a5, a6, a7, b8, a9, b10)) : wpX_beginningAt post (s, w, 2, fi, a1, a2, a3, a4, a5, a6, a7, a8, a9, a10) 1 := by
  unfold wpX_beginningAt
  refine sq_noE (by decide) (by decide) (br_t rfl (R' _ _ _ _ _ (fun b8 b10 e1 _ => ?_)))
  refine ⟨2, br_f (by decide) (sq_wh hs.1 hs.2.2 e1 ?_)⟩
  exact nm_e (nm_r (e' := 2) (by decide) (br_t (by decide) (hp _ _ _)))
theorem sq_fin0 {post : Int32 → St2 → Prop} {s w fi : Int32} {a1 a2 a3 a4 a5 a6 a7 a8 a9 a10 : Nat → Int32} (hp : post 0 (s, w, 0, fi, a1, a2, a3, a4, a5, a6, a7, a8, a9, a10)) : wpX_finds post (s, w, 0, fi, a1, a2, a3, a4, a5, a6, a7, a8, a9, a10) := by
  unfold wpX_finds
  exact ⟨1, br_t (by decide) hp⟩
theorem sq_fin1 {post : Int32 → St2 → Prop} {s w fi p0 p1 m0 m1 : Int32} {a1 a2 a3 a4 a5 a6 a7 a8 a9 a10 : Nat → Int32} (hs : sq_s s) (R : sq_R0 s w 1 a1 a2 a3 a4 a5 a6 a7 p0 p1 m0 m1)
    (hp : ∀ (fi : Int32) (b8 b10 : Nat → Int32), post (0 + (0 + p0)) (s, w, 1, fi, a1, a2, a3, a4, a5, a6, a7, b8, a9, b10)) : wpX_finds post (s, w, 1, fi, a1, a2, a3, a4, a5, a6, a7, a8, a9, a10) := by
  unfold wpX_finds
  refine ⟨2, br_f (by decide) (sq_beg1 hs R (fun fi b8 b10 => ?_))⟩
  exact nm_e (nm_r (e' := 1) (by decide) (br_t (by decide) (hp _ _ _)))
theorem sq_fin2 {post : Int32 → St2 → Prop} {s w fi p0 p1 m0 m1 q1 n1 : Int32} {a1 a2 a3 a4 a5 a6 a7 a8 a9 a10 : Nat → Int32} (hs : sq_s s) (R : sq_R0 s w 2 a1 a2 a3 a4 a5 a6 a7 p0 p1 m0 m1) (R' : sq_R1 s w 2 a1 a2 a3 a4 a5 a6 a7 q1 n1)
    (hp : ∀ (fi : Int32) (b8 b10 : Nat → Int32), post (0 + (0 + p0 + p1) + (0 + q1)) (s, w, 2, fi, a1, a2, a3, a4, a5, a6, a7, b8, a9, b10)) : wpX_finds post (s, w, 2, fi, a1, a2, a3, a4, a5, a6, a7, a8, a9, a10) := by
  unfold wpX_finds
  refine ⟨3, br_f (by decide) (sq_beg2 hs R (fun fi b8 b10 => ?_))⟩
  refine nm_e (nm_r (e' := 1) (by decide) (br_f (by decide) (sq_beg3 hs R' (fun fi b8 b10 => ?_))))
  exact nm_e (nm_r (e' := 2) (by decide) (br_t (by decide) (hp _ _ _)))
theorem sq_las0 {post : Int32 → St2 → Prop} {s w fi : Int32} {a1 a2 a3 a4 a5 a6 a7 a8 a9 a10 : Nat → Int32} (hp : post 0 (s, w, 0, fi, a1, a2, a3, a4, a5, a6, a7, a8, a9, a10)) : wpX_lastValues post (s, w, 0, fi, a1, a2, a3, a4, a5, a6, a7, a8, a9, a10) := by
  unfold wpX_lastValues
  exact ⟨1, br_t (by decide) hp⟩
theorem sq_las1 {post : Int32 → St2 → Prop} {s w fi p0 p1 m0 m1 : Int32} {a1 a2 a3 a4 a5 a6 a7 a8 a9 a10 : Nat → Int32} (hs : sq_s s) (R : sq_R0 s w 1 a1 a2 a3 a4 a5 a6 a7 p0 p1 m0 m1)
    (hp : ∀ (fi : Int32) (b8 b10 : Nat → Int32), post (0 + (0 + p0) * a6 0) (s, w, 1, fi, a1, a2, a3, a4, a5, a6, a7, b8, a9, b10)) : wpX_lastValues post (s, w, 1, fi, a1, a2, a3, a4, a5, a6, a7, a8, a9, a10) := by
  unfold wpX_lastValues
  refine ⟨2, br_f (by decide) (sq_end0 hs rfl (by decide) R (fun fi b8 b10 => ?_))⟩
  exact ⟨sq_in (by decide), nm_e (nm_r (e' := 1) (by decide) (br_t (by decide) (hp _ _ _)))⟩
theorem sq_las2 {post : Int32 → St2 → Prop} {s w fi p0 p1 m0 m1 q1 n1 : Int32} {a1 a2 a3 a4 a5 a6 a7 a8 a9 a10 : Nat → Int32} (hs : sq_s s) (R : sq_R0 s w 2 a1 a2 a3 a4 a5 a6 a7 p0 p1 m0 m1) (R' : sq_R1 s w 2 a1 a2 a3 a4 a5 a6 a7 q1 n1)
    (hp : ∀ (fi : Int32) (b8 b10 : Nat → Int32), post (0 + (0 + p0) * a6 0 + (0 + p1 + q1) * a6 1) (s, w, 2, fi, a1, a2, a3, a4, a5, a6, a7, b8, a9, b10)) : wpX_lastValues post (s, w, 2, fi, a1, a2, a3, a4, a5, a6, a7, a8, a9, a10) := by
  unfold wpX_lastValues
  refine ⟨3, br_f (by decide) (sq_end0 hs rfl (by decide) R (fun fi b8 b10 => ?_))⟩
  refine ⟨sq_in (by decide), nm_e (nm_r (e' := 1) (by decide) (br_f (by decide) (sq_end1 hs rfl (by decide) R R' (fun fi b8 b10 => ?_))))⟩
  exact ⟨sq_in (by decide), nm_e (nm_r (e' := 2) (by decide) (br_t (by decide) (hp _ _ _)))⟩
/-! longest, tightest -/
def sq_lg (b p m : Int32) : Int32 := if p ≤ 0 then b else if m ≤ b then b else m
def sq_tg (b p d : Int32) : Int32 := if p ≤ 0 then b else if b < 0 then d else if b ≤ d then b else d
theorem sq_lgS {post : Int32 → St2 → Prop} {J : Int32 → Int32 → Int32 → Int32 → Int32 → Int32 → (Nat → Int32) → (Nat → Int32) → (Nat → Int32) → (Nat → Int32) → (Nat → Int32) → (Nat → Int32) → (Nat → Int32) → (Nat → Int32) → (Nat → Int32) → (Nat → Int32) → Prop} {s w c fi x1 x2 x3 y p m : Int32} {a1 a2 a3 a4 a5 a6 a7 a8 a9 a10 : Nat → Int32} {n : Nat} (hs : ¬ s = 0) (hc : ¬ c ≤ x3) (hi : vp_in (((s - 1) * 10) + x3) 40)
    (he : a8 (((s - 1) * 10) + x3).toNatClampNeg = p) (hm : a10 (((s - 1) * 10) + x3).toNatClampNeg = m) (hy : x3 + 1 = y)
    (H : wX_longest_20 post J x2 s w c fi a1 a2 a3 a4 a5 a6 a7 a8 a9 a10 n (sq_lg x1 p m) y) : wX_longest_20 post J x2 s w c fi a1 a2 a3 a4 a5 a6 a7 a8 a9 a10 (n + 1) x1 x3 := by
  refine br_f hc (sq_wh hs hi he ?_)
  refine br_c (fun g => nm_r hy ?_) (fun g => ⟨hi, br_c (fun g2 => nm_r hy ?_) (fun g2 => ⟨hi, nm_r hm (nm_r hy ?_)⟩)⟩)
  · rw [show sq_lg x1 p m = x1 from if_pos g] at H
    exact H
  · rw [hm] at g2
    rw [show sq_lg x1 p m = x1 from (if_neg g).trans (if_pos g2)] at H
    exact H
  · rw [hm] at g2
    rw [show sq_lg x1 p m = m from (if_neg g).trans (if_neg g2)] at H
    exact H
theorem sq_tgS {post : Int32 → St2 → Prop} {J : Int32 → Int32 → Int32 → Int32 → Int32 → Int32 → (Nat → Int32) → (Nat → Int32) → (Nat → Int32) → (Nat → Int32) → (Nat → Int32) → (Nat → Int32) → (Nat → Int32) → (Nat → Int32) → (Nat → Int32) → (Nat → Int32) → Prop} {s w c fi x1 x2 x3 y p d : Int32} {a1 a2 a3 a4 a5 a6 a7 a8 a9 a10 : Nat → Int32} {n : Nat} (hs : ¬ s = 0) (hc : ¬ c ≤ x3) (hi : vp_in (((s - 1) * 10) + x3) 40)
    (he : a8 (((s - 1) * 10) + x3).toNatClampNeg = p) (h3 : vp_in x3 10) (h2 : vp_in x2 10) (hd : a7 x3.toNatClampNeg - a7 x2.toNatClampNeg = d) (hy : x3 + 1 = y)
    (H : wX_tightest_20 post J x2 s w c fi a1 a2 a3 a4 a5 a6 a7 a8 a9 a10 n (sq_tg x1 p d) y) : wX_tightest_20 post J x2 s w c fi a1 a2 a3 a4 a5 a6 a7 a8 a9 a10 (n + 1) x1 x3 := by
  refine br_f hc (sq_wh hs hi he ?_)
  refine ⟨h3, h2, nm_r hd ?_⟩
  refine br_c (fun g => nm_r hy ?_) (fun g => br_c (fun g2 => nm_r hy ?_) (fun g2 => br_c (fun g3 => nm_r hy ?_) (fun g3 => nm_r hy ?_)))
  · rw [show sq_tg x1 p d = x1 from if_pos g] at H
    exact H
  · rw [show sq_tg x1 p d = d from (if_neg g).trans (if_pos g2)] at H
    exact H
  · rw [show sq_tg x1 p d = x1 from (if_neg g).trans ((if_neg g2).trans (if_pos g3))] at H
    exact H
  · rw [show sq_tg x1 p d = d from (if_neg g).trans ((if_neg g2).trans (if_neg g3))] at H
    exact H
theorem sq_lon0 {post : Int32 → St2 → Prop} {s w fi : Int32} {a1 a2 a3 a4 a5 a6 a7 a8 a9 a10 : Nat → Int32} (hp : post (-4) (s, w, 0, fi, a1, a2, a3, a4, a5, a6, a7, a8, a9, a10)) : wpX_longest post (s, w, 0, fi, a1, a2, a3, a4, a5, a6, a7, a8, a9, a10) := by
  unfold wpX_longest
  exact ⟨1, br_t (by decide) hp⟩
theorem sq_lon1 {post : Int32 → St2 → Prop} {s w fi p0 p1 m0 m1 : Int32} {a1 a2 a3 a4 a5 a6 a7 a8 a9 a10 : Nat → Int32} (hs : sq_s s) (R : sq_R0 s w 1 a1 a2 a3 a4 a5 a6 a7 p0 p1 m0 m1)
    (hp : ∀ (fi : Int32) (b8 b10 : Nat → Int32), post (sq_lg (-4) p0 m0) (s, w, 1, fi, a1, a2, a3, a4, a5, a6, a7, b8, a9, b10)) : wpX_longest post (s, w, 1, fi, a1, a2, a3, a4, a5, a6, a7, a8, a9, a10) := by
  unfold wpX_longest
  refine ⟨2, br_f (by decide) (R _ _ _ _ _ (fun b8 b10 _ e0 _ f0 _ => ⟨2, sq_lgS (y := 1) hs.1 (by decide) hs.2.1 e0 f0 (by decide) ?_⟩))⟩
  exact br_t (by decide) (nm_r (e' := 1) (by decide) (br_t (by decide) (hp _ _ _)))
theorem sq_lon2 {post : Int32 → St2 → Prop} {s w fi p0 p1 m0 m1 q1 n1 : Int32} {a1 a2 a3 a4 a5 a6 a7 a8 a9 a10 : Nat → Int32} (hs : sq_s s) (R : sq_R0 s w 2 a1 a2 a3 a4 a5 a6 a7 p0 p1 m0 m1) (R' : sq_R1 s w 2 a1 a2 a3 a4 a5 a6 a7 q1 n1)
    (hp : ∀ (fi : Int32) (b8 b10 : Nat → Int32), post (sq_lg (sq_lg (sq_lg (-4) p0 m0) p1 m1) q1 n1) (s, w, 2, fi, a1, a2, a3, a4, a5, a6, a7, b8, a9, b10)) : wpX_longest post (s, w, 2, fi, a1, a2, a3, a4, a5, a6, a7, a8, a9, a10) := by
  unfold wpX_longest
  refine ⟨3, br_f (by decide) (R _ _ _ _ _ (fun b8 b10 _ e0 e1 f0 f1 => ⟨3, sq_lgS (y := 1) hs.1 (by decide) hs.2.1 e0 f0 (by decide) (sq_lgS (y := 2) hs.1 (by decide) hs.2.2 e1 f1 (by decide) ?_)⟩))⟩
  refine br_t (by decide) (nm_r (e' := 1) (by decide) (br_f (by decide) (R' _ _ _ _ _ (fun b8 b10 e2 f2 => ⟨2, sq_lgS (y := 2) hs.1 (by decide) hs.2.2 e2 f2 (by decide) ?_⟩))))
  exact br_t (by decide) (nm_r (e' := 2) (by decide) (br_t (by decide) (hp _ _ _)))
theorem sq_tig0 {post : Int32 → St2 → Prop} {s w fi : Int32} {a1 a2 a3 a4 a5 a6 a7 a8 a9 a10 : Nat → Int32} (hp : post (-4) (s, w, 0, fi, a1, a2, a3, a4, a5, a6, a7, a8, a9, a10)) : wpX_tightest post (s, w, 0, fi, a1, a2, a3, a4, a5, a6, a7, a8, a9, a10) := by
  unfold wpX_tightest
  exact ⟨1, br_t (by decide) hp⟩
theorem sq_tig1 {post : Int32 → St2 → Prop} {s w fi p0 p1 m0 m1 : Int32} {a1 a2 a3 a4 a5 a6 a7 a8 a9 a10 : Nat → Int32} (hs : sq_s s) (R : sq_R0 s w 1 a1 a2 a3 a4 a5 a6 a7 p0 p1 m0 m1)
    (hp : ∀ (fi : Int32) (b8 b10 : Nat → Int32), post (sq_tg (-4) p0 0) (s, w, 1, fi, a1, a2, a3, a4, a5, a6, a7, b8, a9, b10)) : wpX_tightest post (s, w, 1, fi, a1, a2, a3, a4, a5, a6, a7, a8, a9, a10) := by
  unfold wpX_tightest
  refine ⟨2, br_f (by decide) (R _ _ _ _ _ (fun b8 b10 _ e0 _ _ _ => ⟨2, sq_tgS (y := 1) hs.1 (by decide) hs.2.1 e0 (sq_in (by decide)) (sq_in (by decide)) (Int32.sub_self (a7 0)) (by decide) ?_⟩))⟩
  exact br_t (by decide) (nm_r (e' := 1) (by decide) (br_t (by decide) (hp _ _ _)))
theorem sq_tig2 {post : Int32 → St2 → Prop} {s w fi p0 p1 m0 m1 q1 n1 d : Int32} {a1 a2 a3 a4 a5 a6 a7 a8 a9 a10 : Nat → Int32} (hs : sq_s s) (R : sq_R0 s w 2 a1 a2 a3 a4 a5 a6 a7 p0 p1 m0 m1) (R' : sq_R1 s w 2 a1 a2 a3 a4 a5 a6 a7 q1 n1) (hd : a7 1 - a7 0 = d)
    (hp : ∀ (fi : Int32) (b8 b10 : Nat → Int32), post (sq_tg (sq_tg (sq_tg (-4) p0 0) p1 d) q1 0) (s, w, 2, fi, a1, a2, a3, a4, a5, a6, a7, b8, a9, b10)) : wpX_tightest post (s, w, 2, fi, a1, a2, a3, a4, a5, a6, a7, a8, a9, a10) := by
  unfold wpX_tightest
  refine ⟨3, br_f (by decide) (R _ _ _ _ _ (fun b8 b10 _ e0 e1 _ _ => ⟨3, sq_tgS (y := 1) hs.1 (by decide) hs.2.1 e0 (sq_in (by decide)) (sq_in (by decide)) (Int32.sub_self (a7 0)) (by decide) (sq_tgS (y := 2) hs.1 (by decide) hs.2.2 e1 (sq_in (by decide)) (sq_in (by decide)) hd (by decide) ?_)⟩))⟩
  refine br_t (by decide) (nm_r (e' := 1) (by decide) (br_f (by decide) (R' _ _ _ _ _ (fun b8 b10 e2 _ => ⟨2, sq_tgS (y := 2) hs.1 (by decide) hs.2.2 e2 (sq_in (by decide)) (sq_in (by decide)) (Int32.sub_self (a7 1)) (by decide) ?_⟩))))
  exact br_t (by decide) (nm_r (e' := 2) (by decide) (br_t (by decide) (hp _ _ _)))
end
section
/-! waysOn, waysFrom, using, without -/
theorem sq_wo1 {post : Int32 → Prop} {s w c fi k e y : Int32} {a1 a2 a3 a4 a5 a6 a7 a8 a9 a10 : Nat → Int32} (hk : k = s - 1) (hy : e + 1 = y) (hc : c ≤ y) (hp : post 1) : wpX_waysOn post (s, w, c, fi, a1, a2, a3, a4, a5, a6, a7, a8, a9, a10) k e := by
  unfold wpX_waysOn
  exact br_t hk (nm_r hy ⟨1, br_t hc hp⟩)
theorem sq_wo0 {post : Int32 → Prop} {s w c fi k e y : Int32} {a1 a2 a3 a4 a5 a6 a7 a8 a9 a10 : Nat → Int32} (hk : ¬ k = s - 1) (hy : e + 1 = y) (hc : c ≤ y) (hp : post 0) : wpX_waysOn post (s, w, c, fi, a1, a2, a3, a4, a5, a6, a7, a8, a9, a10) k e := by
  unfold wpX_waysOn
  exact br_f hk (nm_r hy ⟨1, br_t hc hp⟩)
theorem sq_wo2 {post : Int32 → Prop} {w : Int32} {a1 a2 a3 a4 a5 a6 a7 a8 a9 a10 : Nat → Int32} (h4 : a4 0 = 0) (hp : post 1) : wpX_waysOn post (1, w, 2, 0, a1, a2, a3, a4, a5, a6, a7, a8, a9, a10) 0 0 := by
  unfold wpX_waysOn
  refine br_t (by decide) (nm_r (e' := 1) (by decide) ⟨2, br_f (by decide) (sq_inw rfl (fun g => ?_) (fun g => ?_))⟩)
  · refine br_f (by decide) ⟨sq_in (by decide), br_t h4 ?_⟩
    unfold wX_waysOn_74
    exact br_t (by decide) (nm_r (e' := 2) (by decide) (br_t (by decide) hp))
  · exact br_t rfl (nm_r (e' := 2) (by decide) (br_t (by decide) hp))
theorem sq_woX {post : Int32 → Prop} {w k : Int32} {a1 a2 a3 a4 a5 a6 a7 a8 a9 a10 : Nat → Int32} (h1 : a1 1 = 4) (h2 : a2 1 = 3) (h3 : a3 1 = k) (hk : sq_K k) (hp : ∀ t, post t) : wpX_waysOn post (2, w, 2, 0, a1, a2, a3, a4, a5, a6, a7, a8, a9, a10) 1 0 := by
  unfold wpX_waysOn
  refine br_t (by decide) (nm_r (e' := 1) (by decide) ⟨2, br_f (by decide) (sq_inw rfl (fun g => ?_) (fun g => ?_))⟩)
  · have A : ∀ x : Int32, wX_waysOn_74 post (wX_waysOn_21 post 1 0 2 w 2 0 a1 a2 a3 a4 a5 a6 a7 a8 a9 a10 1) 1 0 x 1 2 w 2 0 a1 a2 a3 a4 a5 a6 a7 a8 a9 a10 := by
      intro x
      unfold wX_waysOn_74
      exact br_t (by decide) (nm_r (e' := 2) (by decide) (br_t (by decide) (hp _)))
    refine br_f (by decide) ⟨sq_in (by decide), br_c (fun _ => A _) (fun _ => ?_)⟩
    exact sq_me1 rfl h1 h2 h3 hk (fun _ => br_f (by decide) ⟨sq_in (by decide), nm_e (A _)⟩) (fun _ => br_t rfl (A _))
  · exact br_t rfl (nm_r (e' := 2) (by decide) (br_t (by decide) (hp _)))
theorem sq_wo3 {post : Int32 → Prop} {w k : Int32} {a1 a2 a3 a4 a5 a6 a7 a8 a9 a10 : Nat → Int32} (h4 : a4 0 = 0) (h1 : a1 1 = 4) (h2 : a2 1 = 3) (h3 : a3 1 = k) (hk : sq_K k) (h9 : a9 11 = 1)
    (H1 : (sq_M k (a6 0) (a6 1) ∧ ¬ w < a7 1 - a7 0) → post 1) (H0 : ¬ (sq_M k (a6 0) (a6 1) ∧ ¬ w < a7 1 - a7 0) → post 0) : wpX_waysOn post (2, w, 2, 0, a1, a2, a3, a4, a5, a6, a7, a8, a9, a10) 0 0 := by
  unfold wpX_waysOn
  refine br_f (by decide) (nm_r (e' := 1) (by decide) ⟨2, br_f (by decide) (sq_inw rfl (fun g => ?_) (fun g => ?_))⟩)
  · refine br_f (by decide) ⟨sq_in (by decide), br_t h4 ?_⟩
    unfold wX_waysOn_74
    refine br_f (by decide) (sq_me1 (by decide) h1 h2 h3 hk (fun m => ?_) (fun m => ?_))
    · refine br_f (by decide) ⟨sq_in (by decide), nm_r (e' := 1) ?_ (nm_r (e' := 2) (by decide) (br_t (by decide) (H1 ⟨m, g⟩)))⟩
      show 0 + a9 11 = 1
      rw [h9]
      rfl
    · exact br_t rfl (nm_r (e' := 2) (by decide) (br_t (by decide) (H0 (fun z => m z.1))))
  · exact br_t rfl (nm_r (e' := 2) (by decide) (br_t (by decide) (H0 (fun z => z.2 g))))
theorem sq_wfS {post : St2 → Prop} {J : Int32 → (Nat → Int32) → (Nat → Int32) → (Nat → Int32) → (Nat → Int32) → (Nat → Int32) → (Nat → Int32) → (Nat → Int32) → (Nat → Int32) → (Nat → Int32) → (Nat → Int32) → Prop} {x1 x2 x3 s w c fi y r : Int32} {a1 a2 a3 a4 a5 a6 a7 a8 a9 a10 : Nat → Int32} {n i : Nat}
    (h0 : ¬ x3 < 0) (hi : vp_in ((x3 * 10) + x2) 40) (hx : ((x3 * 10) + x2).toNatClampNeg = i) (hy : x3 + (-1) = y) (HW : ∀ q : Int32 → Prop, q r → wpX_waysOn q (s, w, c, fi, a1, a2, a3, a4, a5, a6, a7, a8, a9, a10) x3 x2)
    (H : wX_waysFrom_24 post J x1 x2 s w c fi n y a1 a2 a3 a4 a5 a6 a7 a8 (upd a9 i r) a10) : wX_waysFrom_24 post J x1 x2 s w c fi (n + 1) x3 a1 a2 a3 a4 a5 a6 a7 a8 a9 a10 :=
  br_f h0 (HW _ ⟨hi, nm_r (by rw [hx]) (nm_r hy H)⟩)
theorem sq_wfT {post : St2 → Prop} {J : Int32 → (Nat → Int32) → (Nat → Int32) → (Nat → Int32) → (Nat → Int32) → (Nat → Int32) → (Nat → Int32) → (Nat → Int32) → (Nat → Int32) → (Nat → Int32) → (Nat → Int32) → Prop} {x1 x2 x3 s w c fi y : Int32} {a1 a2 a3 a4 a5 a6 a7 a8 a9 a10 : Nat → Int32} {n i : Nat}
    (h0 : ¬ x3 < 0) (hi : vp_in ((x3 * 10) + x2) 40) (hx : ((x3 * 10) + x2).toNatClampNeg = i) (hy : x3 + (-1) = y) (HW : ∀ q : Int32 → Prop, (∀ r, q r) → wpX_waysOn q (s, w, c, fi, a1, a2, a3, a4, a5, a6, a7, a8, a9, a10) x3 x2)
    (H : ∀ r, wX_waysFrom_24 post J x1 x2 s w c fi n y a1 a2 a3 a4 a5 a6 a7 a8 (upd a9 i r) a10) : wX_waysFrom_24 post J x1 x2 s w c fi (n + 1) x3 a1 a2 a3 a4 a5 a6 a7 a8 a9 a10 :=
  br_f h0 (HW _ (fun r => ⟨hi, nm_r (e' := upd a9 i r) (by rw [hx]) (nm_r hy (H r))⟩))
/-- what waysFrom 0 leaves: the ways from event 0 in step 0 -/
def sq_Wf (s w c : Int32) (a1 a2 a3 a4 a5 a6 a7 : Nat → Int32) (z : Int32) : Prop := ∀ (post : St2 → Prop) (fi : Int32) (a8 a9 a10 : Nat → Int32),
  (∀ b9 : Nat → Int32, b9 0 = z → post (s, w, c, 0, a1, a2, a3, a4, a5, a6, a7, a8, b9, a10)) → wpX_waysFrom post (s, w, c, fi, a1, a2, a3, a4, a5, a6, a7, a8, a9, a10) 0
theorem sq_w11 {w : Int32} {a1 a2 a3 a4 a5 a6 a7 : Nat → Int32} : sq_Wf 1 w 1 a1 a2 a3 a4 a5 a6 a7 1 := by
  intro post fi a8 a9 a10 H
  unfold wpX_waysFrom
  refine nm_r (e' := 0) (by decide) ⟨2, br_f (by decide) (nm_r (e' := 0) (by decide) ⟨2, sq_wfS (i := 0) (y := -1) (r := 1) (by decide) (sq_in (by decide)) (by decide) (by decide) (fun _ hp => sq_wo1 (y := 1) (by decide) (by decide) (by decide) hp) ?_⟩)⟩
  exact br_t (by decide) (nm_r (e' := -1) (by decide) (br_t (by decide) (H _ pk_us)))
theorem sq_w21 {w : Int32} {a1 a2 a3 a4 a5 a6 a7 : Nat → Int32} : sq_Wf 2 w 1 a1 a2 a3 a4 a5 a6 a7 0 := by
  intro post fi a8 a9 a10 H
  unfold wpX_waysFrom
  refine nm_r (e' := 0) (by decide) ⟨2, br_f (by decide) (nm_r (e' := 1) (by decide) ⟨3, sq_wfS (i := 10) (y := 0) (r := 1) (by decide) (sq_in (by decide)) (by decide) (by decide) (fun _ hp => sq_wo1 (y := 1) (by decide) (by decide) (by decide) hp) ?_⟩)⟩
  refine sq_wfS (i := 0) (y := -1) (r := 0) (by decide) (sq_in (by decide)) (by decide) (by decide) (fun _ hp => sq_wo0 (y := 1) (by decide) (by decide) (by decide) hp) ?_
  exact br_t (by decide) (nm_r (e' := -1) (by decide) (br_t (by decide) (H _ pk_us)))
theorem sq_w12 {w : Int32} {a1 a2 a3 a4 a5 a6 a7 : Nat → Int32} (h4 : a4 0 = 0) : sq_Wf 1 w 2 a1 a2 a3 a4 a5 a6 a7 1 := by
  intro post fi a8 a9 a10 H
  unfold wpX_waysFrom
  refine nm_r (e' := 1) (by decide) ⟨3, br_f (by decide) (nm_r (e' := 0) (by decide) ⟨2, sq_wfS (i := 1) (y := -1) (r := 1) (by decide) (sq_in (by decide)) (by decide) (by decide) (fun _ hp => sq_wo1 (y := 2) (by decide) (by decide) (by decide) hp) ?_⟩)⟩
  refine br_t (by decide) (nm_r (e' := 0) (by decide) (br_f (by decide) (nm_r (e' := 0) (by decide) ⟨2, sq_wfS (i := 0) (y := -1) (r := 1) (by decide) (sq_in (by decide)) (by decide) (by decide) (fun _ hp => sq_wo2 h4 hp) ?_⟩)))
  exact br_t (by decide) (nm_r (e' := -1) (by decide) (br_t (by decide) (H _ pk_us)))
theorem sq_w22 {w k u v d z : Int32} {a1 a2 a3 a4 a5 a6 a7 : Nat → Int32} (h4 : a4 0 = 0) (h1' : a1 1 = 4) (h2' : a2 1 = 3) (h3' : a3 1 = k) (hk : sq_K k) (e0 : a6 0 = u) (e1 : a6 1 = v) (ed : a7 1 - a7 0 = d)
    (hz : (sq_M k u v ∧ ¬ w < d) ∧ z = 1 ∨ ¬ (sq_M k u v ∧ ¬ w < d) ∧ z = 0) : sq_Wf 2 w 2 a1 a2 a3 a4 a5 a6 a7 z := by
  subst e0 e1 ed
  intro post fi a8 a9 a10 H
  unfold wpX_waysFrom
  refine nm_r (e' := 1) (by decide) ⟨3, br_f (by decide) (nm_r (e' := 1) (by decide) ⟨3, sq_wfS (i := 11) (y := 0) (r := 1) (by decide) (sq_in (by decide)) (by decide) (by decide) (fun _ hp => sq_wo1 (y := 2) (by decide) (by decide) (by decide) hp) ?_⟩)⟩
  refine sq_wfS (i := 1) (y := -1) (r := 0) (by decide) (sq_in (by decide)) (by decide) (by decide) (fun _ hp => sq_wo0 (y := 2) (by decide) (by decide) (by decide) hp) ?_
  refine br_t (by decide) (nm_r (e' := 0) (by decide) (br_f (by decide) (nm_r (e' := 1) (by decide) ⟨3, sq_wfT (i := 10) (y := 0) (by decide) (sq_in (by decide)) (by decide) (by decide) (fun _ hp => sq_woX h1' h2' h3' hk hp) (fun t => ?_)⟩)))
  have e11 : upd (upd (upd a9 11 1) 1 0) 10 t 11 = 1 := by
    rw [pk_un (by decide), pk_un (by decide), pk_us]
  refine sq_wfS (i := 0) (y := -1) (r := z) (by decide) (sq_in (by decide)) (by decide) (by decide) (fun q hp => sq_wo3 h4 h1' h2' h3' hk e11 (fun g => ?_) (fun g => ?_)) ?_
  · rcases hz with ⟨_, hz⟩ | ⟨hz, _⟩
    · rw [hz] at hp
      exact hp
    · exact absurd g hz
  · rcases hz with ⟨hz, _⟩ | ⟨_, hz⟩
    · exact absurd hz g
    · rw [hz] at hp
      exact hp
  · exact br_t (by decide) (nm_r (e' := -1) (by decide) (br_t (by decide) (H _ pk_us)))
theorem sq_use1 {post : Int32 → St2 → Prop} {w c fi p0 p1 m0 m1 z : Int32} {a1 a2 a3 a4 a5 a6 a7 a8 a9 a10 : Nat → Int32} (hc : (0 : Int32) < c) (R : sq_R0 1 w c a1 a2 a3 a4 a5 a6 a7 p0 p1 m0 m1) (W : sq_Wf 1 w c a1 a2 a3 a4 a5 a6 a7 z)
    (hp : ∀ (fi : Int32) (b8 b9 b10 : Nat → Int32), post z (1, w, c, fi, a1, a2, a3, a4, a5, a6, a7, b8, b9, b10)) : wpX_using post (1, w, c, fi, a1, a2, a3, a4, a5, a6, a7, a8, a9, a10) 0 := by
  unfold wpX_using
  refine sq_noE (by decide) hc (br_t rfl ⟨2, br_f (by decide) (R _ _ _ _ _ (fun b8 b10 e _ _ _ _ => ?_))⟩)
  refine W _ _ _ _ _ (fun b9 e9 => ?_)
  refine ⟨2, br_f (by decide) ⟨sq_in (by decide), sq_in (by decide), nm_r (e' := z) ?_ (nm_r (e' := 1) (by decide) (br_t (by decide) (nm_r (e' := 1) (by decide) (br_t (by decide) (hp _ _ _ _)))))⟩⟩
  show 0 + b8 0 * b9 0 = z
  rw [e, e9, Int32.one_mul, Int32.zero_add]
theorem sq_use2 {post : Int32 → St2 → Prop} {w c fi p1 m0 m1 z : Int32} {a1 a2 a3 a4 a5 a6 a7 a8 a9 a10 : Nat → Int32} (hc : (0 : Int32) < c) (R : sq_R0 2 w c a1 a2 a3 a4 a5 a6 a7 0 p1 m0 m1) (W : sq_Wf 2 w c a1 a2 a3 a4 a5 a6 a7 z)
    (hp : ∀ (fi : Int32) (b8 b9 b10 : Nat → Int32), post z (2, w, c, fi, a1, a2, a3, a4, a5, a6, a7, b8, b9, b10)) : wpX_using post (2, w, c, fi, a1, a2, a3, a4, a5, a6, a7, a8, a9, a10) 0 := by
  unfold wpX_using
  refine sq_noE (by decide) hc (br_t rfl ⟨2, br_f (by decide) (R _ _ _ _ _ (fun b8 b10 e e0 _ _ _ => ?_))⟩)
  have e0' : b8 10 = 0 := e0
  refine W _ _ _ _ _ (fun b9 e9 => ?_)
  refine ⟨3, br_f (by decide) ⟨sq_in (by decide), sq_in (by decide), nm_r (e' := z) ?_ (nm_r (e' := 1) (by decide) (br_f (by decide) ⟨sq_in (by decide), sq_in (by decide), nm_r (e' := z) ?_ (nm_r (e' := 2) (by decide) (br_t (by decide) (nm_r (e' := 1) (by decide) (br_t (by decide) (hp _ _ _ _)))))⟩))⟩⟩
  · show 0 + b8 0 * b9 0 = z
    rw [e, e9, Int32.one_mul, Int32.zero_add]
  · show z + b8 10 * b9 10 = z
    rw [e0', Int32.zero_mul, Int32.add_zero]
theorem sq_wit0 {post : Int32 → St2 → Prop} {s w fi : Int32} {a1 a2 a3 a4 a5 a6 a7 a8 a9 a10 : Nat → Int32} (hp : post (-4) (s, w, 0, fi, a1, a2, a3, a4, a5, a6, a7, a8, a9, a10)) : wpX_without post (s, w, 0, fi, a1, a2, a3, a4, a5, a6, a7, a8, a9, a10) 0 := by
  unfold wpX_without
  exact sq_noY (by decide) (by decide) (br_f (by decide) hp)
theorem sq_wit {post : Int32 → St2 → Prop} {s w c fi r z : Int32} {a1 a2 a3 a4 a5 a6 a7 a8 a9 a10 : Nat → Int32} (hc : (0 : Int32) < c)
    (HF : ∀ (q : Int32 → St2 → Prop) (fi : Int32) (a8 a9 a10 : Nat → Int32), (∀ (fi : Int32) (b8 b10 : Nat → Int32), q r (s, w, c, fi, a1, a2, a3, a4, a5, a6, a7, b8, a9, b10)) → wpX_finds q (s, w, c, fi, a1, a2, a3, a4, a5, a6, a7, a8, a9, a10))
    (HU : ∀ (q : Int32 → St2 → Prop) (fi : Int32) (a8 a9 a10 : Nat → Int32), (∀ (fi : Int32) (b8 b9 b10 : Nat → Int32), q z (s, w, c, fi, a1, a2, a3, a4, a5, a6, a7, b8, b9, b10)) → wpX_using q (s, w, c, fi, a1, a2, a3, a4, a5, a6, a7, a8, a9, a10) 0)
    (hp : ∀ (fi : Int32) (b8 b9 b10 : Nat → Int32), post (r - z) (s, w, c, fi, a1, a2, a3, a4, a5, a6, a7, b8, b9, b10)) : wpX_without post (s, w, c, fi, a1, a2, a3, a4, a5, a6, a7, a8, a9, a10) 0 := by
  unfold wpX_without
  refine sq_noE (by decide) hc (br_t rfl (HF _ _ _ _ _ (fun fi b8 b10 => ?_)))
  refine HU _ _ _ _ _ (fun fi b8 b9 b10 => ?_)
  exact hp _ _ _ _
end
section
/-! step, window, event -/
theorem sq_stN {post : Int32 → St2 → Prop} {s w c fi p : Int32} {a1 a2 a3 a4 a5 a6 a7 a8 a9 a10 : Nat → Int32} (h : p < 0 ∨ 15 < p ∨ ¬ p &&& 7 ≤ 4) (hp : post (-1) (s, w, c, fi, a1, a2, a3, a4, a5, a6, a7, a8, a9, a10)) : wpX_step post (s, w, c, fi, a1, a2, a3, a4, a5, a6, a7, a8, a9, a10) 4 3 p := by
  unfold wpX_step
  refine nm_e (br_f (by decide) (br_f (by decide) (br_f (by decide) (br_t (by decide) (br_c (fun _ => hp) (fun g => br_c (fun _ => hp) (fun g2 => br_f ?_ hp)))))))
  rcases h with h | h | h
  · exact absurd h g
  · exact absurd h g2
  · exact h
theorem sq_stY {post : Int32 → St2 → Prop} {w c fi p : Int32} {a1 a2 a3 a4 a5 a6 a7 a8 a9 a10 : Nat → Int32} (g1 : ¬ p < 0) (g2 : ¬ 15 < p) (g3 : p &&& 7 ≤ 4) (h1 : a1 0 = 4) (h3 : a3 0 = 0) (h4 : a4 0 = 0)
    (hp : ∀ b1 b2 b3 b4 : Nat → Int32, b1 0 = 4 → b1 1 = 4 → b2 1 = 3 → b3 0 = 0 → b3 1 = p &&& 7 → b4 0 = 0 → post 2 (2, w, c, fi, b1, b2, b3, b4, a5, a6, a7, a8, a9, a10)) : wpX_step post (1, w, c, fi, a1, a2, a3, a4, a5, a6, a7, a8, a9, a10) 4 3 p := by
  have K : ∀ t : Int32, wX_step_106 post t 1 1 w c fi (upd a1 1 4) (upd a2 1 3) (upd a3 1 (p &&& 7)) a4 a5 a6 a7 a8 a9 a10 := by
    intro t
    unfold wX_step_106
    exact ⟨sq_in (by decide), nm_e (nm_r (e' := 2) (by decide) (hp _ _ _ _ ((pk_un (by decide)).trans h1) pk_us pk_us ((pk_un (by decide)).trans h3) pk_us ((pk_un (by decide)).trans h4)))⟩
  unfold wpX_step
  exact nm_e (br_f (by decide) (br_f (by decide) (br_f (by decide) (br_t (by decide) (br_f g1 (br_f g2 (br_t g3 (br_f (by decide) ⟨sq_in (by decide), nm_e ⟨sq_in (by decide), nm_e ⟨sq_in (by decide), nm_e (br_c (fun _ => K 0) (fun _ => K 1))⟩⟩⟩))))))))
theorem sq_win {post : Int32 → St2 → Prop} {s w c fi p w' : Int32} {a1 a2 a3 a4 a5 a6 a7 a8 a9 a10 : Nat → Int32} (hw : (p < 0 ∨ 40 < p) ∧ w' = w ∨ ¬ p < 0 ∧ ¬ 40 < p ∧ w' = p) (hp : ∀ r, post r (s, w', c, fi, a1, a2, a3, a4, a5, a6, a7, a8, a9, a10)) : wpX_window post (s, w, c, fi, a1, a2, a3, a4, a5, a6, a7, a8, a9, a10) p := by
  unfold wpX_window
  rcases hw with ⟨h, e⟩ | ⟨g1, g2, e⟩
  · subst e
    exact br_c (fun _ => hp _) (fun g => br_f (Int32.not_le.mpr (h.resolve_left g)) (hp _))
  · subst e
    exact br_f g1 (br_t (Int32.not_lt.mp g2) (hp _))
theorem sq_evN {post : Int32 → St2 → Prop} {s w c fi q u g : Int32} {a1 a2 a3 a4 a5 a6 a7 a8 a9 a10 : Nat → Int32} (hq : ¬ q < 0) (hq' : ¬ 3 < q) (h : ¬ (¬ u < 0 ∧ ¬ 9 < u ∧ ¬ g < 0 ∧ ¬ 5 < g)) (hp : post (-1) (s, w, c, fi, a1, a2, a3, a4, a5, a6, a7, a8, a9, a10)) : wpX_event post (s, w, c, fi, a1, a2, a3, a4, a5, a6, a7, a8, a9, a10) q u g := by
  unfold wpX_event
  exact br_f hq (br_f hq' (br_c (fun _ => hp) (fun g1 => br_c (fun _ => hp) (fun g2 => br_c (fun _ => hp) (fun g3 => br_f (fun z => h ⟨g1, g2, g3, Int32.not_lt.mpr z⟩) hp)))))
theorem sq_ev0 {post : Int32 → St2 → Prop} {s w fi q u g p0 p1 m0 m1 : Int32} {a1 a2 a3 a4 a5 a6 a7 a8 a9 a10 : Nat → Int32} (hq : ¬ q < 0) (hq' : ¬ 3 < q) (h : ¬ u < 0 ∧ ¬ 9 < u ∧ ¬ g < 0 ∧ ¬ 5 < g) (hs : sq_s s)
    (R : ∀ b5 b6 b7 : Nat → Int32, b6 0 = u → sq_R0 s w 1 a1 a2 a3 a4 b5 b6 b7 p0 p1 m0 m1)
    (hp : ∀ (b5 b6 b7 : Nat → Int32) (fi : Int32) (b8 b10 : Nat → Int32), b6 0 = u → post (0 + p0) (s, w, 1, fi, a1, a2, a3, a4, b5, b6, b7, b8, a9, b10)) : wpX_event post (s, w, 0, fi, a1, a2, a3, a4, a5, a6, a7, a8, a9, a10) q u g := by
  unfold wpX_event
  refine br_f hq (br_f hq' (br_f h.1 (br_f h.2.1 (br_f h.2.2.1 (br_t (Int32.not_lt.mp h.2.2.2) (br_f (by decide) ⟨sq_in (by decide), nm_e ⟨sq_in (by decide), nm_e (br_t rfl ?_)⟩⟩))))))
  unfold wX_event_92
  refine ⟨sq_in (by decide), nm_e (nm_r (e' := 1) (by decide) ?_)⟩
  exact sq_end0 hs (by decide) (by decide) (R _ _ _ pk_us) (fun fi b8 b10 => hp _ _ _ fi b8 b10 pk_us)
theorem sq_ev1 {post : Int32 → St2 → Prop} {s w fi q u g p0 p1 m0 m1 q1 n1 : Int32} {a1 a2 a3 a4 a5 a6 a7 a8 a9 a10 : Nat → Int32} (hq : ¬ q < 0) (hq' : ¬ 3 < q) (h : ¬ u < 0 ∧ ¬ 9 < u ∧ ¬ g < 0 ∧ ¬ 5 < g) (hs : sq_s s)
    (R : ∀ b5 b6 b7 : Nat → Int32, b6 0 = a6 0 → b6 1 = u → b7 1 - b7 0 = g → sq_R0 s w 2 a1 a2 a3 a4 b5 b6 b7 p0 p1 m0 m1)
    (R' : ∀ b5 b6 b7 : Nat → Int32, sq_R1 s w 2 a1 a2 a3 a4 b5 b6 b7 q1 n1)
    (hp : ∀ (b5 b6 b7 : Nat → Int32) (fi : Int32) (b8 b10 : Nat → Int32), b6 0 = a6 0 → b6 1 = u → b7 1 - b7 0 = g → post (0 + p1 + q1) (s, w, 2, fi, a1, a2, a3, a4, b5, b6, b7, b8, a9, b10)) : wpX_event post (s, w, 1, fi, a1, a2, a3, a4, a5, a6, a7, a8, a9, a10) q u g := by
  have ed : upd a7 1 (a7 0 + g) 1 - upd a7 1 (a7 0 + g) 0 = g := by
    rw [pk_us, pk_un (by decide), Int32.add_comm, Int32.add_sub_cancel]
  have e0 : upd a6 1 u 0 = a6 0 := pk_un (by decide)
  unfold wpX_event
  refine br_f hq (br_f hq' (br_f h.1 (br_f h.2.1 (br_f h.2.2.1 (br_t (Int32.not_lt.mp h.2.2.2) (br_f (by decide) ⟨sq_in (by decide), nm_e ⟨sq_in (by decide), nm_e (br_f (by decide) ⟨sq_in (by decide), ?_⟩)⟩⟩))))))
  unfold wX_event_92
  refine ⟨sq_in (by decide), nm_e (nm_r (e' := 2) (by decide) ?_)⟩
  exact sq_end1 hs (by decide) (by decide) (R _ _ _ e0 pk_us ed) (R' _ _ _) (fun fi b8 b10 => hp _ _ _ fi b8 b10 e0 pk_us ed)
/-! the step's kind -/
theorem sq_kd : ∀ j, j < 16 → ((nI j &&& 7 ≤ 4) ↔ (nI j ≤ 4 ∨ ¬ nI j < 8 ∧ ¬ 12 < nI j)) := by decide +kernel
theorem sq_kj : ∀ j, j < 16 → nI j &&& 7 ≤ 4 → (nI j &&& 7 = 0 ∨ nI j &&& 7 = 1 ∨ nI j &&& 7 = 2 ∨ nI j &&& 7 = 3 ∨ nI j &&& 7 = 4) := by decide +kernel
def sq_F (p : Int32) : Prop := (¬ p < 0 ∧ p ≤ 4) ∨ (¬ p < 8 ∧ ¬ 12 < p)
theorem sq_Fy {p : Int32} (h : sq_F p) : ¬ p < 0 ∧ ¬ 15 < p ∧ p &&& 7 ≤ 4 ∧ sq_K (p &&& 7) := by
  have a : ¬ p < 0 := by
    rcases h with h | h
    · exact h.1
    · exact fun z => h.1 (Int32.lt_trans z (by decide))
  have b : p ≤ 15 := by
    rcases h with h | h
    · exact Int32.le_of_lt (Int32.lt_of_le_of_lt h.2 (by decide))
    · exact Int32.le_of_lt (Int32.lt_of_le_of_lt (Int32.not_lt.mp h.2) (by decide))
  obtain ⟨j, hj, e⟩ := nI_of2 (M := 15) (n := 15) (by decide) a b
  have k : p &&& 7 ≤ 4 := by
    rw [e] at h ⊢
    refine (sq_kd j (by omega)).mpr ?_
    rcases h with h | h
    · exact Or.inl h.2
    · exact Or.inr h
  refine ⟨a, Int32.not_lt.mpr b, k, ?_⟩
  rw [e] at k ⊢
  exact sq_kj j (by omega) k
theorem sq_Fn {p : Int32} (h : ¬ sq_F p) : p < 0 ∨ 15 < p ∨ ¬ p &&& 7 ≤ 4 := by
  by_cases a : p < 0
  · exact Or.inl a
  · by_cases b : 15 < p
    · exact Or.inr (Or.inl b)
    · refine Or.inr (Or.inr (fun k => h ?_))
      obtain ⟨j, hj, e⟩ := nI_of2 (M := 15) (n := 15) (by decide) a (Int32.not_lt.mp b)
      have k' := k
      rw [e] at k'
      rcases (sq_kd j (by omega)).mp k' with z | z
      · rw [← e] at z
        exact Or.inl ⟨a, z⟩
      · rw [← e] at z
        exact Or.inr z
end
section
/-! the law's decisions, from the end -/
theorem sq_505 {post : Int32 → St0 → Prop} {mc ms kc ks : Nat} {z0 z1 : Int32} (h : z1 = z0) (hp : post 1 ()) : wL_lawOf_505 post mc ms z0 z1 kc ks := br_t h hp
theorem sq_470 {post : Int32 → St0 → Prop} {mc ms kc ks : Nat} {x12 x13 x14 x19 x23 z0 z1 : Int32} (h : z1 = z0) (h12 : x12 = x23) (h13 : x13 = if x19 = 0 then -4 else if x14 = 0 then x19 - 1 else 0) (hp : post 1 ()) : wL_lawOf_470 post mc ms x12 x13 x14 x19 x23 z0 z1 kc ks :=
  br_t h (br_t h12 (br_c (fun a => sq_505 (h13.trans (if_pos a)) hp) (fun a => br_c (fun b => sq_505 (h13.trans ((if_neg a).trans (if_pos b))) hp) (fun b => sq_505 (h13.trans ((if_neg a).trans (if_neg b))) hp))))
theorem sq_445 {post : Int32 → St0 → Prop} {mc ms kc ks : Nat} {x3 x11 x12 x13 x14 x19 x22 x23 z0 z1 : Int32} (h : z1 = z0) (h11 : x11 = if x22 = 0 then -4 else if x14 = 0 then 0 else x3) (h12 : x12 = x23) (h13 : x13 = if x19 = 0 then -4 else if x14 = 0 then x19 - 1 else 0) (hp : post 1 ()) : wL_lawOf_445 post mc ms x3 x11 x12 x13 x14 x19 x22 x23 z0 z1 kc ks :=
  br_t h (br_c (fun a => sq_470 (h11.trans (if_pos a)) h12 h13 hp) (fun a => br_c (fun b => sq_470 (h11.trans ((if_neg a).trans (if_pos b))) h12 h13 hp) (fun b => sq_470 (h11.trans ((if_neg a).trans (if_neg b))) h12 h13 hp)))
theorem sq_413 {post : Int32 → St0 → Prop} {mc ms kc ks : Nat} {x3 x9 x10 x11 x12 x13 x14 x19 x22 x23 z0 z1 : Int32} (h : z1 = z0) (h9 : x9 = x22) (h10 : x10 = if x22 = 0 then -4 else if x14 = 0 then 1 else 2) (h11 : x11 = if x22 = 0 then -4 else if x14 = 0 then 0 else x3) (h12 : x12 = x23) (h13 : x13 = if x19 = 0 then -4 else if x14 = 0 then x19 - 1 else 0) (hp : post 1 ()) : wL_lawOf_413 post mc ms x3 x9 x10 x11 x12 x13 x14 x19 x22 x23 z0 z1 kc ks :=
  br_t h (br_t h9 (br_c (fun a => sq_445 (h10.trans (if_pos a)) h11 h12 h13 hp) (fun a => br_c (fun b => sq_445 (h10.trans ((if_neg a).trans (if_pos b))) h11 h12 h13 hp) (fun b => sq_445 (h10.trans ((if_neg a).trans (if_neg b))) h11 h12 h13 hp))))
theorem sq_388 {post : Int32 → St0 → Prop} {mc ms kc ks : Nat} {x3 x8 x9 x10 x11 x12 x13 x14 x16 x19 x22 x23 z0 z1 : Int32} (h : z1 = z0) (h8 : x8 = if x16 = 0 then -1 else if x14 = 0 then 1 else x22) (h9 : x9 = x22) (h10 : x10 = if x22 = 0 then -4 else if x14 = 0 then 1 else 2) (h11 : x11 = if x22 = 0 then -4 else if x14 = 0 then 0 else x3) (h12 : x12 = x23) (h13 : x13 = if x19 = 0 then -4 else if x14 = 0 then x19 - 1 else 0) (hp : post 1 ()) : wL_lawOf_388 post mc ms x3 x8 x9 x10 x11 x12 x13 x14 x16 x19 x22 x23 z0 z1 kc ks :=
  br_t h (br_c (fun a => sq_413 (h8.trans (if_pos a)) h9 h10 h11 h12 h13 hp) (fun a => br_c (fun b => sq_413 (h8.trans ((if_neg a).trans (if_pos b))) h9 h10 h11 h12 h13 hp) (fun b => sq_413 (h8.trans ((if_neg a).trans (if_neg b))) h9 h10 h11 h12 h13 hp)))
theorem sq_364 {post : Int32 → St0 → Prop} {mc ms kc ks : Nat} {x3 x7 x8 x9 x10 x11 x12 x13 x14 x15 x16 x19 x22 x23 z0 z1 : Int32} (h : z1 = z0) (h7 : x7 = if x15 = 0 then -1 else if x14 = 0 then 1 else 0) (h8 : x8 = if x16 = 0 then -1 else if x14 = 0 then 1 else x22) (h9 : x9 = x22) (h10 : x10 = if x22 = 0 then -4 else if x14 = 0 then 1 else 2) (h11 : x11 = if x22 = 0 then -4 else if x14 = 0 then 0 else x3) (h12 : x12 = x23) (h13 : x13 = if x19 = 0 then -4 else if x14 = 0 then x19 - 1 else 0) (hp : post 1 ()) : wL_lawOf_364 post mc ms x3 x7 x8 x9 x10 x11 x12 x13 x14 x15 x16 x19 x22 x23 z0 z1 kc ks :=
  br_t h (br_c (fun a => sq_388 (h7.trans (if_pos a)) h8 h9 h10 h11 h12 h13 hp) (fun a => br_c (fun b => sq_388 (h7.trans ((if_neg a).trans (if_pos b))) h8 h9 h10 h11 h12 h13 hp) (fun b => sq_388 (h7.trans ((if_neg a).trans (if_neg b))) h8 h9 h10 h11 h12 h13 hp)))
theorem sq_350 {post : Int32 → St0 → Prop} {mc ms kc ks : Nat} {x3 x6 x7 x8 x9 x10 x11 x12 x13 x14 x15 x16 x19 x22 z : Int32} (h6 : x6 = if x14 = 0 then -1 else 2) (h7 : x7 = if x15 = 0 then -1 else if x14 = 0 then 1 else 0) (h8 : x8 = if x16 = 0 then -1 else if x14 = 0 then 1 else x22) (h9 : x9 = x22) (h10 : x10 = if x22 = 0 then -4 else if x14 = 0 then 1 else 2) (h11 : x11 = if x22 = 0 then -4 else if x14 = 0 then 0 else x3) (h12 : x12 = z) (h13 : x13 = if x19 = 0 then -4 else if x14 = 0 then x19 - 1 else 0) (hp : post 1 ()) : wL_lawOf_350 post mc ms x3 x6 x7 x8 x9 x10 x11 x12 x13 x14 x15 x16 x19 x22 z kc ks :=
  br_c (fun a => sq_364 (h6.trans (if_pos a)) h7 h8 h9 h10 h11 h12 h13 hp) (fun a => sq_364 (h6.trans (if_neg a)) h7 h8 h9 h10 h11 h12 h13 hp)
/-! not fitting: what is due is the number of events -/
theorem sq_258n {post : Int32 → St0 → Prop} {mc ms kc ks : Nat} {x1 x2 x3 x6 x7 x8 x9 x10 x11 x12 x13 x14 x15 x16 x17 x19 z : Int32} (h14 : x14 = 0) (H : wL_lawOf_350 post mc ms x3 x6 x7 x8 x9 x10 x11 x12 x13 x14 x15 x16 x19 x19 ((if x15 = 0 then 0 else x1) + (if x16 = 0 then 0 else x2)) kc ks) : wL_lawOf_258 post mc ms x1 x2 x3 x6 x7 x8 x9 x10 x11 x12 x13 x14 x15 x16 x17 x19 z kc ks := by
  refine br_t h14 ?_
  unfold wL_lawOf_286
  refine br_t h14 (br_t h14 ?_)
  refine br_c (fun a => ?_) (fun a => ?_)
  · rw [if_pos a] at H
    refine br_c (fun b => ?_) (fun b => ?_)
    · rw [if_pos b] at H
      exact H
    · rw [if_neg b] at H
      exact H
  · rw [if_neg a] at H
    refine br_c (fun b => ?_) (fun b => ?_)
    · rw [if_pos b] at H
      exact H
    · rw [if_neg b] at H
      exact H
/-! fitting, no pair -/
theorem sq_286y {post : Int32 → St0 → Prop} {mc ms kc ks : Nat} {x1 x2 x3 x6 x7 x8 x9 x10 x11 x12 x13 x14 x15 x16 x19 : Int32} (h14 : ¬ x14 = 0) (H : wL_lawOf_350 post mc ms x3 x6 x7 x8 x9 x10 x11 x12 x13 x14 x15 x16 x19 0 0 kc ks) : wL_lawOf_286 post mc ms x1 x2 x3 x6 x7 x8 x9 x10 x11 x12 x13 x14 x15 x16 x19 kc ks := by
  unfold wL_lawOf_286
  exact br_f h14 (br_t rfl (br_f h14 (br_t rfl H)))
theorem sq_258y {post : Int32 → St0 → Prop} {mc ms kc ks : Nat} {x1 x2 x3 x6 x7 x8 x9 x10 x11 x12 x13 x14 x15 x16 x17 x19 z : Int32} (h14 : ¬ x14 = 0) (hn : ¬ (x19 = 2 ∧ ¬ z = 0 ∧ ¬ x17 < x3)) (H : wL_lawOf_350 post mc ms x3 x6 x7 x8 x9 x10 x11 x12 x13 x14 x15 x16 x19 0 0 kc ks) : wL_lawOf_258 post mc ms x1 x2 x3 x6 x7 x8 x9 x10 x11 x12 x13 x14 x15 x16 x17 x19 z kc ks :=
  br_f h14 (br_c (fun a => br_c (fun _ => sq_286y h14 H) (fun b => br_c (fun _ => sq_286y h14 H) (fun c => absurd ⟨a, b, c⟩ hn))) (fun _ => sq_286y h14 H))
theorem sq_258p {post : Int32 → St0 → Prop} {mc ms kc ks : Nat} {x1 x2 x3 x6 x7 x8 x9 x10 x11 x12 x13 x14 x15 x16 x17 x19 z : Int32} (h14 : ¬ x14 = 0) (h19 : x19 = 2) (hz : ¬ z = 0) (hw : ¬ x17 < x3) (H : wL_lawOf_350 post mc ms x3 x6 x7 x8 x9 x10 x11 x12 x13 x14 x15 x16 x19 1 x2 kc ks) : wL_lawOf_258 post mc ms x1 x2 x3 x6 x7 x8 x9 x10 x11 x12 x13 x14 x15 x16 x17 x19 z kc ks :=
  br_f h14 (br_t h19 (br_f hz (br_f hw (br_f h14 (br_f (by decide) (br_f h14 (br_f (by decide) H)))))))
/-! meets -/
theorem sq_201 {post : Int32 → St0 → Prop} {mc ms kc ks : Nat} {x1 x2 x3 x6 x7 x8 x9 x10 x11 x12 x13 x14 x15 x16 x17 x18 x19 z0 z1 : Int32} (h : z1 + z0 = x19) (H1 : sq_M x18 x1 x2 → wL_lawOf_258 post mc ms x1 x2 x3 x6 x7 x8 x9 x10 x11 x12 x13 x14 x15 x16 x17 x19 1 kc ks) (H0 : ¬ sq_M x18 x1 x2 → wL_lawOf_258 post mc ms x1 x2 x3 x6 x7 x8 x9 x10 x11 x12 x13 x14 x15 x16 x17 x19 0 kc ks) : wL_lawOf_201 post mc ms x1 x2 x3 x6 x7 x8 x9 x10 x11 x12 x13 x14 x15 x16 x17 x18 z0 z1 kc ks := by
  refine nm_r h (br_c (fun a => H1 (Or.inl a)) (fun a => ?_))
  have K242 : ¬ (x18 = 1 ∧ x1 < x2) → ¬ (x18 = 2 ∧ x2 < x1) → ¬ (x18 = 3 ∧ x2 = 3) → wL_lawOf_242 post mc ms x1 x2 x3 x6 x7 x8 x9 x10 x11 x12 x13 x14 x15 x16 x17 x18 x19 kc ks := fun b c d =>
    br_c (fun e => br_c (fun f => H1 (Or.inr (Or.inr (Or.inr (Or.inr ⟨e, f⟩))))) (fun f => H0 (fun z => z.elim a (fun z => z.elim b (fun z => z.elim c (fun z => z.elim d (fun z => f z.2)))))))
      (fun e => H0 (fun z => z.elim a (fun z => z.elim b (fun z => z.elim c (fun z => z.elim d (fun z => e z.1))))))
  have K231 : ¬ (x18 = 1 ∧ x1 < x2) → ¬ (x18 = 2 ∧ x2 < x1) → wL_lawOf_231 post mc ms x1 x2 x3 x6 x7 x8 x9 x10 x11 x12 x13 x14 x15 x16 x17 x18 x19 kc ks := fun b c =>
    br_c (fun e => br_c (fun f => H1 (Or.inr (Or.inr (Or.inr (Or.inl ⟨e, f⟩))))) (fun f => K242 b c (fun z => f z.2))) (fun e => K242 b c (fun z => e z.1))
  have K220 : ¬ (x18 = 1 ∧ x1 < x2) → wL_lawOf_220 post mc ms x1 x2 x3 x6 x7 x8 x9 x10 x11 x12 x13 x14 x15 x16 x17 x18 x19 kc ks := fun b =>
    br_c (fun e => br_c (fun f => H1 (Or.inr (Or.inr (Or.inl ⟨e, f⟩)))) (fun f => K231 b (fun z => f z.2))) (fun e => K231 b (fun z => e z.1))
  exact br_c (fun e => br_c (fun f => H1 (Or.inr (Or.inl ⟨e, f⟩))) (fun f => K220 (fun z => f z.2))) (fun e => K220 (fun z => e z.1))
theorem sq_173 {post : Int32 → St0 → Prop} {mc ms kc ks : Nat} {x0 x1 x2 x3 x6 x7 x8 x9 x10 x11 x12 x13 x14 x15 x16 x17 x19 : Int32} (h : (if x15 = 0 then 0 else 1) + (if x16 = 0 then 0 else 1) = x19) (H1 : sq_M (x0 &&& 7) x1 x2 → wL_lawOf_258 post mc ms x1 x2 x3 x6 x7 x8 x9 x10 x11 x12 x13 x14 x15 x16 x17 x19 1 kc ks) (H0 : ¬ sq_M (x0 &&& 7) x1 x2 → wL_lawOf_258 post mc ms x1 x2 x3 x6 x7 x8 x9 x10 x11 x12 x13 x14 x15 x16 x17 x19 0 kc ks) : wL_lawOf_173 post mc ms x0 x1 x2 x3 x6 x7 x8 x9 x10 x11 x12 x13 x14 x15 x16 x17 kc ks := by
  refine nm_e (br_c (fun a => ?_) (fun a => ?_))
  · rw [if_pos a] at h
    refine br_c (fun b => ?_) (fun b => ?_)
    · rw [if_pos b] at h
      exact sq_201 h H1 H0
    · rw [if_neg b] at h
      exact sq_201 h H1 H0
  · rw [if_neg a] at h
    refine br_c (fun b => ?_) (fun b => ?_)
    · rw [if_pos b] at h
      exact sq_201 h H1 H0
    · rw [if_neg b] at h
      exact sq_201 h H1 H0
/-! the window, the two events, the step -/
theorem sq_152 {post : Int32 → St0 → Prop} {mc ms kc ks : Nat} {x0 x1 x2 x3 x4 x6 x7 x8 x9 x10 x11 x12 x13 x14 x15 x16 w : Int32} (hw : (x4 < 0 ∨ 40 < x4) ∧ w = 10 ∨ ¬ x4 < 0 ∧ ¬ 40 < x4 ∧ w = x4) (H : wL_lawOf_173 post mc ms x0 x1 x2 x3 x6 x7 x8 x9 x10 x11 x12 x13 x14 x15 x16 w kc ks) : wL_lawOf_152 post mc ms x0 x1 x2 x3 x4 x6 x7 x8 x9 x10 x11 x12 x13 x14 x15 x16 kc ks := by
  rcases hw with ⟨h, e⟩ | ⟨g1, g2, e⟩
  · subst e
    exact br_c (fun _ => H) (fun g => br_t (h.resolve_left g) H)
  · subst e
    exact br_f g1 (br_f g2 H)
theorem sq_126 {post : Int32 → St0 → Prop} {mc ms kc ks : Nat} {x0 x1 x2 x3 x4 x6 x7 x8 x9 x10 x11 x12 x13 x14 x15 x16 : Int32} (h : (¬ x2 < 0 ∧ ¬ 9 < x2 ∧ ¬ x3 < 0 ∧ ¬ 5 < x3) ∧ x16 = 1 ∨ ¬ (¬ x2 < 0 ∧ ¬ 9 < x2 ∧ ¬ x3 < 0 ∧ ¬ 5 < x3) ∧ x16 = 0) (H : wL_lawOf_152 post mc ms x0 x1 x2 x3 x4 x6 x7 x8 x9 x10 x11 x12 x13 x14 x15 x16 kc ks) : wL_lawOf_126 post mc ms x0 x1 x2 x3 x4 x6 x7 x8 x9 x10 x11 x12 x13 x14 x15 kc ks := by
  rcases h with ⟨h, e⟩ | ⟨h, e⟩
  · subst e
    exact br_f h.1 (br_f h.2.1 (br_f h.2.2.1 (br_f h.2.2.2 H)))
  · subst e
    exact br_c (fun _ => H) (fun a => br_c (fun _ => H) (fun b => br_c (fun _ => H) (fun c => br_c (fun _ => H) (fun d => absurd ⟨a, b, c, d⟩ h))))
theorem sq_109 {post : Int32 → St0 → Prop} {mc ms kc ks : Nat} {x0 x1 x2 x3 x4 x6 x7 x8 x9 x10 x11 x12 x13 x14 x15 : Int32} (h : (¬ x1 < 0 ∧ ¬ 9 < x1) ∧ x15 = 1 ∨ ¬ (¬ x1 < 0 ∧ ¬ 9 < x1) ∧ x15 = 0) (H : wL_lawOf_126 post mc ms x0 x1 x2 x3 x4 x6 x7 x8 x9 x10 x11 x12 x13 x14 x15 kc ks) : wL_lawOf_109 post mc ms x0 x1 x2 x3 x4 x6 x7 x8 x9 x10 x11 x12 x13 x14 kc ks := by
  rcases h with ⟨h, e⟩ | ⟨h, e⟩
  · subst e
    exact br_f h.1 (br_f h.2 H)
  · subst e
    exact br_c (fun _ => H) (fun a => br_c (fun _ => H) (fun b => absurd ⟨a, b⟩ h))
theorem sq_topY {post : Int32 → St0 → Prop} {mc ms kc ks : Nat} {x0 x1 x2 x3 x4 x6 x7 x8 x9 x10 x11 x12 x13 : Int32} (h : sq_F x0) (H : wL_lawOf_109 post mc ms x0 x1 x2 x3 x4 x6 x7 x8 x9 x10 x11 x12 x13 1 kc ks) :
    (x0 < 0 → wL_lawOf_92 post mc ms x0 x1 x2 x3 x4 x6 x7 x8 x9 x10 x11 x12 x13 kc ks) ∧ (¬ x0 < 0 → ((x0 ≤ 4 → wL_lawOf_104 post mc ms x0 x1 x2 x3 x4 x6 x7 x8 x9 x10 x11 x12 x13 kc ks) ∧ (¬ x0 ≤ 4 → wL_lawOf_92 post mc ms x0 x1 x2 x3 x4 x6 x7 x8 x9 x10 x11 x12 x13 kc ks))) := by
  refine br_f (sq_Fy h).1 (br_c (fun _ => H) (fun a => ?_))
  rcases h with h | h
  · exact absurd h.2 a
  · exact br_f h.1 (br_f h.2 H)
theorem sq_topN {post : Int32 → St0 → Prop} {mc ms kc ks : Nat} {x0 x1 x2 x3 x4 x6 x7 x8 x9 x10 x11 x12 x13 : Int32} (h : ¬ sq_F x0) (H : wL_lawOf_109 post mc ms x0 x1 x2 x3 x4 x6 x7 x8 x9 x10 x11 x12 x13 0 kc ks) :
    (x0 < 0 → wL_lawOf_92 post mc ms x0 x1 x2 x3 x4 x6 x7 x8 x9 x10 x11 x12 x13 kc ks) ∧ (¬ x0 < 0 → ((x0 ≤ 4 → wL_lawOf_104 post mc ms x0 x1 x2 x3 x4 x6 x7 x8 x9 x10 x11 x12 x13 kc ks) ∧ (¬ x0 ≤ 4 → wL_lawOf_92 post mc ms x0 x1 x2 x3 x4 x6 x7 x8 x9 x10 x11 x12 x13 kc ks))) := by
  have K : wL_lawOf_92 post mc ms x0 x1 x2 x3 x4 x6 x7 x8 x9 x10 x11 x12 x13 kc ks := br_c (fun _ => H) (fun a => br_c (fun _ => H) (fun b => absurd (Or.inr ⟨a, b⟩) h))
  exact br_c (fun _ => K) (fun a => br_c (fun b => absurd (Or.inl ⟨a, b⟩) h) (fun _ => K))
end
section
/-! sums and bests -/
theorem sq_v1 (u v : Int32) : 0 + (0 + 0) * u + (0 + 1 + 0) * v = v := by grind
theorem sq_v0 (u v : Int32) : 0 + (0 + 0) * u + (0 + 0 + 0) * v = 0 := by grind
theorem sq_v2 (u v : Int32) : 0 + (0 + 1) * u + (0 + 0 + 1) * v = u + v := by grind
theorem sq_v3 (u : Int32) : 0 + (0 + 0) * u = 0 := by grind
theorem sq_v4 (u : Int32) : 0 + (0 + 1) * u = u + 0 := by grind
theorem sq_v5 (u : Int32) : 0 + (0 + 1) * u = 0 + u := by grind
theorem sq_tY (g : Int32) : sq_tg (sq_tg (sq_tg (-4) 0 0) 1 g) 0 0 = g := rfl
theorem sq_tN (g : Int32) : sq_tg (sq_tg (sq_tg (-4) 0 0) 0 g) 0 0 = -4 := rfl
theorem sq_t1 (g : Int32) : sq_tg (sq_tg (sq_tg (-4) 1 0) 0 g) 1 0 = 0 := rfl
theorem sq_cell {post : Int32 → Prop} {L : Nat} {xs : Nat → Int32} {x : Int32} (k : Nat) (hk : k < 2 ^ 31) (hL : L ≤ 5) (hx : x = nI k) (h : ∀ r, post r) : wpL_cellAt post L xs () x :=
  pk_le L k (fun _ => h _) (fun z => ⟨pk_in k L z hx (by omega), h _⟩) rfl hx (by omega) hk
theorem sq_law {post : Int32 → St0 → Prop} {k u v g w : Int32} (hp : post 1 ()) : wpL_lawOf post 11 180 () k u v g w := by
  obtain ⟨w', hw⟩ : ∃ w' : Int32, (w < 0 ∨ 40 < w) ∧ w' = 10 ∨ ¬ w < 0 ∧ ¬ 40 < w ∧ w' = w := by
    by_cases a : w < 0
    · exact ⟨10, Or.inl ⟨Or.inl a, rfl⟩⟩
    · by_cases b : 40 < w
      · exact ⟨10, Or.inl ⟨Or.inr b, rfl⟩⟩
      · exact ⟨w, Or.inr ⟨a, b, rfl⟩⟩
  unfold wpL_lawOf
  refine ⟨by decide, by decide, 10, 166, by decide, by decide, ?_⟩
  unfold wpX_init
  refine ⟨by decide, by decide, by decide, by decide, by decide, by decide, by decide, by decide, by decide, by decide, by decide, by decide, by decide, by decide, by decide, by decide, by decide, by decide, by decide, by decide, nm_e ?_⟩
  by_cases hF : sq_F k
  · obtain ⟨g1, g2, g3, hK⟩ := sq_Fy hF
    refine sq_stY g1 g2 g3 rfl rfl rfl (fun b1 b2 b3 b4 h1 h1' h2' h3 h3' h4 => ?_)
    refine sq_win hw (fun _ => ?_)
    by_cases hU : ¬ u < 0 ∧ ¬ 9 < u
    · refine sq_ev0 (by decide) (by decide) ⟨hU.1, hU.2, by decide, by decide⟩ sq_s2 (fun _ _ _ _ => sq_a2 h1 h3) (fun b5 b6 b7 _ _ _ eu => ?_)
      by_cases hV : ¬ v < 0 ∧ ¬ 9 < v ∧ ¬ g < 0 ∧ ¬ 5 < g
      · by_cases hM : sq_M (k &&& 7) u v ∧ ¬ w' < g
        · have R : ∀ d5 d6 d7 : Nat → Int32, d6 0 = b6 0 → d6 1 = v → d7 1 - d7 0 = g → sq_R0 2 w' 2 b1 b2 b3 b4 d5 d6 d7 0 1 0 2 := fun _ _ _ e0 e1 ed => sq_b2y h1 h3 h4 h1' h2' h3' hK (e0.trans eu) e1 ed hM
          refine sq_ev1 (by decide) (by decide) hV sq_s2 R (fun _ _ _ => sq_b2' h1 h3) (fun d5 d6 d7 _ _ _ e0 e1 ed => ?_)
          have R0 := R d5 d6 d7 e0 e1 ed
          refine sq_fin2 sq_s2 R0 (sq_b2' h1 h3) (fun _ _ _ => ?_)
          refine sq_lon2 sq_s2 R0 (sq_b2' h1 h3) (fun _ _ _ => ?_)
          refine sq_tig2 sq_s2 R0 (sq_b2' h1 h3) ed (fun _ _ _ => ?_)
          refine sq_las2 sq_s2 R0 (sq_b2' h1 h3) (fun _ _ _ => ?_)
          refine sq_wit (by decide) (fun q fi a8 a9 a10 h => sq_fin2 sq_s2 R0 (sq_b2' h1 h3) h) (fun q fi a8 a9 a10 h => sq_use2 (by decide) R0 (sq_w22 h4 h1' h2' h3' hK (e0.trans eu) e1 ed (Or.inl ⟨hM, rfl⟩)) h) (fun _ _ _ _ => ?_)
          refine sq_topY hF (sq_109 (x15 := 1) (Or.inl ⟨hU, rfl⟩) (sq_126 (x16 := 1) (Or.inl ⟨hV, rfl⟩) (sq_152 hw (sq_173 (x19 := 2) (by decide) (fun _ => sq_258p (by decide) rfl (by decide) hM.2 ?_) (fun z => absurd hM.1 z)))))
          exact sq_350 (by decide) (by decide) (by decide) (by decide) (by decide) (sq_tY g) (by rw [e1]; exact sq_v1 _ _) (by decide) hp
        · have R : ∀ d5 d6 d7 : Nat → Int32, d6 0 = b6 0 → d6 1 = v → d7 1 - d7 0 = g → sq_R0 2 w' 2 b1 b2 b3 b4 d5 d6 d7 0 0 0 0 := fun _ _ _ e0 e1 ed => sq_b2n h1 h3 h4 h1' h2' h3' hK (e0.trans eu) e1 ed hM
          refine sq_ev1 (by decide) (by decide) hV sq_s2 R (fun _ _ _ => sq_b2' h1 h3) (fun d5 d6 d7 _ _ _ e0 e1 ed => ?_)
          have R0 := R d5 d6 d7 e0 e1 ed
          refine sq_fin2 sq_s2 R0 (sq_b2' h1 h3) (fun _ _ _ => ?_)
          refine sq_lon2 sq_s2 R0 (sq_b2' h1 h3) (fun _ _ _ => ?_)
          refine sq_tig2 sq_s2 R0 (sq_b2' h1 h3) ed (fun _ _ _ => ?_)
          refine sq_las2 sq_s2 R0 (sq_b2' h1 h3) (fun _ _ _ => ?_)
          refine sq_wit (by decide) (fun q fi a8 a9 a10 h => sq_fin2 sq_s2 R0 (sq_b2' h1 h3) h) (fun q fi a8 a9 a10 h => sq_use2 (by decide) R0 (sq_w22 h4 h1' h2' h3' hK (e0.trans eu) e1 ed (Or.inr ⟨hM, rfl⟩)) h) (fun _ _ _ _ => ?_)
          refine sq_topY hF (sq_109 (x15 := 1) (Or.inl ⟨hU, rfl⟩) (sq_126 (x16 := 1) (Or.inl ⟨hV, rfl⟩) (sq_152 hw (sq_173 (x19 := 2) (by decide) (fun m => sq_258y (by decide) (fun z => hM ⟨m, z.2.2⟩) ?_) (fun _ => sq_258y (by decide) (fun z => z.2.1 rfl) ?_)))))
          · exact sq_350 (by decide) (by decide) (by decide) (by decide) (by decide) (sq_tN g) (sq_v0 _ _) (by decide) hp
          · exact sq_350 (by decide) (by decide) (by decide) (by decide) (by decide) (sq_tN g) (sq_v0 _ _) (by decide) hp
      · refine sq_evN (by decide) (by decide) hV ?_
        refine sq_fin1 sq_s2 (sq_a2 h1 h3) (fun _ _ _ => ?_)
        refine sq_lon1 sq_s2 (sq_a2 h1 h3) (fun _ _ _ => ?_)
        refine sq_tig1 sq_s2 (sq_a2 h1 h3) (fun _ _ _ => ?_)
        refine sq_las1 sq_s2 (sq_a2 h1 h3) (fun _ _ _ => ?_)
        refine sq_wit (by decide) (fun q fi a8 a9 a10 h => sq_fin1 sq_s2 (sq_a2 h1 h3) h) (fun q fi a8 a9 a10 h => sq_use2 (by decide) (sq_a2 h1 h3) sq_w21 h) (fun _ _ _ _ => ?_)
        have H : ∀ z : Int32, wL_lawOf_258 post 11 180 u v g 2 (0 + 0) (-1) (0 + (0 + 0)) (sq_lg (-4) 0 0) (sq_tg (-4) 0 0) (0 + (0 + 0) * b6 0) ((0 + (0 + 0)) - 0) 1 1 0 w' 1 z (1 + 10) (14 + 166) := fun z =>
          sq_258y (by decide) (fun z => absurd z.1 (by decide)) (sq_350 (by decide) (by decide) (by decide) (by decide) (by decide) (by rfl) (sq_v3 _) (by decide) hp)
        exact sq_topY hF (sq_109 (x15 := 1) (Or.inl ⟨hU, rfl⟩) (sq_126 (x16 := 0) (Or.inr ⟨hV, rfl⟩) (sq_152 hw (sq_173 (x19 := 1) (by decide) (fun _ => H 1) (fun _ => H 0)))))
    · refine sq_evN (by decide) (by decide) (fun z => hU ⟨z.1, z.2.1⟩) ?_
      by_cases hV : ¬ v < 0 ∧ ¬ 9 < v ∧ ¬ g < 0 ∧ ¬ 5 < g
      · refine sq_ev0 (by decide) (by decide) hV sq_s2 (fun _ _ _ _ => sq_a2 h1 h3) (fun b5 b6 b7 _ _ _ eu => ?_)
        refine sq_fin1 sq_s2 (sq_a2 h1 h3) (fun _ _ _ => ?_)
        refine sq_lon1 sq_s2 (sq_a2 h1 h3) (fun _ _ _ => ?_)
        refine sq_tig1 sq_s2 (sq_a2 h1 h3) (fun _ _ _ => ?_)
        refine sq_las1 sq_s2 (sq_a2 h1 h3) (fun _ _ _ => ?_)
        refine sq_wit (by decide) (fun q fi a8 a9 a10 h => sq_fin1 sq_s2 (sq_a2 h1 h3) h) (fun q fi a8 a9 a10 h => sq_use2 (by decide) (sq_a2 h1 h3) sq_w21 h) (fun _ _ _ _ => ?_)
        have H : ∀ z : Int32, wL_lawOf_258 post 11 180 u v g 2 (-1) (0 + 0) (0 + (0 + 0)) (sq_lg (-4) 0 0) (sq_tg (-4) 0 0) (0 + (0 + 0) * b6 0) ((0 + (0 + 0)) - 0) 1 0 1 w' 1 z (1 + 10) (14 + 166) := fun z =>
          sq_258y (by decide) (fun z => absurd z.1 (by decide)) (sq_350 (by decide) (by decide) (by decide) (by decide) (by decide) (by rfl) (sq_v3 _) (by decide) hp)
        exact sq_topY hF (sq_109 (x15 := 0) (Or.inr ⟨hU, rfl⟩) (sq_126 (x16 := 1) (Or.inl ⟨hV, rfl⟩) (sq_152 hw (sq_173 (x19 := 1) (by decide) (fun _ => H 1) (fun _ => H 0)))))
      · refine sq_evN (by decide) (by decide) hV ?_
        refine sq_fin0 ?_
        refine sq_lon0 ?_
        refine sq_tig0 ?_
        refine sq_las0 ?_
        refine sq_wit0 ?_
        have H : ∀ z : Int32, wL_lawOf_258 post 11 180 u v g 2 (-1) (-1) 0 (-4) (-4) 0 (-4) 1 0 0 w' 0 z (1 + 10) (14 + 166) := fun z =>
          sq_258y (by decide) (fun z => absurd z.1 (by decide)) (sq_350 (by decide) (by decide) (by decide) (by decide) (by decide) (by rfl) (by decide) (by decide) hp)
        exact sq_topY hF (sq_109 (x15 := 0) (Or.inr ⟨hU, rfl⟩) (sq_126 (x16 := 0) (Or.inr ⟨hV, rfl⟩) (sq_152 hw (sq_173 (x19 := 0) (by decide) (fun _ => H 1) (fun _ => H 0)))))
  · refine sq_stN (sq_Fn hF) ?_
    refine sq_win hw (fun _ => ?_)
    by_cases hU : ¬ u < 0 ∧ ¬ 9 < u
    · refine sq_ev0 (by decide) (by decide) ⟨hU.1, hU.2, by decide, by decide⟩ sq_s1 (fun _ _ _ _ => sq_a1 rfl rfl) (fun b5 b6 b7 _ _ _ eu => ?_)
      by_cases hV : ¬ v < 0 ∧ ¬ 9 < v ∧ ¬ g < 0 ∧ ¬ 5 < g
      · refine sq_ev1 (by decide) (by decide) hV sq_s1 (fun _ _ _ _ _ _ => sq_b1 rfl rfl rfl) (fun _ _ _ => sq_b1' rfl rfl) (fun d5 d6 d7 _ _ _ e0 e1 ed => ?_)
        refine sq_fin2 sq_s1 (sq_b1 rfl rfl rfl) (sq_b1' rfl rfl) (fun _ _ _ => ?_)
        refine sq_lon2 sq_s1 (sq_b1 rfl rfl rfl) (sq_b1' rfl rfl) (fun _ _ _ => ?_)
        refine sq_tig2 sq_s1 (sq_b1 rfl rfl rfl) (sq_b1' rfl rfl) ed (fun _ _ _ => ?_)
        refine sq_las2 sq_s1 (sq_b1 rfl rfl rfl) (sq_b1' rfl rfl) (fun _ _ _ => ?_)
        refine sq_wit (by decide) (fun q fi a8 a9 a10 h => sq_fin2 sq_s1 (sq_b1 rfl rfl rfl) (sq_b1' rfl rfl) h) (fun q fi a8 a9 a10 h => sq_use1 (by decide) (sq_b1 rfl rfl rfl) (sq_w12 rfl) h) (fun _ _ _ _ => ?_)
        have H : ∀ z : Int32, wL_lawOf_258 post 11 180 u v g (-1) (0 + 1) (0 + 0 + 1) (0 + (0 + 1 + 0) + (0 + 1)) (sq_lg (sq_lg (sq_lg (-4) 1 1) 0 0) 1 1) (sq_tg (sq_tg (sq_tg (-4) 1 0) 0 g) 1 0) (0 + (0 + 1) * d6 0 + (0 + 0 + 1) * d6 1) ((0 + (0 + 1 + 0) + (0 + 1)) - 1) 0 1 1 w' 2 z (1 + 10) (14 + 166) := fun z =>
          sq_258n rfl (sq_350 (by decide) (by decide) (by decide) (by decide) (by decide) (sq_t1 g) (by rw [e1, e0, eu]; exact sq_v2 _ _) (by decide) hp)
        exact sq_topN hF (sq_109 (x15 := 1) (Or.inl ⟨hU, rfl⟩) (sq_126 (x16 := 1) (Or.inl ⟨hV, rfl⟩) (sq_152 hw (sq_173 (x19 := 2) (by decide) (fun _ => H 1) (fun _ => H 0)))))
      · refine sq_evN (by decide) (by decide) hV ?_
        refine sq_fin1 sq_s1 (sq_a1 rfl rfl) (fun _ _ _ => ?_)
        refine sq_lon1 sq_s1 (sq_a1 rfl rfl) (fun _ _ _ => ?_)
        refine sq_tig1 sq_s1 (sq_a1 rfl rfl) (fun _ _ _ => ?_)
        refine sq_las1 sq_s1 (sq_a1 rfl rfl) (fun _ _ _ => ?_)
        refine sq_wit (by decide) (fun q fi a8 a9 a10 h => sq_fin1 sq_s1 (sq_a1 rfl rfl) h) (fun q fi a8 a9 a10 h => sq_use1 (by decide) (sq_a1 rfl rfl) sq_w11 h) (fun _ _ _ _ => ?_)
        have H : ∀ z : Int32, wL_lawOf_258 post 11 180 u v g (-1) (0 + 1) (-1) (0 + (0 + 1)) (sq_lg (-4) 1 1) (sq_tg (-4) 1 0) (0 + (0 + 1) * b6 0) ((0 + (0 + 1)) - 1) 0 1 0 w' 1 z (1 + 10) (14 + 166) := fun z =>
          sq_258n rfl (sq_350 (by decide) (by decide) (by decide) (by decide) (by decide) (by rfl) (by rw [eu]; exact sq_v4 _) (by decide) hp)
        exact sq_topN hF (sq_109 (x15 := 1) (Or.inl ⟨hU, rfl⟩) (sq_126 (x16 := 0) (Or.inr ⟨hV, rfl⟩) (sq_152 hw (sq_173 (x19 := 1) (by decide) (fun _ => H 1) (fun _ => H 0)))))
    · refine sq_evN (by decide) (by decide) (fun z => hU ⟨z.1, z.2.1⟩) ?_
      by_cases hV : ¬ v < 0 ∧ ¬ 9 < v ∧ ¬ g < 0 ∧ ¬ 5 < g
      · refine sq_ev0 (by decide) (by decide) hV sq_s1 (fun _ _ _ _ => sq_a1 rfl rfl) (fun b5 b6 b7 _ _ _ eu => ?_)
        refine sq_fin1 sq_s1 (sq_a1 rfl rfl) (fun _ _ _ => ?_)
        refine sq_lon1 sq_s1 (sq_a1 rfl rfl) (fun _ _ _ => ?_)
        refine sq_tig1 sq_s1 (sq_a1 rfl rfl) (fun _ _ _ => ?_)
        refine sq_las1 sq_s1 (sq_a1 rfl rfl) (fun _ _ _ => ?_)
        refine sq_wit (by decide) (fun q fi a8 a9 a10 h => sq_fin1 sq_s1 (sq_a1 rfl rfl) h) (fun q fi a8 a9 a10 h => sq_use1 (by decide) (sq_a1 rfl rfl) sq_w11 h) (fun _ _ _ _ => ?_)
        have H : ∀ z : Int32, wL_lawOf_258 post 11 180 u v g (-1) (-1) (0 + 1) (0 + (0 + 1)) (sq_lg (-4) 1 1) (sq_tg (-4) 1 0) (0 + (0 + 1) * b6 0) ((0 + (0 + 1)) - 1) 0 0 1 w' 1 z (1 + 10) (14 + 166) := fun z =>
          sq_258n rfl (sq_350 (by decide) (by decide) (by decide) (by decide) (by decide) (by rfl) (by rw [eu]; exact sq_v5 _) (by decide) hp)
        exact sq_topN hF (sq_109 (x15 := 0) (Or.inr ⟨hU, rfl⟩) (sq_126 (x16 := 1) (Or.inl ⟨hV, rfl⟩) (sq_152 hw (sq_173 (x19 := 1) (by decide) (fun _ => H 1) (fun _ => H 0)))))
      · refine sq_evN (by decide) (by decide) hV ?_
        refine sq_fin0 ?_
        refine sq_lon0 ?_
        refine sq_tig0 ?_
        refine sq_las0 ?_
        refine sq_wit0 ?_
        have H : ∀ z : Int32, wL_lawOf_258 post 11 180 u v g (-1) (-1) (-1) 0 (-4) (-4) 0 (-4) 0 0 0 w' 0 z (1 + 10) (14 + 166) := fun z =>
          sq_258n rfl (sq_350 (by decide) (by decide) (by decide) (by decide) (by decide) (by rfl) (by rfl) (by decide) hp)
        exact sq_topN hF (sq_109 (x15 := 0) (Or.inr ⟨hU, rfl⟩) (sq_126 (x16 := 0) (Or.inr ⟨hV, rfl⟩) (sq_152 hw (sq_173 (x19 := 0) (by decide) (fun _ => H 1) (fun _ => H 0)))))
end
section
theorem i_vc (xs : Nat → Int32) (L : Nat) (hL : L ≤ 5) : wpL_law (fun r => r = 1) L xs := by
  unfold wpL_law
  refine sq_cell 0 (by decide) hL rfl (fun r1 => ?_)
  refine sq_cell 1 (by decide) hL rfl (fun r2 => ?_)
  refine sq_cell 2 (by decide) hL rfl (fun r3 => ?_)
  refine sq_cell 3 (by decide) hL rfl (fun r4 => ?_)
  refine sq_cell 4 (by decide) hL rfl (fun r5 => ?_)
  exact ⟨11, 180, by decide, by decide, sq_law rfl⟩
end
