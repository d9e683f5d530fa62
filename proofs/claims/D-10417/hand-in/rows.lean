section
/-! part 1: indices, lanes, settle, sums, worked -/
section
variable {sz ht oq dp lv kn rs rz : Int32} {a1 a2 a3 a4 a5 a6 a7 a8 a9 a10 a11 a12 a13 a14 : Nat → Int32}
theorem zq_c {n : Nat} (h : n < 4000) : (nI n).toNatClampNeg = n := nI_clamp (by omega)
theorem zq_cl {x : Int32} {n : Nat} (hx : x = nI n) (h : n < 4000) : x.toNatClampNeg = n := by
  rw [hx]
  exact zq_c h
theorem zq_x1 (l i : Nat) : ((8 * (384 + nI l)) + nI i : Int32) = nI (3072 + (8 * l + i)) := by
  rw [show (8 : Int32) = nI 8 from rfl, show (384 : Int32) = nI 384 from rfl, nI_add, pk_mul, nI_add]
  exact congrArg nI (by omega)
theorem zq_x2 (l i : Nat) : ((8 * ((64 * nI 0) + nI l)) + nI i : Int32) = nI (8 * l + i) := by
  rw [show (8 : Int32) = nI 8 from rfl, show (64 : Int32) = nI 64 from rfl, pk_mul, nI_add, pk_mul, nI_add]
  exact congrArg nI (by omega)
theorem zq_x3 (l : Nat) : (384 + nI l : Int32) = nI (384 + l) := by
  rw [show (384 : Int32) = nI 384 from rfl, nI_add]
theorem zq_x4 (e l : Nat) : ((64 * nI e) + nI l : Int32) = nI (64 * e + l) := by
  rw [show (64 : Int32) = nI 64 from rfl, pk_mul, nI_add]
theorem zq_x5 (l : Nat) : ((64 * nI 0) + nI l : Int32) = nI l := by
  rw [zq_x4]
  exact congrArg nI (by omega)
theorem zq_x6 (e l : Nat) : (8 * ((64 * nI e) + nI l) : Int32) = nI (8 * (64 * e + l)) := by
  rw [zq_x4, show (8 : Int32) = nI 8 from rfl, pk_mul]
theorem zq_x7 (l : Nat) : (64 + nI l : Int32) = nI (64 + l) := by
  rw [show (64 : Int32) = nI 64 from rfl, nI_add]
theorem zq_x8 (e l : Nat) : ((8 * nI e) + nI l : Int32) = nI (8 * e + l) := by
  rw [show (8 : Int32) = nI 8 from rfl, pk_mul, nI_add]
theorem zq_x9 (e l : Nat) : ((512 * nI e) + nI l : Int32) = nI (512 * e + l) := by
  rw [show (512 : Int32) = nI 512 from rfl, pk_mul, nI_add]
theorem zq_x10 (e : Nat) : (64 * nI e : Int32) = nI (64 * e) := by
  rw [show (64 : Int32) = nI 64 from rfl, pk_mul]
theorem zq_cp {s f : Nat → Int32} {c i : Nat} (hc : 0 < c) (h : ∀ j, s j = if j < i then f (c + j) else f j) : ∀ j, upd s i (s (c + i)) j = if j < i + 1 then f (c + j) else f j := by
  intro j
  by_cases e : j = i
  · rw [e, pk_us, h (c + i), if_neg (by omega), if_pos (by omega)]
  · rw [pk_un e, h j]
    by_cases g : j < i
    · rw [if_pos g, if_pos (by omega)]
    · rw [if_neg g, if_neg (by omega)]
/-- which lane of level x a lane l of level t belongs to -/
def zq_own (a12 : Nat → Int32) (x t l o : Nat) : Prop := (x = t ∧ o = l) ∨ (x ≠ t ∧ x = 0 ∧ o = 0) ∨ (x ≠ t ∧ x ≠ 0 ∧ a12 (64 + l) = nI o)
theorem zq_laneAt {post : Int32 → Prop} {x t l o : Nat} (h : zq_own a12 x t l o) (hx : x < 3) (ht3 : t < 3) (hl : l < 64) (H : post (nI o)) : wpX_laneAt post (sz, ht, oq, dp, lv, kn, rs, rz, a1, a2, a3, a4, a5, a6, a7, a8, a9, a10, a11, a12, a13, a14) (nI x) (nI t) (nI l) := by
  unfold wpX_laneAt
  dsimp only
  rcases h with ⟨h1, h2⟩ | ⟨h1, h2, h3⟩ | ⟨h1, h2, h3⟩
  · exact pk_eq x t (fun _ => by rw [← h2]; exact H) (fun z => absurd h1 z)
  · exact pk_eq x t (fun z => absurd z h1) (fun _ => pk_eq x 0 (fun _ => by rw [h3] at H; exact H) (fun z => absurd h2 z))
  · refine pk_eq x t (fun z => absurd z h1) (fun _ => pk_eq x 0 (fun z => absurd z h2) (fun _ => ⟨pk_in (64 + l) 128 (by omega) (zq_x7 l), ?_⟩))
    rw [zq_cl (zq_x7 l) (by omega), h3]
    exact H
theorem zq_number {post : Int32 → Prop} {e x t l o k : Nat} (he : e < 7) (h7 : a7 e = nI x) (h : zq_own a12 x t l o) (hx : x < 3) (ht3 : t < 3) (hl : l < 64) (ho : o < 64) (hk : k = 64 * e + o) (H : post (a8 k)) : wpX_number post (sz, ht, oq, dp, lv, kn, rs, rz, a1, a2, a3, a4, a5, a6, a7, a8, a9, a10, a11, a12, a13, a14) (nI e) (nI t) (nI l) := by
  unfold wpX_number
  dsimp only
  refine ⟨pk_in e 7 he, ?_⟩
  rw [zq_c (n := e) (by omega), h7]
  refine zq_laneAt h hx ht3 hl ⟨pk_in (64 * e + o) 448 (by omega) (zq_x4 e o), ?_⟩
  rw [zq_cl (zq_x4 e o) (by omega), ← hk]
  exact H
theorem zq_cells {post : Int32 → Prop} {e x t l o k : Nat} (he : e < 7) (h7 : a7 e = nI x) (h : zq_own a12 x t l o) (hx : x < 3) (ht3 : t < 3) (hl : l < 64) (hk : k = 8 * (64 * e + o)) (H : post (nI k)) : wpX_cells post (sz, ht, oq, dp, lv, kn, rs, rz, a1, a2, a3, a4, a5, a6, a7, a8, a9, a10, a11, a12, a13, a14) (nI e) (nI t) (nI l) := by
  unfold wpX_cells
  dsimp only
  refine ⟨pk_in e 7 he, ?_⟩
  rw [zq_c (n := e) (by omega), h7]
  refine zq_laneAt h hx ht3 hl ?_
  rw [zq_x6 e o, ← hk]
  exact H
theorem zq_settle43 {post : St1 → Prop} {J : Int32 → (Nat → Int32) → (Nat → Int32) → (Nat → Int32) → (Nat → Int32) → (Nat → Int32) → (Nat → Int32) → (Nat → Int32) → (Nat → Int32) → (Nat → Int32) → (Nat → Int32) → (Nat → Int32) → (Nat → Int32) → (Nat → Int32) → (Nat → Int32) → Prop} {x2 : Int32} {l : Nat} {g : Nat → Int32} (hl : l < 64) (h9 : ∀ j, a9 j = if j < 8 * l then g (3072 + j) else g j)
    (H : ∀ b9 : Nat → Int32, (∀ j, b9 j = if j < 8 * (l + 1) then g (3072 + j) else g j) → J (nI (l + 1)) a1 a2 a3 a4 a5 a6 a7 a8 b9 a10 a11 a12 a13 a14) : ∃ n, wX_settle_43 post J (nI 0) x2 (nI l) sz ht oq dp lv kn rs rz n 0 a1 a2 a3 a4 a5 a6 a7 a8 a9 a10 a11 a12 a13 a14 :=
  pk_loop (fun n i s => wX_settle_43 post J (nI 0) x2 (nI l) sz ht oq dp lv kn rs rz n (nI i) a1 a2 a3 a4 a5 a6 a7 a8 s a10 a11 a12 a13 a14) (fun i s => ∀ j, s j = if j < 8 * l + i then g (3072 + j) else g j) 8 0 a9 (by omega) h9
    (fun n s h => pk_le 8 8 (fun _ => nm_r (nI_1 l) (H s h)) (fun z => absurd z (by omega)))
    (fun n i s hi h hw => pk_le 8 i (fun z => absurd z (by omega)) (fun _ => ⟨pk_in _ 3584 (by omega) (zq_x1 l i), pk_in _ 3584 (by omega) (zq_x2 l i), nm_r (by rw [zq_cl (zq_x2 l i) (by omega), zq_cl (zq_x1 l i) (by omega)] <;> rfl) (nm_r (nI_1 i) (hw _ (zq_cp (by omega) h)))⟩))
theorem zq_settle9 {post : St1 → Prop} {t N : Nat} (ht3 : t < 3) (hN : N ≤ 64) (h10 : a10 t = nI N)
    (H : ∀ b8 b9 : Nat → Int32, (∀ j, b8 j = if j < N then a8 (384 + j) else a8 j) → (∀ j, b9 j = if j < 8 * N then a9 (3072 + j) else a9 j) → post (sz, ht, oq, dp, lv, kn, rs, rz, a1, a2, a3, a4, a5, a6, a7, b8, b9, a10, a11, a12, a13, a14)) : ∃ n, wX_settle_9 post (nI 0) (nI t) sz ht oq dp lv kn rs rz n 0 a1 a2 a3 a4 a5 a6 a7 a8 a9 a10 a11 a12 a13 a14 :=
  pk_loop (σ := (Nat → Int32) × (Nat → Int32)) (fun n i s => wX_settle_9 post (nI 0) (nI t) sz ht oq dp lv kn rs rz n (nI i) a1 a2 a3 a4 a5 a6 a7 s.1 s.2 a10 a11 a12 a13 a14)
    (fun i s => (∀ j, s.1 j = if j < i then a8 (384 + j) else a8 j) ∧ (∀ j, s.2 j = if j < 8 * i then a9 (3072 + j) else a9 j)) N 0 (a8, a9) (by omega)
    ⟨fun j => by rw [if_neg (by omega)], fun j => by rw [if_neg (by omega)]⟩
    (fun n s h => ⟨pk_in t 3 ht3, pk_le N N (fun _ => H s.1 s.2 h.1 h.2) (fun z => absurd z (by omega)) (hx := by rw [zq_c (by omega), h10])⟩)
    (fun n i s hi h hw => ⟨pk_in t 3 ht3, pk_le N i (fun z => absurd z (by omega)) (fun _ => ⟨pk_in _ 448 (by omega) (zq_x3 i), pk_in _ 448 (by omega) (zq_x5 i), nm_r (by rw [zq_cl (zq_x5 i) (by omega), zq_cl (zq_x3 i) (by omega)] <;> rfl) (zq_settle43 (by omega) h.2 (fun b9 hb => hw (upd s.1 i (s.1 (384 + i)), b9) ⟨zq_cp (by omega) h.1, hb⟩))⟩) (hx := by rw [zq_c (by omega), h10])⟩)
theorem zq_settle {post : St1 → Prop} {t N : Nat} (ht3 : t < 3) (hN : N ≤ 64) (h10 : a10 t = nI N)
    (H : ∀ b8 b9 : Nat → Int32, (∀ j, b8 j = if j < N then a8 (384 + j) else a8 j) → (∀ j, b9 j = if j < 8 * N then a9 (3072 + j) else a9 j) → post (sz, ht, oq, dp, lv, kn, rs, rz, a1, a2, a3, a4, a5, a6, upd a7 0 (nI t), b8, b9, a10, a11, a12, a13, a14)) : wpX_settle post (sz, ht, oq, dp, lv, kn, rs, rz, a1, a2, a3, a4, a5, a6, a7, a8, a9, a10, a11, a12, a13, a14) (nI 0) (nI t) :=
  ⟨pk_in 0 7 (by omega), nm_r (by rw [zq_c (by omega)] <;> rfl) (zq_settle9 ht3 hN h10 H)⟩
/-- a sum of the first n -/
def zq_sm (f : Nat → Int32) : Nat → Int32
  | 0 => 0
  | n + 1 => zq_sm f n + f n
theorem zq_sumOf {post : Int32 → Prop} {c s : Nat} (hc : c + s ≤ 3584) (H : post (zq_sm (fun j => a9 (c + j)) s)) : wpX_sumOf post (sz, ht, oq, dp, lv, kn, rs, rz, a1, a2, a3, a4, a5, a6, a7, a8, a9, a10, a11, a12, a13, a14) (nI c) (nI s) :=
  pk_loop (σ := Unit) (fun n i _ => wX_sumOf_5 post (nI c) (nI s) sz ht oq dp lv kn rs rz a1 a2 a3 a4 a5 a6 a7 a8 a9 a10 a11 a12 a13 a14 n (zq_sm (fun j => a9 (c + j)) i) (nI i)) (fun _ _ => True) s 0 () (by omega) trivial
    (fun n _ _ => pk_le s s (fun _ => H) (fun z => absurd z (by omega)))
    (fun n i _ hi _ hw => pk_le s i (fun z => absurd z (by omega)) (fun _ => ⟨pk_in _ 3584 (by omega) (nI_add c i), nm_r (by rw [zq_cl (nI_add c i) (by omega)]; rfl) (nm_r (nI_1 i) (hw () trivial))⟩))
/-- what worked answers, for the kinds 3 to 8 -/
def zq_wk (k : Nat) (n m : Int32) : Int32 := if k = 3 then n + m else if k = 4 then n - m else if k = 5 then n * m else if k = 6 then (if m = 0 then 0 else n / m) else if k = 7 then (if m ≤ n then 0 else 1) else (if n = m then 1 else 0)
theorem zq_worked {post : Int32 → Prop} {k : Nat} {n m : Int32} (h1 : 3 ≤ k) (h2 : k ≤ 8) (H : post (zq_wk k n m)) : wpX_worked post () (nI k) n m := by
  rcases (show k = 3 ∨ k = 4 ∨ k = 5 ∨ k = 6 ∨ k = 7 ∨ k = 8 by omega) with rfl | rfl | rfl | rfl | rfl | rfl
  · exact br_f (by decide) (br_f (by decide) (br_t (by decide) H))
  · exact br_f (by decide) (br_f (by decide) (br_f (by decide) (br_t (by decide) H)))
  · exact br_f (by decide) (br_f (by decide) (br_f (by decide) (br_f (by decide) (br_t (by decide) H))))
  · refine br_f (by decide) (br_f (by decide) (br_f (by decide) (br_f (by decide) (br_f (by decide) (br_t (by decide) (br_c (fun z => ?_) (fun z => ⟨z, ?_⟩)))))))
    · have e : zq_wk 6 n m = 0 := if_pos z
      rw [e] at H
      exact H
    · have e : zq_wk 6 n m = n / m := if_neg z
      rw [e] at H
      exact H
  · refine br_f (by decide) (br_f (by decide) (br_f (by decide) (br_f (by decide) (br_f (by decide) (br_f (by decide) (br_t (by decide) (br_c (fun z => ?_) (fun z => ?_))))))))
    · have e : zq_wk 7 n m = 0 := if_pos z
      rw [e] at H
      exact H
    · have e : zq_wk 7 n m = 1 := if_neg z
      rw [e] at H
      exact H
  · refine br_f (by decide) (br_t (by decide) (br_c (fun z => ?_) (fun z => ?_)))
    · have e : zq_wk 8 n m = 1 := if_pos z
      rw [e] at H
      exact H
    · have e : zq_wk 8 n m = 0 := if_neg z
      rw [e] at H
      exact H
end
end
section
/-! part 2: what the tokens take, overNumbers, overRow, combine -/
section
variable {sz ht oq dp lv kn rs rz : Int32} {a1 a2 a3 a4 a5 a6 a7 a8 a9 a10 a11 a12 a13 a14 : Nat → Int32}
theorem zq_taken0 {post : Int32 → Prop} {k : Nat} (hk : k ≤ 2) (H : post 0) : wpX_taken post () (nI k) :=
  pk_lt 2 k (fun z => absurd z (by omega)) (fun _ => H)
theorem zq_taken2 {post : Int32 → Prop} {k : Nat} (h1 : 3 ≤ k) (h2 : k ≤ 8) (H : post 2) : wpX_taken post () (nI k) :=
  pk_lt 2 k (fun _ => pk_eq k 9 (fun z => absurd z (by omega)) (fun _ => pk_le k 8 (fun _ => H) (fun z => absurd z (by omega)))) (fun z => absurd z (by omega))
theorem zq_taken3 {post : Int32 → Prop} (H : post 3) : wpX_taken post () (nI 9) :=
  pk_lt 2 9 (fun _ => pk_eq 9 9 (fun _ => H) (fun z => absurd rfl z)) (fun z => absurd z (by omega))
theorem zq_taken1 {post : Int32 → Prop} {k : Nat} (hk : k = 11 ∨ k = 19 ∨ k = 20 ∨ k = 21) (H : post 1) : wpX_taken post () (nI k) :=
  pk_lt 2 k (fun _ => pk_eq k 9 (fun z => absurd z (by omega)) (fun _ => pk_le k 8 (fun z => absurd z (by omega)) (fun _ => pk_eq k 13 (fun z => absurd z (by omega)) (fun _ => pk_eq k 15 (fun z => absurd z (by omega)) (fun _ => H))))) (fun z => absurd z (by omega))
theorem zq_tr0 {post : Int32 → Prop} {k : Nat} {i : Int32} (hk : k < 10) (H : post 0) : wpX_takesRow post () (nI k) i :=
  pk_lt k 10 (fun _ => H) (fun z => absurd z (by omega))
theorem zq_tr1 {post : Int32 → Prop} {k : Nat} {i : Int32} (hk : k = 11 ∨ k = 19 ∨ k = 20) (H : post 1) : wpX_takesRow post () (nI k) i := by
  rcases hk with rfl | rfl | rfl
  · exact br_f (by decide) (br_f (by decide) (br_f (by decide) (br_t (by decide) H)))
  · exact br_f (by decide) (br_f (by decide) (br_f (by decide) (br_f (by decide) (br_f (by decide) (br_f (by decide) (br_f (by decide) (br_f (by decide) (br_f (by decide) (br_f (by decide) (br_f (by decide) (br_t (by decide) H)))))))))))
  · exact br_f (by decide) (br_f (by decide) (br_f (by decide) (br_f (by decide) (br_f (by decide) (br_f (by decide) (br_f (by decide) (br_f (by decide) (br_f (by decide) (br_f (by decide) (br_f (by decide) (br_f (by decide) (br_t (by decide) H))))))))))))
theorem zq_overRow {post : St1 → Prop} {t l s : Nat} (h7 : a7 0 = nI t) (ht3 : t < 3) (hl : l < 64) (hs : s ≤ 8) (h8 : a8 l = nI s)
    (H : post (sz, ht, oq, dp, lv, kn, rs, rz, a1, a2, a3, a4, a5, a6, a7, upd a8 (384 + l) (zq_sm (fun j => a9 (8 * l + j)) s), a9, a10, a11, a12, a13, a14)) : wpX_overRow post (sz, ht, oq, dp, lv, kn, rs, rz, a1, a2, a3, a4, a5, a6, a7, a8, a9, a10, a11, a12, a13, a14) (nI 11) (nI 0) (nI t) (nI l) := by
  unfold wpX_overRow
  dsimp only
  refine nm_r (zq_x3 l) ?_
  refine zq_number (e := 0) (x := t) (o := l) (k := l) (by omega) h7 (Or.inl ⟨rfl, rfl⟩) ht3 ht3 hl hl (by omega) ?_
  refine zq_cells (e := 0) (x := t) (o := l) (k := 8 * l) (by omega) h7 (Or.inl ⟨rfl, rfl⟩) ht3 ht3 hl (by omega) ?_
  rw [h8]
  refine br_f (by decide) (br_f (by decide) (br_f (by decide) (br_t (by decide) ?_)))
  exact zq_sumOf (by omega) ⟨pk_in (384 + l) 448 (by omega), nm_r (by rw [zq_c (by omega)] <;> rfl) H⟩
theorem zq_overBin {post : St1 → Prop} {k t l x0 x1 o0 o1 : Nat} {X Y : Int32} (hk1 : 3 ≤ k) (hk2 : k ≤ 8) (ht3 : t < 3) (hl : l < 64) (hx0 : x0 < 3) (hx1 : x1 < 3)
    (h70 : a7 0 = nI x0) (h71 : a7 1 = nI x1) (ho0 : o0 < 64) (ho1 : o1 < 64) (hX : zq_own a12 x0 t l o0) (hY : zq_own a12 x1 t l o1) (h8X : a8 o0 = X) (h8Y : a8 (64 + o1) = Y)
    (H : post (sz, ht, oq, dp, lv, kn, rs, rz, a1, a2, a3, a4, a5, a6, a7, upd a8 (384 + l) (zq_wk k X Y), a9, a10, a11, a12, a13, a14)) : wpX_overNumbers post (sz, ht, oq, dp, lv, kn, rs, rz, a1, a2, a3, a4, a5, a6, a7, a8, a9, a10, a11, a12, a13, a14) (nI k) (nI 0) (nI t) (nI l) := by
  unfold wpX_overNumbers
  dsimp only
  refine nm_r (zq_x3 l) ?_
  refine zq_number (e := 0) (k := o0) (by omega) h70 hX hx0 ht3 hl ho0 (by omega) ?_
  refine pk_eq k 14 (fun z => absurd z (by omega)) (fun _ => pk_eq k 9 (fun z => absurd z (by omega)) (fun _ => ?_))
  rw [show (nI 0 + 1 : Int32) = nI 1 from nI_1 0]
  refine zq_number (e := 1) (k := 64 + o1) (by omega) h71 hY hx1 ht3 hl ho1 (by omega) ?_
  rw [h8X, h8Y]
  exact zq_worked hk1 hk2 ⟨pk_in (384 + l) 448 (by omega), nm_r (by rw [zq_c (by omega)] <;> rfl) H⟩
theorem zq_overPick {post : St1 → Prop} {t l x0 x1 x2 o0 o1 o2 : Nat} {X Y Z : Int32} (ht3 : t < 3) (hl : l < 64) (hx0 : x0 < 3) (hx1 : x1 < 3) (hx2 : x2 < 3)
    (h70 : a7 0 = nI x0) (h71 : a7 1 = nI x1) (h72 : a7 2 = nI x2) (ho0 : o0 < 64) (ho1 : o1 < 64) (ho2 : o2 < 64) (hX : zq_own a12 x0 t l o0) (hY : zq_own a12 x1 t l o1) (hZ : zq_own a12 x2 t l o2)
    (h8X : a8 o0 = X) (h8Y : a8 (64 + o1) = Y) (h8Z : a8 (128 + o2) = Z)
    (H : post (sz, ht, oq, dp, lv, kn, rs, rz, a1, a2, a3, a4, a5, a6, a7, upd a8 (384 + l) (if X = 0 then Z else Y), a9, a10, a11, a12, a13, a14)) : wpX_overNumbers post (sz, ht, oq, dp, lv, kn, rs, rz, a1, a2, a3, a4, a5, a6, a7, a8, a9, a10, a11, a12, a13, a14) (nI 9) (nI 0) (nI t) (nI l) := by
  unfold wpX_overNumbers
  dsimp only
  refine nm_r (zq_x3 l) ?_
  refine zq_number (e := 0) (k := o0) (by omega) h70 hX hx0 ht3 hl ho0 (by omega) ?_
  refine pk_eq 9 14 (fun z => absurd z (by omega)) (fun _ => pk_eq 9 9 (fun _ => ?_) (fun z => absurd rfl z))
  rw [show (nI 0 + 1 : Int32) = nI 1 from nI_1 0, show (nI 0 + 2 : Int32) = nI 2 from nI_add 0 2, h8X]
  refine br_c (fun z => ?_) (fun z => ?_)
  · refine zq_number (e := 2) (k := 128 + o2) (by omega) h72 hZ hx2 ht3 hl ho2 (by omega) ?_
    rw [h8Z]
    rw [if_pos z] at H
    exact ⟨pk_in (384 + l) 448 (by omega), nm_r (by rw [zq_c (by omega)] <;> rfl) H⟩
  · refine zq_number (e := 1) (k := 64 + o1) (by omega) h71 hY hx1 ht3 hl ho1 (by omega) ?_
    rw [h8Y]
    rw [if_neg z] at H
    exact ⟨pk_in (384 + l) 448 (by omega), nm_r (by rw [zq_c (by omega)] <;> rfl) H⟩
theorem zq_deeper {post : Int32 → Prop} {e x t : Nat} (he : e < 7) (hx : x < 3) (ht3 : t < 3) (h7 : a7 e = nI x) (H : post (nI (max x t))) : wpX_deeper post (sz, ht, oq, dp, lv, kn, rs, rz, a1, a2, a3, a4, a5, a6, a7, a8, a9, a10, a11, a12, a13, a14) (nI e) (nI t) := by
  unfold wpX_deeper
  dsimp only
  refine ⟨pk_in e 7 he, ?_⟩
  rw [zq_c (n := e) (by omega), h7]
  refine pk_le x t (fun z => ?_) (fun z => ⟨pk_in e 7 he, ?_⟩)
  · rw [Nat.max_eq_right z] at H
    exact H
  · rw [Nat.max_eq_left (by omega)] at H
    exact H
theorem zq_comb53 {post : St1 → Prop} {k t N : Nat} {r : Int32} {V : Nat → Int32} (ht3 : t < 3) (hN : N ≤ 64) (h10 : a10 t = nI N)
    (hs : ∀ (Q : St1 → Prop) (b8 : Nat → Int32) (l : Nat), l < N → (∀ j, j < 384 → b8 j = a8 j) → Q (sz, ht, oq, dp, lv, kn, rs, rz, a1, a2, a3, a4, a5, a6, a7, upd b8 (384 + l) (V l), a9, a10, a11, a12, a13, a14) →
      (r = 0 → wpX_overNumbers Q (sz, ht, oq, dp, lv, kn, rs, rz, a1, a2, a3, a4, a5, a6, a7, b8, a9, a10, a11, a12, a13, a14) (nI k) (nI 0) (nI t) (nI l)) ∧ (¬ r = 0 → wpX_overRow Q (sz, ht, oq, dp, lv, kn, rs, rz, a1, a2, a3, a4, a5, a6, a7, b8, a9, a10, a11, a12, a13, a14) (nI k) (nI 0) (nI t) (nI l)))
    (H : ∀ b7 b8 b9 : Nat → Int32, b7 0 = nI t → (∀ l, l < N → b8 l = V l) → post (sz, ht, oq, nI 1, lv, kn, rs, rz, a1, a2, a3, a4, a5, a6, b7, b8, b9, a10, a11, a12, a13, a14)) : ∃ n, wX_combine_53 post (nI k) (nI 0) (nI t) r n 0 sz ht oq dp lv kn rs rz a1 a2 a3 a4 a5 a6 a7 a8 a9 a10 a11 a12 a13 a14 :=
  pk_loop (fun n i s => wX_combine_53 post (nI k) (nI 0) (nI t) r n (nI i) sz ht oq dp lv kn rs rz a1 a2 a3 a4 a5 a6 a7 s a9 a10 a11 a12 a13 a14) (fun i s => (∀ j, j < 384 → s j = a8 j) ∧ ∀ j, j < i → s (384 + j) = V j) N 0 a8 (by omega)
    ⟨fun _ _ => rfl, fun j hj => absurd hj (by omega)⟩
    (fun n s h => ⟨pk_in t 3 ht3, pk_le N N (fun _ => zq_settle ht3 hN h10 (fun b8 b9 e8 e9 => nm_r (nI_1 0) (H _ b8 b9 pk_us (fun l hl => by rw [e8 l, if_pos hl]; exact h.2 l hl)))) (fun z => absurd z (by omega)) (hx := by rw [zq_c (by omega), h10])⟩)
    (fun n i s hi h hw => ⟨pk_in t 3 ht3, pk_le N i (fun z => absurd z (by omega)) (fun _ => hs _ s i hi h.1 (nm_r (nI_1 i) (hw (upd s (384 + i) (V i))
      ⟨fun j hj => by rw [pk_un (by omega)]; exact h.1 j hj, fun j hj => by
        by_cases e : j = i
        · rw [e, pk_us]
        · rw [pk_un (by omega)]
          exact h.2 j (by omega)⟩))) (hx := by rw [zq_c (by omega), h10])⟩)
theorem zq_comb18 {post : St1 → Prop} {k t d : Nat} {x m : Nat → Nat} {r : Int32} (hd : d ≤ 3) (hx : ∀ e, e < d → x e < 3 ∧ a7 e = nI (x e)) (hm : ∀ i, i ≤ d → m i < 3) (m0 : m 0 = 0) (ms : ∀ i, i < d → m (i + 1) = max (x i) (m i)) (mt : m d = t)
    (hr : ∀ Q : Int32 → Prop, Q r → wpX_takesRow Q () (nI k) 0) (H : ∃ n, wX_combine_53 post (nI k) (nI 0) (nI t) r n 0 sz ht oq (nI d) lv kn rs rz a1 a2 a3 a4 a5 a6 a7 a8 a9 a10 a11 a12 a13 a14) : ∃ n, wX_combine_18 post (nI k) (nI 0) sz ht oq (nI d) lv kn rs rz a1 a2 a3 a4 a5 a6 a7 a8 a9 a10 a11 a12 a13 a14 n 0 (nI 0) := by
  have h := pk_loop (σ := Unit) (fun n i _ => wX_combine_18 post (nI k) (nI 0) sz ht oq (nI d) lv kn rs rz a1 a2 a3 a4 a5 a6 a7 a8 a9 a10 a11 a12 a13 a14 n (nI (m i)) (nI i)) (fun _ _ => True) d 0 () (by omega) trivial
    (fun n _ _ => pk_le d d (fun _ => hr _ (by rw [mt]; exact H)) (fun z => absurd z (by omega)))
    (fun n i _ hi _ hw => pk_le d i (fun z => absurd z (by omega)) (fun _ => zq_deeper (by omega) (hx i hi).1 (hm i (by omega)) (hx i hi).2 (nm_r (nI_1 i) (by rw [← ms i hi]; exact hw () trivial))))
  obtain ⟨n, hn⟩ := h
  have hn' : wX_combine_18 post (nI k) (nI 0) sz ht oq (nI d) lv kn rs rz a1 a2 a3 a4 a5 a6 a7 a8 a9 a10 a11 a12 a13 a14 n (nI (m 0)) (nI 0) := hn
  rw [m0] at hn'
  exact ⟨n, hn'⟩
theorem zq_comb {post : St1 → Prop} {k t d N : Nat} {x m : Nat → Nat} {r : Int32} {V : Nat → Int32} (hd : d ≤ 3) (htk : ∀ Q : Int32 → Prop, Q (nI d) → wpX_taken Q () (nI k)) (hx : ∀ e, e < d → x e < 3 ∧ a7 e = nI (x e)) (hm : ∀ i, i ≤ d → m i < 3) (m0 : m 0 = 0) (ms : ∀ i, i < d → m (i + 1) = max (x i) (m i)) (mt : m d = t)
    (hr : ∀ Q : Int32 → Prop, Q r → wpX_takesRow Q () (nI k) 0) (ht3 : t < 3) (hN : N ≤ 64) (h10 : a10 t = nI N)
    (hs : ∀ (Q : St1 → Prop) (b8 : Nat → Int32) (l : Nat), l < N → (∀ j, j < 384 → b8 j = a8 j) → Q (sz, ht, oq, nI d, lv, kn, rs, rz, a1, a2, a3, a4, a5, a6, a7, upd b8 (384 + l) (V l), a9, a10, a11, a12, a13, a14) →
      (r = 0 → wpX_overNumbers Q (sz, ht, oq, nI d, lv, kn, rs, rz, a1, a2, a3, a4, a5, a6, a7, b8, a9, a10, a11, a12, a13, a14) (nI k) (nI 0) (nI t) (nI l)) ∧ (¬ r = 0 → wpX_overRow Q (sz, ht, oq, nI d, lv, kn, rs, rz, a1, a2, a3, a4, a5, a6, a7, b8, a9, a10, a11, a12, a13, a14) (nI k) (nI 0) (nI t) (nI l)))
    (H : ∀ b7 b8 b9 : Nat → Int32, b7 0 = nI t → (∀ l, l < N → b8 l = V l) → post (sz, ht, oq, nI 1, lv, kn, rs, rz, a1, a2, a3, a4, a5, a6, b7, b8, b9, a10, a11, a12, a13, a14)) : wpX_combine post (sz, ht, oq, nI d, lv, kn, rs, rz, a1, a2, a3, a4, a5, a6, a7, a8, a9, a10, a11, a12, a13, a14) (nI k) := by
  unfold wpX_combine
  dsimp only
  exact htk _ (nm_r (by rw [pk_sub (Nat.le_refl d), Nat.sub_self] <;> rfl) (zq_comb18 hd hx hm m0 ms mt hr (zq_comb53 ht3 hN h10 hs H)))
theorem zq_bin {post : St1 → Prop} {k t N x0 x1 : Nat} {X Y : Nat → Int32} (hk1 : 3 ≤ k) (hk2 : k ≤ 8) (h70 : a7 0 = nI x0) (h71 : a7 1 = nI x1) (hx0 : x0 < 3) (hx1 : x1 < 3) (hm : max x1 x0 = t) (hN : N ≤ 64) (h10 : a10 t = nI N)
    (hX : ∀ l, l < N → ∃ o, o < 64 ∧ zq_own a12 x0 t l o ∧ a8 o = X l) (hY : ∀ l, l < N → ∃ o, o < 64 ∧ zq_own a12 x1 t l o ∧ a8 (64 + o) = Y l)
    (H : ∀ b7 b8 b9 : Nat → Int32, b7 0 = nI t → (∀ l, l < N → b8 l = zq_wk k (X l) (Y l)) → post (sz, ht, oq, nI 1, lv, kn, rs, rz, a1, a2, a3, a4, a5, a6, b7, b8, b9, a10, a11, a12, a13, a14)) : wpX_combine post (sz, ht, oq, nI 2, lv, kn, rs, rz, a1, a2, a3, a4, a5, a6, a7, a8, a9, a10, a11, a12, a13, a14) (nI k) :=
  zq_comb (d := 2) (t := t) (r := 0) (x := fun e => if e = 0 then x0 else x1) (m := fun i => if i = 0 then 0 else if i = 1 then x0 else t) (V := fun l => zq_wk k (X l) (Y l)) (by omega) (fun Q h => zq_taken2 hk1 hk2 h)
    (fun e he => by
      rcases (show e = 0 ∨ e = 1 by omega) with rfl | rfl
      · exact ⟨hx0, h70⟩
      · exact ⟨hx1, h71⟩)
    (fun i hi => by
      rcases (show i = 0 ∨ i = 1 ∨ i = 2 by omega) with rfl | rfl | rfl
      · show 0 < 3
        omega
      · exact hx0
      · show t < 3
        omega)
    rfl
    (fun i hi => by
      rcases (show i = 0 ∨ i = 1 by omega) with rfl | rfl
      · show x0 = max x0 0
        omega
      · exact hm.symm)
    rfl (fun Q h => zq_tr0 (by omega) h) (by omega) hN h10
    (fun Q b8 l hl hb hQ => br_t rfl (by
      obtain ⟨o0, p0, q0, r0⟩ := hX l hl
      obtain ⟨o1, p1, q1, r1⟩ := hY l hl
      exact zq_overBin hk1 hk2 (by omega) (by omega) hx0 hx1 h70 h71 p0 p1 q0 q1 ((hb _ (by omega)).trans r0) ((hb _ (by omega)).trans r1) hQ))
    H
theorem zq_pick {post : St1 → Prop} {t N x1 x2 : Nat} {X Y Z : Nat → Int32} (h70 : a7 0 = nI t) (h71 : a7 1 = nI x1) (h72 : a7 2 = nI x2) (ht3 : t < 3) (hx1 : x1 ≤ t) (hx2 : x2 ≤ t) (hN : N ≤ 64) (h10 : a10 t = nI N)
    (hX : ∀ l, l < N → a8 l = X l) (hY : ∀ l, l < N → ∃ o, o < 64 ∧ zq_own a12 x1 t l o ∧ a8 (64 + o) = Y l) (hZ : ∀ l, l < N → ∃ o, o < 64 ∧ zq_own a12 x2 t l o ∧ a8 (128 + o) = Z l)
    (H : ∀ b7 b8 b9 : Nat → Int32, b7 0 = nI t → (∀ l, l < N → b8 l = if X l = 0 then Z l else Y l) → post (sz, ht, oq, nI 1, lv, kn, rs, rz, a1, a2, a3, a4, a5, a6, b7, b8, b9, a10, a11, a12, a13, a14)) : wpX_combine post (sz, ht, oq, nI 3, lv, kn, rs, rz, a1, a2, a3, a4, a5, a6, a7, a8, a9, a10, a11, a12, a13, a14) (nI 9) :=
  zq_comb (d := 3) (t := t) (r := 0) (x := fun e => if e = 0 then t else if e = 1 then x1 else x2) (m := fun i => if i = 0 then 0 else t) (V := fun l => if X l = 0 then Z l else Y l) (by omega) (fun Q h => zq_taken3 h)
    (fun e he => by
      rcases (show e = 0 ∨ e = 1 ∨ e = 2 by omega) with rfl | rfl | rfl
      · exact ⟨ht3, h70⟩
      · exact ⟨by show x1 < 3; omega, h71⟩
      · exact ⟨by show x2 < 3; omega, h72⟩)
    (fun i hi => by
      rcases (show i = 0 ∨ i = 1 ∨ i = 2 ∨ i = 3 by omega) with rfl | rfl | rfl | rfl
      · show 0 < 3
        omega
      · exact ht3
      · exact ht3
      · exact ht3)
    rfl
    (fun i hi => by
      rcases (show i = 0 ∨ i = 1 ∨ i = 2 by omega) with rfl | rfl | rfl
      · show t = max t 0
        omega
      · show t = max x1 t
        omega
      · show t = max x2 t
        omega)
    rfl (fun Q h => zq_tr0 (by omega) h) ht3 hN h10
    (fun Q b8 l hl hb hQ => br_t rfl (by
      obtain ⟨o1, p1, q1, r1⟩ := hY l hl
      obtain ⟨o2, p2, q2, r2⟩ := hZ l hl
      exact zq_overPick ht3 (by omega) ht3 (by omega) (by omega) h70 h71 h72 (show l < 64 by omega) p1 p2 (Or.inl ⟨rfl, rfl⟩) q1 q2 ((hb _ (by omega)).trans (hX l hl)) ((hb _ (by omega)).trans r1) ((hb _ (by omega)).trans r2) hQ))
    H
theorem zq_sum {post : St1 → Prop} {t N s : Nat} (h70 : a7 0 = nI t) (ht3 : t < 3) (hN : N ≤ 64) (hs : s ≤ 8) (h10 : a10 t = nI N) (h8 : ∀ l, l < N → a8 l = nI s)
    (H : ∀ b7 b8 b9 : Nat → Int32, b7 0 = nI t → (∀ l, l < N → b8 l = zq_sm (fun j => a9 (8 * l + j)) s) → post (sz, ht, oq, nI 1, lv, kn, rs, rz, a1, a2, a3, a4, a5, a6, b7, b8, b9, a10, a11, a12, a13, a14)) : wpX_combine post (sz, ht, oq, nI 1, lv, kn, rs, rz, a1, a2, a3, a4, a5, a6, a7, a8, a9, a10, a11, a12, a13, a14) (nI 11) :=
  zq_comb (d := 1) (t := t) (r := 1) (x := fun _ => t) (m := fun i => if i = 0 then 0 else t) (V := fun l => zq_sm (fun j => a9 (8 * l + j)) s) (by omega) (fun Q h => zq_taken1 (Or.inl rfl) h)
    (fun e he => by
      rcases (show e = 0 by omega) with rfl
      exact ⟨ht3, h70⟩)
    (fun i hi => by
      rcases (show i = 0 ∨ i = 1 by omega) with rfl | rfl
      · show 0 < 3
        omega
      · exact ht3)
    rfl
    (fun i hi => by
      rcases (show i = 0 by omega) with rfl
      show t = max t 0
      omega)
    rfl (fun Q h => zq_tr1 (Or.inl rfl) h) ht3 hN h10
    (fun Q b8 l hl hb hQ => br_f (by decide) (zq_overRow h70 ht3 (by omega) hs ((hb _ (by omega)).trans (h8 l hl)) hQ))
    H
end
end
section
/-! part 3: pushInput, pushElement, begin, end -/
section
variable {sz ht oq dp lv kn rs rz : Int32} {a1 a2 a3 a4 a5 a6 a7 a8 a9 a10 a11 a12 a13 a14 : Nat → Int32}
theorem zq_fill {f s : Nat → Int32} {i k : Nat} {x : Int32} (hk : k = i) (h : ∀ j, j < i → s j = f j) (hx : x = f i) : ∀ j, j < i + 1 → upd s k x j = f j := by
  intro j hj
  rw [hk]
  by_cases e : j = i
  · rw [e, pk_us, hx]
  · rw [pk_un e]
    exact h j (by omega)
theorem zq_put {f s : Nat → Int32} {c i : Nat} {x : Int32} (h : ∀ j, j < i → s (c + j) = f j) (hx : x = f i) : ∀ j, j < i + 1 → upd s (c + i) x (c + j) = f j := by
  intro j hj
  by_cases e : j = i
  · rw [e, pk_us, hx]
  · rw [pk_un (by omega)]
    exact h j (by omega)
theorem zq_keep {g s : Nat → Int32} {c i : Nat} {x : Int32} (h : ∀ j, j < c → s j = g j) : ∀ j, j < c → upd s (c + i) x j = g j := by
  intro j hj
  rw [pk_un (by omega)]
  exact h j hj
theorem zq_pushInput {post : St1 → Prop} {x s : Nat} (hx : x < 3) (hs : s ≤ 8) (h1 : a1 x = nI s)
    (H : ∀ b7 b8 b9 : Nat → Int32, b7 0 = nI 0 → b8 0 = nI s → (∀ e, e < s → b9 e = a2 (8 * x + e)) → post (sz, ht, oq, nI 1, lv, kn, rs, rz, a1, a2, a3, a4, a5, a6, b7, b8, b9, a10, a11, a12, a13, a14)) : wpX_pushInput post (sz, ht, oq, nI 0, lv, kn, rs, rz, a1, a2, a3, a4, a5, a6, a7, a8, a9, a10, a11, a12, a13, a14) (nI x) := by
  unfold wpX_pushInput
  dsimp only
  refine ⟨pk_in 0 7 (by omega), nm_e ⟨pk_in x 3 hx, pk_in _ 448 (by omega) (zq_x10 0), nm_e ?_⟩⟩
  rw [zq_cl (zq_x10 0) (by omega), zq_c (n := 0) (by omega), zq_c (n := x) (by omega), h1]
  exact pk_loop (fun n i b => wX_pushInput_30 post (nI x) sz ht oq (nI 0) lv kn rs rz n (nI i) a1 a2 a3 a4 a5 a6 (upd a7 0 0) (upd a8 (64 * 0) (nI s)) b a10 a11 a12 a13 a14) (fun i b => ∀ e, e < i → b e = a2 (8 * x + e)) s 0 a9 (by omega) (fun e he => absurd he (by omega))
    (fun n b h => ⟨pk_in x 3 hx, pk_le s s (fun _ => nm_r (nI_1 0) (H _ _ b pk_us pk_us h)) (fun z => absurd z (by omega)) (hx := by rw [zq_c (by omega), h1])⟩)
    (fun n i b hi h hw => ⟨pk_in x 3 hx, pk_le s i (fun z => absurd z (by omega)) (fun _ => ⟨pk_in _ 24 (by omega) (zq_x8 x i), pk_in _ 3584 (by omega) (zq_x9 0 i), nm_r (by rw [zq_cl (zq_x9 0 i) (by omega), zq_cl (zq_x8 x i) (by omega)] <;> rfl) (nm_r (nI_1 i) (hw _ (zq_fill (f := fun e => a2 (8 * x + e)) (by omega) h rfl)))⟩) (hx := by rw [zq_c (by omega), h1])⟩)
theorem zq_pushElement {post : St1 → Prop} {b d N : Nat} (hb : b < 2) (hd : d < 3) (hN : N ≤ 64) (h10 : a10 (b + 1) = nI N)
    (H : ∀ b8 : Nat → Int32, (∀ l, l < N → b8 (64 * d + l) = a11 (64 * b + l)) → (∀ j, j < 64 * d → b8 j = a8 j) → post (sz, ht, oq, nI (d + 1), lv, kn, rs, rz, a1, a2, a3, a4, a5, a6, upd a7 d (nI (b + 1)), b8, a9, a10, a11, a12, a13, a14)) : wpX_pushElement post (sz, ht, oq, nI d, lv, kn, rs, rz, a1, a2, a3, a4, a5, a6, a7, a8, a9, a10, a11, a12, a13, a14) (nI b) := by
  unfold wpX_pushElement
  dsimp only
  refine nm_r (nI_1 b) ⟨pk_in d 7 (by omega), nm_r (by rw [zq_c (n := d) (by omega)] <;> rfl) ?_⟩
  exact pk_loop (fun n i s => wX_pushElement_16 post (nI b) (nI (b + 1)) sz ht oq (nI d) lv kn rs rz n (nI i) a1 a2 a3 a4 a5 a6 (upd a7 d (nI (b + 1))) s a9 a10 a11 a12 a13 a14) (fun i s => (∀ l, l < i → s (64 * d + l) = a11 (64 * b + l)) ∧ ∀ j, j < 64 * d → s j = a8 j) N 0 a8 (by omega)
    ⟨fun e he => absurd he (by omega), fun _ _ => rfl⟩
    (fun n s h => ⟨pk_in (b + 1) 3 (by omega), pk_le N N (fun _ => nm_r (nI_1 d) (H s h.1 h.2)) (fun z => absurd z (by omega)) (hx := by rw [zq_c (by omega), h10])⟩)
    (fun n i s hi h hw => ⟨pk_in (b + 1) 3 (by omega), pk_le N i (fun z => absurd z (by omega)) (fun _ => ⟨pk_in _ 128 (by omega) (zq_x4 b i), pk_in _ 448 (by omega) (zq_x4 d i), nm_r (by rw [zq_cl (zq_x4 d i) (by omega), zq_cl (zq_x4 b i) (by omega)] <;> rfl) (nm_r (nI_1 i) (hw _ ⟨zq_put (f := fun l => a11 (64 * b + l)) h.1 rfl, zq_keep h.2⟩))⟩) (hx := by rw [zq_c (by omega), h10])⟩)
theorem zq_dm1 {l c s i : Nat} (hs : s ≤ 8) (hc : c = l * s) (hi : i < s) : (c + i) % s = i ∧ (c + i) / s = l := by
  rcases (show s = 0 ∨ s = 1 ∨ s = 2 ∨ s = 3 ∨ s = 4 ∨ s = 5 ∨ s = 6 ∨ s = 7 ∨ s = 8 by omega) with rfl | rfl | rfl | rfl | rfl | rfl | rfl | rfl | rfl <;> exact ⟨by omega, by omega⟩
theorem zq_begin76 {post : St1 → Prop} {J : Int32 → Int32 → (Nat → Int32) → (Nat → Int32) → (Nat → Int32) → (Nat → Int32) → (Nat → Int32) → (Nat → Int32) → (Nat → Int32) → (Nat → Int32) → (Nat → Int32) → (Nat → Int32) → (Nat → Int32) → (Nat → Int32) → (Nat → Int32) → (Nat → Int32) → Prop} {b l c s : Nat} {g h : Nat → Int32} (hb : b < 2) (hs : s ≤ 8) (hc : c = l * s) (hcs : c + s ≤ 64)
    (k1 : ∀ k, k < c → a11 (64 * b + k) = a9 (k % s) ∧ a12 (64 * b + k) = nI (k / s)) (k2 : ∀ j, j < 64 * b → a11 j = g j ∧ a12 j = h j)
    (H : ∀ b11 b12 : Nat → Int32, (∀ k, k < c + s → b11 (64 * b + k) = a9 (k % s) ∧ b12 (64 * b + k) = nI (k / s)) → (∀ j, j < 64 * b → b11 j = g j ∧ b12 j = h j) → J (nI (c + s)) (nI (l + 1)) a1 a2 a3 a4 a5 a6 a7 a8 a9 a10 b11 b12 a13 a14) :
    ∃ n, wX_begin_76 post J (nI b) (nI l) (nI s) (nI 0) sz ht oq dp lv kn rs rz n (nI c) 0 a1 a2 a3 a4 a5 a6 a7 a8 a9 a10 a11 a12 a13 a14 :=
  pk_loop (σ := (Nat → Int32) × (Nat → Int32)) (fun n i w => wX_begin_76 post J (nI b) (nI l) (nI s) (nI 0) sz ht oq dp lv kn rs rz n (nI (c + i)) (nI i) a1 a2 a3 a4 a5 a6 a7 a8 a9 a10 w.1 w.2 a13 a14)
    (fun i w => (∀ k, k < c + i → w.1 (64 * b + k) = a9 (k % s) ∧ w.2 (64 * b + k) = nI (k / s)) ∧ (∀ j, j < 64 * b → w.1 j = g j ∧ w.2 j = h j)) s 0 (a11, a12) (by omega) ⟨k1, k2⟩
    (fun n w z => pk_le s s (fun _ => nm_r (nI_1 l) (H w.1 w.2 z.1 z.2)) (fun z => absurd z (by omega)))
    (fun n i w hi z hw => pk_le s i (fun z => absurd z (by omega)) (fun _ => ⟨pk_in _ 3584 (by omega) (nI_add 0 i), pk_in _ 128 (by omega) (zq_x4 b (c + i)),
      nm_r (by rw [zq_cl (zq_x4 b (c + i)) (by omega), zq_cl (nI_add 0 i) (by omega)] <;> rfl) ⟨pk_in _ 128 (by omega) (zq_x4 b (c + i)), nm_r (by rw [zq_cl (zq_x4 b (c + i)) (by omega)] <;> rfl) (nm_r (nI_1 (c + i)) (nm_r (nI_1 i) (hw (upd w.1 (64 * b + (c + i)) (a9 (0 + i)), upd w.2 (64 * b + (c + i)) (nI l)) ⟨by
        intro k hk
        show upd w.1 (64 * b + (c + i)) (a9 (0 + i)) (64 * b + k) = a9 (k % s) ∧ upd w.2 (64 * b + (c + i)) (nI l) (64 * b + k) = nI (k / s)
        by_cases e : k = c + i
        · obtain ⟨d1, d2⟩ := zq_dm1 hs hc hi
          rw [e, pk_us, pk_us, d1, d2, Nat.zero_add]
          exact ⟨rfl, rfl⟩
        · rw [pk_un (by omega), pk_un (by omega)]
          exact z.1 k (by omega), by
        intro j hj
        show upd w.1 (64 * b + (c + i)) (a9 (0 + i)) j = g j ∧ upd w.2 (64 * b + (c + i)) (nI l) j = h j
        rw [pk_un (by omega), pk_un (by omega)]
        exact z.2 j hj⟩)))⟩⟩))
theorem zq_own0 {b l M : Nat} (hb : b < 2) (hM : b = 0 → M = 1) (hl : l < M) : zq_own a12 0 b l 0 := by
  rcases (show b = 0 ∨ b = 1 by omega) with rfl | rfl
  · exact Or.inl ⟨rfl, by have := hM rfl; omega⟩
  · exact Or.inr (Or.inl ⟨by omega, rfl, rfl⟩)
theorem zq_mul {l M s : Nat} (h : l < M) (hM : M ≤ 8) (hs : s ≤ 8) : l * s + s ≤ 64 := by
  rcases (show s = 0 ∨ s = 1 ∨ s = 2 ∨ s = 3 ∨ s = 4 ∨ s = 5 ∨ s = 6 ∨ s = 7 ∨ s = 8 by omega) with rfl | rfl | rfl | rfl | rfl | rfl | rfl | rfl | rfl <;> omega
theorem zq_begin {post : St1 → Prop} {b M s : Nat} {kk : Int32} (hb : b < 2) (hM : M ≤ 8) (hs : s ≤ 8) (hM1 : b = 0 → M = 1) (h10 : a10 b = nI M) (h7 : a7 0 = nI 0) (h8 : a8 0 = nI s)
    (H : ∀ b11 b12 : Nat → Int32, (∀ k, k < M * s → b11 (64 * b + k) = a9 (k % s) ∧ b12 (64 * b + k) = nI (k / s)) → (∀ j, j < 64 * b → b11 j = a11 j ∧ b12 j = a12 j) →
      post (sz, ht, oq, nI 0, nI (b + 1), kn, rs, rz, a1, a2, a3, a4, a5, a6, a7, a8, a9, upd a10 (b + 1) (nI (M * s)), b11, b12, upd a13 b kk, a14)) : wpX_begin post (sz, ht, oq, nI 1, nI b, kn, rs, rz, a1, a2, a3, a4, a5, a6, a7, a8, a9, a10, a11, a12, a13, a14) kk := by
  unfold wpX_begin
  dsimp only
  refine nm_r (show (nI 1 - 1 : Int32) = nI 0 from nI_pred 0) ⟨pk_in b 2 hb, nm_r (by rw [zq_c (n := b) (by omega)] <;> rfl) ?_⟩
  obtain ⟨n, hn⟩ := pk_loop (σ := (Nat → Int32) × (Nat → Int32)) (fun n i w => wX_begin_27 post (nI b) sz ht oq (nI 0) (nI b) kn rs rz n (nI (i * s)) (nI i) a1 a2 a3 a4 a5 a6 a7 a8 a9 a10 w.1 w.2 (upd a13 b kk) a14)
    (fun i w => (∀ k, k < i * s → w.1 (64 * b + k) = a9 (k % s) ∧ w.2 (64 * b + k) = nI (k / s)) ∧ (∀ j, j < 64 * b → w.1 j = a11 j ∧ w.2 j = a12 j)) M 0 (a11, a12) (by omega)
    ⟨fun k hk => absurd hk (by omega), fun _ _ => ⟨rfl, rfl⟩⟩
    (fun n w z => ⟨pk_in b 3 (by omega), pk_le M M (fun _ => nm_r (nI_1 b) ⟨pk_in (b + 1) 3 (by omega), nm_r (by rw [zq_c (by omega)] <;> rfl) (H w.1 w.2 z.1 z.2)⟩) (fun z => absurd z (by omega)) (hx := by rw [zq_c (by omega), h10])⟩)
    (fun n i w hi z hw => ⟨pk_in b 3 (by omega), pk_le M i (fun z => absurd z (by omega)) (fun _ =>
      zq_number (e := 0) (x := 0) (o := 0) (k := 0) (by omega) h7 (zq_own0 hb hM1 hi) (by omega) (by omega) (by omega) (by omega) (by omega)
        (zq_cells (e := 0) (x := 0) (o := 0) (k := 0) (by omega) h7 (zq_own0 hb hM1 hi) (by omega) (by omega) (by omega) (by omega) (by
          rw [h8]
          refine zq_begin76 hb hs rfl (zq_mul hi hM hs) z.1 z.2 (fun b11 b12 e1 e2 => ?_)
          have e : i * s + s = (i + 1) * s := (Nat.succ_mul i s).symm
          rw [e] at e1 ⊢
          exact hw (b11, b12) ⟨e1, e2⟩))) (hx := by rw [zq_c (by omega), h10])⟩)
  have hn' : wX_begin_27 post (nI b) sz ht oq (nI 0) (nI b) kn rs rz n (nI (0 * s)) (nI 0) a1 a2 a3 a4 a5 a6 a7 a8 a9 a10 a11 a12 (upd a13 b kk) a14 := hn
  rw [Nat.zero_mul] at hn'
  exact ⟨n, hn'⟩
theorem zq_end16 {post : St1 → Prop} {b M : Nat} (hb : b < 2) (hM : M ≤ 64) (h10 : a10 b = nI M)
    (H : ∀ b8 : Nat → Int32, (∀ j, j < M → b8 (384 + j) = 0) → (∀ j, j < 384 → b8 j = a8 j) → ∃ n, wX_end_45 post (nI b) (nI 0) sz ht oq dp lv kn rs rz n 0 a1 a2 a3 a4 a5 a6 a7 b8 a9 a10 a11 a12 a13 a14) : ∃ n, wX_end_16 post (nI b) (nI 0) sz ht oq dp lv kn rs rz n 0 a1 a2 a3 a4 a5 a6 a7 a8 a9 a10 a11 a12 a13 a14 :=
  pk_loop (fun n i s => wX_end_16 post (nI b) (nI 0) sz ht oq dp lv kn rs rz n (nI i) a1 a2 a3 a4 a5 a6 a7 s a9 a10 a11 a12 a13 a14) (fun i s => (∀ j, j < i → s (384 + j) = 0) ∧ ∀ j, j < 384 → s j = a8 j) M 0 a8 (by omega)
    ⟨fun e he => absurd he (by omega), fun _ _ => rfl⟩
    (fun n s h => ⟨pk_in b 3 (by omega), pk_le M M (fun _ => H s h.1 h.2) (fun z => absurd z (by omega)) (hx := by rw [zq_c (by omega), h10])⟩)
    (fun n i s hi h hw => ⟨pk_in b 3 (by omega), pk_le M i (fun z => absurd z (by omega)) (fun _ => ⟨pk_in _ 448 (by omega) (zq_x3 i), nm_r (by rw [zq_cl (zq_x3 i) (by omega)] <;> rfl) (nm_r (nI_1 i) (hw _ ⟨zq_put (f := fun _ => 0) h.1 rfl, zq_keep h.2⟩))⟩) (hx := by rw [zq_c (by omega), h10])⟩)
theorem zq_dm2 {i M s : Nat} (hs : s ≤ 8) (hM : M ≤ 8) (h : i < M * s) : i / s < M ∧ i % s < s ∧ i < 64 ∧ min s (i - i / s * s) = i % s ∧ min s (i + 1 - i / s * s) = i % s + 1 ∧ (∀ q, q ≠ i / s → min s (i + 1 - q * s) = min s (i - q * s)) ∧
    i / s * s + i % s = i ∧ (∀ q e, e < s → q * s + e < i + 1 → ¬ q * s + e < i → q = i / s ∧ e = i % s) := by
  rcases (show s = 0 ∨ s = 1 ∨ s = 2 ∨ s = 3 ∨ s = 4 ∨ s = 5 ∨ s = 6 ∨ s = 7 ∨ s = 8 by omega) with rfl | rfl | rfl | rfl | rfl | rfl | rfl | rfl | rfl <;>
    exact ⟨by omega, by omega, by omega, by omega, by omega, fun q hq => by omega, by omega, fun q e h1 h2 h3 => ⟨by omega, by omega⟩⟩
theorem zq_dm3 {q M s : Nat} (hs : s ≤ 8) (h : q < M) : min s (M * s - q * s) = s ∧ ∀ e, e < s → q * s + e < M * s := by
  rcases (show s = 0 ∨ s = 1 ∨ s = 2 ∨ s = 3 ∨ s = 4 ∨ s = 5 ∨ s = 6 ∨ s = 7 ∨ s = 8 by omega) with rfl | rfl | rfl | rfl | rfl | rfl | rfl | rfl | rfl <;>
    exact ⟨by omega, fun e he => by omega⟩
theorem zq_dm4 {M s : Nat} (hs : s ≤ 8) (hM : M ≤ 8) : M * s ≤ 64 := by
  rcases (show s = 0 ∨ s = 1 ∨ s = 2 ∨ s = 3 ∨ s = 4 ∨ s = 5 ∨ s = 6 ∨ s = 7 ∨ s = 8 by omega) with rfl | rfl | rfl | rfl | rfl | rfl | rfl | rfl | rfl <;> omega
theorem zq_end45E {post : St1 → Prop} {b M s : Nat} {V : Nat → Int32} (hb : b < 2) (hM : M ≤ 8) (hs : s ≤ 8) (h7 : a7 0 = nI (b + 1)) (h10 : a10 b = nI M) (h11 : a10 (b + 1) = nI (M * s)) (h13 : a13 b = 19)
    (h12 : ∀ i, i < M * s → a12 (64 * b + i) = nI (i / s)) (h0 : ∀ q, q < M → a8 (384 + q) = 0) (hV : ∀ i, i < M * s → a8 i = V i)
    (H : ∀ b7 b8 b9 : Nat → Int32, b7 0 = nI b → (∀ q, q < M → b8 q = nI s) → (∀ q e, q < M → e < s → b9 (8 * q + e) = V (q * s + e)) → post (sz, ht, oq, dp, nI b, kn, rs, rz, a1, a2, a3, a4, a5, a6, b7, b8, b9, a10, a11, a12, a13, a14)) :
    ∃ n, wX_end_45 post (nI b) (nI 0) sz ht oq dp (nI (b + 1)) kn rs rz n 0 a1 a2 a3 a4 a5 a6 a7 a8 a9 a10 a11 a12 a13 a14 := by
  have hMs := zq_dm4 hs hM
  exact pk_loop (σ := (Nat → Int32) × (Nat → Int32)) (fun n i w => wX_end_45 post (nI b) (nI 0) sz ht oq dp (nI (b + 1)) kn rs rz n (nI i) a1 a2 a3 a4 a5 a6 a7 w.1 w.2 a10 a11 a12 a13 a14)
    (fun i w => (∀ j, j < 384 → w.1 j = a8 j) ∧ (∀ q, q < M → w.1 (384 + q) = nI (min s (i - q * s))) ∧ (∀ q e, q < M → e < s → q * s + e < i → w.2 (3072 + (8 * q + e)) = V (q * s + e))) (M * s) 0 (a8, a9) (by omega)
    ⟨fun _ _ => rfl, fun q hq => by
      show a8 (384 + q) = nI (min s (0 - q * s))
      rw [h0 q hq, Nat.zero_sub, Nat.min_zero]
      rfl, fun q e _ _ hk => absurd hk (by omega)⟩
    (fun n w z => ⟨pk_in (b + 1) 3 (by omega), pk_le (M * s) (M * s) (fun _ => nm_r (nI_pred b) (zq_settle (N := M) (by omega) (by omega) h10 (fun b8 b9 e8 e9 => H _ b8 b9 pk_us
        (fun q hq => by rw [e8 q, if_pos hq, z.2.1 q hq, (zq_dm3 hs hq).1])
        (fun q e hq he => by rw [e9 (8 * q + e), if_pos (by omega)]; exact z.2.2 q e hq he ((zq_dm3 hs hq).2 e he))))) (fun z => absurd z (by omega)) (hx := by rw [zq_c (by omega), h11])⟩)
    (fun n i w hi z hw => ⟨pk_in (b + 1) 3 (by omega), pk_le (M * s) i (fun z => absurd z (by omega)) (fun _ => by
      obtain ⟨d1, d2, d3, d4, d5, d6, d7, d8⟩ := zq_dm2 hs hM hi
      refine zq_number (e := 0) (x := b + 1) (o := i) (k := i) (by omega) h7 (Or.inl ⟨rfl, rfl⟩) (by omega) (by omega) d3 d3 (by omega) ⟨pk_in _ 128 (by omega) (zq_x4 b i), nm_r (by rw [zq_cl (zq_x4 b i) (by omega), h12 i hi] <;> rfl) ⟨pk_in b 2 hb, br_t (by rw [zq_c (by omega), h13]) (br_f (by decide) ?_)⟩⟩
      have e8 : w.1 (384 + i / s) = nI (i % s) := by rw [z.2.1 _ d1, d4]
      refine nm_r (zq_x3 (i / s)) ⟨pk_in (384 + i / s) 448 (by omega), br_f (by decide) ?_⟩
      rw [zq_c (n := 384 + i / s) (by omega), e8, zq_x8 (384 + i / s) (i % s)]
      refine ⟨pk_in (8 * (384 + i / s) + i % s) 3584 (by omega), nm_r (by rw [zq_c (by omega), z.1 i (by omega), hV i hi] <;> rfl) ⟨pk_in (384 + i / s) 448 (by omega), pk_in (384 + i / s) 448 (by omega), nm_r (by rw [zq_c (n := 384 + i / s) (by omega), e8, nI_1] <;> rfl) (nm_r (nI_1 i) ?_)⟩⟩
      refine hw (upd w.1 (384 + i / s) (nI (i % s + 1)), upd w.2 (8 * (384 + i / s) + i % s) (V i)) ⟨fun j hj => ?_, fun q hq => ?_, fun q e hq he hk => ?_⟩
      · show upd w.1 (384 + i / s) (nI (i % s + 1)) j = a8 j
        rw [pk_un (Nat.ne_of_lt (Nat.lt_of_lt_of_le hj (Nat.le_add_right 384 _)))]
        exact z.1 j hj
      · show upd w.1 (384 + i / s) (nI (i % s + 1)) (384 + q) = nI (min s (i + 1 - q * s))
        by_cases g : q = i / s
        · rw [g, pk_us, d5]
        · rw [pk_un (by omega), d6 q g]
          exact z.2.1 q hq
      · show upd w.2 (8 * (384 + i / s) + i % s) (V i) (3072 + (8 * q + e)) = V (q * s + e)
        by_cases g : q * s + e < i
        · rw [pk_un (by
            intro f
            have f1 : q = i / s := by omega
            have f2 : e = i % s := by omega
            rw [f1, f2, d7] at g
            omega)]
          exact z.2.2 q e hq he g
        · obtain ⟨f1, f2⟩ := d8 q e he hk g
          rw [f1, f2, d7, show 3072 + (8 * (i / s) + i % s) = 8 * (384 + i / s) + i % s by omega, pk_us]) (hx := by rw [zq_c (by omega), h11])⟩)
theorem zq_endE {post : St1 → Prop} {b M s : Nat} {V : Nat → Int32} (hb : b < 2) (hM : M ≤ 8) (hs : s ≤ 8) (h7 : a7 0 = nI (b + 1)) (h10 : a10 b = nI M) (h11 : a10 (b + 1) = nI (M * s)) (h13 : a13 b = 19)
    (h12 : ∀ i, i < M * s → a12 (64 * b + i) = nI (i / s)) (hV : ∀ i, i < M * s → a8 i = V i)
    (H : ∀ b7 b8 b9 : Nat → Int32, b7 0 = nI b → (∀ q, q < M → b8 q = nI s) → (∀ q e, q < M → e < s → b9 (8 * q + e) = V (q * s + e)) → post (sz, ht, oq, nI 1, nI b, kn, rs, rz, a1, a2, a3, a4, a5, a6, b7, b8, b9, a10, a11, a12, a13, a14)) : wpX_end post (sz, ht, oq, nI 1, nI (b + 1), kn, rs, rz, a1, a2, a3, a4, a5, a6, a7, a8, a9, a10, a11, a12, a13, a14) := by
  have hMs := zq_dm4 hs hM
  unfold wpX_end
  dsimp only
  exact nm_r (nI_pred b) (nm_r (nI_pred 0) (zq_end16 hb (by omega) h10 (fun b8 e1 e2 => zq_end45E hb hM hs h7 h10 h11 h13 h12 e1 (fun i hi => by rw [e2 i (by omega), hV i hi]) H)))
/-- how many of the first n are not 0 -/
def zq_ct (V : Nat → Int32) : Nat → Nat
  | 0 => 0
  | n + 1 => zq_ct V n + (if V n = 0 then 0 else 1)
theorem zq_ct_le (V : Nat → Int32) : ∀ n, zq_ct V n ≤ n := by
  intro n
  induction n with
  | zero => exact Nat.le_refl 0
  | succ n ih =>
    show zq_ct V n + (if V n = 0 then 0 else 1) ≤ n + 1
    split <;> omega
theorem zq_end45K {post : St1 → Prop} {N : Nat} {V : Nat → Int32} (hN : N ≤ 8) (h7 : a7 0 = nI 1) (h10 : a10 0 = nI 1) (h11 : a10 1 = nI N) (h13 : a13 0 = 20)
    (h12 : ∀ i, i < N → a12 i = nI 0) (h0 : a8 384 = 0) (hV : ∀ i, i < N → a8 i = V i)
    (H : ∀ b7 b8 b9 : Nat → Int32, b7 0 = nI 0 → b8 0 = nI (zq_ct V N) → post (sz, ht, oq, dp, nI 0, kn, rs, rz, a1, a2, a3, a4, a5, a6, b7, b8, b9, a10, a11, a12, a13, a14)) :
    ∃ n, wX_end_45 post (nI 0) (nI 0) sz ht oq dp (nI 1) kn rs rz n 0 a1 a2 a3 a4 a5 a6 a7 a8 a9 a10 a11 a12 a13 a14 :=
  pk_loop (σ := (Nat → Int32) × (Nat → Int32)) (fun n i w => wX_end_45 post (nI 0) (nI 0) sz ht oq dp (nI 1) kn rs rz n (nI i) a1 a2 a3 a4 a5 a6 a7 w.1 w.2 a10 a11 a12 a13 a14)
    (fun i w => (∀ j, j < 384 → w.1 j = a8 j) ∧ w.1 384 = nI (zq_ct V i)) N 0 (a8, a9) (by omega)
    ⟨fun _ _ => rfl, h0⟩
    (fun n w z => ⟨pk_in 1 3 (by omega), pk_le N N (fun _ => nm_r (nI_pred 0) (zq_settle (N := 1) (by omega) (by omega) h10 (fun b8 b9 e8 e9 => H _ b8 b9 pk_us
        (by rw [e8 0, if_pos (by omega)]; exact z.2)))) (fun z => absurd z (by omega)) (hx := by rw [zq_c (by omega), h11])⟩)
    (fun n i w hi z hw => ⟨pk_in 1 3 (by omega), pk_le N i (fun z => absurd z (by omega)) (fun _ => by
      have hc := zq_ct_le V i
      refine zq_number (e := 0) (x := 1) (o := i) (k := i) (by omega) h7 (Or.inl ⟨rfl, rfl⟩) (by omega) (by omega) (by omega) (by omega) (by omega) ⟨pk_in _ 128 (by omega) (zq_x5 i), nm_r (by rw [zq_cl (zq_x5 i) (by omega), h12 i hi] <;> rfl) ⟨pk_in 0 2 (by omega), br_f (by rw [zq_c (by omega), h13]; decide) (br_t rfl (br_c (fun g => ?_) (fun g => ?_)))⟩⟩
      · rw [z.1 i (by omega), hV i hi] at g
        refine nm_r (nI_1 i) (hw w ⟨z.1, ?_⟩)
        show w.1 384 = nI (zq_ct V i + (if V i = 0 then 0 else 1))
        rw [if_pos g]
        exact z.2
      · rw [z.1 i (by omega), hV i hi] at g
        have e8 : w.1 (384 + 0) = nI (zq_ct V i) := z.2
        refine nm_r (zq_x3 0) ⟨pk_in (384 + 0) 448 (by omega), br_t rfl ⟨pk_in _ 128 (by omega) (zq_x5 i), ?_⟩⟩
        rw [zq_c (n := 384 + 0) (by omega), e8, zq_x8 (384 + 0) (zq_ct V i)]
        refine ⟨pk_in (8 * (384 + 0) + zq_ct V i) 3584 (by omega), nm_e ⟨pk_in (384 + 0) 448 (by omega), pk_in (384 + 0) 448 (by omega), nm_r (by rw [zq_c (n := 384 + 0) (by omega), e8, nI_1] <;> rfl) (nm_r (nI_1 i) ?_)⟩⟩
        refine hw (upd w.1 (384 + 0) (nI (zq_ct V i + 1)), _) ⟨fun j hj => ?_, ?_⟩
        · show upd w.1 (384 + 0) (nI (zq_ct V i + 1)) j = a8 j
          rw [pk_un (by omega)]
          exact z.1 j hj
        · show upd w.1 (384 + 0) (nI (zq_ct V i + 1)) (384 + 0) = nI (zq_ct V i + (if V i = 0 then 0 else 1))
          rw [pk_us, if_neg g]) (hx := by rw [zq_c (by omega), h11])⟩)
theorem zq_endK {post : St1 → Prop} {N : Nat} {V : Nat → Int32} (hN : N ≤ 8) (h7 : a7 0 = nI 1) (h10 : a10 0 = nI 1) (h11 : a10 1 = nI N) (h13 : a13 0 = 20)
    (h12 : ∀ i, i < N → a12 i = nI 0) (hV : ∀ i, i < N → a8 i = V i)
    (H : ∀ b7 b8 b9 : Nat → Int32, b7 0 = nI 0 → b8 0 = nI (zq_ct V N) → post (sz, ht, oq, nI 1, nI 0, kn, rs, rz, a1, a2, a3, a4, a5, a6, b7, b8, b9, a10, a11, a12, a13, a14)) : wpX_end post (sz, ht, oq, nI 1, nI 1, kn, rs, rz, a1, a2, a3, a4, a5, a6, a7, a8, a9, a10, a11, a12, a13, a14) := by
  unfold wpX_end
  dsimp only
  exact nm_r (nI_pred 0) (nm_r (nI_pred 0) (zq_end16 (M := 1) (by omega) (by omega) h10 (fun b8 e1 e2 => zq_end45K hN h7 h10 h11 h13 h12 (e1 0 (by omega)) (fun i hi => by rw [e2 i (by omega), hV i hi]) H)))
end
end
section
/-! part 4: a step of work for each kind of token; the beginning and the end of work -/
/-- from step i on work runs to post (with any fuel that suffices) -/
def zq_R (post : St1 → Prop) (p i : Nat) (u : St1) : Prop := match u with
  | (sz, ht, oq, dp, lv, kn, rs, rz, a1, a2, a3, a4, a5, a6, a7, a8, a9, a10, a11, a12, a13, a14) => ∀ n, p - i < n → wX_work_58 post n (nI i) sz ht oq dp lv kn rs rz a1 a2 a3 a4 a5 a6 a7 a8 a9 a10 a11 a12 a13 a14
/-- the program from step i on is l, and ends there -/
def zq_at (a3 a4 : Nat → Int32) (p : Nat) : Nat → List (Int32 × Int32) → Prop
  | i, [] => i = p
  | i, x :: l => i < p ∧ a3 i = x.1 ∧ a4 i = x.2 ∧ zq_at a3 a4 p (i + 1) l
section
variable {sz ht oq dp lv kn rs rz : Int32} {a1 a2 a3 a4 a5 a6 a7 a8 a9 a10 a11 a12 a13 a14 : Nat → Int32}
theorem zq_step {post : St1 → Prop} {p i : Nat} {k x : Int32} {T : List (Int32 × Int32)} (hp : p ≤ 40) (hsz : sz = nI p) (hq : zq_at a3 a4 p i ((k, x) :: T))
    (h : ∀ Q : St1 → Prop, (∀ (sz ht oq dp lv kn rs rz : Int32) (a1 a2 a3 a4 a5 a6 a7 a8 a9 a10 a11 a12 a13 a14 : Nat → Int32), zq_R post p (i + 1) (sz, ht, oq, dp, lv, kn, rs, rz, a1, a2, a3, a4, a5, a6, a7, a8, a9, a10, a11, a12, a13, a14) → Q (sz, ht, oq, dp, lv, kn, rs, rz, a1, a2, a3, a4, a5, a6, a7, a8, a9, a10, a11, a12, a13, a14)) → wpX_carry Q (sz, ht, oq, dp, lv, kn, rs, rz, a1, a2, a3, a4, a5, a6, a7, a8, a9, a10, a11, a12, a13, a14) k x) : zq_R post p i (sz, ht, oq, dp, lv, kn, rs, rz, a1, a2, a3, a4, a5, a6, a7, a8, a9, a10, a11, a12, a13, a14) := by
  show ∀ n, p - i < n → wX_work_58 post n (nI i) sz ht oq dp lv kn rs rz a1 a2 a3 a4 a5 a6 a7 a8 a9 a10 a11 a12 a13 a14
  intro n hn
  obtain ⟨hi, h3, h4, _⟩ := hq
  obtain ⟨m, rfl⟩ : ∃ m, n = m + 1 := ⟨n - 1, by omega⟩
  refine pk_le p i (fun z => absurd z (by omega)) (fun _ => ⟨pk_in i 40 (by omega), pk_in i 40 (by omega), ?_⟩) (hx := hsz)
  rw [zq_c (n := i) (by omega), h3, h4]
  exact h _ (fun sz ht oq dp lv kn rs rz a1 a2 a3 a4 a5 a6 a7 a8 a9 a10 a11 a12 a13 a14 hR => nm_r (nI_1 i) (hR m (by omega)))
theorem zq_Rinput {post : St1 → Prop} {p i x s : Nat} {T : List (Int32 × Int32)} (hp : p ≤ 40) (hsz : sz = nI p) (hq : zq_at a3 a4 p i ((1, nI x) :: T)) (hx : x < 3) (hs : s ≤ 8) (h1 : a1 x = nI s)
    (H : ∀ b7 b8 b9 : Nat → Int32, b7 0 = nI 0 → b8 0 = nI s → (∀ e, e < s → b9 e = a2 (8 * x + e)) → zq_R post p (i + 1) (sz, ht, oq, nI 1, lv, kn, rs, rz, a1, a2, a3, a4, a5, a6, b7, b8, b9, a10, a11, a12, a13, a14)) : zq_R post p i (sz, ht, oq, nI 0, lv, kn, rs, rz, a1, a2, a3, a4, a5, a6, a7, a8, a9, a10, a11, a12, a13, a14) :=
  zq_step hp hsz hq (fun Q hQ => br_f (by decide) (br_t rfl (zq_pushInput hx hs h1 (fun b7 b8 b9 e7 e8 e9 => hQ _ _ _ _ _ _ _ _ _ _ _ _ _ _ _ _ _ _ _ _ _ _ (H b7 b8 b9 e7 e8 e9)))))
theorem zq_Relem {post : St1 → Prop} {p i b d N : Nat} {T : List (Int32 × Int32)} (hp : p ≤ 40) (hsz : sz = nI p) (hq : zq_at a3 a4 p i ((2, nI b) :: T)) (hb : b < 2) (hd : d < 3) (hN : N ≤ 64) (h10 : a10 (b + 1) = nI N)
    (H : ∀ b8 : Nat → Int32, (∀ l, l < N → b8 (64 * d + l) = a11 (64 * b + l)) → (∀ j, j < 64 * d → b8 j = a8 j) → zq_R post p (i + 1) (sz, ht, oq, nI (d + 1), lv, kn, rs, rz, a1, a2, a3, a4, a5, a6, upd a7 d (nI (b + 1)), b8, a9, a10, a11, a12, a13, a14)) : zq_R post p i (sz, ht, oq, nI d, lv, kn, rs, rz, a1, a2, a3, a4, a5, a6, a7, a8, a9, a10, a11, a12, a13, a14) :=
  zq_step hp hsz hq (fun Q hQ => br_f (by decide) (br_f (by decide) (br_t rfl (zq_pushElement hb hd hN h10 (fun b8 e1 e2 => hQ _ _ _ _ _ _ _ _ _ _ _ _ _ _ _ _ _ _ _ _ _ _ (H b8 e1 e2))))))
theorem zq_Rconst {post : St1 → Prop} {p i d : Nat} {x : Int32} {T : List (Int32 × Int32)} (hp : p ≤ 40) (hsz : sz = nI p) (hq : zq_at a3 a4 p i ((0, x) :: T)) (hd : d < 3)
    (H : zq_R post p (i + 1) (sz, ht, oq, nI (d + 1), lv, kn, rs, rz, a1, a2, a3, a4, a5, a6, upd a7 d (nI 0), upd a8 (64 * d) x, a9, a10, a11, a12, a13, a14)) : zq_R post p i (sz, ht, oq, nI d, lv, kn, rs, rz, a1, a2, a3, a4, a5, a6, a7, a8, a9, a10, a11, a12, a13, a14) :=
  zq_step hp hsz hq (fun Q hQ => br_t rfl ⟨pk_in d 7 (by omega), nm_r (by rw [zq_c (by omega)] <;> rfl) ⟨pk_in _ 448 (by omega) (zq_x10 d), nm_r (by rw [zq_cl (zq_x10 d) (by omega)] <;> rfl) (nm_r (nI_1 d) (hQ _ _ _ _ _ _ _ _ _ _ _ _ _ _ _ _ _ _ _ _ _ _ H))⟩⟩)
theorem zq_Rbegin {post : St1 → Prop} {p i b M s : Nat} {kk x : Int32} {T : List (Int32 × Int32)} (hp : p ≤ 40) (hsz : sz = nI p) (hq : zq_at a3 a4 p i ((kk, x) :: T)) (hkk : kk = 19 ∨ kk = 20)
    (hb : b < 2) (hM : M ≤ 8) (hs : s ≤ 8) (hM1 : b = 0 → M = 1) (h10 : a10 b = nI M) (h7 : a7 0 = nI 0) (h8 : a8 0 = nI s)
    (H : ∀ b11 b12 : Nat → Int32, (∀ k, k < M * s → b11 (64 * b + k) = a9 (k % s) ∧ b12 (64 * b + k) = nI (k / s)) → (∀ j, j < 64 * b → b11 j = a11 j ∧ b12 j = a12 j) →
      zq_R post p (i + 1) (sz, ht, oq, nI 0, nI (b + 1), kn, rs, rz, a1, a2, a3, a4, a5, a6, a7, a8, a9, upd a10 (b + 1) (nI (M * s)), b11, b12, upd a13 b kk, a14)) : zq_R post p i (sz, ht, oq, nI 1, nI b, kn, rs, rz, a1, a2, a3, a4, a5, a6, a7, a8, a9, a10, a11, a12, a13, a14) := by
  rcases hkk with rfl | rfl
  · exact zq_step hp hsz hq (fun Q hQ => br_f (by decide) (br_f (by decide) (br_f (by decide) (br_t rfl (zq_begin hb hM hs hM1 h10 h7 h8 (fun b11 b12 e1 e2 => hQ _ _ _ _ _ _ _ _ _ _ _ _ _ _ _ _ _ _ _ _ _ _ (H b11 b12 e1 e2)))))))
  · exact zq_step hp hsz hq (fun Q hQ => br_f (by decide) (br_f (by decide) (br_f (by decide) (br_f (by decide) (br_t rfl (zq_begin hb hM hs hM1 h10 h7 h8 (fun b11 b12 e1 e2 => hQ _ _ _ _ _ _ _ _ _ _ _ _ _ _ _ _ _ _ _ _ _ _ (H b11 b12 e1 e2))))))))
theorem zq_RendE {post : St1 → Prop} {p i b M s : Nat} {x : Int32} {V : Nat → Int32} {T : List (Int32 × Int32)} (hp : p ≤ 40) (hsz : sz = nI p) (hq : zq_at a3 a4 p i ((21, x) :: T))
    (hb : b < 2) (hM : M ≤ 8) (hs : s ≤ 8) (h7 : a7 0 = nI (b + 1)) (h10 : a10 b = nI M) (h11 : a10 (b + 1) = nI (M * s)) (h13 : a13 b = 19)
    (h12 : ∀ i, i < M * s → a12 (64 * b + i) = nI (i / s)) (hV : ∀ i, i < M * s → a8 i = V i)
    (H : ∀ b7 b8 b9 : Nat → Int32, b7 0 = nI b → (∀ q, q < M → b8 q = nI s) → (∀ q e, q < M → e < s → b9 (8 * q + e) = V (q * s + e)) → zq_R post p (i + 1) (sz, ht, oq, nI 1, nI b, kn, rs, rz, a1, a2, a3, a4, a5, a6, b7, b8, b9, a10, a11, a12, a13, a14)) : zq_R post p i (sz, ht, oq, nI 1, nI (b + 1), kn, rs, rz, a1, a2, a3, a4, a5, a6, a7, a8, a9, a10, a11, a12, a13, a14) :=
  zq_step hp hsz hq (fun Q hQ => br_f (by decide) (br_f (by decide) (br_f (by decide) (br_f (by decide) (br_f (by decide) (br_t rfl (zq_endE hb hM hs h7 h10 h11 h13 h12 hV (fun b7 b8 b9 e7 e8 e9 => hQ _ _ _ _ _ _ _ _ _ _ _ _ _ _ _ _ _ _ _ _ _ _ (H b7 b8 b9 e7 e8 e9)))))))))
theorem zq_RendK {post : St1 → Prop} {p i N : Nat} {x : Int32} {V : Nat → Int32} {T : List (Int32 × Int32)} (hp : p ≤ 40) (hsz : sz = nI p) (hq : zq_at a3 a4 p i ((21, x) :: T))
    (hN : N ≤ 8) (h7 : a7 0 = nI 1) (h10 : a10 0 = nI 1) (h11 : a10 1 = nI N) (h13 : a13 0 = 20)
    (h12 : ∀ i, i < N → a12 i = nI 0) (hV : ∀ i, i < N → a8 i = V i)
    (H : ∀ b7 b8 b9 : Nat → Int32, b7 0 = nI 0 → b8 0 = nI (zq_ct V N) → zq_R post p (i + 1) (sz, ht, oq, nI 1, nI 0, kn, rs, rz, a1, a2, a3, a4, a5, a6, b7, b8, b9, a10, a11, a12, a13, a14)) : zq_R post p i (sz, ht, oq, nI 1, nI 1, kn, rs, rz, a1, a2, a3, a4, a5, a6, a7, a8, a9, a10, a11, a12, a13, a14) :=
  zq_step hp hsz hq (fun Q hQ => br_f (by decide) (br_f (by decide) (br_f (by decide) (br_f (by decide) (br_f (by decide) (br_t rfl (zq_endK hN h7 h10 h11 h13 h12 hV (fun b7 b8 b9 e7 e8 => hQ _ _ _ _ _ _ _ _ _ _ _ _ _ _ _ _ _ _ _ _ _ _ (H b7 b8 b9 e7 e8)))))))))
theorem zq_Rbin {post : St1 → Prop} {p i k t N x0 x1 : Nat} {x : Int32} {X Y : Nat → Int32} {T : List (Int32 × Int32)} (hp : p ≤ 40) (hsz : sz = nI p) (hq : zq_at a3 a4 p i ((nI k, x) :: T))
    (hk1 : 3 ≤ k) (hk2 : k ≤ 8) (h70 : a7 0 = nI x0) (h71 : a7 1 = nI x1) (hx0 : x0 < 3) (hx1 : x1 < 3) (hm : max x1 x0 = t) (hN : N ≤ 64) (h10 : a10 t = nI N)
    (hX : ∀ l, l < N → ∃ o, o < 64 ∧ zq_own a12 x0 t l o ∧ a8 o = X l) (hY : ∀ l, l < N → ∃ o, o < 64 ∧ zq_own a12 x1 t l o ∧ a8 (64 + o) = Y l)
    (H : ∀ b7 b8 b9 : Nat → Int32, b7 0 = nI t → (∀ l, l < N → b8 l = zq_wk k (X l) (Y l)) → zq_R post p (i + 1) (sz, ht, oq, nI 1, lv, kn, rs, rz, a1, a2, a3, a4, a5, a6, b7, b8, b9, a10, a11, a12, a13, a14)) : zq_R post p i (sz, ht, oq, nI 2, lv, kn, rs, rz, a1, a2, a3, a4, a5, a6, a7, a8, a9, a10, a11, a12, a13, a14) :=
  zq_step hp hsz hq (fun Q hQ => pk_eq k 0 (fun z => absurd z (by omega)) (fun _ => pk_eq k 1 (fun z => absurd z (by omega)) (fun _ => pk_eq k 2 (fun z => absurd z (by omega)) (fun _ => pk_eq k 19 (fun z => absurd z (by omega)) (fun _ => pk_eq k 20 (fun z => absurd z (by omega)) (fun _ => pk_eq k 21 (fun z => absurd z (by omega)) (fun _ =>
    zq_bin hk1 hk2 h70 h71 hx0 hx1 hm hN h10 hX hY (fun b7 b8 b9 e7 e8 => hQ _ _ _ _ _ _ _ _ _ _ _ _ _ _ _ _ _ _ _ _ _ _ (H b7 b8 b9 e7 e8)))))))))
theorem zq_Rpick {post : St1 → Prop} {p i t N x1 x2 : Nat} {x : Int32} {X Y Z : Nat → Int32} {T : List (Int32 × Int32)} (hp : p ≤ 40) (hsz : sz = nI p) (hq : zq_at a3 a4 p i ((9, x) :: T))
    (h70 : a7 0 = nI t) (h71 : a7 1 = nI x1) (h72 : a7 2 = nI x2) (ht3 : t < 3) (hx1 : x1 ≤ t) (hx2 : x2 ≤ t) (hN : N ≤ 64) (h10 : a10 t = nI N)
    (hX : ∀ l, l < N → a8 l = X l) (hY : ∀ l, l < N → ∃ o, o < 64 ∧ zq_own a12 x1 t l o ∧ a8 (64 + o) = Y l) (hZ : ∀ l, l < N → ∃ o, o < 64 ∧ zq_own a12 x2 t l o ∧ a8 (128 + o) = Z l)
    (H : ∀ b7 b8 b9 : Nat → Int32, b7 0 = nI t → (∀ l, l < N → b8 l = if X l = 0 then Z l else Y l) → zq_R post p (i + 1) (sz, ht, oq, nI 1, lv, kn, rs, rz, a1, a2, a3, a4, a5, a6, b7, b8, b9, a10, a11, a12, a13, a14)) : zq_R post p i (sz, ht, oq, nI 3, lv, kn, rs, rz, a1, a2, a3, a4, a5, a6, a7, a8, a9, a10, a11, a12, a13, a14) :=
  zq_step hp hsz hq (fun Q hQ => br_f (by decide) (br_f (by decide) (br_f (by decide) (br_f (by decide) (br_f (by decide) (br_f (by decide) (
    zq_pick h70 h71 h72 ht3 hx1 hx2 hN h10 hX hY hZ (fun b7 b8 b9 e7 e8 => hQ _ _ _ _ _ _ _ _ _ _ _ _ _ _ _ _ _ _ _ _ _ _ (H b7 b8 b9 e7 e8)))))))))
theorem zq_Rsum {post : St1 → Prop} {p i t N s : Nat} {x : Int32} {T : List (Int32 × Int32)} (hp : p ≤ 40) (hsz : sz = nI p) (hq : zq_at a3 a4 p i ((11, x) :: T))
    (h70 : a7 0 = nI t) (ht3 : t < 3) (hN : N ≤ 64) (hs : s ≤ 8) (h10 : a10 t = nI N) (h8 : ∀ l, l < N → a8 l = nI s)
    (H : ∀ b7 b8 b9 : Nat → Int32, b7 0 = nI t → (∀ l, l < N → b8 l = zq_sm (fun j => a9 (8 * l + j)) s) → zq_R post p (i + 1) (sz, ht, oq, nI 1, lv, kn, rs, rz, a1, a2, a3, a4, a5, a6, b7, b8, b9, a10, a11, a12, a13, a14)) : zq_R post p i (sz, ht, oq, nI 1, lv, kn, rs, rz, a1, a2, a3, a4, a5, a6, a7, a8, a9, a10, a11, a12, a13, a14) :=
  zq_step hp hsz hq (fun Q hQ => br_f (by decide) (br_f (by decide) (br_f (by decide) (br_f (by decide) (br_f (by decide) (br_f (by decide) (
    zq_sum h70 ht3 hN hs h10 h8 (fun b7 b8 b9 e7 e8 => hQ _ _ _ _ _ _ _ _ _ _ _ _ _ _ _ _ _ _ _ _ _ _ (H b7 b8 b9 e7 e8)))))))))
theorem zq_Rrow {post : St1 → Prop} {p i c : Nat} (hsz : sz = nI p) (hp : p ≤ 40) (hq : zq_at a3 a4 p i []) (h5 : a5 0 = 1) (hc : c ≤ 8) (h8 : a8 0 = nI c)
    (H : ∀ b14 : Nat → Int32, (∀ e, e < c → b14 e = a9 e) → post (sz, ht, oq, dp, lv, kn, 2, nI c, a1, a2, a3, a4, a5, a6, a7, a8, a9, a10, a11, a12, a13, b14)) : zq_R post p i (sz, ht, oq, dp, lv, kn, rs, rz, a1, a2, a3, a4, a5, a6, a7, a8, a9, a10, a11, a12, a13, a14) := by
  show ∀ n, p - i < n → wX_work_58 post n (nI i) sz ht oq dp lv kn rs rz a1 a2 a3 a4 a5 a6 a7 a8 a9 a10 a11 a12 a13 a14
  intro n hn
  have hi : i = p := hq
  obtain ⟨m, rfl⟩ : ∃ m, n = m + 1 := ⟨n - 1, by omega⟩
  have h5' : ¬ a5 0 = 0 := by
    rw [h5]
    decide
  refine pk_le p i (fun _ => br_f h5' (br_f h5' (nm_r h8 ?_))) (fun z => absurd z (by omega)) (hx := hsz)
  exact pk_loop (fun n i s => wX_work_131 post sz ht oq dp lv kn 2 (nI c) n (nI i) a1 a2 a3 a4 a5 a6 a7 a8 a9 a10 a11 a12 a13 s) (fun i s => ∀ e, e < i → s e = a9 e) c 0 a14 (by omega) (fun e he => absurd he (by omega))
    (fun n s h => pk_le c c (fun _ => H s h) (fun z => absurd z (by omega)))
    (fun n i s hi h hw => pk_le c i (fun z => absurd z (by omega)) (fun _ => br_f h5' ⟨pk_in i 3584 (by omega), pk_in i 8 (by omega), nm_r (by rw [zq_c (by omega)] <;> rfl) (nm_r (nI_1 i) (hw _ (zq_fill (f := a9) rfl h rfl)))⟩))
theorem zq_Rone {post : St1 → Prop} {p i : Nat} (hsz : sz = nI p) (hp : p ≤ 40) (hq : zq_at a3 a4 p i []) (h5 : a5 0 = 0)
    (H : ∀ b14 : Nat → Int32, b14 0 = a8 0 → post (sz, ht, oq, dp, lv, kn, 1, 1, a1, a2, a3, a4, a5, a6, a7, a8, a9, a10, a11, a12, a13, b14)) : zq_R post p i (sz, ht, oq, dp, lv, kn, rs, rz, a1, a2, a3, a4, a5, a6, a7, a8, a9, a10, a11, a12, a13, a14) := by
  show ∀ n, p - i < n → wX_work_58 post n (nI i) sz ht oq dp lv kn rs rz a1 a2 a3 a4 a5 a6 a7 a8 a9 a10 a11 a12 a13 a14
  intro n hn
  have hi : i = p := hq
  obtain ⟨m, rfl⟩ : ∃ m, n = m + 1 := ⟨n - 1, by omega⟩
  refine pk_le p i (fun _ => br_t h5 (br_t h5 ?_)) (fun z => absurd z (by omega)) (hx := hsz)
  exact pk_loop (fun n i s => wX_work_131 post sz ht oq dp lv kn 1 1 n (nI i) a1 a2 a3 a4 a5 a6 a7 a8 a9 a10 a11 a12 a13 s) (fun i s => ∀ e, e < i → s e = a8 0) 1 0 a14 (by omega) (fun e he => absurd he (by omega))
    (fun n s h => pk_le 1 1 (fun _ => H s (h 0 (by omega))) (fun z => absurd z (by omega)))
    (fun n i s hi h hw => pk_le 1 i (fun z => absurd z (by omega)) (fun _ => br_t h5 ⟨pk_in i 8 (by omega), nm_r (by rw [zq_c (by omega)] <;> rfl) (nm_r (nI_1 i) (hw _ (zq_fill (f := fun _ => a8 0) rfl h rfl)))⟩))
theorem zq_work {post : St1 → Prop} {p : Nat} (H : zq_R post p 0 (sz, nI 1, nI 0, nI 0, nI 0, 1, 0, 0, a1, a2, a3, a4, a5, a6, a7, a8, a9, upd a10 0 (nI 1), a11, a12, a13, a14)) : wpX_work post (sz, nI 1, nI 0, dp, lv, 0, rs, rz, a1, a2, a3, a4, a5, a6, a7, a8, a9, a10, a11, a12, a13, a14) := by
  unfold wpX_work
  dsimp only
  exact br_t rfl (br_f (by decide) (br_t rfl (nm_e ⟨p + 1, H (p + 1) (by omega)⟩)))
theorem zq_workK {post : St1 → Prop} (H : post (sz, ht, oq, dp, lv, 1, rs, rz, a1, a2, a3, a4, a5, a6, a7, a8, a9, a10, a11, a12, a13, a14)) : wpX_work post (sz, ht, oq, dp, lv, 1, rs, rz, a1, a2, a3, a4, a5, a6, a7, a8, a9, a10, a11, a12, a13, a14) := by
  unfold wpX_work
  dsimp only
  exact br_f (by decide) H
end
end
section
/-! part 5: tokens: the program as a list, the rows of the stack as a list -/
def zq_rw (a5 : Nat → Int32) : Nat → List Int32 → Prop
  | _, [] => True
  | i, g :: l => a5 i = g ∧ zq_rw a5 (i + 1) l
theorem zq_rw_app {a5 : Nat → Int32} : ∀ (R T : List Int32) (i : Nat), zq_rw a5 i (R ++ T) → zq_rw a5 i R ∧ zq_rw a5 (i + R.length) T := by
  intro R
  induction R with
  | nil => exact fun T i h => ⟨trivial, h⟩
  | cons g R ih =>
    intro T i h
    obtain ⟨h1, h2⟩ := ih T (i + 1) h.2
    refine ⟨⟨h.1, h1⟩, ?_⟩
    rw [List.length_cons, show i + (R.length + 1) = i + 1 + R.length by omega]
    exact h2
theorem zq_rw_rep {a5 : Nat → Int32} {r : Int32} : ∀ (n i : Nat), zq_rw a5 i (List.replicate n r) → ∀ j, j < n → a5 (i + j) = r := by
  intro n
  induction n with
  | zero => exact fun i _ j hj => absurd hj (by omega)
  | succ n ih =>
    intro i h j hj
    rw [List.replicate_succ] at h
    rcases j with _ | j
    · exact h.1
    · rw [show i + (j + 1) = i + 1 + j by omega]
      exact ih (i + 1) h.2 j (by omega)
theorem zq_rw_put {a5 : Nat → Int32} {g : Int32} {m : Nat} : ∀ (R : List Int32) (i : Nat), i + R.length = m → zq_rw a5 i R → zq_rw (upd a5 m g) i (R ++ [g]) := by
  intro R
  induction R with
  | nil =>
    intro i hi _
    have hi' : i = m := hi
    exact ⟨by rw [hi', pk_us], trivial⟩
  | cons x R ih =>
    intro i hi h
    rw [List.length_cons] at hi
    exact ⟨by rw [pk_un (by omega)]; exact h.1, ih (i + 1) (by omega) h.2⟩
theorem zq_at_snoc {a3 a4 : Nat → Int32} {k x : Int32} {p : Nat} : ∀ (P : List (Int32 × Int32)) (i : Nat), zq_at a3 a4 p i P → zq_at (upd a3 p k) (upd a4 p x) (p + 1) i (P ++ [(k, x)]) := by
  intro P
  induction P with
  | nil =>
    intro i h
    have h' : i = p := h
    exact ⟨by omega, by rw [h', pk_us], by rw [h', pk_us], by rw [h']; rfl⟩
  | cons y P ih =>
    intro i h
    obtain ⟨h1, h2, h3, h4⟩ := h
    exact ⟨by omega, by rw [pk_un (by omega)]; exact h2, by rw [pk_un (by omega)]; exact h3, ih (i + 1) h4⟩
/-- the state while a program is written: the tokens P, the rows R of the stack, o open blocks, each begun at 0 -/
def zq_B (P : List (Int32 × Int32)) (R : List Int32) (o : Nat) (sz ht oq kn : Int32) (a3 a4 a5 a6 : Nat → Int32) : Prop :=
  sz = nI P.length ∧ ht = nI R.length ∧ oq = nI o ∧ kn = 0 ∧ (∀ j, j < o → a6 j = 0) ∧ zq_rw a5 0 R ∧ zq_at a3 a4 P.length 0 P
theorem zq_nar {g : Int32} (h : g = 0 ∨ g = 1) : vp_nar .boolean g = g := by
  rcases h with rfl | rfl <;> decide
section
variable {sz ht oq dp lv kn rs rz : Int32} {a1 a2 a3 a4 a5 a6 a7 a8 a9 a10 a11 a12 a13 a14 : Nat → Int32}
theorem zq_floor {post : Int32 → Prop} {o : Nat} (ho : o ≤ 2) (h6 : ∀ j, j < o → a6 j = 0) (H : post 0) : wpX_floor post (sz, ht, nI o, dp, lv, kn, rs, rz, a1, a2, a3, a4, a5, a6, a7, a8, a9, a10, a11, a12, a13, a14) := by
  unfold wpX_floor
  dsimp only
  refine pk_eq o 0 (fun _ => H) (fun z => ?_)
  have e : (nI o - 1 : Int32) = nI (o - 1) := pk_sub (a := o) (b := 1) (by omega)
  refine ⟨pk_in (o - 1) 2 (by omega) e, ?_⟩
  rw [zq_cl e (by omega), h6 (o - 1) (by omega)]
  exact H
theorem zq_stands {post : Int32 → Prop} {k n h o : Nat} {r : Int32} (hk : k < 21) (ho : o ≤ 2) (h6 : ∀ j, j < o → a6 j = 0) (hn : n ≤ h) (hh : h ≤ 6) (htr : ∀ (i : Int32) (Q : Int32 → Prop), Q r → wpX_takesRow Q () (nI k) i) (h5 : ∀ i, i < n → a5 (h - n + i) = r)
    (H : post 1) : wpX_stands post (sz, nI h, nI o, dp, lv, kn, rs, rz, a1, a2, a3, a4, a5, a6, a7, a8, a9, a10, a11, a12, a13, a14) (nI k) (nI n) := by
  unfold wpX_stands
  dsimp only
  have e : ∀ i, ((nI h - nI n) + nI i : Int32) = nI (h - n + i) := fun i => by rw [pk_sub hn, nI_add]
  refine zq_floor ho h6 (pk_eq k 21 (fun z => absurd z (by omega)) (fun _ => pk_le 0 (h - n) (fun _ => ?_) (fun z => absurd z (by omega)) (hy := pk_sub hn)))
  exact pk_loop (σ := Unit) (fun f i _ => wX_stands_63 post (nI k) (nI n) sz (nI h) (nI o) dp lv kn rs rz a1 a2 a3 a4 a5 a6 a7 a8 a9 a10 a11 a12 a13 a14 f (nI i)) (fun _ _ => True) n 0 () (by omega) trivial
    (fun f _ _ => pk_le n n (fun _ => H) (fun z => absurd z (by omega)))
    (fun f i _ hi _ hw => pk_le n i (fun z => absurd z (by omega)) (fun _ => htr _ _ ⟨pk_in _ 6 (by omega) (e i), br_t (by rw [zq_cl (e i) (by omega)]; exact h5 i hi) (nm_r (nI_1 i) (hw () trivial))⟩))
theorem zq_token {post : Int32 → St1 → Prop} {P : List (Int32 × Int32)} {R : List Int32} {k n o : Nat} {x r g : Int32} (hB : zq_B P (R ++ List.replicate n r) o sz ht oq kn a3 a4 a5 a6) (ho : o ≤ 2) (hk : k < 19) (hP : P.length < 40) (hR : R.length + n ≤ 5)
    (hf : ∀ Q : Int32 → Prop, Q 1 → wpX_fits Q () (nI k) x) (hel : k = 2 → ∃ y, x = nI y ∧ y < o) (htk : ∀ Q : Int32 → Prop, Q (nI n) → wpX_taken Q () (nI k))
    (htr : ∀ (i : Int32) (Q : Int32 → Prop), Q r → wpX_takesRow Q () (nI k) i) (hgr : ∀ Q : Int32 → Prop, Q g → wpX_givesRow Q () (nI k)) (hg : g = 0 ∨ g = 1)
    (H : ∀ (sz ht oq kn : Int32) (a3 a4 a5 a6 : Nat → Int32), zq_B (P ++ [(nI k, x)]) (R ++ [g]) o sz ht oq kn a3 a4 a5 a6 → post (nI (P.length + 1)) (sz, ht, oq, dp, lv, kn, rs, rz, a1, a2, a3, a4, a5, a6, a7, a8, a9, a10, a11, a12, a13, a14)) : wpX_token post (sz, ht, oq, dp, lv, kn, rs, rz, a1, a2, a3, a4, a5, a6, a7, a8, a9, a10, a11, a12, a13, a14) (nI k) x := by
  obtain ⟨rfl, e2, rfl, rfl, h6, h5, h34⟩ := hB
  have e2' : ht = nI (R.length + n) := by rw [e2, List.length_append, List.length_replicate]
  subst e2'
  obtain ⟨r1, r2⟩ := zq_rw_app _ _ _ h5
  have r3 := zq_rw_rep _ _ r2
  have t86 : wX_token_86 post (nI k) x (nI n) (nI P.length) (nI (R.length + n)) (nI o) dp lv 0 rs rz a1 a2 a3 a4 a5 a6 a7 a8 a9 a10 a11 a12 a13 a14 := by
    unfold wX_token_86
    refine pk_eq k 19 (fun z => absurd z (by omega)) (fun _ => pk_eq k 20 (fun z => absurd z (by omega)) (fun _ => ?_))
    refine ⟨pk_in P.length 40 hP, nm_r (by rw [zq_c (n := P.length) (by omega)] <;> rfl) ⟨pk_in P.length 40 hP, nm_r (by rw [zq_c (n := P.length) (by omega)] <;> rfl) (nm_r (nI_1 P.length) ?_)⟩⟩
    unfold wpX_follow
    dsimp only
    refine pk_eq k 19 (fun z => absurd z (by omega)) (fun _ => pk_eq k 20 (fun z => absurd z (by omega)) (fun _ => pk_eq k 21 (fun z => absurd z (by omega)) (fun _ => ?_)))
    refine nm_r (pk_sub (by omega)) (hgr _ ⟨pk_in (R.length + n - n) 6 (by omega), nm_r (by rw [zq_c (by omega), zq_nar hg] <;> rfl) (nm_r (nI_1 _) ?_)⟩)
    refine H _ _ _ _ _ _ _ _ ⟨by rw [List.length_append]; rfl, ?_, rfl, rfl, h6, ?_, ?_⟩
    · rw [List.length_append]
      exact congrArg nI (by rw [Nat.add_sub_cancel]; rfl)
    · rw [Nat.add_sub_cancel]
      exact zq_rw_put R 0 (by omega) r1
    · rw [List.length_append]
      exact zq_at_snoc P 0 h34
  have t52 : wX_token_52 post (nI k) x (nI P.length) (nI (R.length + n)) (nI o) dp lv 0 rs rz a1 a2 a3 a4 a5 a6 a7 a8 a9 a10 a11 a12 a13 a14 := by
    unfold wX_token_52
    refine htk _ (zq_stands (by omega) ho h6 (by omega) (by omega) htr (fun i hi => ?_) (br_f (by decide) (pk_eq n 0 (fun _ => pk_le 6 (R.length + n) (fun z => absurd z (by omega)) (fun _ => t86)) (fun _ => t86))))
    rw [Nat.add_sub_cancel]
    have := r3 i hi
    rw [Nat.zero_add] at this
    exact this
  unfold wpX_token
  dsimp only
  refine pk_lt k 0 (fun z => absurd z (by omega)) (fun _ => pk_lt 21 k (fun z => absurd z (by omega)) (fun _ => hf _ (br_f (by decide) (pk_lt P.length 40 (fun _ => pk_eq k 2 (fun z => ?_) (fun _ => t52)) (fun z => absurd z (by omega))))))
  obtain ⟨y, rfl, hy⟩ := hel z
  exact pk_lt y 0 (fun z => absurd z (by omega)) (fun _ => pk_lt y o (fun _ => t52) (fun z => absurd z (by omega)))
theorem zq_tokenB {post : Int32 → St1 → Prop} {P : List (Int32 × Int32)} {k o : Nat} {x : Int32} (hk : k = 19 ∨ k = 20) (hB : zq_B P [1] o sz ht oq kn a3 a4 a5 a6) (ho : o < 2) (hP : P.length < 40)
    (H : ∀ (sz ht oq kn : Int32) (a3 a4 a5 a6 : Nat → Int32), zq_B (P ++ [(nI k, x)]) [] (o + 1) sz ht oq kn a3 a4 a5 a6 → post (nI (P.length + 1)) (sz, ht, oq, dp, lv, kn, rs, rz, a1, a2, a3, a4, a5, a6, a7, a8, a9, a10, a11, a12, a13, a14)) : wpX_token post (sz, ht, oq, dp, lv, kn, rs, rz, a1, a2, a3, a4, a5, a6, a7, a8, a9, a10, a11, a12, a13, a14) (nI k) x := by
  obtain ⟨rfl, e2, rfl, rfl, h6, h5, h34⟩ := hB
  have e2' : ht = nI 1 := e2
  subst e2'
  have t109 : wX_token_109 post (nI k) x (nI 1) (nI P.length) (nI 1) (nI o) dp lv 0 rs rz a1 a2 a3 a4 a5 a6 a7 a8 a9 a10 a11 a12 a13 a14 := by
    refine ⟨pk_in P.length 40 hP, nm_r (by rw [zq_c (n := P.length) (by omega)] <;> rfl) ⟨pk_in P.length 40 hP, nm_r (by rw [zq_c (n := P.length) (by omega)] <;> rfl) (nm_r (nI_1 P.length) ?_)⟩⟩
    have t : wX_follow_12 (fun u => match u with | (sz, ht, oq, dp, lv, kn, rs, rz, a1, a2, a3, a4, a5, a6, a7, a8, a9, a10, a11, a12, a13, a14) => post sz (sz, ht, oq, dp, lv, 0, rs, rz, a1, a2, a3, a4, a5, a6, a7, a8, a9, a10, a11, a12, a13, a14)) (nI (P.length + 1)) (nI 1) (nI o) dp lv 0 rs rz a1 a2 (upd a3 P.length (nI k)) (upd a4 P.length x) a5 a6 a7 a8 a9 a10 a11 a12 a13 a14 := by
      refine nm_r (nI_pred 0) ⟨pk_in o 2 ho, nm_r (by rw [zq_c (n := o) (by omega)] <;> rfl) (nm_r (nI_1 o) ?_)⟩
      refine H _ _ _ _ _ _ _ _ ⟨by rw [List.length_append]; rfl, rfl, rfl, rfl, fun j hj => ?_, trivial, ?_⟩
      · by_cases e : j = o
        · rw [e, pk_us]
          rfl
        · rw [pk_un e]
          exact h6 j (by omega)
      · rw [List.length_append]
        exact zq_at_snoc P 0 h34
    unfold wpX_follow
    dsimp only
    exact pk_eq k 19 (fun _ => t) (fun z => pk_eq k 20 (fun _ => t) (fun z => absurd hk (by omega)))
  have t98 : wX_token_98 post (nI k) x (nI 1) (nI P.length) (nI 1) (nI o) dp lv 0 rs rz a1 a2 a3 a4 a5 a6 a7 a8 a9 a10 a11 a12 a13 a14 := pk_lt o 2 (fun _ => t109) (fun z => absurd z (by omega))
  unfold wpX_token
  dsimp only
  refine pk_lt k 0 (fun z => absurd z (by omega)) (fun _ => pk_lt 21 k (fun z => absurd z (by omega)) (fun _ => ?_))
  refine pk_eq k 0 (fun z => absurd z (by omega)) (fun _ => pk_eq k 1 (fun z => absurd z (by omega)) (fun _ => br_f (by decide) (pk_lt P.length 40 (fun _ => pk_eq k 2 (fun z => absurd z (by omega)) (fun _ => ?_)) (fun z => absurd z (by omega)))))
  unfold wX_token_52
  refine zq_taken1 (by omega) (zq_stands (n := 1) (h := 1) (r := 1) (by omega) (by omega) h6 (by omega) (by omega) (fun i Q hQ => zq_tr1 (by omega) hQ) (fun i hi => ?_) (br_f (by decide) (br_f (by decide) ?_)))
  · rw [show 1 - 1 + i = 0 by omega]
    exact h5.1
  · unfold wX_token_86
    exact pk_eq k 19 (fun _ => t98) (fun z => pk_eq k 20 (fun _ => t98) (fun z => absurd hk (by omega)))
theorem zq_tokenE {post : Int32 → St1 → Prop} {P : List (Int32 × Int32)} {o : Nat} {x : Int32} (hB : zq_B P [0] (o + 1) sz ht oq kn a3 a4 a5 a6) (ho : o < 2) (hP : P.length < 40)
    (H : ∀ (sz ht oq kn : Int32) (a3 a4 a5 a6 : Nat → Int32), zq_B (P ++ [(nI 21, x)]) [1] o sz ht oq kn a3 a4 a5 a6 → post (nI (P.length + 1)) (sz, ht, oq, dp, lv, kn, rs, rz, a1, a2, a3, a4, a5, a6, a7, a8, a9, a10, a11, a12, a13, a14)) : wpX_token post (sz, ht, oq, dp, lv, kn, rs, rz, a1, a2, a3, a4, a5, a6, a7, a8, a9, a10, a11, a12, a13, a14) (nI 21) x := by
  obtain ⟨rfl, e2, rfl, rfl, h6, h5, h34⟩ := hB
  have e2' : ht = nI 1 := e2
  subst e2'
  have t109 : wX_token_109 post (nI 21) x (nI 1) (nI P.length) (nI 1) (nI (o + 1)) dp lv 0 rs rz a1 a2 a3 a4 a5 a6 a7 a8 a9 a10 a11 a12 a13 a14 := by
    refine ⟨pk_in P.length 40 hP, nm_r (by rw [zq_c (n := P.length) (by omega)] <;> rfl) ⟨pk_in P.length 40 hP, nm_r (by rw [zq_c (n := P.length) (by omega)] <;> rfl) (nm_r (nI_1 P.length) ?_)⟩⟩
    unfold wpX_follow
    dsimp only
    refine br_f (by decide) (br_f (by decide) (br_t rfl (nm_r (nI_pred o) ?_)))
    refine nm_r (pk_sub (Nat.le_refl 1)) (br_f (by decide) (br_f (by decide) ⟨pk_in 0 6 (by omega), nm_r (by rw [zq_c (by omega), zq_nar (Or.inr rfl)] <;> rfl) (nm_r (nI_1 _) ?_)⟩))
    refine H _ _ _ _ _ _ _ _ ⟨by rw [List.length_append]; rfl, rfl, rfl, rfl, fun j hj => h6 j (by omega), ⟨pk_us (f := a5) (k := 0) (x := 1), trivial⟩, ?_⟩
    rw [List.length_append]
    exact zq_at_snoc P 0 h34
  unfold wpX_token
  dsimp only
  refine br_f (by decide) (br_f (by decide) (br_f (by decide) (br_f (by decide) (br_f (by decide) (pk_lt P.length 40 (fun _ => br_f (by decide) ?_) (fun z => absurd z (by omega)))))))
  unfold wX_token_52
  refine zq_taken1 (by omega) ?_
  unfold wpX_stands
  dsimp only
  refine zq_floor (by omega) h6 (br_t rfl (pk_le (o + 1) 0 (fun z => absurd z (by omega)) (fun _ => br_t rfl ⟨pk_in 0 6 (by omega) (nI_pred 0), ?_⟩)))
  rw [zq_cl (nI_pred 0) (by omega)]
  exact br_t h5.1 (br_f (by decide) (br_f (by decide) (br_f (by decide) (br_f (by decide) t109))))
theorem zq_fitC : ∀ j, j < 64 → ¬ (nI j - 20 : Int32) < (-99) ∧ ¬ (99 : Int32) < nI j - 20 := by decide +kernel
theorem zq_fitsC {Q : Int32 → Prop} {x : Int32} (hx : ¬ x < (-99) ∧ ¬ 99 < x) (H : Q 1) : wpX_fits Q () (nI 0) x := br_t rfl (br_f hx.1 (br_f hx.2 H))
theorem zq_fitsI {Q : Int32 → Prop} {x : Nat} (hx : x < 3) (H : Q 1) : wpX_fits Q () (nI 1) (nI x) := br_f (by decide) (br_t rfl (pk_lt x 0 (fun z => absurd z (by omega)) (fun _ => pk_le 3 x (fun z => absurd z (by omega)) (fun _ => H))))
theorem zq_fitsO {Q : Int32 → Prop} {k : Nat} {x : Int32} (h1 : 2 ≤ k) (h2 : k < 22) (H : Q 1) : wpX_fits Q () (nI k) x := pk_eq k 0 (fun z => absurd z (by omega)) (fun _ => pk_eq k 1 (fun z => absurd z (by omega)) (fun _ => H))
theorem zq_gr0 {Q : Int32 → Prop} {k : Nat} (h1 : k ≠ 1) (h2 : k < 14) (H : Q 0) : wpX_givesRow Q () (nI k) := pk_eq k 1 (fun z => absurd z (by omega)) (fun _ => pk_lt k 14 (fun _ => H) (fun z => absurd z (by omega)))
theorem zq_tInput {post : Int32 → St1 → Prop} {P : List (Int32 × Int32)} {o x : Nat} (hB : zq_B P [] o sz ht oq kn a3 a4 a5 a6) (ho : o ≤ 2) (hP : P.length < 40) (hx : x < 3)
    (H : ∀ (sz ht oq kn : Int32) (a3 a4 a5 a6 : Nat → Int32), zq_B (P ++ [(nI 1, nI x)]) [1] o sz ht oq kn a3 a4 a5 a6 → post (nI (P.length + 1)) (sz, ht, oq, dp, lv, kn, rs, rz, a1, a2, a3, a4, a5, a6, a7, a8, a9, a10, a11, a12, a13, a14)) : wpX_token post (sz, ht, oq, dp, lv, kn, rs, rz, a1, a2, a3, a4, a5, a6, a7, a8, a9, a10, a11, a12, a13, a14) (nI 1) (nI x) :=
  zq_token (R := []) (n := 0) (r := 0) (g := 1) hB ho (by omega) hP (by decide) (fun Q h => zq_fitsI hx h) (fun z => absurd z (by omega)) (fun Q h => zq_taken0 (by omega) h) (fun i Q h => zq_tr0 (by omega) h) (fun Q h => br_t rfl h) (Or.inr rfl) H
theorem zq_tElem {post : Int32 → St1 → Prop} {P : List (Int32 × Int32)} {R : List Int32} {o y : Nat} (hB : zq_B P R o sz ht oq kn a3 a4 a5 a6) (ho : o ≤ 2) (hP : P.length < 40) (hR : R.length ≤ 5) (hy : y < o)
    (H : ∀ (sz ht oq kn : Int32) (a3 a4 a5 a6 : Nat → Int32), zq_B (P ++ [(nI 2, nI y)]) (R ++ [0]) o sz ht oq kn a3 a4 a5 a6 → post (nI (P.length + 1)) (sz, ht, oq, dp, lv, kn, rs, rz, a1, a2, a3, a4, a5, a6, a7, a8, a9, a10, a11, a12, a13, a14)) : wpX_token post (sz, ht, oq, dp, lv, kn, rs, rz, a1, a2, a3, a4, a5, a6, a7, a8, a9, a10, a11, a12, a13, a14) (nI 2) (nI y) :=
  zq_token (R := R) (n := 0) (r := 0) (g := 0) (by rw [List.replicate_zero, List.append_nil]; exact hB) ho (by omega) hP (by omega) (fun Q h => zq_fitsO (by omega) (by omega) h) (fun _ => ⟨y, rfl, hy⟩) (fun Q h => zq_taken0 (by omega) h) (fun i Q h => zq_tr0 (by omega) h) (fun Q h => zq_gr0 (by omega) (by omega) h) (Or.inl rfl) H
theorem zq_tConst {post : Int32 → St1 → Prop} {P : List (Int32 × Int32)} {R : List Int32} {o : Nat} {x : Int32} (hB : zq_B P R o sz ht oq kn a3 a4 a5 a6) (ho : o ≤ 2) (hP : P.length < 40) (hR : R.length ≤ 5) (hx : ¬ x < (-99) ∧ ¬ 99 < x)
    (H : ∀ (sz ht oq kn : Int32) (a3 a4 a5 a6 : Nat → Int32), zq_B (P ++ [(nI 0, x)]) (R ++ [0]) o sz ht oq kn a3 a4 a5 a6 → post (nI (P.length + 1)) (sz, ht, oq, dp, lv, kn, rs, rz, a1, a2, a3, a4, a5, a6, a7, a8, a9, a10, a11, a12, a13, a14)) : wpX_token post (sz, ht, oq, dp, lv, kn, rs, rz, a1, a2, a3, a4, a5, a6, a7, a8, a9, a10, a11, a12, a13, a14) (nI 0) x :=
  zq_token (R := R) (n := 0) (r := 0) (g := 0) (by rw [List.replicate_zero, List.append_nil]; exact hB) ho (by omega) hP (by omega) (fun Q h => zq_fitsC hx h) (fun z => absurd z (by omega)) (fun Q h => zq_taken0 (by omega) h) (fun i Q h => zq_tr0 (by omega) h) (fun Q h => zq_gr0 (by omega) (by omega) h) (Or.inl rfl) H
theorem zq_tBin {post : Int32 → St1 → Prop} {P : List (Int32 × Int32)} {o k : Nat} {x : Int32} (hB : zq_B P [0, 0] o sz ht oq kn a3 a4 a5 a6) (ho : o ≤ 2) (hP : P.length < 40) (h1 : 3 ≤ k) (h2 : k ≤ 8)
    (H : ∀ (sz ht oq kn : Int32) (a3 a4 a5 a6 : Nat → Int32), zq_B (P ++ [(nI k, x)]) [0] o sz ht oq kn a3 a4 a5 a6 → post (nI (P.length + 1)) (sz, ht, oq, dp, lv, kn, rs, rz, a1, a2, a3, a4, a5, a6, a7, a8, a9, a10, a11, a12, a13, a14)) : wpX_token post (sz, ht, oq, dp, lv, kn, rs, rz, a1, a2, a3, a4, a5, a6, a7, a8, a9, a10, a11, a12, a13, a14) (nI k) x :=
  zq_token (R := []) (n := 2) (r := 0) (g := 0) hB ho (by omega) hP (by decide) (fun Q h => zq_fitsO (by omega) (by omega) h) (fun z => absurd z (by omega)) (fun Q h => zq_taken2 h1 h2 h) (fun i Q h => zq_tr0 (by omega) h) (fun Q h => zq_gr0 (by omega) (by omega) h) (Or.inl rfl) H
theorem zq_tPick {post : Int32 → St1 → Prop} {P : List (Int32 × Int32)} {o : Nat} {x : Int32} (hB : zq_B P [0, 0, 0] o sz ht oq kn a3 a4 a5 a6) (ho : o ≤ 2) (hP : P.length < 40)
    (H : ∀ (sz ht oq kn : Int32) (a3 a4 a5 a6 : Nat → Int32), zq_B (P ++ [(nI 9, x)]) [0] o sz ht oq kn a3 a4 a5 a6 → post (nI (P.length + 1)) (sz, ht, oq, dp, lv, kn, rs, rz, a1, a2, a3, a4, a5, a6, a7, a8, a9, a10, a11, a12, a13, a14)) : wpX_token post (sz, ht, oq, dp, lv, kn, rs, rz, a1, a2, a3, a4, a5, a6, a7, a8, a9, a10, a11, a12, a13, a14) (nI 9) x :=
  zq_token (R := []) (n := 3) (r := 0) (g := 0) hB ho (by omega) hP (by decide) (fun Q h => zq_fitsO (by omega) (by omega) h) (fun z => absurd z (by omega)) (fun Q h => zq_taken3 h) (fun i Q h => zq_tr0 (by omega) h) (fun Q h => zq_gr0 (by omega) (by omega) h) (Or.inl rfl) H
theorem zq_tSum {post : Int32 → St1 → Prop} {P : List (Int32 × Int32)} {o : Nat} {x : Int32} (hB : zq_B P [1] o sz ht oq kn a3 a4 a5 a6) (ho : o ≤ 2) (hP : P.length < 40)
    (H : ∀ (sz ht oq kn : Int32) (a3 a4 a5 a6 : Nat → Int32), zq_B (P ++ [(nI 11, x)]) [0] o sz ht oq kn a3 a4 a5 a6 → post (nI (P.length + 1)) (sz, ht, oq, dp, lv, kn, rs, rz, a1, a2, a3, a4, a5, a6, a7, a8, a9, a10, a11, a12, a13, a14)) : wpX_token post (sz, ht, oq, dp, lv, kn, rs, rz, a1, a2, a3, a4, a5, a6, a7, a8, a9, a10, a11, a12, a13, a14) (nI 11) x :=
  zq_token (R := []) (n := 1) (r := 1) (g := 0) hB ho (by omega) hP (by decide) (fun Q h => zq_fitsO (by omega) (by omega) h) (fun z => absurd z (by omega)) (fun Q h => zq_taken1 (Or.inl rfl) h) (fun i Q h => zq_tr1 (Or.inl rfl) h) (fun Q h => zq_gr0 (by omega) (by omega) h) (Or.inl rfl) H
theorem zq_clear {post : Int32 → St1 → Prop}
    (H : ∀ (r sz ht oq kn : Int32) (a3 a4 a5 a6 : Nat → Int32), zq_B [] [] 0 sz ht oq kn a3 a4 a5 a6 → post r (sz, ht, oq, dp, lv, kn, rs, rz, a1, a2, a3, a4, a5, a6, a7, a8, a9, a10, a11, a12, a13, a14)) : wpX_clear post (sz, ht, oq, dp, lv, kn, rs, rz, a1, a2, a3, a4, a5, a6, a7, a8, a9, a10, a11, a12, a13, a14) := by
  unfold wpX_clear
  dsimp only
  exact H _ _ _ _ _ _ _ _ _ ⟨rfl, rfl, rfl, rfl, fun j hj => absurd hj (by omega), trivial, rfl⟩
end
end
section
/-! part 6: the four programs run -/
theorem zq_sm_congr {f g : Nat → Int32} : ∀ n, (∀ j, j < n → f j = g j) → zq_sm f n = zq_sm g n := by
  intro n
  induction n with
  | zero => exact fun _ => rfl
  | succ n ih =>
    intro h
    show zq_sm f n + f n = zq_sm g n + g n
    rw [ih (fun j hj => h j (by omega)), h n (by omega)]
theorem zq_sm_mul (a : Int32) (f : Nat → Int32) : ∀ n, zq_sm (fun j => a * f j) n = a * zq_sm f n := by
  intro n
  induction n with
  | zero =>
    show (0 : Int32) = a * 0
    grind
  | succ n ih =>
    show zq_sm (fun j => a * f j) n + a * f n = a * (zq_sm f n + f n)
    rw [ih]
    grind
theorem zq_sm_mulR (a : Int32) (f : Nat → Int32) : ∀ n, zq_sm (fun j => f j * a) n = zq_sm f n * a := by
  intro n
  induction n with
  | zero =>
    show (0 : Int32) = 0 * a
    grind
  | succ n ih =>
    show zq_sm (fun j => f j * a) n + f n * a = (zq_sm f n + f n) * a
    rw [ih]
    grind
section
variable {sz ht oq dp lv kn rs rz : Int32} {a1 a2 a3 a4 a5 a6 a7 a8 a9 a10 a11 a12 a13 a14 : Nat → Int32}
theorem zq_workId {post : St1 → Prop} {x s : Nat} (hx : x < 3) (hs : s ≤ 8) (h1 : a1 x = nI s) (hB : zq_B [(nI 1, nI x), (nI 19, 0), (nI 2, nI 0), (nI 21, 0)] [1] 0 sz ht oq kn a3 a4 a5 a6)
    (H : ∀ (dp lv : Int32) (a7 a8 a9 a10 a11 a12 a13 a14 : Nat → Int32), (∀ e, e < s → a14 e = a2 (8 * x + e)) → post (sz, ht, oq, dp, lv, 1, 2, nI s, a1, a2, a3, a4, a5, a6, a7, a8, a9, a10, a11, a12, a13, a14)) : wpX_work post (sz, ht, oq, dp, lv, kn, rs, rz, a1, a2, a3, a4, a5, a6, a7, a8, a9, a10, a11, a12, a13, a14) := by
  obtain ⟨e1, e2, e3, e4, h6, h5, hq⟩ := hB
  have e1' : sz = nI 4 := e1
  have e2' : ht = nI 1 := e2
  subst e1' e2' e3 e4
  have q0 : zq_at a3 a4 4 0 [(nI 1, nI x), (nI 19, 0), (nI 2, nI 0), (nI 21, 0)] := hq
  have q1 := q0.2.2.2
  have q2 := q1.2.2.2
  have q3 := q2.2.2.2
  have q4 := q3.2.2.2
  refine zq_work (p := 4) ?_
  refine zq_Rinput (by omega) rfl q0 hx hs h1 (fun b7 b8 b9 r7 r8 r9 => ?_)
  refine zq_Rbegin (b := 0) (M := 1) (s := s) (by omega) rfl q1 (Or.inl rfl) (by omega) (by omega) hs (fun _ => rfl) pk_us r7 r8 (fun b11 b12 f1 f2 => ?_)
  refine zq_Relem (b := 0) (d := 0) (N := 1 * s) (by omega) rfl q2 (by omega) (by omega) (by omega) pk_us (fun c8 g1 g2 => ?_)
  simp only [Nat.mul_zero, Nat.zero_add, Nat.one_mul] at f1 g1
  refine zq_RendE (b := 0) (M := 1) (s := s) (V := fun l => a2 (8 * x + l)) (by omega) rfl q3 (by omega) (by omega) hs pk_us (by rw [pk_un (by omega), pk_us]) pk_us pk_us
    (fun i hi => by
      rw [Nat.mul_zero, Nat.zero_add]
      exact (f1 i (by omega)).2)
    (fun i hi => by
      show c8 i = a2 (8 * x + i)
      rw [g1 i (by omega), (f1 i (by omega)).1, Nat.mod_eq_of_lt (by omega), r9 i (by omega)])
    (fun d7 d8 d9 k7 k8 k9 => ?_)
  refine zq_Rrow (c := s) rfl (by omega) q4 h5.1 hs (k8 0 (by omega)) (fun b14 m => H _ _ _ _ _ _ _ _ _ _ (fun e he => ?_))
  have k := k9 0 e (by omega) he
  rw [Nat.mul_zero, Nat.zero_mul, Nat.zero_add] at k
  rw [m e he]
  exact k
theorem zq_workSum {post : St1 → Prop} {x s : Nat} (hx : x < 3) (hs : s ≤ 8) (h1 : a1 x = nI s) (hB : zq_B [(nI 1, nI x), (nI 11, 0)] [0] 0 sz ht oq kn a3 a4 a5 a6)
    (H : ∀ (dp lv : Int32) (a7 a8 a9 a10 a11 a12 a13 a14 : Nat → Int32), a14 0 = zq_sm (fun j => a2 (8 * x + j)) s → post (sz, ht, oq, dp, lv, 1, 1, 1, a1, a2, a3, a4, a5, a6, a7, a8, a9, a10, a11, a12, a13, a14)) : wpX_work post (sz, ht, oq, dp, lv, kn, rs, rz, a1, a2, a3, a4, a5, a6, a7, a8, a9, a10, a11, a12, a13, a14) := by
  obtain ⟨e1, e2, e3, e4, h6, h5, hq⟩ := hB
  have e1' : sz = nI 2 := e1
  have e2' : ht = nI 1 := e2
  subst e1' e2' e3 e4
  have q0 : zq_at a3 a4 2 0 [(nI 1, nI x), (nI 11, 0)] := hq
  have q1 := q0.2.2.2
  have q2 := q1.2.2.2
  refine zq_work (p := 2) ?_
  refine zq_Rinput (by omega) rfl q0 hx hs h1 (fun b7 b8 b9 r7 r8 r9 => ?_)
  refine zq_Rsum (t := 0) (N := 1) (s := s) (by omega) rfl q1 r7 (by omega) (by omega) hs pk_us (fun l hl => by rw [show l = 0 by omega]; exact r8) (fun c7 c8 c9 k7 k8 => ?_)
  refine zq_Rone rfl (by omega) q2 h5.1 (fun b14 m => H _ _ _ _ _ _ _ _ _ _ ?_)
  rw [m, k8 0 (by omega)]
  exact zq_sm_congr s (fun j hj => by rw [Nat.mul_zero, Nat.zero_add]; exact r9 j hj)
theorem zq_dm5 {l s r : Nat} (hr : r ≤ 8) (hs : s ≤ 8) (h : l < s * r) : l / r < s ∧ l % r < r := by
  have := zq_dm2 hr hs h
  exact ⟨this.1, this.2.1⟩
theorem zq_dm6 {q e r : Nat} (hr : r ≤ 8) (h : e < r) : (q * r + e) / r = q ∧ (q * r + e) % r = e := by
  have := zq_dm1 (l := q) (c := q * r) hr rfl h
  exact ⟨this.2, this.1⟩
theorem zq_workProd {post : St1 → Prop} {x y s r : Nat} (hx : x < 3) (hy : y < 3) (hs : s ≤ 8) (hr : r ≤ 8) (h1 : a1 x = nI s) (h2 : a1 y = nI r)
    (hB : zq_B [(nI 1, nI x), (nI 19, 0), (nI 1, nI y), (nI 19, 0), (nI 2, nI 0), (nI 2, nI 1), (nI 5, 0), (nI 21, 0), (nI 11, 0), (nI 21, 0), (nI 11, 0)] [0] 0 sz ht oq kn a3 a4 a5 a6)
    (H : ∀ (dp lv : Int32) (a7 a8 a9 a10 a11 a12 a13 a14 : Nat → Int32), a14 0 = zq_sm (fun j => a2 (8 * x + j)) s * zq_sm (fun j => a2 (8 * y + j)) r → post (sz, ht, oq, dp, lv, 1, 1, 1, a1, a2, a3, a4, a5, a6, a7, a8, a9, a10, a11, a12, a13, a14)) : wpX_work post (sz, ht, oq, dp, lv, kn, rs, rz, a1, a2, a3, a4, a5, a6, a7, a8, a9, a10, a11, a12, a13, a14) := by
  obtain ⟨e1, e2, e3, e4, h6, h5, hq⟩ := hB
  have e1' : sz = nI 11 := e1
  have e2' : ht = nI 1 := e2
  subst e1' e2' e3 e4
  have q0 : zq_at a3 a4 11 0 [(nI 1, nI x), (nI 19, 0), (nI 1, nI y), (nI 19, 0), (nI 2, nI 0), (nI 2, nI 1), (nI 5, 0), (nI 21, 0), (nI 11, 0), (nI 21, 0), (nI 11, 0)] := hq
  have q1 := q0.2.2.2
  have q2 := q1.2.2.2
  have q3 := q2.2.2.2
  have q4 := q3.2.2.2
  have q5 := q4.2.2.2
  have q6 := q5.2.2.2
  have q7 := q6.2.2.2
  have q8 := q7.2.2.2
  have q9 := q8.2.2.2
  have q10 := q9.2.2.2
  have q11 := q10.2.2.2
  have hsr : s * r ≤ 64 := zq_dm4 hr hs
  refine zq_work (p := 11) ?_
  refine zq_Rinput (by omega) rfl q0 hx hs h1 (fun b7 b8 b9 r7 r8 r9 => ?_)
  refine zq_Rbegin (b := 0) (M := 1) (s := s) (by omega) rfl q1 (Or.inl rfl) (by omega) (by omega) hs (fun _ => rfl) pk_us r7 r8 (fun b11 b12 f1 f2 => ?_)
  simp only [Nat.mul_zero, Nat.zero_add, Nat.one_mul] at f1
  rw [Nat.one_mul, Nat.zero_add]
  refine zq_Rinput (by omega) rfl q2 hy hr h2 (fun c7 c8 c9 t7 t8 t9 => ?_)
  refine zq_Rbegin (b := 1) (M := s) (s := r) (by omega) rfl q3 (Or.inl rfl) (by omega) hs hr (fun z => absurd z (by omega)) pk_us t7 t8 (fun c11 c12 g1 g2 => ?_)
  simp only [Nat.mul_one] at g1 g2
  refine zq_Relem (b := 0) (d := 0) (N := s) (by omega) rfl q4 (by omega) (by omega) (by omega) (by rw [pk_un (by omega), pk_us]) (fun d8 m1 m2 => ?_)
  simp only [Nat.mul_zero, Nat.zero_add] at m1
  refine zq_Relem (b := 1) (d := 1) (N := s * r) (by omega) rfl q5 (by omega) (by omega) (by omega) pk_us (fun e8 n1 n2 => ?_)
  simp only [Nat.mul_one] at n1 n2
  refine zq_Rbin (k := 5) (t := 2) (N := s * r) (x0 := 1) (x1 := 2) (X := fun l => a2 (8 * x + l / r)) (Y := fun l => a2 (8 * y + l % r)) (by omega) rfl q6 (by omega) (by omega) (by rw [pk_un (by omega), pk_us]) pk_us (by omega) (by omega) (by omega) hsr pk_us
    (fun l hl => ?_) (fun l hl => ?_) (fun u7 u8 u9 v7 v8 => ?_)
  · obtain ⟨w1, w2⟩ := zq_dm5 hr hs hl
    refine ⟨l / r, by omega, Or.inr (Or.inr ⟨by omega, by omega, (g1 l hl).2⟩), ?_⟩
    rw [n2 _ (by omega), m1 _ w1, (g2 _ (by omega)).1, (f1 _ w1).1, Nat.mod_eq_of_lt w1, r9 _ w1]
  · obtain ⟨w1, w2⟩ := zq_dm5 hr hs hl
    refine ⟨l, by omega, Or.inl ⟨rfl, rfl⟩, ?_⟩
    rw [n1 l hl, (g1 l hl).1, t9 _ w2]
  refine zq_RendE (b := 1) (M := s) (s := r) (V := fun l => a2 (8 * x + l / r) * a2 (8 * y + l % r)) (by omega) rfl q7 (by omega) hs hr v7 (by rw [pk_un (by omega), pk_us]) pk_us pk_us (fun i hi => (g1 i hi).2) (fun i hi => v8 i hi) (fun a b c z7 z8 z9 => ?_)
  refine zq_Rsum (t := 1) (N := s) (s := r) (by omega) rfl q8 z7 (by omega) (by omega) hr (by rw [pk_un (by omega), pk_us]) z8 (fun a' b' c' y7 y8 => ?_)
  refine zq_RendE (b := 0) (M := 1) (s := s) (V := fun q => a2 (8 * x + q) * zq_sm (fun j => a2 (8 * y + j)) r) (by omega) rfl q9 (by omega) (by omega) hs y7 (by rw [pk_un (by omega), pk_un (by omega), pk_us]) (by rw [pk_un (by omega), Nat.one_mul]; exact pk_us) (by rw [pk_un (by omega), pk_us] <;> rfl)
    (fun i hi => ?_) (fun i hi => ?_) (fun a'' b'' c'' x7 x8 x9 => ?_)
  · rw [Nat.mul_zero, Nat.zero_add, (g2 i (by omega)).2]
    exact (f1 i (by omega)).2
  · rw [y8 i (by omega)]
    rw [← zq_sm_mul]
    refine zq_sm_congr r (fun j hj => ?_)
    obtain ⟨w1, w2⟩ := zq_dm6 (q := i) hr hj
    rw [z9 i j (by omega) hj]
    show a2 (8 * x + (i * r + j) / r) * a2 (8 * y + (i * r + j) % r) = _
    rw [w1, w2]
  refine zq_Rsum (t := 0) (N := 1) (s := s) (by omega) rfl q10 x7 (by omega) (by omega) hs (by rw [pk_un (by omega), pk_un (by omega), pk_us]) x8 (fun a3' b3' c3' w7 w8 => ?_)
  refine zq_Rone rfl (by omega) q11 h5.1 (fun b14 m => H _ _ _ _ _ _ _ _ _ _ ?_)
  rw [m, w8 0 (by omega), ← zq_sm_mulR]
  refine zq_sm_congr s (fun j hj => ?_)
  have k := x9 0 j (by omega) hj
  rw [Nat.zero_mul, Nat.zero_add] at k
  show c'' (8 * 0 + j) = a2 (8 * x + j) * zq_sm (fun j => a2 (8 * y + j)) r
  rw [Nat.mul_zero, Nat.zero_add]
  exact k
end
end
section
/-! part 7: formula and kept -/
def zq_cell (L : Nat) (xs : Nat → Int32) (k : Nat) : Int32 := if L ≤ k then 0 else xs k
theorem zq_wcell {post : Int32 → Prop} {L k : Nat} {xs : Nat → Int32} (hL : L ≤ 260) (hk : k < 4000) (H : post (zq_cell L xs k)) : wpL_cell post L xs () (nI k) := by
  unfold wpL_cell
  refine pk_le L k (fun z => ?_) (fun z => ⟨pk_in k L z, ?_⟩)
  · have e : zq_cell L xs k = 0 := if_pos z
    rw [e] at H
    exact H
  · have e : zq_cell L xs k = xs k := if_neg (by omega)
    rw [e] at H
    rw [zq_c hk]
    exact H
/-- what a cell of the formula writes -/
def zq_w (c : Int32) : Int32 := (c >>> ((8 : Int32) &&& 31)) &&& 7
def zq_j (c : Int32) : Nat := (c >>> ((8 : Int32) &&& 31)).toBitVec.toNat % 2 ^ 3
def zq_kk (c : Int32) : Nat := 3 + zq_j c % 6
def zq_cv (c : Int32) : Int32 := ((c >>> ((2 : Int32) &&& 31)) &&& 63) - 20
theorem zq_kn (c : Int32) : (3 + (((c >>> ((8 : Int32) &&& 31)) &&& 7) - ((c >>> ((8 : Int32) &&& 31)) &&& 7) / 6 * 6) : Int32) = nI (zq_kk c) := by
  have e : ((c >>> ((8 : Int32) &&& 31)) &&& 7 : Int32) = nI (zq_j c) := pk_and _ 3 (by decide)
  have h : zq_j c < 2 ^ 3 := Nat.mod_lt _ (by decide)
  rw [e, show (6 : Int32) = nI 6 from rfl, pk_rem (by omega) (by omega) (by omega), show (3 : Int32) = nI 3 from rfl, nI_add]
  rfl
theorem zq_kk_in (c : Int32) : 3 ≤ zq_kk c ∧ zq_kk c ≤ 8 := by
  have h : zq_j c % 6 < 6 := Nat.mod_lt _ (by decide)
  exact ⟨by unfold zq_kk; omega, by unfold zq_kk; omega⟩
theorem zq_cv_in (c : Int32) : ¬ zq_cv c < (-99) ∧ ¬ 99 < zq_cv c := by
  obtain ⟨j, hj, e⟩ := pk_andE (c >>> ((2 : Int32) &&& 31)) (m := 63) 6 (by decide)
  unfold zq_cv
  rw [e]
  exact zq_fitC j hj
def zq_t1 (c : Int32) : Int32 × Int32 := if (c &&& 3) = 0 then (nI 2, nI 0) else (nI 0, zq_cv c)
def zq_t2 (c : Int32) : List (Int32 × Int32) := if zq_w c = 7 then [(nI 2, nI 0), (nI 9, 0)] else [(nI (zq_kk c), 0)]
def zq_tc (c : Int32) : List (Int32 × Int32) := zq_t1 c :: zq_t2 c
def zq_fm : List Int32 → List (Int32 × Int32)
  | [] => []
  | c :: cs => zq_tc c ++ zq_fm cs
theorem zq_fm_snoc (c : Int32) : ∀ cs : List Int32, zq_fm (cs ++ [c]) = zq_fm cs ++ zq_tc c := by
  intro cs
  induction cs with
  | nil =>
    show zq_tc c ++ [] = [] ++ zq_tc c
    rw [List.append_nil, List.nil_append]
  | cons d cs ih =>
    show zq_tc d ++ zq_fm (cs ++ [c]) = zq_tc d ++ zq_fm cs ++ zq_tc c
    rw [ih, List.append_assoc]
theorem zq_tc_len (c : Int32) : (zq_tc c).length ≤ 3 := by
  unfold zq_tc zq_t2
  split
  · exact Nat.le_refl 3
  · exact (by decide : 2 ≤ 3)
theorem zq_fm_len : ∀ cs : List Int32, (zq_fm cs).length ≤ 3 * cs.length := by
  intro cs
  induction cs with
  | nil => exact Nat.le_refl 0
  | cons c cs ih =>
    show (zq_tc c ++ zq_fm cs).length ≤ 3 * (cs.length + 1)
    rw [List.length_append]
    have := zq_tc_len c
    omega
/-- the cells that the formula reads -/
def zq_cs (L : Nat) (xs : Nat → Int32) (f : Nat) : Nat → List Int32
  | 0 => []
  | k + 1 => zq_cs L xs f k ++ [zq_cell L xs (f + k)]
theorem zq_cs_len (L : Nat) (xs : Nat → Int32) (f : Nat) : ∀ k, (zq_cs L xs f k).length = k := by
  intro k
  induction k with
  | zero => rfl
  | succ k ih =>
    show (zq_cs L xs f k ++ [zq_cell L xs (f + k)]).length = k + 1
    rw [List.length_append, ih]
    rfl
/-- one cell's value -/
def zq_X (c e : Int32) : Int32 := if (c &&& 3) = 0 then e else zq_cv c
def zq_G (c v e : Int32) : Int32 := if zq_w c = 7 then (if v = 0 then e else zq_X c e) else zq_wk (zq_kk c) v (zq_X c e)
def zq_ev : List Int32 → Int32 → Int32 → Int32
  | [], v, _ => v
  | c :: cs, v, e => zq_ev cs (zq_G c v e) e
section
variable {sz ht oq dp lv kn rs rz : Int32} {a1 a2 a3 a4 a5 a6 a7 a8 a9 a10 a11 a12 a13 a14 : Nat → Int32}
theorem zq_form56 {post : St1 → Prop} {L : Nat} {xs : Nat → Int32} {J : Int32 → Int32 → Int32 → Int32 → Int32 → Int32 → Int32 → Int32 → Int32 → (Nat → Int32) → (Nat → Int32) → (Nat → Int32) → (Nat → Int32) → (Nat → Int32) → (Nat → Int32) → (Nat → Int32) → (Nat → Int32) → (Nat → Int32) → (Nat → Int32) → (Nat → Int32) → (Nat → Int32) → (Nat → Int32) → (Nat → Int32) → Prop} {x2 c : Int32} {k : Nat} {P : List (Int32 × Int32)} (hP : P.length < 38)
    (hB : zq_B P [0, 0] 1 sz ht oq kn a3 a4 a5 a6)
    (H : ∀ (sz ht oq kn : Int32) (a3 a4 a5 a6 : Nat → Int32), zq_B (P ++ zq_t2 c) [0] 1 sz ht oq kn a3 a4 a5 a6 → J (nI (k + 1)) sz ht oq dp lv kn rs rz a1 a2 a3 a4 a5 a6 a7 a8 a9 a10 a11 a12 a13 a14) : wL_formula_56 post L xs J x2 (nI k) c sz ht oq dp lv kn rs rz a1 a2 a3 a4 a5 a6 a7 a8 a9 a10 a11 a12 a13 a14 := by
  unfold wL_formula_56
  refine br_c (fun z => ?_) (fun z => ⟨by decide, ?_⟩)
  · have e : zq_t2 c = [(nI 2, nI 0), (nI 9, 0)] := if_pos z
    rw [e] at H
    refine zq_tElem (y := 0) hB (by omega) (by omega) (by decide) (by omega) (fun sz ht oq kn a3 a4 a5 a6 hB => ?_)
    refine zq_tPick hB (by omega) (by rw [List.length_append]; show P.length + 1 < 40; omega) (fun sz ht oq kn a3 a4 a5 a6 hB => nm_r (nI_1 k) (H _ _ _ _ _ _ _ _ ?_))
    rw [List.append_assoc] at hB
    exact hB
  · have e : zq_t2 c = [(nI (zq_kk c), 0)] := if_neg z
    rw [e] at H
    rw [zq_kn c]
    exact zq_tBin hB (by omega) (by omega) (zq_kk_in c).1 (zq_kk_in c).2 (fun sz ht oq kn a3 a4 a5 a6 hB => nm_r (nI_1 k) (H _ _ _ _ _ _ _ _ hB))
theorem zq_form9 {post : St1 → Prop} {L f : Nat} {xs : Nat → Int32} {P : List (Int32 × Int32)} (hL : L ≤ 260) (hf : f ≤ 100) (hP : P.length ≤ 3)
    (H : ∀ (sz ht oq kn : Int32) (a3 a4 a5 a6 : Nat → Int32), zq_B (P ++ zq_fm (zq_cs L xs f 5)) [0] 1 sz ht oq kn a3 a4 a5 a6 → post (sz, ht, oq, dp, lv, kn, rs, rz, a1, a2, a3, a4, a5, a6, a7, a8, a9, a10, a11, a12, a13, a14)) :
    ∀ (n k : Nat) (sz ht oq kn : Int32) (a3 a4 a5 a6 : Nat → Int32), k ≤ 5 → 5 - k < n → zq_B (P ++ zq_fm (zq_cs L xs f k)) [0] 1 sz ht oq kn a3 a4 a5 a6 → wL_formula_9 post L xs (nI f) n (nI k) sz ht oq dp lv kn rs rz a1 a2 a3 a4 a5 a6 a7 a8 a9 a10 a11 a12 a13 a14 := by
  intro n
  induction n with
  | zero => exact fun k _ _ _ _ _ _ _ _ _ h => absurd h (by omega)
  | succ n ih =>
    intro k sz ht oq kn a3 a4 a5 a6 hk hn hB
    have hlen : (P ++ zq_fm (zq_cs L xs f k)).length ≤ 18 := by
      have h1 := zq_fm_len (zq_cs L xs f k)
      rw [zq_cs_len] at h1
      rw [List.length_append]
      omega
    refine pk_le 5 k (fun z => ?_) (fun z => ?_)
    · have e : k = 5 := by omega
      rw [e] at hB
      exact H _ _ _ _ _ _ _ _ hB
    · rw [nI_add]
      refine zq_wcell hL (by omega) ?_
      have fin : ∀ (sz ht oq kn : Int32) (a3 a4 a5 a6 : Nat → Int32), zq_B (P ++ zq_fm (zq_cs L xs f k) ++ [zq_t1 (zq_cell L xs (f + k))]) [0, 0] 1 sz ht oq kn a3 a4 a5 a6 → wL_formula_56 post L xs (wL_formula_9 post L xs (nI f) n) (nI f) (nI k) (zq_cell L xs (f + k)) sz ht oq dp lv kn rs rz a1 a2 a3 a4 a5 a6 a7 a8 a9 a10 a11 a12 a13 a14 := by
        intro sz ht oq kn a3 a4 a5 a6 hB
        refine zq_form56 (by rw [List.length_append]; show (P ++ zq_fm (zq_cs L xs f k)).length + 1 < 38; omega) hB (fun sz ht oq kn a3 a4 a5 a6 hB => ih (k + 1) _ _ _ _ _ _ _ _ (by omega) (by omega) ?_)
        have e : P ++ zq_fm (zq_cs L xs f (k + 1)) = P ++ zq_fm (zq_cs L xs f k) ++ [zq_t1 (zq_cell L xs (f + k))] ++ zq_t2 (zq_cell L xs (f + k)) := by
          show P ++ zq_fm (zq_cs L xs f k ++ [zq_cell L xs (f + k)]) = _
          rw [zq_fm_snoc, List.append_assoc, List.append_assoc]
          rfl
        rw [e]
        exact hB
      refine br_c (fun z => ?_) (fun z => ?_)
      · have e : zq_t1 (zq_cell L xs (f + k)) = (nI 2, nI 0) := if_pos z
        rw [e] at fin
        exact zq_tElem (y := 0) hB (by omega) (by omega) (by decide) (by omega) (fun sz ht oq kn a3 a4 a5 a6 hB => fin _ _ _ _ _ _ _ _ hB)
      · have e : zq_t1 (zq_cell L xs (f + k)) = (nI 0, zq_cv (zq_cell L xs (f + k))) := if_neg z
        rw [e] at fin
        exact zq_tConst (x := zq_cv (zq_cell L xs (f + k))) hB (by omega) (by omega) (by decide) (zq_cv_in _) (fun sz ht oq kn a3 a4 a5 a6 hB => fin _ _ _ _ _ _ _ _ hB)
theorem zq_formula {post : St1 → Prop} {L f : Nat} {xs : Nat → Int32} {P : List (Int32 × Int32)} (hL : L ≤ 260) (hf : f ≤ 100) (hP : P.length ≤ 2) (hB : zq_B P [] 1 sz ht oq kn a3 a4 a5 a6)
    (H : ∀ (sz ht oq kn : Int32) (a3 a4 a5 a6 : Nat → Int32), zq_B (P ++ [(nI 2, nI 0)] ++ zq_fm (zq_cs L xs f 5)) [0] 1 sz ht oq kn a3 a4 a5 a6 → post (sz, ht, oq, dp, lv, kn, rs, rz, a1, a2, a3, a4, a5, a6, a7, a8, a9, a10, a11, a12, a13, a14)) : wpL_formula post L xs (sz, ht, oq, dp, lv, kn, rs, rz, a1, a2, a3, a4, a5, a6, a7, a8, a9, a10, a11, a12, a13, a14) (nI f) := by
  unfold wpL_formula
  dsimp only
  refine zq_tElem (y := 0) hB (by omega) (by omega) (by decide) (by omega) (fun sz ht oq kn a3 a4 a5 a6 hB => ⟨6, ?_⟩)
  refine zq_form9 hL hf (by rw [List.length_append]; show P.length + 1 ≤ 3; omega) H 6 0 _ _ _ _ _ _ _ _ (by omega) (by omega) ?_
  show zq_B (P ++ [(nI 2, nI 0)] ++ []) [0] 1 sz ht oq kn a3 a4 a5 a6
  rw [List.append_nil]
  exact hB
theorem zq_runC {post : St1 → Prop} {p i N : Nat} {c : Int32} {V E : Nat → Int32} {T : List (Int32 × Int32)} (hp : p ≤ 40) (hN : N ≤ 8) (hsz : sz = nI p) (h10 : a10 1 = nI N) (h11 : ∀ l, l < N → a11 l = E l)
    (hq : zq_at a3 a4 p i (zq_tc c ++ T)) (h7 : a7 0 = nI 1) (h8 : ∀ l, l < N → a8 l = V l)
    (H : ∀ (i : Nat) (b7 b8 b9 : Nat → Int32), zq_at a3 a4 p i T → b7 0 = nI 1 → (∀ l, l < N → b8 l = zq_G c (V l) (E l)) → zq_R post p i (sz, ht, oq, nI 1, lv, kn, rs, rz, a1, a2, a3, a4, a5, a6, b7, b8, b9, a10, a11, a12, a13, a14)) : zq_R post p i (sz, ht, oq, nI 1, lv, kn, rs, rz, a1, a2, a3, a4, a5, a6, a7, a8, a9, a10, a11, a12, a13, a14) := by
  have q0 : zq_at a3 a4 p i (zq_t1 c :: (zq_t2 c ++ T)) := hq
  have q1 := q0.2.2.2
  have key : ∀ (b7 b8 : Nat → Int32) (x1 : Nat), b7 0 = nI 1 → b7 1 = nI x1 → x1 ≤ 1 → (∀ l, l < N → b8 l = V l) → (∀ l, l < N → ∃ o, o < 64 ∧ zq_own a12 x1 1 l o ∧ b8 (64 + o) = zq_X c (E l)) → zq_R post p (i + 1) (sz, ht, oq, nI 2, lv, kn, rs, rz, a1, a2, a3, a4, a5, a6, b7, b8, a9, a10, a11, a12, a13, a14) := by
    intro b7 b8 x1 k7 k71 hx1 k8 kY
    by_cases z : zq_w c = 7
    · have e : zq_t2 c = [(nI 2, nI 0), (nI 9, 0)] := if_pos z
      rw [e] at q1
      have q2 := q1.2.2.2
      refine zq_Relem (b := 0) (d := 2) (N := N) hp hsz q1 (by omega) (by omega) (by omega) h10 (fun c8 g1 g2 => ?_)
      simp only [Nat.mul_zero, Nat.zero_add] at g1
      refine zq_Rpick (t := 1) (N := N) (x1 := x1) (x2 := 1) (X := V) (Y := fun l => zq_X c (E l)) (Z := E) hp hsz q2 (by rw [pk_un (by omega)]; exact k7) (by rw [pk_un (by omega)]; exact k71) pk_us (by omega) hx1 (by omega) (by omega) h10
        (fun l hl => by rw [g2 l (by omega)]; exact k8 l hl)
        (fun l hl => by
          obtain ⟨o, o1, o2, o3⟩ := kY l hl
          exact ⟨o, o1, o2, by rw [g2 _ (by omega)]; exact o3⟩)
        (fun l hl => ⟨l, by omega, Or.inl ⟨rfl, rfl⟩, by rw [show 128 + l = 64 * 2 + l by omega, g1 l hl]; exact h11 l hl⟩)
        (fun d7 d8 d9 m7 m8 => H _ d7 d8 d9 q2.2.2.2 m7 (fun l hl => ?_))
      rw [m8 l hl]
      exact (if_pos z).symm
    · have e : zq_t2 c = [(nI (zq_kk c), 0)] := if_neg z
      rw [e] at q1
      refine zq_Rbin (k := zq_kk c) (t := 1) (N := N) (x0 := 1) (x1 := x1) (X := V) (Y := fun l => zq_X c (E l)) hp hsz q1 (zq_kk_in c).1 (zq_kk_in c).2 k7 k71 (by omega) (by omega) (by omega) (by omega) h10
        (fun l hl => ⟨l, by omega, Or.inl ⟨rfl, rfl⟩, k8 l hl⟩) kY (fun d7 d8 d9 m7 m8 => H _ d7 d8 d9 q1.2.2.2 m7 (fun l hl => ?_))
      rw [m8 l hl]
      exact (if_neg z).symm
  by_cases z : (c &&& 3) = 0
  · have e : zq_t1 c = (nI 2, nI 0) := if_pos z
    rw [e] at q0
    refine zq_Relem (b := 0) (d := 1) (N := N) hp hsz q0 (by omega) (by omega) (by omega) h10 (fun c8 g1 g2 => ?_)
    simp only [Nat.mul_zero, Nat.zero_add, Nat.mul_one] at g1 g2
    refine key _ _ 1 (by rw [pk_un (by omega)]; exact h7) pk_us (by omega) (fun l hl => by rw [g2 l (by omega)]; exact h8 l hl) (fun l hl => ⟨l, by omega, Or.inl ⟨rfl, rfl⟩, ?_⟩)
    rw [g1 l hl, h11 l hl]
    exact (if_pos z).symm
  · have e : zq_t1 c = (nI 0, zq_cv c) := if_neg z
    rw [e] at q0
    refine zq_Rconst (d := 1) hp hsz q0 (by omega) (key _ _ 0 (by rw [pk_un (by omega)]; exact h7) pk_us (by omega) (fun l hl => by rw [pk_un (by omega)]; exact h8 l hl) (fun l hl => ⟨0, by omega, Or.inr (Or.inl ⟨by omega, rfl, rfl⟩), ?_⟩))
    have e2 : zq_X c (E l) = zq_cv c := if_neg z
    rw [e2]
    exact pk_us
theorem zq_runF {post : St1 → Prop} {p N : Nat} {E : Nat → Int32} {T : List (Int32 × Int32)} (hp : p ≤ 40) (hN : N ≤ 8) (hsz : sz = nI p) (h10 : a10 1 = nI N) (h11 : ∀ l, l < N → a11 l = E l) :
    ∀ (cs : List Int32) (i : Nat) (V a7 a8 a9 : Nat → Int32), zq_at a3 a4 p i (zq_fm cs ++ T) → a7 0 = nI 1 → (∀ l, l < N → a8 l = V l) →
    (∀ (i : Nat) (b7 b8 b9 : Nat → Int32), zq_at a3 a4 p i T → b7 0 = nI 1 → (∀ l, l < N → b8 l = zq_ev cs (V l) (E l)) → zq_R post p i (sz, ht, oq, nI 1, lv, kn, rs, rz, a1, a2, a3, a4, a5, a6, b7, b8, b9, a10, a11, a12, a13, a14)) → zq_R post p i (sz, ht, oq, nI 1, lv, kn, rs, rz, a1, a2, a3, a4, a5, a6, a7, a8, a9, a10, a11, a12, a13, a14) := by
  intro cs
  induction cs with
  | nil => exact fun i V a7 a8 a9 hq h7 h8 H => H i a7 a8 a9 hq h7 h8
  | cons c cs ih =>
    intro i V a7 a8 a9 hq h7 h8 H
    have e : zq_fm (c :: cs) ++ T = zq_tc c ++ (zq_fm cs ++ T) := List.append_assoc _ _ _
    rw [e] at hq
    exact zq_runC hp hN hsz h10 h11 hq h7 h8 (fun i b7 b8 b9 hq h7 h8 => ih i (fun l => zq_G c (V l) (E l)) b7 b8 b9 hq h7 h8 H)
/-- the value of the formula for lane l -/
def zq_fv (L : Nat) (xs : Nat → Int32) (f : Nat) (e : Int32) : Int32 := zq_ev (zq_cs L xs f 5) e e
theorem zq_workK0 {post : St1 → Prop} {L f x s p : Nat} {xs : Nat → Int32} {T : List (Int32 × Int32)} (hx : x < 3) (hs : s ≤ 8) (hp : p ≤ 40) (h1 : a1 x = nI s)
    (hsz : sz = nI p) (hht : ht = nI 1) (hoq : oq = nI 0) (hkn : kn = 0) (hq : zq_at a3 a4 p 0 ((nI 1, nI x) :: (nI 20, 0) :: (nI 2, nI 0) :: (zq_fm (zq_cs L xs f 5) ++ T)))
    (H : ∀ (i : Nat) (a7 a8 a9 a10 a11 a12 a13 : Nat → Int32), zq_at a3 a4 p i T → a7 0 = nI 1 → (∀ l, l < s → a8 l = zq_fv L xs f (a2 (8 * x + l))) → a10 0 = nI 1 → a10 1 = nI s → a13 0 = 20 → (∀ l, l < s → a12 l = nI 0) →
      zq_R post p i (sz, ht, oq, nI 1, nI 1, 1, 0, 0, a1, a2, a3, a4, a5, a6, a7, a8, a9, a10, a11, a12, a13, a14)) : wpX_work post (sz, ht, oq, dp, lv, kn, rs, rz, a1, a2, a3, a4, a5, a6, a7, a8, a9, a10, a11, a12, a13, a14) := by
  subst hht hoq hkn
  have q1 := hq.2.2.2
  have q2 := q1.2.2.2
  have q3 := q2.2.2.2
  refine zq_work (p := p) ?_
  refine zq_Rinput hp hsz hq hx hs h1 (fun b7 b8 b9 r7 r8 r9 => ?_)
  refine zq_Rbegin (b := 0) (M := 1) (s := s) hp hsz q1 (Or.inr rfl) (by omega) (by omega) hs (fun _ => rfl) pk_us r7 r8 (fun b11 b12 f1 f2 => ?_)
  simp only [Nat.mul_zero, Nat.zero_add, Nat.one_mul] at f1
  rw [Nat.one_mul, Nat.zero_add]
  refine zq_Relem (b := 0) (d := 0) (N := s) hp hsz q2 (by omega) (by omega) (by omega) pk_us (fun c8 g1 g2 => ?_)
  simp only [Nat.mul_zero, Nat.zero_add] at g1
  have hE : ∀ l, l < s → b11 l = a2 (8 * x + l) := fun l hl => by rw [(f1 l hl).1, Nat.mod_eq_of_lt hl, r9 l hl]
  refine zq_runF (E := fun l => a2 (8 * x + l)) hp hs hsz pk_us hE _ _ (fun l => a2 (8 * x + l)) _ _ _ q3 pk_us (fun l hl => by rw [g1 l hl]; exact hE l hl) (fun i d7 d8 d9 hq k7 k8 => ?_)
  exact H i d7 d8 d9 _ _ _ _ hq k7 k8 (by rw [pk_un (by omega), pk_us]) pk_us pk_us (fun l hl => by rw [(f1 l hl).2, Nat.div_eq_of_lt hl])
theorem zq_ct_bound (V : Nat → Int32) {s : Nat} (hs : s ≤ 8) : zq_ct V s ≤ 8 := Nat.le_trans (zq_ct_le V s) hs
theorem zq_workKf {post : St1 → Prop} {L f x s : Nat} {xs : Nat → Int32} (hx : x < 3) (hs : s ≤ 8) (h1 : a1 x = nI s)
    (hB : zq_B ([(nI 1, nI x), (nI 20, 0)] ++ [(nI 2, nI 0)] ++ zq_fm (zq_cs L xs f 5) ++ [(nI 21, 0)]) [1] 0 sz ht oq kn a3 a4 a5 a6)
    (H : ∀ (dp lv : Int32) (a7 a8 a9 a10 a11 a12 a13 a14 : Nat → Int32), post (sz, ht, oq, dp, lv, 1, 2, nI (zq_ct (fun l => zq_fv L xs f (a2 (8 * x + l))) s), a1, a2, a3, a4, a5, a6, a7, a8, a9, a10, a11, a12, a13, a14)) : wpX_work post (sz, ht, oq, dp, lv, kn, rs, rz, a1, a2, a3, a4, a5, a6, a7, a8, a9, a10, a11, a12, a13, a14) := by
  obtain ⟨e1, e2, e3, e4, h6, h5, hq⟩ := hB
  have hp : ([(nI 1, nI x), (nI 20, 0)] ++ [(nI 2, nI 0)] ++ zq_fm (zq_cs L xs f 5) ++ [(nI 21, 0)]).length ≤ 40 := by
    have := zq_fm_len (zq_cs L xs f 5)
    rw [zq_cs_len] at this
    rw [List.length_append, List.length_append]
    show 3 + (zq_fm (zq_cs L xs f 5)).length + 1 ≤ 40
    omega
  refine zq_workK0 (T := [(nI 21, 0)]) hx hs hp h1 e1 e2 e3 e4 hq (fun i a7 a8 a9 a10 a11 a12 a13 hq h7 h8 h10 h11 h13 h12 => ?_)
  refine zq_RendK (N := s) hp e1 hq hs h7 h10 h11 h13 h12 h8 (fun b7 b8 b9 k7 k8 => ?_)
  exact zq_Rrow e1 hp hq.2.2.2 h5.1 (zq_ct_bound _ hs) k8 (fun b14 _ => H _ _ _ _ _ _ _ _ _ _)
theorem zq_workKt {post : St1 → Prop} {L f x s : Nat} {xs : Nat → Int32} (hx : x < 3) (hs : s ≤ 8) (h1 : a1 x = nI s)
    (hB : zq_B ([(nI 1, nI x), (nI 20, 0)] ++ [(nI 2, nI 0)] ++ zq_fm (zq_cs L xs f 5) ++ [(nI 0, 0)] ++ [(nI 8, 0)] ++ [(nI 21, 0)]) [1] 0 sz ht oq kn a3 a4 a5 a6)
    (H : ∀ (dp lv : Int32) (a7 a8 a9 a10 a11 a12 a13 a14 : Nat → Int32), post (sz, ht, oq, dp, lv, 1, 2, nI (zq_ct (fun l => zq_wk 8 (zq_fv L xs f (a2 (8 * x + l))) 0) s), a1, a2, a3, a4, a5, a6, a7, a8, a9, a10, a11, a12, a13, a14)) : wpX_work post (sz, ht, oq, dp, lv, kn, rs, rz, a1, a2, a3, a4, a5, a6, a7, a8, a9, a10, a11, a12, a13, a14) := by
  rw [List.append_assoc, List.append_assoc] at hB
  obtain ⟨e1, e2, e3, e4, h6, h5, hq⟩ := hB
  have hp : ([(nI 1, nI x), (nI 20, 0)] ++ [(nI 2, nI 0)] ++ zq_fm (zq_cs L xs f 5) ++ ([(nI 0, 0)] ++ ([(nI 8, 0)] ++ [(nI 21, 0)]))).length ≤ 40 := by
    have := zq_fm_len (zq_cs L xs f 5)
    rw [zq_cs_len] at this
    rw [List.length_append, List.length_append]
    show 3 + (zq_fm (zq_cs L xs f 5)).length + 3 ≤ 40
    omega
  refine zq_workK0 (T := [(nI 0, 0), (nI 8, 0), (nI 21, 0)]) hx hs hp h1 e1 e2 e3 e4 hq (fun i a7 a8 a9 a10 a11 a12 a13 hq h7 h8 h10 h11 h13 h12 => ?_)
  have q1 := hq.2.2.2
  have q2 := q1.2.2.2
  have q3 := q2.2.2.2
  refine zq_Rconst (d := 1) hp e1 hq (by omega) ?_
  refine zq_Rbin (k := 8) (t := 1) (N := s) (x0 := 1) (x1 := 0) (X := fun l => zq_fv L xs f (a2 (8 * x + l))) (Y := fun _ => 0) hp e1 q1 (by omega) (by omega) (by rw [pk_un (by omega)]; exact h7) pk_us (by omega) (by omega) (by omega) (by omega) h11
    (fun l hl => ⟨l, by omega, Or.inl ⟨rfl, rfl⟩, by rw [pk_un (by omega)]; exact h8 l hl⟩) (fun l hl => ⟨0, by omega, Or.inr (Or.inl ⟨by omega, rfl, rfl⟩), pk_us⟩) (fun b7 b8 b9 k7 k8 => ?_)
  refine zq_RendK (N := s) hp e1 q2 hs k7 h10 h11 h13 h12 k8 (fun b7 b8 b9 k7 k8 => ?_)
  exact zq_Rrow e1 hp q3 h5.1 (zq_ct_bound _ hs) k8 (fun b14 _ => H _ _ _ _ _ _ _ _ _ _)
theorem zq_ct_sum (V : Nat → Int32) : ∀ n, zq_ct V n + zq_ct (fun l => zq_wk 8 (V l) 0) n = n := by
  intro n
  induction n with
  | zero => rfl
  | succ n ih =>
    show zq_ct V n + (if V n = 0 then 0 else 1) + (zq_ct (fun l => zq_wk 8 (V l) 0) n + (if zq_wk 8 (V n) 0 = 0 then 0 else 1)) = n + 1
    by_cases z : V n = 0
    · have e : zq_wk 8 (V n) 0 = 1 := if_pos z
      rw [e, if_pos z, if_neg (by decide)]
      omega
    · have e : zq_wk 8 (V n) 0 = 0 := if_neg z
      rw [e, if_neg z, if_pos rfl]
      omega
end
end
section
/-! part 8: the law's own methods -/
def zq_I (a1 : Nat → Int32) : Prop := ∀ i, i < 3 → ∃ s, s ≤ 8 ∧ a1 i = nI s
theorem zq_m3 (y : Int32) : ∃ x, x < 3 ∧ ((y &&& 3) - (y &&& 3) / 3 * 3 : Int32) = nI x := by
  obtain ⟨j, hj, e⟩ := pk_andE y (m := 3) 2 (by decide)
  have hj' : j < 4 := hj
  refine ⟨j % 3, Nat.mod_lt _ (by decide), ?_⟩
  rw [e]
  exact pk_rem (d := 3) (by omega) (by omega) (by omega)
section
variable {sz ht oq dp lv kn rs rz : Int32} {a1 a2 a3 a4 a5 a6 a7 a8 a9 a10 a11 a12 a13 a14 : Nat → Int32}
theorem zq_kept0 {post : Int32 → St1 → Prop} {L f x s : Nat} {xs : Nat → Int32} (hL : L ≤ 260) (hf : f ≤ 100) (hx : x < 3) (hs : s ≤ 8) (h1 : a1 x = nI s)
    (H : ∀ (sz ht oq dp lv kn rs rz : Int32) (a3 a4 a5 a6 a7 a8 a9 a10 a11 a12 a13 a14 : Nat → Int32), post (nI (zq_ct (fun l => zq_fv L xs f (a2 (8 * x + l))) s)) (sz, ht, oq, dp, lv, kn, rs, rz, a1, a2, a3, a4, a5, a6, a7, a8, a9, a10, a11, a12, a13, a14)) : wpL_kept post L xs (sz, ht, oq, dp, lv, kn, rs, rz, a1, a2, a3, a4, a5, a6, a7, a8, a9, a10, a11, a12, a13, a14) (nI x) (nI f) 0 := by
  unfold wpL_kept
  dsimp only
  refine zq_clear (fun r sz ht oq kn a3 a4 a5 a6 hB => ?_)
  refine zq_tInput (x := x) hB (by omega) (by simp) hx (fun sz ht oq kn a3 a4 a5 a6 hB => ?_)
  refine zq_tokenB (k := 20) (x := 0) (Or.inr rfl) hB (by omega) (by simp) (fun sz ht oq kn a3 a4 a5 a6 hB => ?_)
  refine zq_formula hL hf (by simp) hB (fun sz ht oq kn a3 a4 a5 a6 hB => br_t rfl ?_)
  unfold wL_kept_46
  have hlen := zq_fm_len (zq_cs L xs f 5)
  rw [zq_cs_len] at hlen
  refine zq_tokenE (o := 0) (x := 0) hB (by omega) (by rw [List.length_append]; show 3 + (zq_fm (zq_cs L xs f 5)).length < 40; omega) (fun sz ht oq kn a3 a4 a5 a6 hB => ?_)
  unfold wpX_length
  dsimp only
  refine zq_workKf hx hs h1 hB (fun dp lv a7 a8 a9 a10 a11 a12 a13 a14 => ?_)
  dsimp only
  exact br_f (by decide) (H _ _ _ _ _ _ _ _ _ _ _ _ _ _ _ _ _ _ _ _)
theorem zq_kept1 {post : Int32 → St1 → Prop} {L f x s : Nat} {xs : Nat → Int32} (hL : L ≤ 260) (hf : f ≤ 100) (hx : x < 3) (hs : s ≤ 8) (h1 : a1 x = nI s)
    (H : ∀ (sz ht oq dp lv kn rs rz : Int32) (a3 a4 a5 a6 a7 a8 a9 a10 a11 a12 a13 a14 : Nat → Int32), post (nI (zq_ct (fun l => zq_wk 8 (zq_fv L xs f (a2 (8 * x + l))) 0) s)) (sz, ht, oq, dp, lv, kn, rs, rz, a1, a2, a3, a4, a5, a6, a7, a8, a9, a10, a11, a12, a13, a14)) : wpL_kept post L xs (sz, ht, oq, dp, lv, kn, rs, rz, a1, a2, a3, a4, a5, a6, a7, a8, a9, a10, a11, a12, a13, a14) (nI x) (nI f) 1 := by
  unfold wpL_kept
  dsimp only
  refine zq_clear (fun r sz ht oq kn a3 a4 a5 a6 hB => ?_)
  refine zq_tInput (x := x) hB (by omega) (by simp) hx (fun sz ht oq kn a3 a4 a5 a6 hB => ?_)
  refine zq_tokenB (k := 20) (x := 0) (Or.inr rfl) hB (by omega) (by simp) (fun sz ht oq kn a3 a4 a5 a6 hB => ?_)
  refine zq_formula hL hf (by simp) hB (fun sz ht oq kn a3 a4 a5 a6 hB => br_f (by decide) ?_)
  have hlen := zq_fm_len (zq_cs L xs f 5)
  rw [zq_cs_len] at hlen
  refine zq_tConst (x := 0) hB (by omega) (by rw [List.length_append]; show 3 + (zq_fm (zq_cs L xs f 5)).length < 40; omega) (by decide) (by decide) (fun sz ht oq kn a3 a4 a5 a6 hB => ?_)
  refine zq_tBin (k := 8) (x := 0) hB (by omega) (by rw [List.length_append, List.length_append]; show 3 + (zq_fm (zq_cs L xs f 5)).length + 1 < 40; omega) (by omega) (by omega) (fun sz ht oq kn a3 a4 a5 a6 hB => ?_)
  unfold wL_kept_46
  refine zq_tokenE (o := 0) (x := 0) hB (by omega) (by rw [List.length_append, List.length_append, List.length_append]; show 3 + (zq_fm (zq_cs L xs f 5)).length + 1 + 1 < 40; omega) (fun sz ht oq kn a3 a4 a5 a6 hB => ?_)
  unfold wpX_length
  dsimp only
  refine zq_workKt hx hs h1 hB (fun dp lv a7 a8 a9 a10 a11 a12 a13 a14 => ?_)
  dsimp only
  exact br_f (by decide) (H _ _ _ _ _ _ _ _ _ _ _ _ _ _ _ _ _ _ _ _)
theorem zq_lsum {post : Int32 → St1 → Prop} {x s : Nat} (hx : x < 3) (hs : s ≤ 8) (h1 : a1 x = nI s)
    (H : ∀ (sz ht oq dp lv kn rs rz : Int32) (a3 a4 a5 a6 a7 a8 a9 a10 a11 a12 a13 a14 : Nat → Int32), post (zq_sm (fun j => a2 (8 * x + j)) s) (sz, ht, oq, dp, lv, kn, rs, rz, a1, a2, a3, a4, a5, a6, a7, a8, a9, a10, a11, a12, a13, a14)) : wpL_sum post (sz, ht, oq, dp, lv, kn, rs, rz, a1, a2, a3, a4, a5, a6, a7, a8, a9, a10, a11, a12, a13, a14) (nI x) := by
  unfold wpL_sum
  dsimp only
  refine zq_clear (fun r sz ht oq kn a3 a4 a5 a6 hB => ?_)
  refine zq_tInput (x := x) hB (by omega) (by simp) hx (fun sz ht oq kn a3 a4 a5 a6 hB => ?_)
  refine zq_tSum (x := 0) hB (by omega) (by simp) (fun sz ht oq kn a3 a4 a5 a6 hB => ?_)
  unfold wpX_result
  dsimp only
  refine zq_workSum hx hs h1 hB (fun dp lv a7 a8 a9 a10 a11 a12 a13 a14 h => ?_)
  dsimp only
  refine br_f (by decide) (br_f (by decide) ⟨pk_in 0 8 (by omega), ?_⟩)
  rw [sb_cl0, h]
  exact H _ _ _ _ _ _ _ _ _ _ _ _ _ _ _ _ _ _ _ _
theorem zq_products {post : Int32 → St1 → Prop} {x y s r : Nat} (hx : x < 3) (hy : y < 3) (hs : s ≤ 8) (hr : r ≤ 8) (h1 : a1 x = nI s) (h2 : a1 y = nI r)
    (H : ∀ (sz ht oq dp lv kn rs rz : Int32) (a3 a4 a5 a6 a7 a8 a9 a10 a11 a12 a13 a14 : Nat → Int32), post 1 (sz, ht, oq, dp, lv, kn, rs, rz, a1, a2, a3, a4, a5, a6, a7, a8, a9, a10, a11, a12, a13, a14)) : wpL_products post (sz, ht, oq, dp, lv, kn, rs, rz, a1, a2, a3, a4, a5, a6, a7, a8, a9, a10, a11, a12, a13, a14) (nI x) (nI y) := by
  unfold wpL_products
  dsimp only
  refine zq_lsum hx hs h1 (fun sz ht oq dp lv kn rs rz a3 a4 a5 a6 a7 a8 a9 a10 a11 a12 a13 a14 => ?_)
  refine zq_lsum hy hr h2 (fun sz ht oq dp lv kn rs rz a3 a4 a5 a6 a7 a8 a9 a10 a11 a12 a13 a14 => ?_)
  refine zq_clear (fun r sz ht oq kn a3 a4 a5 a6 hB => ?_)
  refine zq_tInput (x := x) hB (by omega) (by simp) hx (fun sz ht oq kn a3 a4 a5 a6 hB => ?_)
  refine zq_tokenB (k := 19) (x := 0) (Or.inl rfl) hB (by omega) (by simp) (fun sz ht oq kn a3 a4 a5 a6 hB => ?_)
  refine zq_tInput (x := y) hB (by omega) (by simp) hy (fun sz ht oq kn a3 a4 a5 a6 hB => ?_)
  refine zq_tokenB (k := 19) (x := 0) (Or.inl rfl) hB (by omega) (by simp) (fun sz ht oq kn a3 a4 a5 a6 hB => ?_)
  refine zq_tElem (y := 0) hB (by omega) (by simp) (by simp) (by omega) (fun sz ht oq kn a3 a4 a5 a6 hB => ?_)
  refine zq_tElem (y := 1) hB (by omega) (by simp) (by simp) (by omega) (fun sz ht oq kn a3 a4 a5 a6 hB => ?_)
  refine zq_tBin (k := 5) (x := 0) hB (by omega) (by simp) (by omega) (by omega) (fun sz ht oq kn a3 a4 a5 a6 hB => ?_)
  refine zq_tokenE (o := 1) (x := 0) hB (by omega) (by simp) (fun sz ht oq kn a3 a4 a5 a6 hB => ?_)
  refine zq_tSum (x := 0) hB (by omega) (by simp) (fun sz ht oq kn a3 a4 a5 a6 hB => ?_)
  refine zq_tokenE (o := 0) (x := 0) hB (by omega) (by simp) (fun sz ht oq kn a3 a4 a5 a6 hB => ?_)
  refine zq_tSum (x := 0) hB (by omega) (by simp) (fun sz ht oq kn a3 a4 a5 a6 hB => br_t rfl ?_)
  unfold wpX_sort
  dsimp only
  refine zq_workProd hx hy hs hr h1 h2 hB (fun dp lv a7 a8 a9 a10 a11 a12 a13 a14 h => ?_)
  dsimp only
  refine br_t rfl ?_
  unfold wpX_result
  dsimp only
  refine zq_workK ?_
  dsimp only
  refine br_f (by decide) (br_f (by decide) ⟨pk_in 0 8 (by omega), br_t ?_ (H _ _ _ _ _ _ _ _ _ _ _ _ _ _ _ _ _ _ _ _)⟩)
  rw [sb_cl0, h]
theorem zq_size {post : Int32 → Prop} {x s : Nat} (hx : x < 3) (h1 : a1 x = nI s) (H : post (nI s)) : wpX_size post (sz, ht, oq, dp, lv, kn, rs, rz, a1, a2, a3, a4, a5, a6, a7, a8, a9, a10, a11, a12, a13, a14) (nI x) := by
  unfold wpX_size
  dsimp only
  refine pk_lt x 0 (fun z => absurd z (by omega)) (fun _ => pk_le 3 x (fun z => absurd z (by omega)) (fun _ => br_f (by decide) ⟨pk_in x 3 hx, ?_⟩))
  rw [zq_c (n := x) (by omega), h1]
  exact H
theorem zq_input {post : Int32 → Prop} {x s i : Nat} (hx : x < 3) (hs : s ≤ 8) (hi : i < 9) (h1 : a1 x = nI s) (H : post (if i < s then a2 (8 * x + i) else 0)) : wpX_input post (sz, ht, oq, dp, lv, kn, rs, rz, a1, a2, a3, a4, a5, a6, a7, a8, a9, a10, a11, a12, a13, a14) (nI x) (nI i) := by
  unfold wpX_input
  dsimp only
  refine pk_lt x 0 (fun z => absurd z (by omega)) (fun _ => pk_le 3 x (fun z => absurd z (by omega)) (fun _ => br_f (by decide) (pk_lt i 0 (fun z => absurd z (by omega)) (fun _ => ⟨pk_in x 3 hx, ?_⟩))))
  rw [zq_c (n := x) (by omega), h1]
  refine pk_le s i (fun z => ?_) (fun z => ⟨pk_in _ 24 (by omega) (zq_x8 x i), ?_⟩)
  · rw [if_neg (by omega)] at H
    exact H
  · rw [if_pos z] at H
    rw [zq_cl (zq_x8 x i) (by omega)]
    exact H
theorem zq_alike {post : Int32 → St1 → Prop} {x s : Nat} (hx : x < 3) (hs : s ≤ 8) (h1 : a1 x = nI s) (hB : zq_B [(nI 1, nI x), (nI 19, 0), (nI 2, nI 0), (nI 21, 0)] [1] 0 sz ht oq kn a3 a4 a5 a6)
    (H : ∀ (sz ht oq dp lv kn rs rz : Int32) (a3 a4 a5 a6 a7 a8 a9 a10 a11 a12 a13 a14 : Nat → Int32), post 1 (sz, ht, oq, dp, lv, kn, rs, rz, a1, a2, a3, a4, a5, a6, a7, a8, a9, a10, a11, a12, a13, a14)) : wpL_alike post (sz, ht, oq, dp, lv, kn, rs, rz, a1, a2, a3, a4, a5, a6, a7, a8, a9, a10, a11, a12, a13, a14) (nI x) := by
  unfold wpL_alike
  dsimp only
  unfold wpX_sort
  dsimp only
  refine zq_workId hx hs h1 hB (fun dp lv a7 a8 a9 a10 a11 a12 a13 a14 h14 => ?_)
  dsimp only
  refine br_t rfl ?_
  unfold wpX_length
  dsimp only
  refine zq_workK ?_
  dsimp only
  refine br_f (by decide) (zq_size hx h1 (br_t rfl ?_))
  refine pk_loop (σ := Unit) (fun n i _ => wL_alike_28 post (nI x) n 1 (nI i) sz ht oq dp lv 1 2 (nI s) a1 a2 a3 a4 a5 a6 a7 a8 a9 a10 a11 a12 a13 a14) (fun _ _ => True) 9 0 () (by omega) trivial
    (fun n _ _ => pk_le 9 9 (fun _ => ⟨by decide, H _ _ _ _ _ _ _ _ _ _ _ _ _ _ _ _ _ _ _ _⟩) (fun z => absurd z (by omega)))
    (fun n i _ hi _ hw => pk_le 9 i (fun z => absurd z (by omega)) (fun _ => br_f (by decide) ?_))
  unfold wpX_result
  dsimp only
  refine zq_workK ?_
  dsimp only
  refine pk_lt i 0 (fun z => absurd z (by omega)) (fun _ => pk_le s i (fun z => ?_) (fun z => ⟨pk_in i 8 (by omega), ?_⟩))
  · refine zq_input hx hs hi h1 (br_t ?_ (nm_r (nI_1 i) (hw () trivial)))
    rw [if_neg (by omega)]
  · refine zq_input hx hs hi h1 (br_t ?_ (nm_r (nI_1 i) (hw () trivial)))
    rw [if_pos z, zq_c (by omega), h14 i z]
theorem zq_lput {post : Int32 → St1 → Prop} {x : Nat} {v : Int32} (hx : x < 3) (hI : zq_I a1) (H : ∀ (r kn : Int32) (a1 a2 : Nat → Int32), zq_I a1 → post r (sz, ht, oq, dp, lv, kn, rs, rz, a1, a2, a3, a4, a5, a6, a7, a8, a9, a10, a11, a12, a13, a14)) : wpX_put post (sz, ht, oq, dp, lv, kn, rs, rz, a1, a2, a3, a4, a5, a6, a7, a8, a9, a10, a11, a12, a13, a14) (nI x) v := by
  obtain ⟨s, hs, h1⟩ := hI x hx
  unfold wpX_put
  dsimp only
  refine pk_lt x 0 (fun z => absurd z (by omega)) (fun _ => pk_le 3 x (fun z => absurd z (by omega)) (fun _ => br_f (by decide) ⟨pk_in x 3 hx, ?_⟩))
  rw [zq_c (n := x) (by omega), h1]
  refine pk_lt s 8 (fun z => ⟨pk_in x 3 hx, pk_in _ 24 (by omega) (zq_x8 x s), nm_e ⟨pk_in x 3 hx, pk_in x 3 hx, nm_r (by rw [nI_1] <;> rfl) ⟨pk_in x 3 hx, H _ _ _ _ (fun i hi => ?_)⟩⟩⟩) (fun z => H _ _ _ _ hI)
  by_cases e : i = x
  · exact ⟨s + 1, by omega, by rw [e, pk_us]⟩
  · rw [pk_un e]
    exact hI i hi
theorem zq_lempty {post : Int32 → St1 → Prop} {x : Nat} (hx : x < 3) (hI : zq_I a1) (H : ∀ (r kn : Int32) (a1 a2 : Nat → Int32), zq_I a1 → post r (sz, ht, oq, dp, lv, kn, rs, rz, a1, a2, a3, a4, a5, a6, a7, a8, a9, a10, a11, a12, a13, a14)) : wpX_empty post (sz, ht, oq, dp, lv, kn, rs, rz, a1, a2, a3, a4, a5, a6, a7, a8, a9, a10, a11, a12, a13, a14) (nI x) := by
  unfold wpX_empty
  dsimp only
  refine pk_lt x 0 (fun z => absurd z (by omega)) (fun _ => pk_le 3 x (fun z => absurd z (by omega)) (fun _ => br_f (by decide) ⟨pk_in x 3 hx, nm_e ⟨pk_in x 3 hx, nm_e (H _ _ _ _ (fun i hi => ?_))⟩⟩))
  rw [zq_c (n := x) (by omega)]
  by_cases e : i = x
  · exact ⟨0, by omega, by rw [e, pk_us]; rfl⟩
  · rw [pk_un e]
    exact hI i hi
end
end
section
/-! part 9: the law's loop, and what is owed -/
section
variable {sz ht oq dp lv kn rs rz : Int32} {a1 a2 a3 a4 a5 a6 a7 a8 a9 a10 a11 a12 a13 a14 : Nat → Int32}
theorem zq_pair {L f x s : Nat} {xs : Nat → Int32} (hs : s ≤ 8) : ¬ (nI (zq_ct (fun l => zq_fv L xs f (a2 (8 * x + l))) s)) < 0 ∧ nI (zq_ct (fun l => zq_fv L xs f (a2 (8 * x + l))) s) + nI (zq_ct (fun l => zq_wk 8 (zq_fv L xs f (a2 (8 * x + l))) 0) s) = nI s := by
  refine ⟨nI_pos ?_, ?_⟩
  · have := zq_ct_bound (fun l => zq_fv L xs f (a2 (8 * x + l))) hs
    omega
  · rw [nI_add, zq_ct_sum]
theorem zq_law87 {post : Int32 → Prop} {L : Nat} {xs : Nat → Int32} {J : Int32 → Int32 → Int32 → Int32 → Int32 → Int32 → Int32 → Int32 → Int32 → (Nat → Int32) → (Nat → Int32) → (Nat → Int32) → (Nat → Int32) → (Nat → Int32) → (Nat → Int32) → (Nat → Int32) → (Nat → Int32) → (Nat → Int32) → (Nat → Int32) → (Nat → Int32) → (Nat → Int32) → (Nat → Int32) → (Nat → Int32) → Prop} {i kc ks : Nat} {c : Int32} (hL : L ≤ 260) (hI : zq_I a1)
    (H : ∀ (sz ht oq dp lv kn rs rz : Int32) (a1 a2 a3 a4 a5 a6 a7 a8 a9 a10 a11 a12 a13 a14 : Nat → Int32), zq_I a1 → J (nI (i + 1)) sz ht oq dp lv kn rs rz a1 a2 a3 a4 a5 a6 a7 a8 a9 a10 a11 a12 a13 a14) : wL_law_87 post L xs J (nI i) c kc ks sz ht oq dp lv kn rs rz a1 a2 a3 a4 a5 a6 a7 a8 a9 a10 a11 a12 a13 a14 := by
  unfold wL_law_87
  refine br_c (fun z => ⟨by decide, ?_⟩) (fun z => nm_r (nI_1 i) (H _ _ _ _ _ _ _ _ _ _ _ _ _ _ _ _ _ _ _ _ _ _ hI))
  obtain ⟨x, hx, ex⟩ := zq_m3 (c >>> ((10 : Int32) &&& 31))
  obtain ⟨y, hy, ey⟩ := zq_m3 (c >>> ((12 : Int32) &&& 31))
  obtain ⟨s, hs, h1⟩ := hI x hx
  obtain ⟨r, hr, h2⟩ := hI y hy
  refine nm_r ex ?_
  rw [ey]
  obtain ⟨k1, k2⟩ := zq_pair (a2 := a2) (L := L) (f := 48) (x := x) (xs := xs) hs
  refine zq_clear (fun _ sz ht oq kn a3 a4 a5 a6 hB => ?_)
  refine zq_tInput (x := x) hB (by omega) (by simp) hx (fun sz ht oq kn a3 a4 a5 a6 hB => ?_)
  refine zq_tokenB (k := 19) (x := 0) (Or.inl rfl) hB (by omega) (by simp) (fun sz ht oq kn a3 a4 a5 a6 hB => ?_)
  refine zq_tElem (y := 0) hB (by omega) (by simp) (by simp) (by omega) (fun sz ht oq kn a3 a4 a5 a6 hB => ?_)
  refine zq_tokenE (o := 0) (x := 0) hB (by omega) (by simp) (fun sz ht oq kn a3 a4 a5 a6 hB => br_t rfl ?_)
  refine zq_alike hx hs h1 hB (fun sz ht oq dp lv kn rs rz a3 a4 a5 a6 a7 a8 a9 a10 a11 a12 a13 a14 => br_f (by decide) ?_)
  refine zq_kept0 (f := 48) hL (by omega) hx hs h1 (fun sz ht oq dp lv kn rs rz a3 a4 a5 a6 a7 a8 a9 a10 a11 a12 a13 a14 => br_f k1 ?_)
  refine zq_kept1 (f := 48) hL (by omega) hx hs h1 (fun sz ht oq dp lv kn rs rz a3 a4 a5 a6 a7 a8 a9 a10 a11 a12 a13 a14 => zq_size hx h1 (br_t k2 ⟨by decide, ?_⟩))
  exact zq_products hx hy hs hr h1 h2 (fun sz ht oq dp lv kn rs rz a3 a4 a5 a6 a7 a8 a9 a10 a11 a12 a13 a14 => br_f (by decide) (nm_r (nI_1 i) (H _ _ _ _ _ _ _ _ _ _ _ _ _ _ _ _ _ _ _ _ _ _ hI)))
theorem zq_law10 {L kc ks : Nat} {xs : Nat → Int32} (hL : L ≤ 260) : ∀ (n i : Nat) (sz ht oq dp lv kn rs rz : Int32) (a1 a2 a3 a4 a5 a6 a7 a8 a9 a10 a11 a12 a13 a14 : Nat → Int32), zq_I a1 → i ≤ 24 → 24 - i < n → wL_law_10 (fun r => r = 1) L xs kc ks n (nI i) sz ht oq dp lv kn rs rz a1 a2 a3 a4 a5 a6 a7 a8 a9 a10 a11 a12 a13 a14 := by
  intro n
  induction n with
  | zero =>
    intro i sz ht oq dp lv kn rs rz a1 a2 a3 a4 a5 a6 a7 a8 a9 a10 a11 a12 a13 a14 _ _ h
    exact absurd h (by omega)
  | succ n ih =>
    intro i sz ht oq dp lv kn rs rz a1 a2 a3 a4 a5 a6 a7 a8 a9 a10 a11 a12 a13 a14 hI hi hn
    refine pk_le 24 i (fun z => ?_) (fun z => ?_)
    · obtain ⟨s0, hs0, h0⟩ := hI 0 (by omega)
      obtain ⟨s1, hs1, h1⟩ := hI 1 (by omega)
      obtain ⟨s2, hs2, h2⟩ := hI 2 (by omega)
      obtain ⟨k1, k2⟩ := zq_pair (a2 := a2) (L := L) (f := 53) (x := 1) (xs := xs) hs1
      refine zq_kept0 (f := 53) (x := 1) hL (by omega) (by omega) hs1 h1 (fun sz ht oq dp lv kn rs rz a3 a4 a5 a6 a7 a8 a9 a10 a11 a12 a13 a14 => br_f k1 ?_)
      refine zq_kept1 (f := 53) (x := 1) hL (by omega) (by omega) hs1 h1 (fun sz ht oq dp lv kn rs rz a3 a4 a5 a6 a7 a8 a9 a10 a11 a12 a13 a14 => zq_size (x := 1) (by omega) h1 (br_t k2 ?_))
      exact zq_products (x := 0) (y := 2) (by omega) (by omega) hs0 hs2 h0 h2 (fun sz ht oq dp lv kn rs rz a3 a4 a5 a6 a7 a8 a9 a10 a11 a12 a13 a14 => br_f (by decide) rfl)
    · have e1 : (2 * nI i : Int32) = nI (2 * i) := pk_mul 2 i
      have fin : ∀ (sz ht oq dp lv kn rs rz : Int32) (a1 a2 a3 a4 a5 a6 a7 a8 a9 a10 a11 a12 a13 a14 : Nat → Int32), zq_I a1 → wL_law_87 (fun r => r = 1) L xs (wL_law_10 (fun r => r = 1) L xs kc ks n) (nI i) (zq_cell L xs (2 * i)) kc ks sz ht oq dp lv kn rs rz a1 a2 a3 a4 a5 a6 a7 a8 a9 a10 a11 a12 a13 a14 := by
        intro sz ht oq dp lv kn rs rz a1 a2 a3 a4 a5 a6 a7 a8 a9 a10 a11 a12 a13 a14 hI
        exact zq_law87 hL hI (fun sz ht oq dp lv kn rs rz a1 a2 a3 a4 a5 a6 a7 a8 a9 a10 a11 a12 a13 a14 hI => ih (i + 1) _ _ _ _ _ _ _ _ _ _ _ _ _ _ _ _ _ _ _ _ _ _ hI (by omega) (by omega))
      rw [e1, nI_1]
      obtain ⟨x, hx, ex⟩ := zq_m3 (zq_cell L xs (2 * i) >>> ((5 : Int32) &&& 31))
      refine zq_wcell hL (by omega) (zq_wcell hL (by omega) ?_)
      rw [ex]
      refine br_c (fun z => ⟨by decide, ?_⟩) (fun z => ⟨by decide, br_c (fun _ => ?_) (fun _ => ?_)⟩)
      · exact zq_lempty hx hI (fun r kn a1 a2 hI => fin _ _ _ _ _ _ _ _ _ _ _ _ _ _ _ _ _ _ _ _ _ _ hI)
      · exact zq_lput hx hI (fun r kn a1 a2 hI => fin _ _ _ _ _ _ _ _ _ _ _ _ _ _ _ _ _ _ _ _ _ _ hI)
      · exact zq_lput hx hI (fun r kn a1 a2 hI => fin _ _ _ _ _ _ _ _ _ _ _ _ _ _ _ _ _ _ _ _ _ _ hI)
end
theorem i_vc (xs : Nat → Int32) (L : Nat) (hL : L ≤ 260) : wpL_law (fun r => r = 1) L xs := by
  refine ⟨14, 4423, by omega, by omega, ?_⟩
  unfold wpX_init
  dsimp only
  refine ⟨by omega, by omega, by omega, by omega, by omega, by omega, by omega, by omega, by omega, by omega, by omega, by omega, by omega, by omega, by omega, by omega, by omega, by omega, by omega, by omega, by omega, by omega, by omega, by omega, by omega, by omega, by omega, by omega, 25, ?_⟩
  exact zq_law10 hL 25 0 _ _ _ _ _ _ _ _ _ _ _ _ _ _ _ _ _ _ _ _ _ _ (fun i hi => ⟨0, by omega, rfl⟩) (by omega) (by omega)
end
