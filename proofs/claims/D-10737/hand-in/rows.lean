section
/-- an array that holds C at one place, 0 elsewhere -/
def wn_ob (V C i : Nat) : Nat := if i = V then C else 0
/-- more -/
def wn_mo (a b : Nat) : Nat := if 50000 ≤ a ∨ 50000 ≤ b then 100000 else a + b
/-- asMoved -/
def wn_am (c : Nat) : Nat := if c = 20 then 100000 else c
/-- the least of f 0 .. f (n - 1) and 100000 -/
def wn_mn (f : Nat → Nat) : Nat → Nat
  | 0 => 100000
  | n + 1 => if wn_mn f n ≤ f n then wn_mn f n else f n
def wn_up (f : Nat → Nat) (k x : Nat) : Nat → Nat := fun j => if j = k then x else f j
/-- withTaken, at most one table -/
def wn_wt (T X Y : Nat) (one two tk : Nat → Nat) (v a fr : Nat) : Nat :=
  if T = 0 then one (v * 3 + a)
  else if X = v then (if Y < fr then wn_mo (one (v * 3 + a)) (two (a + 3 * tk Y)) else one (v * 3 + a))
  else if Y = v then (if X < fr then wn_mo (one (v * 3 + a)) (two (tk X + 3 * a)) else one (v * 3 + a))
  else one (v * 3 + a)
/-- what a value costs in ahead: fs v = 3 says free -/
def wn_oc (fs : Nat → Nat) (g : Nat → Nat → Nat) (v a : Nat) : Nat := if fs v = 3 ∨ fs v = a then g v a else 100000
/-- ahead's sum over k variables from fr on -/
def wn_ah (l : Nat → Nat) (fr : Nat) : Nat → Nat
  | 0 => 0
  | k + 1 => wn_mo (wn_ah l fr k) (l (fr + k))
def wn_lo (fs : Nat → Nat) (v : Nat) : Nat := if fs v = 3 then 0 else fs v
def wn_hi (fs : Nat → Nat) (v : Nat) : Nat := if fs v = 3 then 2 else fs v

theorem wn_us {f : Nat → Nat} {k x : Nat} : wn_up f k x k = x := if_pos rfl
theorem wn_un {f : Nat → Nat} {k x j : Nat} (h : j ≠ k) : wn_up f k x j = f j := if_neg h
theorem wn_mo_le (a b : Nat) : wn_mo a b ≤ 100000 := by
  unfold wn_mo
  split <;> omega
theorem wn_mo_0 {a : Nat} (h : a < 50000 ∨ a = 100000) : wn_mo a 0 = a := by
  unfold wn_mo
  split <;> omega
theorem wn_mo_z {a : Nat} (h : a < 50000 ∨ a = 100000) : wn_mo 0 a = a := by
  unfold wn_mo
  split <;> omega
theorem wn_mo_lt {a b : Nat} (h : wn_mo a b < 50000) : a < 50000 ∧ wn_mo a b = a + b := by
  unfold wn_mo at h ⊢
  split at h
  · omega
  · rename_i z
    rw [if_neg z]
    omega
theorem wn_ob_le {V C i : Nat} (h : C ≤ 100000) : wn_ob V C i ≤ 100000 := by
  unfold wn_ob
  split <;> omega
theorem wn_ob_in {V C i : Nat} (h : C < 50000 ∨ C = 100000) : wn_ob V C i < 50000 ∨ wn_ob V C i = 100000 := by
  unfold wn_ob
  split
  · exact h
  · exact Or.inl (by omega)
theorem wn_ob_0 {V i : Nat} : wn_ob V 0 i = 0 := by
  unfold wn_ob
  split <;> rfl
theorem wn_am_in {c : Nat} (h : c ≤ 20) : wn_am c < 50000 ∨ wn_am c = 100000 := by
  unfold wn_am
  split <;> omega
theorem wn_am_le {c : Nat} (h : c ≤ 20) : wn_am c ≤ 100000 := by
  unfold wn_am
  split <;> omega
theorem wn_am_ob {V c i : Nat} : wn_am (wn_ob V c i) = wn_ob V (wn_am c) i := by
  unfold wn_ob
  split
  · rfl
  · rfl
theorem wn_mn_s (f : Nat → Nat) (n : Nat) : wn_mn f (n + 1) = if wn_mn f n ≤ f n then wn_mn f n else f n := rfl
theorem wn_mn_le (f : Nat → Nat) (n : Nat) : wn_mn f n ≤ 100000 := by
  induction n with
  | zero => exact Nat.le_refl _
  | succ n ih =>
    rw [wn_mn_s]
    split <;> omega
theorem wn_mn_at (f : Nat → Nat) (n : Nat) : ∀ i, i < n → wn_mn f n ≤ f i := by
  induction n with
  | zero => intro i hi; omega
  | succ n ih =>
    intro i hi
    rw [wn_mn_s]
    by_cases e : i = n
    · subst e
      split <;> omega
    · have := ih i (by omega)
      split <;> omega
theorem wn_mn_is (f : Nat → Nat) (n : Nat) : wn_mn f n = 100000 ∨ ∃ i, i < n ∧ wn_mn f n = f i := by
  induction n with
  | zero => exact Or.inl rfl
  | succ n ih =>
    rw [wn_mn_s]
    split
    · rcases ih with h | ⟨i, hi, h⟩
      · exact Or.inl h
      · exact Or.inr ⟨i, by omega, h⟩
    · exact Or.inr ⟨n, by omega, rfl⟩
theorem wn_mn_0 {f : Nat → Nat} {n i : Nat} (hi : i < n) (h : f i = 0) : wn_mn f n = 0 := by
  have := wn_mn_at f n i hi
  omega
theorem wn_lo_le {fs : Nat → Nat} {v : Nat} (h : fs v ≤ 3) : wn_lo fs v ≤ 2 := by
  unfold wn_lo
  split <;> omega
theorem wn_hi_le {fs : Nat → Nat} {v : Nat} (h : fs v ≤ 3) : wn_hi fs v ≤ 2 := by
  unfold wn_hi
  split <;> omega
theorem wn_lo_hi {fs : Nat → Nat} {v : Nat} : wn_lo fs v ≤ wn_hi fs v := by
  unfold wn_lo wn_hi
  split <;> omega
theorem wn_wt_0 {X Y : Nat} {one two tk : Nat → Nat} {v a fr : Nat} : wn_wt 0 X Y one two tk v a fr = one (v * 3 + a) := if_pos rfl
theorem wn_wt_le {T X Y : Nat} {one two tk : Nat → Nat} {v a fr : Nat} (h : ∀ i, i < 18 → one i ≤ 100000) (hv : v < 6) (ha : a < 3) : wn_wt T X Y one two tk v a fr ≤ 100000 := by
  have h1 : one (v * 3 + a) ≤ 100000 := h _ (by omega)
  unfold wn_wt
  split
  · exact h1
  · split
    · split
      · exact wn_mo_le _ _
      · exact h1
    · split
      · split
        · exact wn_mo_le _ _
        · exact h1
      · exact h1
theorem wn_wt_congr {T X Y : Nat} {one two tk tk' : Nat → Nat} {v a fr : Nat} (h : ∀ i, i < fr → tk i = tk' i) : wn_wt T X Y one two tk v a fr = wn_wt T X Y one two tk' v a fr := by
  unfold wn_wt
  by_cases hY : Y < fr
  · by_cases hX : X < fr
    · rw [h Y hY, h X hX]
    · rw [h Y hY]
      simp only [if_neg hX]
  · by_cases hX : X < fr
    · rw [h X hX]
      simp only [if_neg hY]
    · simp only [if_neg hY, if_neg hX]
theorem wn_wt_z {T X Y V C P D : Nat} {tk : Nat → Nat} {v a fr : Nat} (h1 : v * 3 + a ≠ V) (hX : X = v → a + 3 * tk Y ≠ P) (hY : X ≠ v → tk X + 3 * a ≠ P) : wn_wt T X Y (wn_ob V C) (wn_ob P D) tk v a fr = 0 := by
  have e1 : wn_ob V C (v * 3 + a) = 0 := if_neg h1
  unfold wn_wt
  rw [e1]
  by_cases z : X = v
  · have e2 : wn_ob P D (a + 3 * tk Y) = 0 := if_neg (hX z)
    rw [e2, if_pos z]
    split
    · rfl
    · split <;> rfl
  · have e2 : wn_ob P D (tk X + 3 * a) = 0 := if_neg (hY z)
    rw [e2, if_neg z]
    split
    · rfl
    · split
      · split <;> rfl
      · rfl
/-- some value costs nothing: at most one by itself, at most one with the other variable -/
theorem wn_wt_ex (T X Y V C P D : Nat) (tk : Nat → Nat) (v fr : Nat) : ∃ a, a < 3 ∧ wn_wt T X Y (wn_ob V C) (wn_ob P D) tk v a fr = 0 := by
  by_cases z : X = v
  · have k : ∀ a, v * 3 + a ≠ V → a + 3 * tk Y ≠ P → wn_wt T X Y (wn_ob V C) (wn_ob P D) tk v a fr = 0 := fun a h1 h2 => wn_wt_z h1 (fun _ => h2) (fun y => absurd z y)
    have d : (v * 3 + 0 ≠ V ∧ 0 + 3 * tk Y ≠ P) ∨ (v * 3 + 1 ≠ V ∧ 1 + 3 * tk Y ≠ P) ∨ (v * 3 + 2 ≠ V ∧ 2 + 3 * tk Y ≠ P) := by omega
    rcases d with ⟨p, q⟩ | ⟨p, q⟩ | ⟨p, q⟩
    · exact ⟨0, by omega, k 0 p q⟩
    · exact ⟨1, by omega, k 1 p q⟩
    · exact ⟨2, by omega, k 2 p q⟩
  · have k : ∀ a, v * 3 + a ≠ V → tk X + 3 * a ≠ P → wn_wt T X Y (wn_ob V C) (wn_ob P D) tk v a fr = 0 := fun a h1 h2 => wn_wt_z h1 (fun y => absurd y z) (fun _ => h2)
    have d : (v * 3 + 0 ≠ V ∧ tk X + 3 * 0 ≠ P) ∨ (v * 3 + 1 ≠ V ∧ tk X + 3 * 1 ≠ P) ∨ (v * 3 + 2 ≠ V ∧ tk X + 3 * 2 ≠ P) := by omega
    rcases d with ⟨p, q⟩ | ⟨p, q⟩ | ⟨p, q⟩
    · exact ⟨0, by omega, k 0 p q⟩
    · exact ⟨1, by omega, k 1 p q⟩
    · exact ⟨2, by omega, k 2 p q⟩
/-- three places of a row, three different ones: the least is 0 -/
theorem wn_mn_q {V C : Nat} {q : Nat → Nat} (h : q 0 ≠ q 1 ∧ q 1 ≠ q 2 ∧ q 0 ≠ q 2) : wn_mn (fun b => wn_ob V C (q b)) 3 = 0 := by
  by_cases z : q 0 = V
  · exact wn_mn_0 (i := 1) (by omega) (if_neg (by omega))
  · exact wn_mn_0 (i := 0) (by omega) (if_neg z)
theorem wn_ah_0 {l : Nat → Nat} {fr k : Nat} (h : ∀ j, j < k → l (fr + j) = 0) : wn_ah l fr k = 0 := by
  induction k with
  | zero => rfl
  | succ k ih =>
    show wn_mo (wn_ah l fr k) (l (fr + k)) = 0
    rw [ih (fun j hj => h j (by omega)), h k (by omega)]
    rfl
/-- one variable v0 alone costs, K -/
theorem wn_ah_1 {l : Nat → Nat} {fr v0 K : Nat} (hK : K < 50000 ∨ K = 100000) (h0 : l v0 = K) (h : ∀ j, j ≠ v0 → j < 6 → l j = 0) : ∀ k, fr + k ≤ 6 → wn_ah l fr k = if fr ≤ v0 ∧ v0 < fr + k then K else 0 := by
  intro k
  induction k with
  | zero =>
    intro _
    rw [if_neg (by omega)]
    rfl
  | succ k ih =>
    intro hk
    show wn_mo (wn_ah l fr k) (l (fr + k)) = _
    rw [ih (by omega)]
    by_cases e : fr + k = v0
    · rw [if_neg (by omega), if_pos (by omega), e, h0]
      exact wn_mo_z hK
    · rw [h (fr + k) e (by omega)]
      by_cases g : fr ≤ v0 ∧ v0 < fr + k
      · rw [if_pos g, if_pos (by omega)]
        exact wn_mo_0 hK
      · rw [if_neg g, if_neg (by omega)]
        rfl
theorem wn_ah_le (l : Nat → Nat) (fr k : Nat) : wn_ah l fr k ≤ 100000 := by
  cases k with
  | zero => exact Nat.zero_le _
  | succ k => exact wn_mo_le _ _
/-- arrays of ints that hold a picture -/
theorem wn_put {f : Nat → Nat} {s : Nat → Int32} {n k x m : Nat} (h : ∀ j, j < n → s j = nI (f j) ∧ f j ≤ m) (hx : x ≤ m) : ∀ j, j < n → upd s k (nI x) j = nI (wn_up f k x j) ∧ wn_up f k x j ≤ m := by
  intro j hj
  by_cases e : j = k
  · rw [e, pk_us, wn_us]
    exact ⟨rfl, hx⟩
  · rw [pk_un e, wn_un e]
    exact h j hj
theorem wn_same {f : Nat → Nat} {s : Nat → Int32} {n k : Nat} (h : ∀ j, j < n → s j = nI (f j)) : ∀ j, j < n → upd s k (nI (f k)) j = nI (f j) := by
  intro j hj
  by_cases e : j = k
  · rw [e, pk_us]
  · rw [pk_un e]
    exact h j hj
theorem wn_fill {f s : Nat → Int32} {i : Nat} {x : Int32} (h : ∀ j, j < i → s j = f j) (hx : x = f i) : ∀ j, j < i + 1 → upd s i x j = f j := by
  intro j hj
  by_cases e : j = i
  · rw [e, pk_us, hx]
  · rw [pk_un e]
    exact h j (by omega)
end
section
theorem wn_v3 (v a : Nat) : nI v * 3 + nI a = nI (v * 3 + a) := by
  have h3 : (3 : Int32) = nI 3 := rfl
  rw [h3, pk_mul, nI_add]
theorem wn_pos (t a b : Nat) : (nI t * 9 + nI a) + 3 * nI b = nI (t * 9 + a + 3 * b) := by
  have h3 : (3 : Int32) = nI 3 := rfl
  have h9 : (9 : Int32) = nI 9 := rfl
  rw [h3, h9, pk_mul, pk_mul, nI_add, nI_add]
theorem wn_more {post : Int32 → Prop} {a b : Nat} (ha : a ≤ 100000) (hb : b ≤ 100000) (h : post (nI (wn_mo a b))) : wpX_more post () (nI a) (nI b) := by
  refine pk_le 50000 a (fun z => ?_) (fun z => pk_lt b 50000 (fun y => ?_) (fun y => ?_))
  · have e : wn_mo a b = 100000 := if_pos (Or.inl z)
    rw [e] at h
    exact h
  · have e : wn_mo a b = a + b := if_neg (by omega)
    rw [e] at h
    rw [nI_add]
    exact h
  · have e : wn_mo a b = 100000 := if_pos (Or.inr y)
    rw [e] at h
    exact h
theorem wn_less {post : Int32 → Prop} {k : Nat} (hk : k < 50000 ∨ k = 100000) (h : post (nI k)) : wpX_less post () (nI k) (nI 0) := by
  refine pk_lt k 50000 (fun z => ?_) (fun z => ?_)
  · rw [pk_sub (Nat.zero_le k)]
    exact h
  · have e : k = 100000 := by omega
    subst e
    exact h
theorem wn_asMoved {post : Int32 → Prop} {k : Nat} (hk : k ≤ 20) (h : post (nI (wn_am k))) : wpX_asMoved post () (nI k) := by
  refine pk_eq k 20 (fun z => ?_) (fun z => ?_)
  · have e : wn_am k = 100000 := if_pos z
    rw [e] at h
    exact h
  · have e : wn_am k = k := if_neg z
    rw [e] at h
    exact h
theorem wn_pairX {post : Int32 → Prop} {t a b : Nat} (h : post (nI (t * 9 + a + 3 * b))) : wpX_pairAt post () (nI t) (nI a) (nI b) 1 := by
  refine br_f (by decide) ?_
  rw [wn_pos]
  exact h
theorem wn_pairY {post : Int32 → Prop} {t a b : Nat} (h : post (nI (t * 9 + b + 3 * a))) : wpX_pairAt post () (nI t) (nI a) (nI b) 0 := by
  refine br_t rfl ?_
  rw [wn_pos]
  exact h
section
variable {rd fl fo be : Int32} {a1 a2 a3 a4 a5 a6 a7 a8 a9 a10 a11 : Nat → Int32}
theorem wn_withTaken {post : Int32 → Prop} {T X Y : Nat} {one two tk : Nat → Nat} {v a fr : Nat} (hT : T ≤ 1) (h1 : ∀ i, i < 18 → a5 i = nI (one i) ∧ one i ≤ 100000)
    (h2 : T = 1 → a2 0 = nI X ∧ a3 0 = nI Y ∧ X < 6 ∧ Y < 6 ∧ ∀ j, j < 9 → a6 j = nI (two j) ∧ two j ≤ 100000)
    (h8 : ∀ i, i < 6 → a8 i = nI (tk i) ∧ tk i ≤ 2) (hv : v < 6) (ha : a < 3) (hf : fr ≤ 6) (h : post (nI (wn_wt T X Y one two tk v a fr))) :
    wpX_withTaken post (nI T, rd, fl, fo, be, a1, a2, a3, a4, a5, a6, a7, a8, a9, a10, a11) (nI v) (nI a) (nI fr) := by
  unfold wpX_withTaken
  dsimp only
  rw [wn_v3, nI_clamp (show v * 3 + a < 2 ^ 31 by omega)]
  refine ⟨pk_in (v * 3 + a) 18 (by omega), nm_r (h1 _ (by omega)).1 ?_⟩
  have hT' : T = 0 ∨ T = 1 := by omega
  rcases hT' with rfl | rfl
  · rw [wn_wt_0] at h
    exact ⟨1, br_t (nI_le (a := 0) (b := 0) (Nat.le_refl 0) (by decide)) h⟩
  · obtain ⟨gx, gy, hX, hY, h6⟩ := h2 rfl
    have ho := (h1 (v * 3 + a) (by omega)).2
    have ex : ∀ s, s = wn_wt 1 X Y one two tk v a fr → wX_withTaken_15 post (nI v) (nI a) (nI fr) (nI 1) rd fl fo be a1 a2 a3 a4 a5 a6 a7 a8 a9 a10 a11 1 (nI s) (nI 1) := by
      intro s hs
      rw [← hs] at h
      exact br_t (nI_le (a := 1) (b := 1) (Nat.le_refl 1) (by decide)) h
    have gx' : a2 (0 : Int32).toNatClampNeg = nI X := by rw [sb_cl0]; exact gx
    have gy' : a3 (0 : Int32).toNatClampNeg = nI Y := by rw [sb_cl0]; exact gy
    have tX : a8 (nI X).toNatClampNeg = nI (tk X) := by rw [nI_clamp (by omega)]; exact (h8 X hX).1
    have tY : a8 (nI Y).toNatClampNeg = nI (tk Y) := by rw [nI_clamp (by omega)]; exact (h8 Y hY).1
    have lX := (h8 X hX).2
    have lY := (h8 Y hY).2
    unfold wn_wt at ex
    rw [if_neg (by decide)] at ex
    refine ⟨2, br_f (nI_ge (a := 0) (b := 1) (by decide) (by decide)) ⟨pk_in 0 8 (by decide), pk_eq X v (fun z => ?_) (fun z => ?_) gx' rfl⟩⟩
    · rw [if_pos z] at ex
      refine br_f (by decide) ⟨pk_in 0 8 (by decide), br_f (by decide) ?_⟩
      rw [gy']
      refine pk_le fr Y (fun y => ?_) (fun y => ⟨pk_in Y 6 hY, ?_⟩)
      · rw [if_neg (by omega)] at ex
        exact nm_r (e' := nI 1) rfl (ex _ rfl)
      · rw [if_pos y] at ex
        rw [tY]
        refine wn_pairX (t := 0) ⟨pk_in (0 * 9 + a + 3 * tk Y) 72 (by omega), ?_⟩
        rw [nI_clamp (show 0 * 9 + a + 3 * tk Y < 2 ^ 31 by omega), show 0 * 9 + a + 3 * tk Y = a + 3 * tk Y by omega, (h6 _ (by omega)).1]
        exact wn_more ho (h6 _ (by omega)).2 (nm_r (e' := nI 1) rfl (ex _ rfl))
    · rw [if_neg z] at ex
      refine br_t rfl ⟨pk_in 0 8 (by decide), br_t rfl ⟨pk_in 0 8 (by decide), pk_eq Y v (fun y => ?_) (fun y => ?_) gy' rfl⟩⟩
      · rw [if_pos y] at ex
        rw [gx']
        refine pk_le fr X (fun w => ?_) (fun w => ⟨pk_in X 6 hX, ?_⟩)
        · rw [if_neg (by omega)] at ex
          exact nm_r (e' := nI 1) rfl (ex _ rfl)
        · rw [if_pos w] at ex
          rw [tX]
          refine wn_pairY (t := 0) ⟨pk_in (0 * 9 + tk X + 3 * a) 72 (by omega), ?_⟩
          rw [nI_clamp (show 0 * 9 + tk X + 3 * a < 2 ^ 31 by omega), show 0 * 9 + tk X + 3 * a = tk X + 3 * a by omega, (h6 _ (by omega)).1]
          exact wn_more ho (h6 _ (by omega)).2 (nm_r (e' := nI 1) rfl (ex _ rfl))
      · rw [if_neg y] at ex
        exact nm_r (e' := nI 1) rfl (ex _ rfl)
end
end
section
section
variable {rd fo be : Int32} {a1 a2 a3 a4 a5 a6 a7 a8 a9 a10 a11 : Nat → Int32}
theorem wn_mf55 {post : St2 → Prop} {T fl : Int32} {V C v : Nat} (hv : v < 6) (hC : C < 50000 ∨ C = 100000) (h5 : ∀ i, i < 18 → a5 i = nI (wn_ob V C i))
    (h : ∀ b5 : Nat → Int32, (∀ i, i < 18 → b5 i = nI (wn_ob V C i)) → post (T, rd, fl, fo, be, a1, a2, a3, a4, b5, a6, a7, a8, a9, a10, a11)) :
    ∃ n, wX_moveToFloor_55 post (nI v) (nI 0) T rd fl fo be n 0 a1 a2 a3 a4 a5 a6 a7 a8 a9 a10 a11 :=
  pk_loop (fun n i s => wX_moveToFloor_55 post (nI v) (nI 0) T rd fl fo be n (nI i) a1 a2 a3 a4 s a6 a7 a8 a9 a10 a11) (fun _ s => ∀ j, j < 18 → s j = nI (wn_ob V C j)) 3 0 a5 (by omega) h5
    (fun n s hs => pk_le 3 3 (fun _ => h s hs) (fun z => absurd z (by omega)))
    (fun n i s hi hs hw => pk_le 3 i (fun z => absurd z (by omega)) (fun _ => br_t (nI_lt (a := 0) (b := 50000) (by decide) (by decide)) (by
      rw [wn_v3, nI_clamp (show v * 3 + i < 2 ^ 31 by omega), hs _ (by omega)]
      exact ⟨pk_in (v * 3 + i) 18 (by omega), wn_less (wn_ob_in hC) ⟨pk_in (v * 3 + i) 18 (by omega), nm_e (nm_r (nI_1 i) (hw _ (wn_same hs)))⟩⟩)))
theorem wn_moveToFloor {post : St2 → Prop} {T : Int32} {V C v : Nat} (hv : v < 6) (hC : C < 50000 ∨ C = 100000) (h5 : ∀ i, i < 18 → a5 i = nI (wn_ob V C i))
    (h : ∀ b5 : Nat → Int32, (∀ i, i < 18 → b5 i = nI (wn_ob V C i)) → post (T, rd, nI 0, fo, be, a1, a2, a3, a4, b5, a6, a7, a8, a9, a10, a11)) :
    wpX_moveToFloor post (T, rd, nI 0, fo, be, a1, a2, a3, a4, a5, a6, a7, a8, a9, a10, a11) (nI v) := by
  have hm : wn_mn (fun a => wn_ob V C (v * 3 + a)) 3 = 0 := wn_mn_q (q := fun a => v * 3 + a) ⟨by omega, by omega, by omega⟩
  refine pk_loop (fun n i s => wX_moveToFloor_5 post (nI v) T rd (nI 0) fo be a1 a2 a3 a4 a5 a6 a7 a8 a9 a10 a11 n s (nI i)) (fun i s => s = nI (wn_mn (fun a => wn_ob V C (v * 3 + a)) i)) 3 0 100000 (by omega) rfl ?_ ?_
  · intro n s hs
    rw [hm] at hs
    subst hs
    exact pk_le 3 3 (fun _ => wn_more (by omega) (by omega) (wn_mf55 hv hC h5 h)) (fun z => absurd z (by omega))
  · intro n i s hi hs hw
    subst hs
    have hl := wn_mn_le (fun a => wn_ob V C (v * 3 + a)) i
    have ho : wn_ob V C (v * 3 + i) ≤ 100000 := wn_ob_le (by omega)
    refine pk_le 3 i (fun z => absurd z (by omega)) (fun _ => ?_)
    rw [wn_v3, nI_clamp (show v * 3 + i < 2 ^ 31 by omega), h5 _ (by omega)]
    refine ⟨pk_in (v * 3 + i) 18 (by omega), pk_le (wn_mn (fun a => wn_ob V C (v * 3 + a)) i) (wn_ob V C (v * 3 + i)) (fun z => nm_r (nI_1 i) (hw _ ?_)) (fun z => ⟨pk_in (v * 3 + i) 18 (by omega), nm_e (nm_r (nI_1 i) (hw _ ?_))⟩)⟩
    · rw [wn_mn_s, if_pos z]
    · rw [wn_mn_s, if_neg (by omega)]
theorem wn_mv {post : St2 → Prop} {T fl x3 : Int32} {P D a : Nat} {q : Nat → Nat} (hD : D ≤ 100000) (hq : ∀ b, b < 3 → q b < 9) (hd : q 0 ≠ q 1 ∧ q 1 ≠ q 2 ∧ q 0 ≠ q 2)
    (hw : ∀ (ps : Int32 → Prop) (b : Nat), b < 3 → ps (nI (q b)) → wpX_pairAt ps () (nI 0) (nI a) (nI b) x3)
    (h6 : ∀ j, j < 9 → a6 j = nI (wn_ob P D j)) (h : post (T, rd, fl, fo, be, a1, a2, a3, a4, a5, a6, a7, a8, a9, a10, a11)) :
    wpX_moveToValue post (T, rd, fl, fo, be, a1, a2, a3, a4, a5, a6, a7, a8, a9, a10, a11) (nI 0) (nI a) x3 := by
  have hm : wn_mn (fun b => wn_ob P D (q b)) 3 = 0 := wn_mn_q hd
  refine pk_loop (fun n i s => wX_moveToValue_7 post (nI 0) (nI a) x3 T rd fl fo be a1 a2 a3 a4 a5 a6 a7 a8 a9 a10 a11 n s (nI i)) (fun i s => s = nI (wn_mn (fun b => wn_ob P D (q b)) i)) 3 0 100000 (by omega) rfl ?_ ?_
  · intro n s hs
    rw [hm] at hs
    subst hs
    exact pk_le 3 3 (fun _ => br_t rfl h) (fun z => absurd z (by omega))
  · intro n i s hi hs hk
    subst hs
    have hl := wn_mn_le (fun b => wn_ob P D (q b)) i
    have ho : wn_ob P D (q i) ≤ 100000 := wn_ob_le hD
    have hi9 := hq i hi
    refine pk_le 3 i (fun z => absurd z (by omega)) (fun _ => hw _ i hi ⟨pk_in (q i) 72 (by omega), ?_⟩)
    rw [nI_clamp (show q i < 2 ^ 31 by omega)]
    refine nm_r (h6 _ hi9) (pk_le (wn_mn (fun b => wn_ob P D (q b)) i) (wn_ob P D (q i)) (fun z => nm_r (nI_1 i) (hk _ ?_)) (fun z => nm_r (nI_1 i) (hk _ ?_)))
    · rw [wn_mn_s, if_pos z]
    · rw [wn_mn_s, if_neg (by omega)]
theorem wn_mvX {post : St2 → Prop} {T fl : Int32} {P D a : Nat} (ha : a < 3) (hD : D ≤ 100000) (h6 : ∀ j, j < 9 → a6 j = nI (wn_ob P D j)) (h : post (T, rd, fl, fo, be, a1, a2, a3, a4, a5, a6, a7, a8, a9, a10, a11)) :
    wpX_moveToValue post (T, rd, fl, fo, be, a1, a2, a3, a4, a5, a6, a7, a8, a9, a10, a11) (nI 0) (nI a) 1 :=
  wn_mv (q := fun b => 0 * 9 + a + 3 * b) hD (fun b hb => by omega) ⟨by omega, by omega, by omega⟩ (fun ps b hb hp => wn_pairX (t := 0) hp) h6 h
theorem wn_mvY {post : St2 → Prop} {T fl : Int32} {P D a : Nat} (ha : a < 3) (hD : D ≤ 100000) (h6 : ∀ j, j < 9 → a6 j = nI (wn_ob P D j)) (h : post (T, rd, fl, fo, be, a1, a2, a3, a4, a5, a6, a7, a8, a9, a10, a11)) :
    wpX_moveToValue post (T, rd, fl, fo, be, a1, a2, a3, a4, a5, a6, a7, a8, a9, a10, a11) (nI 0) (nI a) 0 :=
  wn_mv (q := fun b => 0 * 9 + b + 3 * a) hD (fun b hb => by omega) ⟨by omega, by omega, by omega⟩ (fun ps b hb hp => wn_pairY (t := 0) hp) h6 h
theorem wn_p126 {post : St2 → Prop} {T : Int32} {V C : Nat} (hC : C < 50000 ∨ C = 100000) (h5 : ∀ i, i < 18 → a5 i = nI (wn_ob V C i))
    (h : ∀ b5 : Nat → Int32, (∀ i, i < 18 → b5 i = nI (wn_ob V C i)) → post (T, rd, nI 0, fo, be, a1, a2, a3, a4, b5, a6, a7, a8, a9, a10, a11)) :
    ∃ n, wX_prepare_126 post n 0 T rd (nI 0) fo be a1 a2 a3 a4 a5 a6 a7 a8 a9 a10 a11 :=
  pk_loop (fun n i s => wX_prepare_126 post n (nI i) T rd (nI 0) fo be a1 a2 a3 a4 s a6 a7 a8 a9 a10 a11) (fun _ s => ∀ j, j < 18 → s j = nI (wn_ob V C j)) 6 0 a5 (by omega) h5
    (fun n s hs => pk_le 6 6 (fun _ => h s hs) (fun z => absurd z (by omega)))
    (fun n i s hi hs hw => pk_le 6 i (fun z => absurd z (by omega)) (fun _ => wn_moveToFloor hi hC hs (fun b5 h5 => nm_r (nI_1 i) (hw b5 h5))))
theorem wn_p83 {post : St2 → Prop} {T V C P D : Nat} (hT : T ≤ 1) (hC : C < 50000 ∨ C = 100000) (hD : D ≤ 100000) (h5 : ∀ i, i < 18 → a5 i = nI (wn_ob V C i)) (h6 : T = 1 → ∀ j, j < 9 → a6 j = nI (wn_ob P D j))
    (h : ∀ b5 : Nat → Int32, (∀ i, i < 18 → b5 i = nI (wn_ob V C i)) → post (nI T, rd, nI 0, fo, be, a1, a2, a3, a4, b5, a6, a7, a8, a9, a10, a11)) :
    ∃ n, wX_prepare_83 post n 0 (nI T) rd (nI 0) fo be a1 a2 a3 a4 a5 a6 a7 a8 a9 a10 a11 := by
  have hT' : T = 0 ∨ T = 1 := by omega
  rcases hT' with rfl | rfl
  · exact ⟨1, br_t (nI_le (a := 0) (b := 0) (Nat.le_refl 0) (by decide)) (wn_p126 hC h5 h)⟩
  · refine ⟨2, br_f (nI_ge (a := 0) (b := 1) (by decide) (by decide)) ?_⟩
    refine pk_loop (σ := Unit) (fun n i _ => wX_prepare_93 post (wX_prepare_83 post 1) (nI 0) n (nI i) (nI 1) rd (nI 0) fo be a1 a2 a3 a4 a5 a6 a7 a8 a9 a10 a11) (fun _ _ => True) 3 0 () (by omega) trivial ?_ ?_
    · intro n _ _
      exact pk_le 3 3 (fun _ => nm_r (e' := nI 1) rfl (br_t (nI_le (a := 1) (b := 1) (Nat.le_refl 1) (by decide)) (wn_p126 hC h5 h))) (fun z => absurd z (by omega))
    · intro n i _ hi _ hw
      exact pk_le 3 i (fun z => absurd z (by omega)) (fun _ => wn_mvX hi hD (h6 rfl) (wn_mvY hi hD (h6 rfl) (nm_r (nI_1 i) (hw () trivial))))
theorem wn_p49 {post : St2 → Prop} {T V C P d : Nat} (hT : T ≤ 1) (hC : C < 50000 ∨ C = 100000) (hd : d ≤ 20) (h5 : ∀ i, i < 18 → a5 i = nI (wn_ob V C i)) (h4 : T = 1 → ∀ j, j < 9 → a4 j = nI (wn_ob P d j))
    (h : ∀ b5 b6 : Nat → Int32, (∀ i, i < 18 → b5 i = nI (wn_ob V C i)) → (T = 1 → ∀ j, j < 9 → b6 j = nI (wn_ob P (wn_am d) j)) → post (nI T, rd, nI 0, fo, be, a1, a2, a3, a4, b5, b6, a7, a8, a9, a10, a11)) :
    ∃ n, wX_prepare_49 post (nI T) rd (nI 0) fo be n 0 a1 a2 a3 a4 a5 a6 a7 a8 a9 a10 a11 := by
  have e9 : nI T * 9 = nI (T * 9) := by
    have h9 : (9 : Int32) = nI 9 := rfl
    rw [h9, pk_mul]
  refine pk_loop (fun n i s => wX_prepare_49 post (nI T) rd (nI 0) fo be n (nI i) a1 a2 a3 a4 a5 s a7 a8 a9 a10 a11) (fun i s => ∀ j, j < i → s j = nI (wn_ob P (wn_am d) j)) (T * 9) 0 a6 (by omega) (fun j hj => absurd hj (by omega)) ?_ ?_
  · intro n s hs
    refine pk_le (T * 9) (T * 9) (fun _ => ?_) (fun z => absurd z (by omega)) e9 rfl
    exact wn_p83 hT hC (wn_am_le hd) h5 (fun z j hj => hs j (by omega)) (fun b5 h5 => h b5 s h5 (fun z j hj => hs j (by omega)))
  · intro n i s hi hs hw
    have hT1 : T = 1 := by omega
    refine pk_le (T * 9) i (fun z => absurd z (by omega)) (fun _ => ?_) e9 rfl
    rw [nI_clamp (show i < 2 ^ 31 by omega), h4 hT1 i (by omega)]
    have ho : wn_ob P d i ≤ 20 := by
      unfold wn_ob
      split <;> omega
    exact ⟨pk_in i 72 (by omega), wn_asMoved ho ⟨pk_in i 72 (by omega), nm_e (nm_r (nI_1 i) (hw _ (wn_fill (f := fun j => nI (wn_ob P (wn_am d) j)) hs (by rw [wn_am_ob]))))⟩⟩
theorem wn_p20 {post : St2 → Prop} {T V c P d : Nat} (hT : T ≤ 1) (hc : c ≤ 20) (hd : d ≤ 20) (h1 : ∀ i, i < 18 → a1 i = nI (wn_ob V c i)) (h4 : T = 1 → ∀ j, j < 9 → a4 j = nI (wn_ob P d j))
    (h : ∀ b5 b6 : Nat → Int32, (∀ i, i < 18 → b5 i = nI (wn_ob V (wn_am c) i)) → (T = 1 → ∀ j, j < 9 → b6 j = nI (wn_ob P (wn_am d) j)) → post (nI T, rd, nI 0, fo, be, a1, a2, a3, a4, b5, b6, a7, a8, a9, a10, a11)) :
    ∃ n, wX_prepare_20 post (nI T) rd (nI 0) fo be n 0 a1 a2 a3 a4 a5 a6 a7 a8 a9 a10 a11 := by
  refine pk_loop (fun n i s => wX_prepare_20 post (nI T) rd (nI 0) fo be n (nI i) a1 a2 a3 a4 s a6 a7 a8 a9 a10 a11) (fun i s => ∀ j, j < i → s j = nI (wn_ob V (wn_am c) j)) 18 0 a5 (by omega) (fun j hj => absurd hj (by omega)) ?_ ?_
  · intro n s hs
    refine pk_le 18 18 (fun _ => ?_) (fun z => absurd z (by omega))
    exact wn_p49 hT (wn_am_in hc) hd hs h4 h
  · intro n i s hi hs hw
    refine pk_le 18 i (fun z => absurd z (by omega)) (fun _ => ?_)
    rw [nI_clamp (show i < 2 ^ 31 by omega), h1 i (by omega)]
    have ho : wn_ob V c i ≤ 20 := by
      unfold wn_ob
      split <;> omega
    exact ⟨pk_in i 18 (by omega), wn_asMoved ho ⟨pk_in i 18 (by omega), nm_e (nm_r (nI_1 i) (hw _ (wn_fill (f := fun j => nI (wn_ob V (wn_am c) j)) hs (by rw [wn_am_ob]))))⟩⟩
/-- prepare: the moved costs, the floor 0 -/
theorem wn_prepare {post : St2 → Prop} {fl : Int32} {T V c P d : Nat} (hT : T ≤ 1) (hc : c ≤ 20) (hd : d ≤ 20) (h1 : ∀ i, i < 18 → a1 i = nI (wn_ob V c i)) (h4 : T = 1 → ∀ j, j < 9 → a4 j = nI (wn_ob P d j))
    (hr : rd = 0 ∨ (rd = 1 ∧ fl = 0 ∧ (∀ i, i < 18 → a5 i = nI (wn_ob V (wn_am c) i)) ∧ (T = 1 → ∀ j, j < 9 → a6 j = nI (wn_ob P (wn_am d) j))))
    (h : ∀ b5 b6 : Nat → Int32, (∀ i, i < 18 → b5 i = nI (wn_ob V (wn_am c) i)) → (T = 1 → ∀ j, j < 9 → b6 j = nI (wn_ob P (wn_am d) j)) → post (nI T, 1, 0, fo, be, a1, a2, a3, a4, b5, b6, a7, a8, a9, a10, a11)) :
    wpX_prepare post (nI T, rd, fl, fo, be, a1, a2, a3, a4, a5, a6, a7, a8, a9, a10, a11) := by
  rcases hr with rfl | ⟨rfl, rfl, h5, h6⟩
  · exact br_t rfl (wn_p20 hT hc hd h1 h4 h)
  · exact br_f (by decide) (h a5 a6 h5 h6)
end
end
section
section
variable {rd fl fo be : Int32} {a1 a2 a3 a4 a5 a6 a7 a8 a9 a10 a11 : Nat → Int32}
theorem wn_freeAll {post : St2 → Prop} {T : Int32} (h : ∀ b7 : Nat → Int32, (∀ i, i < 6 → b7 i = -1) → post (T, rd, fl, fo, be, a1, a2, a3, a4, a5, a6, b7, a8, a9, a10, a11)) : wpX_freeAll post (T, rd, fl, fo, be, a1, a2, a3, a4, a5, a6, a7, a8, a9, a10, a11) := by
  refine pk_loop (fun n i s => wX_freeAll_2 post T rd fl fo be n (nI i) a1 a2 a3 a4 a5 a6 s a8 a9 a10 a11) (fun i s => ∀ j, j < i → s j = -1) 6 0 a7 (by omega) (fun j hj => absurd hj (by omega)) ?_ ?_
  · intro n s hs
    exact pk_le 6 6 (fun _ => h s hs) (fun z => absurd z (by omega))
  · intro n i s hi hs hw
    refine pk_le 6 i (fun z => absurd z (by omega)) (fun _ => ?_)
    rw [nI_clamp (show i < 2 ^ 31 by omega)]
    exact ⟨pk_in i 6 (by omega), nm_e (nm_r (nI_1 i) (hw _ (wn_fill (f := fun _ => -1) hs rfl)))⟩
/-- the fixed variables: 3 says free -/
def wn_fx (a7 : Nat → Int32) (fs : Nat → Nat) : Prop := ∀ i, i < 6 → (a7 i = -1 ∧ fs i = 3) ∨ (a7 i = nI (fs i) ∧ fs i < 3)
theorem wn_fx_le {a7 : Nat → Int32} {fs : Nat → Nat} (h : wn_fx a7 fs) {v : Nat} (hv : v < 6) : fs v ≤ 3 := by
  rcases h v hv with z | z <;> omega
theorem wn_open {post : St2 → Prop} {T : Int32} {fs : Nat → Nat} {l : Nat} (h7 : wn_fx a7 fs) (hl : l < 6) (h : post (T, rd, fl, fo, be, a1, a2, a3, a4, a5, a6, a7, a8, a9, upd a10 l (nI (wn_lo fs l)), a11)) :
    wpX_open post (T, rd, fl, fo, be, a1, a2, a3, a4, a5, a6, a7, a8, a9, a10, a11) (nI l) := by
  unfold wpX_open
  dsimp only
  rw [nI_clamp (show l < 2 ^ 31 by omega)]
  refine ⟨pk_in l 6 hl, ?_⟩
  rcases h7 l hl with ⟨e, f⟩ | ⟨e, f⟩
  · rw [e]
    have g : wn_lo fs l = 0 := if_pos f
    rw [g] at h
    exact br_t (by decide) ⟨pk_in l 6 hl, nm_e h⟩
  · rw [e]
    have g : wn_lo fs l = fs l := if_neg (by omega)
    rw [g] at h
    exact br_f (nI_pos (by omega)) ⟨pk_in l 6 hl, pk_in l 6 hl, nm_e h⟩
theorem wn_last {post : Int32 → Prop} {T : Int32} {fs : Nat → Nat} {l : Nat} (h7 : wn_fx a7 fs) (hl : l < 6) (h : post (nI (wn_hi fs l))) :
    wpX_lastValue post (T, rd, fl, fo, be, a1, a2, a3, a4, a5, a6, a7, a8, a9, a10, a11) (nI l) := by
  unfold wpX_lastValue
  dsimp only
  rw [nI_clamp (show l < 2 ^ 31 by omega)]
  refine ⟨pk_in l 6 hl, ?_⟩
  rcases h7 l hl with ⟨e, f⟩ | ⟨e, f⟩
  · rw [e]
    have g : wn_hi fs l = 2 := if_pos f
    rw [g] at h
    exact br_t (by decide) h
  · rw [e]
    have g : wn_hi fs l = fs l := if_neg (by omega)
    rw [g] at h
    exact br_f (nI_pos (by omega)) ⟨pk_in l 6 hl, h⟩
theorem wn_take {post : St2 → Prop} {T : Int32} {c b : Nat} (hc : c < b) (hb : b ≤ 100000) (h : ∀ b11 : Nat → Int32, (∀ i, i < 6 → b11 i = a8 i) → post (T, rd, fl, fo + 1, nI c, a1, a2, a3, a4, a5, a6, a7, a8, a9, a10, b11)) :
    wpX_take post (T, rd, fl, fo, nI b, a1, a2, a3, a4, a5, a6, a7, a8, a9, a10, a11) (nI c) := by
  refine nm_e (br_f (nI_ge hc (by omega)) ?_)
  refine pk_loop (fun n i s => wX_take_25 post T rd fl (fo + 1) (nI c) n (nI i) a1 a2 a3 a4 a5 a6 a7 a8 a9 a10 s) (fun i s => ∀ j, j < i → s j = a8 j) 6 0 a11 (by omega) (fun j hj => absurd hj (by omega)) ?_ ?_
  · intro n s hs
    exact pk_le 6 6 (fun _ => h s hs) (fun z => absurd z (by omega))
  · intro n i s hi hs hw
    refine pk_le 6 i (fun z => absurd z (by omega)) (fun _ => ?_)
    rw [nI_clamp (show i < 2 ^ 31 by omega)]
    exact ⟨pk_in i 6 (by omega), pk_in i 6 (by omega), nm_e (nm_r (nI_1 i) (hw _ (wn_fill hs rfl)))⟩
/-- ahead -/
theorem wn_ahead {post : Int32 → Prop} {T X Y : Nat} {one two tk fs : Nat → Nat} {fr : Nat} (hT : T ≤ 1) (h1 : ∀ i, i < 18 → a5 i = nI (one i) ∧ one i ≤ 100000)
    (h2 : T = 1 → a2 0 = nI X ∧ a3 0 = nI Y ∧ X < 6 ∧ Y < 6 ∧ ∀ j, j < 9 → a6 j = nI (two j) ∧ two j ≤ 100000)
    (h8 : ∀ i, i < 6 → a8 i = nI (tk i) ∧ tk i ≤ 2) (h7 : wn_fx a7 fs) (hf : fr ≤ 6)
    (h : post (nI (wn_ah (fun v => wn_mn (wn_oc fs (fun v a => wn_wt T X Y one two tk v a fr) v) 3) fr (6 - fr)))) :
    wpX_ahead post (nI T, rd, fl, fo, be, a1, a2, a3, a4, a5, a6, a7, a8, a9, a10, a11) (nI fr) := by
  refine pk_loop (fun n i s => wX_ahead_4 post (nI fr) (nI T) rd fl fo be a1 a2 a3 a4 a5 a6 a7 a8 a9 a10 a11 n s (nI i)) (fun i s => fr ≤ i ∧ s = nI (wn_ah (fun v => wn_mn (wn_oc fs (fun v a => wn_wt T X Y one two tk v a fr) v) 3) fr (i - fr))) 6 fr 0 hf ⟨Nat.le_refl _, by rw [Nat.sub_self]; rfl⟩ ?_ ?_
  · intro n s hs
    rw [hs.2]
    exact pk_le 6 6 (fun _ => h) (fun z => absurd z (by omega))
  · intro n i s hi hs hw
    obtain ⟨hfi, hs⟩ := hs
    subst hs
    refine pk_le 6 i (fun z => absurd z (by omega)) (fun _ => ?_)
    refine pk_loop (fun m j s => wX_ahead_17 post (wX_ahead_4 post (nI fr) (nI T) rd fl fo be a1 a2 a3 a4 a5 a6 a7 a8 a9 a10 a11 n) (nI fr) (nI (wn_ah (fun v => wn_mn (wn_oc fs (fun v a => wn_wt T X Y one two tk v a fr) v) 3) fr (i - fr))) (nI i) (nI T) rd fl fo be a1 a2 a3 a4 a5 a6 a7 a8 a9 a10 a11 m s (nI j)) (fun j s => s = nI (wn_mn (wn_oc fs (fun v a => wn_wt T X Y one two tk v a fr) i) j)) 3 0 100000 (by omega) rfl ?_ ?_
    · intro m s hs
      subst hs
      refine pk_le 3 3 (fun _ => ?_) (fun z => absurd z (by omega))
      refine wn_more (wn_ah_le _ _ _) (wn_mn_le _ _) (nm_r (nI_1 i) (hw _ ⟨by omega, ?_⟩))
      rw [show i + 1 - fr = (i - fr) + 1 by omega]
      show _ = nI (wn_mo _ _)
      rw [show fr + (i - fr) = i by omega]
    · intro m j s hj hs hk
      subst hs
      have hl := wn_mn_le (wn_oc fs (fun v a => wn_wt T X Y one two tk v a fr) i) j
      have hg : wn_wt T X Y one two tk i j fr ≤ 100000 := wn_wt_le (fun k hk => (h1 k hk).2) hi hj
      have fin : ∀ z, z = wn_oc fs (fun v a => wn_wt T X Y one two tk v a fr) i j → z ≤ 100000 → wX_ahead_68 post (wX_ahead_4 post (nI fr) (nI T) rd fl fo be a1 a2 a3 a4 a5 a6 a7 a8 a9 a10 a11 n) (wX_ahead_17 post (wX_ahead_4 post (nI fr) (nI T) rd fl fo be a1 a2 a3 a4 a5 a6 a7 a8 a9 a10 a11 n) (nI fr) (nI (wn_ah (fun v => wn_mn (wn_oc fs (fun v a => wn_wt T X Y one two tk v a fr) v) 3) fr (i - fr))) (nI i) (nI T) rd fl fo be a1 a2 a3 a4 a5 a6 a7 a8 a9 a10 a11 m) (nI fr) (nI (wn_ah (fun v => wn_mn (wn_oc fs (fun v a => wn_wt T X Y one two tk v a fr) v) 3) fr (i - fr))) (nI i) (nI (wn_mn (wn_oc fs (fun v a => wn_wt T X Y one two tk v a fr) i) j)) (nI j) (nI z) (nI T) rd fl fo be a1 a2 a3 a4 a5 a6 a7 a8 a9 a10 a11 := by
        intro z hz hz'
        refine pk_le (wn_mn (wn_oc fs (fun v a => wn_wt T X Y one two tk v a fr) i) j) z (fun y => nm_r (nI_1 j) (hk _ ?_)) (fun y => nm_r (nI_1 j) (hk _ ?_))
        · rw [wn_mn_s, ← hz, if_pos y]
        · rw [wn_mn_s, ← hz, if_neg (by omega)]
      have opn : (fs i = 3 ∨ fs i = j) → wX_ahead_43 post (wX_ahead_4 post (nI fr) (nI T) rd fl fo be a1 a2 a3 a4 a5 a6 a7 a8 a9 a10 a11 n) (wX_ahead_17 post (wX_ahead_4 post (nI fr) (nI T) rd fl fo be a1 a2 a3 a4 a5 a6 a7 a8 a9 a10 a11 n) (nI fr) (nI (wn_ah (fun v => wn_mn (wn_oc fs (fun v a => wn_wt T X Y one two tk v a fr) v) 3) fr (i - fr))) (nI i) (nI T) rd fl fo be a1 a2 a3 a4 a5 a6 a7 a8 a9 a10 a11 m) (nI fr) (nI (wn_ah (fun v => wn_mn (wn_oc fs (fun v a => wn_wt T X Y one two tk v a fr) v) 3) fr (i - fr))) (nI i) (nI (wn_mn (wn_oc fs (fun v a => wn_wt T X Y one two tk v a fr) i) j)) (nI j) (nI T) rd fl fo be a1 a2 a3 a4 a5 a6 a7 a8 a9 a10 a11 := by
        intro z
        exact br_f (by decide) (wn_withTaken hT h1 h2 h8 hi hj hf (fin _ (if_pos z).symm hg))
      refine pk_le 3 j (fun z => absurd z (by omega)) (fun _ => ?_)
      rw [nI_clamp (show i < 2 ^ 31 by omega)]
      refine ⟨pk_in i 6 hi, ?_⟩
      rcases h7 i hi with ⟨e, f⟩ | ⟨e, f⟩
      · rw [e]
        exact br_t (by decide) (opn (Or.inl f))
      · rw [e]
        refine br_f (nI_pos (by omega)) ⟨pk_in i 6 hi, pk_eq (fs i) j (fun z => opn (Or.inr z)) (fun z => ?_)⟩
        exact br_t rfl (fin 100000 (if_neg (by omega)).symm (by omega))
/-- descend: b is the best so far (100000: none), lim the limit that belongs to it -/
theorem wn_desc {post : Int32 → St2 → Prop} {T X Y : Nat} {one two tk fs : Nat → Nat} {l s b : Nat} {lim : Int32} {al : Nat} (hT : T ≤ 1) (h1 : ∀ i, i < 18 → a5 i = nI (one i) ∧ one i ≤ 100000)
    (h2 : T = 1 → a2 0 = nI X ∧ a3 0 = nI Y ∧ X < 6 ∧ Y < 6 ∧ ∀ j, j < 9 → a6 j = nI (two j) ∧ two j ≤ 100000)
    (h8 : ∀ i, i < 6 → a8 i = nI (tk i) ∧ tk i ≤ 2) (h7 : wn_fx a7 fs) (hl : l < 6) (h9 : a9 (l + 1) = nI s) (hs : s ≤ 100000) (hb : b ≤ 100000)
    (hlim : ∀ k, k < 50000 → (nI k ≤ lim ↔ k < b))
    (hal : al = wn_mo s (if l < 5 then wn_ah (fun v => wn_mn (wn_oc fs (fun v a => wn_wt T X Y one two tk v a (l + 1)) v) 3) (l + 1) (6 - (l + 1)) else 0))
    (hno : ¬ (al < 50000 ∧ al < b) → post (nI l) (nI T, rd, fl, fo, nI b, a1, a2, a3, a4, a5, a6, a7, a8, a9, a10, a11))
    (htk : al < 50000 → al < b → l = 5 → ∀ b11 : Nat → Int32, (∀ i, i < 6 → b11 i = a8 i) → post (nI l) (nI T, rd, fl, fo + 1, nI s, a1, a2, a3, a4, a5, a6, a7, a8, a9, a10, b11))
    (hop : al < 50000 → al < b → l < 5 → post (nI (l + 1)) (nI T, rd, fl, fo, nI b, a1, a2, a3, a4, a5, a6, a7, a8, a9, upd a10 (l + 1) (nI (wn_lo fs (l + 1))), a11)) :
    wpX_descend post (nI T, rd, fl, fo, nI b, a1, a2, a3, a4, a5, a6, a7, a8, a9, a10, a11) (nI l) lim := by
  have key : ∀ r, r ≤ 100000 → wn_mo s r = al → (l = 5 → r = 0) → wX_descend_19 post (nI l) lim (nI r) (nI T) rd fl fo (nI b) a1 a2 a3 a4 a5 a6 a7 a8 a9 a10 a11 := by
    intro r hr he h5
    unfold wX_descend_19
    rw [nI_1, nI_clamp (show l + 1 < 2 ^ 31 by omega), h9]
    refine ⟨pk_in (l + 1) 7 (by omega), wn_more hs hr ?_⟩
    rw [he]
    have hal' : al ≤ 100000 := by
      rw [← he]
      exact wn_mo_le _ _
    refine pk_le 50000 al (fun z => hno (by omega)) (fun z => ?_)
    refine br_c (fun y => ?_) (fun y => hno (fun w => y ((hlim al z).mpr w.2)))
    have hab : al < b := (hlim al z).mp y
    refine pk_eq (l + 1) 6 (fun w => ?_) (fun w => ?_)
    · have w5 : l = 5 := by omega
      have hr0 := h5 w5
      subst hr0
      have ha := wn_mo_lt (a := s) (b := 0) (by omega)
      have h96 : a9 6 = nI s := by
        rw [← h9, w5]
      rw [h96]
      exact wn_take (by omega) hb (htk z hab w5)
    · exact wn_open h7 (by omega) (hop z hab (by omega))
  refine pk_le 6 (l + 1) (fun z => ?_) (fun z => ?_) rfl (nI_1 l)
  · rw [if_neg (by omega)] at hal
    exact key 0 (by omega) hal.symm (fun _ => rfl)
  · rw [if_pos (by omega)] at hal
    rw [nI_1]
    exact wn_ahead hT h1 h2 h8 h7 (by omega) (key _ (wn_ah_le _ _ _) hal.symm (fun w => absurd w (by omega)))
end
end
section
/-- the search's state against its picture: lv is level + 1 -/
def wn_R (x3 be : Int32) (a8 a9 a10 a11 : Nat → Int32) (lv b : Nat) (tk sf nv : Nat → Nat) : Prop :=
  x3 = nI lv - 1 ∧ lv ≤ 6 ∧ be = nI b ∧ (b < 50000 ∨ b = 100000) ∧ (∀ i, i < 6 → a8 i = nI (tk i) ∧ tk i ≤ 2) ∧ (∀ i, i < 7 → a9 i = nI (sf i) ∧ sf i ≤ 100000) ∧ (∀ i, i < 6 → a10 i = nI (nv i) ∧ nv i ≤ 3) ∧ (∀ i, i < 6 → ∃ k, k ≤ 2 ∧ a11 i = nI k)
/-- one turn of the search keeps J -/
def wn_Stp (T X Y : Nat) (one two fs : Nat → Nat) (J : Nat → Nat → Nat → (Nat → Nat) → (Nat → Nat) → (Nat → Nat) → Prop) (st l b : Nat) (tk sf nv : Nat → Nat) : Prop :=
  (wn_hi fs l < nv l → J (st + 1) l b tk sf nv) ∧
  (nv l ≤ wn_hi fs l → ∀ (tk' sf' nv' : Nat → Nat) (al : Nat), tk' = wn_up tk l (nv l) → sf' = wn_up sf (l + 1) (wn_mo (sf l) (wn_wt T X Y one two tk' l (nv l) l)) → nv' = wn_up nv l (nv l + 1) →
    al = wn_mo (sf' (l + 1)) (if l < 5 then wn_ah (fun v => wn_mn (wn_oc fs (fun v a => wn_wt T X Y one two tk' v a (l + 1)) v) 3) (l + 1) (6 - (l + 1)) else 0) →
    (¬ (al < 50000 ∧ al < b) → J (st + 1) (l + 1) b tk' sf' nv') ∧
    (al < 50000 → al < b → l = 5 → J (st + 1) 6 (sf' 6) tk' sf' nv') ∧
    (al < 50000 → al < b → l < 5 → J (st + 1) (l + 2) b tk' sf' (wn_up nv' (l + 1) (wn_lo fs (l + 1)))))
theorem wn_m1 (x : Int32) : x + (-1) = x - 1 := by
  rw [Int32.sub_eq_add_neg]
theorem wn_lim1 {b : Nat} (hb : 49999 < b) : ∀ k, k < 50000 → (nI k ≤ (49999 : Int32) ↔ k < b) :=
  fun k hk => ⟨fun _ => by omega, fun _ => nI_le (a := k) (b := 49999) (by omega) (by decide)⟩
theorem wn_lim2 {b : Nat} (hb : b ≤ 49999) : ∀ k, k < 50000 → (nI k ≤ nI b - 1 ↔ k < b) := by
  intro k hk
  cases b with
  | zero =>
    refine ⟨fun w => ?_, fun w => absurd w (by omega)⟩
    rw [Int32.le_iff_toInt_le, nI_toInt (by omega), show (nI 0 - 1).toInt = -1 by decide] at w
    omega
  | succ b =>
    rw [nI_pred, nI_leI (by omega) (by omega)]
    omega
section
variable {rd fl fo be : Int32} {a1 a2 a3 a4 a5 a6 a7 a8 a9 a10 a11 : Nat → Int32}
theorem wn_search35 {post : St2 → Prop} {T X Y : Nat} {one two fs : Nat → Nat} (J : Nat → Nat → Nat → (Nat → Nat) → (Nat → Nat) → (Nat → Nat) → Prop) (hT : T ≤ 1) (h1 : ∀ i, i < 18 → a5 i = nI (one i) ∧ one i ≤ 100000)
    (h2 : T = 1 → a2 0 = nI X ∧ a3 0 = nI Y ∧ X < 6 ∧ Y < 6 ∧ ∀ j, j < 9 → a6 j = nI (two j) ∧ two j ≤ 100000) (h7 : wn_fx a7 fs)
    (hfin : ∀ (st lv b : Nat) (tk sf nv : Nat → Nat) (fo' x3 : Int32) (b8 b9 b10 b11 : Nat → Int32), wn_R x3 (nI b) b8 b9 b10 b11 lv b tk sf nv → J st lv b tk sf nv → (st = 3000 ∨ lv = 0) → post (nI T, rd, fl, fo', nI b, a1, a2, a3, a4, a5, a6, a7, b8, b9, b10, b11))
    (hstep : ∀ (st l b : Nat) (tk sf nv : Nat → Nat), l < 6 → (b < 50000 ∨ b = 100000) → (∀ i, i < 6 → tk i ≤ 2) → (∀ i, i < 7 → sf i ≤ 100000) → J st (l + 1) b tk sf nv → wn_Stp T X Y one two fs J st l b tk sf nv)
    {b : Nat} {tk sf nv : Nat → Nat} (hR : wn_R 0 be a8 a9 a10 a11 1 b tk sf nv) (hJ : J 0 1 b tk sf nv) :
    ∃ n, wX_search_35 post 49999 1 n 0 0 (nI T) rd fl fo be a1 a2 a3 a4 a5 a6 a7 a8 a9 a10 a11 := by
  refine pk_loop (σ := Int32 × Int32 × Int32 × (Nat → Int32) × (Nat → Int32) × (Nat → Int32) × (Nat → Int32))
    (fun n i s => wX_search_35 post 49999 1 n s.1 (nI i) (nI T) rd fl s.2.1 s.2.2.1 a1 a2 a3 a4 a5 a6 a7 s.2.2.2.1 s.2.2.2.2.1 s.2.2.2.2.2.1 s.2.2.2.2.2.2)
    (fun i s => ∃ (lv b : Nat) (tk sf nv : Nat → Nat), wn_R s.1 s.2.2.1 s.2.2.2.1 s.2.2.2.2.1 s.2.2.2.2.2.1 s.2.2.2.2.2.2 lv b tk sf nv ∧ J i lv b tk sf nv) 3000 0 (0, fo, be, a8, a9, a10, a11) (by omega) ⟨1, b, tk, sf, nv, hR, hJ⟩ ?_ ?_
  · intro n s hs
    obtain ⟨x3, fo', be', b8, b9, b10, b11⟩ := s
    obtain ⟨lv, b, tk, sf, nv, hR, hJ⟩ := hs
    have eb : be' = nI b := hR.2.2.1
    subst eb
    exact pk_le 3000 3000 (fun _ => hfin 3000 lv b tk sf nv fo' x3 b8 b9 b10 b11 hR hJ (Or.inl rfl)) (fun z => absurd z (by omega))
  · intro n i s hi hs hw
    obtain ⟨x3, fo', be', b8, b9, b10, b11⟩ := s
    obtain ⟨lv, b, tk, sf, nv, hR, hJ⟩ := hs
    have eb : be' = nI b := hR.2.2.1
    subst eb
    have hR0 := hR
    obtain ⟨e3, hlv, _, hb, r8, r9, r10, r11⟩ := hR
    dsimp only at e3 r8 r9 r10 r11 hR0
    show wX_search_35 post 49999 1 (n + 1) x3 (nI i) (nI T) rd fl fo' (nI b) a1 a2 a3 a4 a5 a6 a7 b8 b9 b10 b11
    have h3000 : ¬ nI 3000 ≤ nI i := nI_ge hi (by decide)
    rcases Nat.eq_zero_or_pos lv with z0 | hp
    · subst z0
      refine br_f h3000 (br_t ?_ (hfin i 0 b tk sf nv fo' x3 b8 b9 b10 b11 hR0 hJ (Or.inr rfl)))
      rw [e3]
      decide
    · obtain ⟨l, rfl⟩ : ∃ l, lv = l + 1 := ⟨lv - 1, by omega⟩
      rw [nI_pred] at e3
      subst e3
      have hl : l < 6 := by omega
      obtain ⟨hA, hB⟩ := hstep i l b tk sf nv hl hb (fun j hj => (r8 j hj).2) (fun j hj => (r9 j hj).2) hJ
      refine br_f h3000 (br_f (nI_pos (by omega)) ⟨pk_in l 6 hl, wn_last h7 hl ?_⟩)
      rw [nI_clamp (show l < 2 ^ 31 by omega), (r10 l hl).1]
      have hh := wn_hi_le (wn_fx_le h7 hl)
      have hnv := (r10 l hl).2
      refine pk_le (nv l) (wn_hi fs l) (fun z => ?_) (fun z => ?_)
      · rw [nI_1]
        have r8' := wn_put (k := l) (x := nv l) r8 (by omega)
        have r10' := wn_put (k := l) (x := nv l + 1) r10 (by omega)
        refine ⟨pk_in l 6 hl, pk_in l 6 hl, nm_e ⟨pk_in l 6 hl, pk_in l 6 hl, nm_e ⟨pk_in l 6 hl, ?_⟩⟩⟩
        rw [pk_us]
        refine wn_withTaken (X := X) (Y := Y) hT h1 h2 r8' hl (by omega) (by omega) ⟨pk_in l 7 (by omega), ?_⟩
        rw [(r9 l (by omega)).1]
        have hg : wn_wt T X Y one two (wn_up tk l (nv l)) l (nv l) l ≤ 100000 := wn_wt_le (fun k hk => (h1 k hk).2) hl (by omega)
        refine wn_more (r9 l (by omega)).2 hg ?_
        rw [nI_1, nI_clamp (show l + 1 < 2 ^ 31 by omega)]
        refine ⟨pk_in (l + 1) 7 (by omega), nm_e ?_⟩
        have r9' := wn_put (k := l + 1) (x := wn_mo (sf l) (wn_wt T X Y one two (wn_up tk l (nv l)) l (nv l) l)) r9 (wn_mo_le _ _)
        obtain ⟨B1, B2, B3⟩ := hB z _ _ _ _ rfl rfl rfl rfl
        have fin : ∀ lim : Int32, (∀ k, k < 50000 → (nI k ≤ lim ↔ k < b)) → wX_search_146 post (wX_search_35 post 49999 1 n) 49999 1 (nI i) lim (nI l) (nI T) rd fl fo' (nI b) a1 a2 a3 a4 a5 a6 a7 (upd b8 l (nI (nv l))) (upd b9 (l + 1) (nI (wn_mo (sf l) (wn_wt T X Y one two (wn_up tk l (nv l)) l (nv l) l)))) (upd b10 l (nI (nv l + 1))) b11 := by
          intro lim hlim
          refine wn_desc (X := X) (Y := Y) hT h1 h2 r8' h7 hl (r9' (l + 1) (by omega)).1 (r9' (l + 1) (by omega)).2 (by omega) hlim rfl (fun w => ?_) (fun w1 w2 w3 b11' h11 => ?_) (fun w1 w2 w3 => ?_)
          · exact nm_r (nI_1 i) (hw (nI l, fo', nI b, upd b8 l (nI (nv l)), upd b9 (l + 1) (nI (wn_mo (sf l) (wn_wt T X Y one two (wn_up tk l (nv l)) l (nv l) l))), upd b10 l (nI (nv l + 1)), b11) ⟨l + 1, b, _, _, _, ⟨(nI_pred l).symm, hlv, rfl, hb, r8', r9', r10', r11⟩, B1 w⟩)
          · have e6 := B2 w1 w2 w3
            have hs := wn_mo_lt w1
            subst w3
            exact nm_r (nI_1 i) (hw (nI 5, fo' + 1, _, upd b8 5 (nI (nv 5)), upd b9 (5 + 1) (nI (wn_mo (sf 5) (wn_wt T X Y one two (wn_up tk 5 (nv 5)) 5 (nv 5) 5))), upd b10 5 (nI (nv 5 + 1)), b11') ⟨6, _, _, _, _, ⟨(nI_pred 5).symm, Nat.le_refl _, rfl, Or.inl hs.1, r8', r9', r10', fun j hj => ⟨_, (r8' j hj).2, (h11 j hj).trans (r8' j hj).1⟩⟩, e6⟩)
          · have r10'' := wn_put (k := l + 1) (x := wn_lo fs (l + 1)) r10' (Nat.le_trans (wn_lo_le (wn_fx_le h7 (by omega))) (by omega))
            exact nm_r (nI_1 i) (hw (nI (l + 1), fo', nI b, upd b8 l (nI (nv l)), upd b9 (l + 1) (nI (wn_mo (sf l) (wn_wt T X Y one two (wn_up tk l (nv l)) l (nv l) l))), upd (upd b10 l (nI (nv l + 1))) (l + 1) (nI (wn_lo fs (l + 1))), b11) ⟨l + 2, b, _, _, _, ⟨(nI_pred (l + 1)).symm, by omega, rfl, hb, r8', r9', r10'', r11⟩, B3 w1 w2 w3⟩)
        exact br_f (by decide) (pk_lt 49999 b (fun y => fin 49999 (wn_lim1 y)) (fun y => fin (nI b - 1) (wn_lim2 y)))
      · exact nm_r (wn_m1 (nI l)) (nm_r (nI_1 i) (hw (nI l - 1, fo', nI b, b8, b9, b10, b11) ⟨l, b, tk, sf, nv, ⟨rfl, by omega, rfl, hb, r8, r9, r10, r11⟩, hA z⟩))
end
end
section
def wn_Rg (a8 a9 a10 a11 : Nat → Int32) : Prop :=
  (∃ tk : Nat → Nat, ∀ i, i < 6 → a8 i = nI (tk i) ∧ tk i ≤ 2) ∧ (∃ sf : Nat → Nat, ∀ i, i < 7 → a9 i = nI (sf i) ∧ sf i ≤ 100000) ∧ (∃ nv : Nat → Nat, ∀ i, i < 6 → a10 i = nI (nv i) ∧ nv i ≤ 3) ∧ (∀ i, i < 6 → ∃ k, k ≤ 2 ∧ a11 i = nI k)
/-- the object: T tables (0 or 1), the cost c at place V, the pair cost d at place P -/
def wn_St (T X Y V c P d : Nat) (rd fl : Int32) (a1 a2 a3 a4 a5 a6 a8 a9 a10 a11 : Nat → Int32) : Prop :=
  T ≤ 1 ∧ c ≤ 20 ∧ d ≤ 20 ∧ (∀ i, i < 18 → a1 i = nI (wn_ob V c i)) ∧ (T = 1 → a2 0 = nI X ∧ a3 0 = nI Y ∧ X < 6 ∧ Y < 6 ∧ ∀ j, j < 9 → a4 j = nI (wn_ob P d j)) ∧
  (rd = 0 ∨ (rd = 1 ∧ fl = 0 ∧ (∀ i, i < 18 → a5 i = nI (wn_ob V (wn_am c) i)) ∧ (T = 1 → ∀ j, j < 9 → a6 j = nI (wn_ob P (wn_am d) j)))) ∧ wn_Rg a8 a9 a10 a11
/-- the free search: found, or still on the first way down -/
def wn_J1 (T X Y V C P D : Nat) (st lv b : Nat) (tk sf nv : Nat → Nat) : Prop :=
  b < 50000 ∨ (b = 100000 ∧ ∃ l, lv = l + 1 ∧ l < 6 ∧ st ≤ 4 * l + nv l ∧ sf l < 50000 ∧ ∃ a, nv l ≤ a ∧ a < 3 ∧ wn_wt T X Y (wn_ob V C) (wn_ob P D) tk l a l = 0)
theorem wn_J1_step {T X Y V C P D : Nat} : ∀ (st l b : Nat) (tk sf nv : Nat → Nat), l < 6 → (b < 50000 ∨ b = 100000) → (∀ i, i < 6 → tk i ≤ 2) → (∀ i, i < 7 → sf i ≤ 100000) → wn_J1 T X Y V C P D st (l + 1) b tk sf nv → wn_Stp T X Y (wn_ob V C) (wn_ob P D) (fun _ => 3) (wn_J1 T X Y V C P D) st l b tk sf nv := by
  intro st l b tk sf nv hl hb _ _ hJ
  have h2 : wn_hi (fun _ => 3) l = 2 := rfl
  have h0 : wn_lo (fun _ => 3) (l + 1) = 0 := rfl
  refine ⟨fun z => ?_, fun z tk' sf' nv' al et es en ea => ?_⟩
  · rcases hJ with h | ⟨h, l', e, hl', hs, hf, a, ha, ha3, hz⟩
    · exact Or.inl h
    · have : l' = l := by omega
      subst this
      omega
  · have hah : ∀ k, wn_ah (fun v => wn_mn (wn_oc (fun _ => 3) (fun v a => wn_wt T X Y (wn_ob V C) (wn_ob P D) tk' v a (l + 1)) v) 3) (l + 1) k = 0 := by
      intro k
      refine wn_ah_0 (fun j hj => ?_)
      obtain ⟨a, ha, hz⟩ := wn_wt_ex T X Y V C P D tk' (l + 1 + j) (l + 1)
      refine wn_mn_0 ha ?_
      unfold wn_oc
      rw [if_pos (Or.inl rfl)]
      exact hz
    have ea' : al = wn_mo (sf' (l + 1)) 0 := by
      rw [ea, hah]
      split <;> rfl
    refine ⟨fun w => ?_, fun w1 w2 w3 => ?_, fun w1 w2 w3 => ?_⟩
    · rcases hJ with h | ⟨h, l', e, hl', hs, hf, a, ha, ha3, hz⟩
      · exact Or.inl h
      · have e' : l' = l := by omega
        subst e'
        have hc : ∀ a, wn_wt T X Y (wn_ob V C) (wn_ob P D) tk' l' a l' = wn_wt T X Y (wn_ob V C) (wn_ob P D) tk l' a l' := by
          intro a
          refine wn_wt_congr (fun i hi => ?_)
          rw [et, wn_un (by omega)]
        have hne : nv l' ≠ a := by
          intro g
          refine w ?_
          have e1 : sf' (l' + 1) = sf l' := by
            rw [es, wn_us, g, hc, hz]
            exact wn_mo_0 (Or.inl hf)
          rw [ea', e1, wn_mo_0 (Or.inl hf)]
          omega
        refine Or.inr ⟨h, l', rfl, hl', ?_, ?_, a, ?_, ha3, ?_⟩
        · rw [en, wn_us]
          omega
        · rw [es, wn_un (by omega)]
          exact hf
        · rw [en, wn_us]
          omega
        · rw [hc]
          exact hz
    · subst w3
      rw [ea'] at w1
      exact Or.inl (wn_mo_lt w1).1
    · rcases hJ with h | ⟨h, l', e, hl', hs, hf, a, ha, ha3, hz⟩
      · exact Or.inl h
      · have e' : l' = l := by omega
        subst e'
        rw [ea'] at w1
        obtain ⟨a', ha', hz'⟩ := wn_wt_ex T X Y V C P D tk' (l' + 1) (l' + 1)
        refine Or.inr ⟨h, l' + 1, rfl, by omega, ?_, (wn_mo_lt w1).1, a', ?_, ha', hz'⟩
        · rw [wn_us]
          omega
        · rw [wn_us, h0]
          omega
theorem wn_J1_fin {T X Y V C P D st lv b : Nat} {tk sf nv : Nat → Nat} (h : wn_J1 T X Y V C P D st lv b tk sf nv) (he : st = 3000 ∨ lv = 0) : b < 50000 := by
  rcases h with h | ⟨h, l', e, hl', hs, hf, a, ha, ha3, hz⟩
  · exact h
  · omega
def wn_fs (v0 w i : Nat) : Nat := if i = v0 then w else 3
theorem wn_fs_s {v0 w : Nat} : wn_fs v0 w v0 = w := if_pos rfl
theorem wn_fs_n {v0 w i : Nat} (h : i ≠ v0) : wn_fs v0 w i = 3 := if_neg h
theorem wn_oc_o {fs : Nat → Nat} {g : Nat → Nat → Nat} {v a : Nat} (h : fs v = 3 ∨ fs v = a) : wn_oc fs g v a = g v a := if_pos h
theorem wn_oc_c {fs : Nat → Nat} {g : Nat → Nat → Nat} {v a : Nat} (h : ¬ (fs v = 3 ∨ fs v = a)) : wn_oc fs g v a = 100000 := if_neg h
theorem wn_lo_s {v0 w : Nat} (hw : w < 3) : wn_lo (wn_fs v0 w) v0 = w := by
  unfold wn_lo
  rw [wn_fs_s]
  exact if_neg (by omega)
theorem wn_hi_s {v0 w : Nat} (hw : w < 3) : wn_hi (wn_fs v0 w) v0 = w := by
  unfold wn_hi
  rw [wn_fs_s]
  exact if_neg (by omega)
theorem wn_hi_n {v0 w i : Nat} (h : i ≠ v0) : wn_hi (wn_fs v0 w) i = 2 := by
  unfold wn_hi
  rw [wn_fs_n h]
  rfl
/-- the search with v0 held at w, no table, the cost K there -/
def wn_J2 (v0 w K : Nat) (st lv b : Nat) (_tk sf nv : Nat → Nat) : Prop :=
  (∀ k, k < lv → sf k = if v0 < k then K else 0) ∧ (v0 < lv → w ≤ nv v0) ∧ (b = K ∨ (b = 100000 ∧ K < 50000 ∧ lv = st + 1 ∧ st < 6 ∧ nv st = wn_lo (wn_fs v0 w) st))
theorem wn_J2_step {X Y P D v0 w K : Nat} (hv : v0 < 6) (hw : w < 3) (hK : K < 50000 ∨ K = 100000) : ∀ (st l b : Nat) (tk sf nv : Nat → Nat), l < 6 → (b < 50000 ∨ b = 100000) → (∀ i, i < 6 → tk i ≤ 2) → (∀ i, i < 7 → sf i ≤ 100000) → wn_J2 v0 w K st (l + 1) b tk sf nv → wn_Stp 0 X Y (wn_ob (v0 * 3 + w) K) (wn_ob P D) (wn_fs v0 w) (wn_J2 v0 w K) st l b tk sf nv := by
  intro st l b tk sf nv hl hb _ _ hJ
  obtain ⟨j1, j2, j3⟩ := hJ
  have hlh := wn_lo_hi (fs := wn_fs v0 w) (v := l)
  have hhi : wn_hi (wn_fs v0 w) l = if l = v0 then w else 2 := by
    by_cases e : l = v0
    · rw [if_pos e, e, wn_hi_s hw]
    · rw [if_neg e, wn_hi_n e]
  refine ⟨fun z => ⟨fun k hk => j1 k (by omega), fun g => j2 (by omega), ?_⟩, fun z tk' sf' nv' al et es en ea => ?_⟩
  · rcases j3 with h | ⟨h1, h2, h3, h4, h5⟩
    · exact Or.inl h
    · have : st = l := by omega
      subst this
      omega
  · have hv2 : nv l ≤ 2 := by
      rw [hhi] at z
      split at z <;> omega
    have ho : ∀ v a, a < 3 → wn_ob (v0 * 3 + w) K (v * 3 + a) = if v = v0 ∧ a = w then K else 0 := by
      intro v a ha
      unfold wn_ob
      by_cases g : v = v0 ∧ a = w
      · rw [if_pos g, if_pos (by omega)]
      · rw [if_neg g, if_neg (by omega)]
    have e1 : sf' (l + 1) = if v0 < l + 1 then K else 0 := by
      rw [es, wn_us, wn_wt_0, ho l (nv l) (by omega), j1 l (by omega)]
      by_cases g : l = v0
      · have gw : nv l = w := by
          have := j2 (by omega)
          rw [hhi, if_pos g] at z
          rw [g] at z ⊢
          omega
        rw [if_neg (show ¬ v0 < l by omega), if_pos (show l = v0 ∧ nv l = w from ⟨g, gw⟩), if_pos (show v0 < l + 1 by omega)]
        exact wn_mo_z hK
      · rw [if_neg (show ¬ (l = v0 ∧ nv l = w) from fun y => g y.1)]
        by_cases g2 : v0 < l
        · rw [if_pos g2, if_pos (show v0 < l + 1 by omega)]
          exact wn_mo_0 hK
        · rw [if_neg g2, if_neg (show ¬ v0 < l + 1 by omega)]
          rfl
    have hah : ∀ k, l + 1 + k ≤ 6 → wn_ah (fun v => wn_mn (wn_oc (wn_fs v0 w) (fun v a => wn_wt 0 X Y (wn_ob (v0 * 3 + w) K) (wn_ob P D) tk' v a (l + 1)) v) 3) (l + 1) k = if l + 1 ≤ v0 ∧ v0 < l + 1 + k then K else 0 := by
      refine wn_ah_1 hK ?_ ?_
      · have c1 : ∀ a, a < 3 → wn_oc (wn_fs v0 w) (fun v a => wn_wt 0 X Y (wn_ob (v0 * 3 + w) K) (wn_ob P D) tk' v a (l + 1)) v0 a = if a = w then K else 100000 := by
          intro a ha
          by_cases g : a = w
          · rw [wn_oc_o (Or.inr (by rw [wn_fs_s, g])), wn_wt_0, ho v0 a ha, if_pos (show v0 = v0 ∧ a = w from ⟨rfl, g⟩), if_pos g]
          · rw [wn_oc_c (by rw [wn_fs_s]; omega), if_neg g]
        have a1 := wn_mn_at (wn_oc (wn_fs v0 w) (fun v a => wn_wt 0 X Y (wn_ob (v0 * 3 + w) K) (wn_ob P D) tk' v a (l + 1)) v0) 3 w hw
        rw [c1 w hw, if_pos rfl] at a1
        rcases wn_mn_is (wn_oc (wn_fs v0 w) (fun v a => wn_wt 0 X Y (wn_ob (v0 * 3 + w) K) (wn_ob P D) tk' v a (l + 1)) v0) 3 with g | ⟨a, ha, g⟩
        · omega
        · rw [c1 a ha] at g
          split at g <;> omega
      · intro j hj hj6
        refine wn_mn_0 (i := 0) (by omega) ?_
        rw [wn_oc_o (Or.inl (wn_fs_n hj)), wn_wt_0, ho j 0 (by omega), if_neg (show ¬ (j = v0 ∧ 0 = w) from fun y => hj y.1)]
    have eK : al = K := by
      rw [ea, e1]
      by_cases g : l < 5
      · rw [if_pos g, hah _ (by omega)]
        by_cases g2 : v0 < l + 1
        · rw [if_pos g2, if_neg (by omega)]
          exact wn_mo_0 hK
        · rw [if_neg g2, if_pos (by omega)]
          exact wn_mo_z hK
      · rw [if_neg g, if_pos (by omega)]
        exact wn_mo_0 hK
    have s1 : ∀ k, k < l + 1 → sf' k = if v0 < k then K else 0 := by
      intro k hk
      rw [es, wn_un (by omega)]
      exact j1 k hk
    have n1 : v0 < l + 1 → w ≤ nv' v0 := by
      intro g
      have := j2 g
      rw [en]
      by_cases y : v0 = l
      · rw [y] at this ⊢
        rw [wn_us]
        omega
      · rw [wn_un y]
        exact this
    refine ⟨fun g => ⟨s1, n1, ?_⟩, fun g1 g2 g3 => ⟨fun k hk => s1 k (by omega), fun _ => n1 (by omega), Or.inl ?_⟩, fun g1 g2 g3 => ⟨fun k hk => ?_, fun g => ?_, ?_⟩⟩
    · rcases j3 with h | ⟨h1, h2, h3, h4, h5⟩
      · exact Or.inl h
      · exact absurd ⟨by omega, by omega⟩ g
    · subst g3
      rw [e1, if_pos (by omega)]
    · by_cases y : k = l + 1
      · rw [y, e1]
      · exact s1 k (by omega)
    · by_cases y : v0 = l + 1
      · rw [← y, wn_us, wn_lo_s hw]
        exact Nat.le_refl _
      · rw [wn_un y]
        exact n1 (by omega)
    · rcases j3 with h | ⟨h1, h2, h3, h4, h5⟩
      · exact absurd g2 (by omega)
      · have y : st = l := by omega
        subst y
        exact Or.inr ⟨h1, h2, rfl, by omega, wn_us⟩
theorem wn_J2_fin {v0 w K st lv b : Nat} {tk sf nv : Nat → Nat} (h : wn_J2 v0 w K st lv b tk sf nv) (he : st = 3000 ∨ lv = 0) : b = K := by
  rcases h.2.2 with h | ⟨h1, h2, h3, h4, h5⟩
  · exact h
  · omega
end
section
section
variable {rd fl fo be : Int32} {a1 a2 a3 a4 a5 a6 a7 a8 a9 a10 a11 : Nat → Int32}
theorem wn_search {post : St2 → Prop} {T X Y V c P d : Nat} {fs : Nat → Nat} (J : Nat → Nat → Nat → (Nat → Nat) → (Nat → Nat) → (Nat → Nat) → Prop) (hS : wn_St T X Y V c P d rd fl a1 a2 a3 a4 a5 a6 a8 a9 a10 a11) (h7 : wn_fx a7 fs)
    (hfin : ∀ (st lv b : Nat) (tk sf nv : Nat → Nat) (fo' : Int32) (b5 b6 b8 b9 b10 b11 : Nat → Int32), wn_St T X Y V c P d 1 0 a1 a2 a3 a4 b5 b6 b8 b9 b10 b11 → J st lv b tk sf nv → (st = 3000 ∨ lv = 0) → (b < 50000 ∨ b = 100000) → post (nI T, 1, 0, fo', nI b, a1, a2, a3, a4, b5, b6, a7, b8, b9, b10, b11))
    (hstep : ∀ (st l b : Nat) (tk sf nv : Nat → Nat), l < 6 → (b < 50000 ∨ b = 100000) → (∀ i, i < 6 → tk i ≤ 2) → (∀ i, i < 7 → sf i ≤ 100000) → J st (l + 1) b tk sf nv → wn_Stp T X Y (wn_ob V (wn_am c)) (wn_ob P (wn_am d)) fs J st l b tk sf nv)
    (hJ : ∀ (tk sf nv : Nat → Nat), sf 0 = 0 → nv 0 = wn_lo fs 0 → J 0 1 100000 tk sf nv) :
    wpX_search post (nI T, rd, fl, fo, be, a1, a2, a3, a4, a5, a6, a7, a8, a9, a10, a11) 49999 1 := by
  obtain ⟨hT, hc, hd, h1, h4, hr, ⟨tk, r8⟩, ⟨sf, r9⟩, ⟨nv, r10⟩, r11⟩ := hS
  unfold wpX_search
  refine wn_prepare hT hc hd h1 (fun z => (h4 z).2.2.2.2) hr (fun b5 b6 h5 h6 => ?_)
  refine nm_e ?_
  refine wn_open (l := 0) h7 (by omega) ?_
  have r9' := wn_put (k := 0) (x := 0) r9 (by omega)
  have r10' := wn_put (k := 0) (x := wn_lo fs 0) r10 (Nat.le_trans (wn_lo_le (wn_fx_le h7 (by omega))) (by omega))
  refine wn_search35 (X := X) (Y := Y) (one := wn_ob V (wn_am c)) (two := wn_ob P (wn_am d)) (b := 100000) J hT (fun i hi => ⟨h5 i hi, wn_ob_le (wn_am_le hc)⟩) (fun z => ?_) h7 ?_ hstep ⟨(nI_pred 0).symm, by omega, rfl, Or.inr rfl, r8, r9', r10', r11⟩ (hJ _ _ _ wn_us wn_us)
  · obtain ⟨g1, g2, g3, g4, g5⟩ := h4 z
    exact ⟨g1, g2, g3, g4, fun j hj => ⟨h6 z j hj, wn_ob_le (wn_am_le hd)⟩⟩
  · intro st lv b tk sf nv fo' x3 b8 b9 b10 b11 hR hJ' he
    obtain ⟨_, _, _, hb, q8, q9, q10, q11⟩ := hR
    exact hfin st lv b tk sf nv fo' b5 b6 b8 b9 b10 b11 ⟨hT, hc, hd, h1, h4, Or.inr ⟨rfl, rfl, h5, h6⟩, ⟨tk, q8⟩, ⟨sf, q9⟩, ⟨nv, q10⟩, q11⟩ hJ' he hb
theorem wn_value {post : Int32 → St2 → Prop} {T X Y V c P d k : Nat} (hk : k < 6) (hS : wn_St T X Y V c P d rd fl a1 a2 a3 a4 a5 a6 a8 a9 a10 a11)
    (h : ∀ (j : Nat) (fo' be' : Int32) (b5 b6 b7 b8 b9 b10 b11 : Nat → Int32), j ≤ 2 → wn_St T X Y V c P d 1 0 a1 a2 a3 a4 b5 b6 b8 b9 b10 b11 → post (nI j) (nI T, 1, 0, fo', be', a1, a2, a3, a4, b5, b6, b7, b8, b9, b10, b11)) :
    wpX_value post (nI T, rd, fl, fo, be, a1, a2, a3, a4, a5, a6, a7, a8, a9, a10, a11) (nI k) := by
  unfold wpX_value
  refine br_f (nI_pos (by omega)) (br_t (nI_lt (b := 6) hk (by decide)) (br_t rfl ?_))
  refine wn_freeAll (fun b7 h7 => ?_)
  unfold wpX_leastCost
  refine wn_search (fs := fun _ => 3) (wn_J1 T X Y V (wn_am c) P (wn_am d)) hS (fun i hi => Or.inl ⟨h7 i hi, rfl⟩) ?_ wn_J1_step ?_
  · intro st lv b tk sf nv fo' b5 b6 b8 b9 b10 b11 hS' hJ he hb
    have hlt := wn_J1_fin hJ he
    refine br_t (nI_lt (b := 50000) hlt (by decide)) ?_
    have hne : ¬ nI b = -6 := by
      intro g
      have := nI_pos (n := b) (by omega)
      rw [g] at this
      exact this (by decide)
    obtain ⟨j, hj, ej⟩ := hS'.2.2.2.2.2.2.2.2.2 k hk
    refine br_f hne ⟨pk_in k 6 hk, ?_⟩
    rw [nI_clamp (show k < 2 ^ 31 by omega), ej]
    exact h j fo' (nI b) b5 b6 b7 b8 b9 b10 b11 hj hS'
  · intro tk sf nv e0 en
    obtain ⟨a, ha, hz⟩ := wn_wt_ex T X Y V (wn_am c) P (wn_am d) tk 0 0
    refine Or.inr ⟨rfl, 0, rfl, by omega, Nat.zero_le _, by omega, a, ?_, ha, hz⟩
    rw [en]
    exact Nat.zero_le _
theorem wn_leastWith {post : Int32 → St2 → Prop} {X Y c P d k w : Nat} (hk : k < 6) (hw : w < 3) (hS : wn_St 0 X Y (k * 3 + w) c P d rd fl a1 a2 a3 a4 a5 a6 a8 a9 a10 a11)
    (h : ∀ u : St2, post (if c = 20 then -6 else nI c) u) : wpX_leastWith post (nI 0, rd, fl, fo, be, a1, a2, a3, a4, a5, a6, a7, a8, a9, a10, a11) (nI k) (nI w) := by
  have hc : c ≤ 20 := hS.2.1
  unfold wpX_leastWith
  refine br_f (nI_pos (by omega)) (br_t (nI_lt (b := 6) hk (by decide)) (br_t rfl (br_f (nI_pos (by omega)) (br_t (nI_lt (b := 3) hw (by decide)) ?_))))
  refine wn_freeAll (fun b7 h7 => ⟨pk_in k 6 hk, nm_e ?_⟩)
  rw [nI_clamp (show k < 2 ^ 31 by omega)]
  unfold wpX_leastCost
  refine wn_search (fs := wn_fs k w) (wn_J2 k w (wn_am c)) hS (fun i hi => ?_) ?_ (wn_J2_step hk hw (wn_am_in hc)) ?_
  · by_cases e : i = k
    · subst e
      rw [pk_us]
      rw [wn_fs_s]
      exact Or.inr ⟨rfl, hw⟩
    · rw [pk_un e]
      exact Or.inl ⟨h7 i hi, wn_fs_n e⟩
  · intro st lv b tk sf nv fo' b5 b6 b8 b9 b10 b11 hS' hJ he hb
    have hbK := wn_J2_fin hJ he
    by_cases e : c = 20
    · have e2 : wn_am c = 100000 := if_pos e
      rw [if_pos e] at h
      exact br_f (nI_nlt (b := 50000) (by omega) (by omega)) (h _)
    · have e2 : wn_am c = c := if_neg e
      rw [if_neg e] at h
      rw [hbK, e2]
      exact br_t (nI_lt (b := 50000) (by omega) (by decide)) (h _)
  · intro tk sf nv e0 en
    refine ⟨fun j hj => ?_, fun g => ?_, ?_⟩
    · have : j = 0 := by omega
      subst this
      rw [e0, if_neg (by omega)]
    · have : k = 0 := by omega
      subst this
      rw [en, wn_lo_s hw]
      exact Nat.le_refl _
    · rcases wn_am_in hc with g | g
      · exact Or.inr ⟨rfl, g, rfl, by omega, en⟩
      · exact Or.inl g.symm
end
end
section
def wn_bad (n : Nat) (x : Int32) : Prop := x < 0 ∨ nI n ≤ x
theorem wn_gt {x : Int32} {a b : Nat} (h : nI b ≤ x) (hab : a < b) (hb : b < 2 ^ 31) : nI a < x := by
  rw [Int32.le_iff_toInt_le, nI_toInt hb] at h
  rw [Int32.lt_iff_toInt_lt, nI_toInt (by omega)]
  omega
theorem wn_ngt {x : Int32} {a b : Nat} (h : nI b ≤ x) (hab : a ≤ b) (hb : b < 2 ^ 31) : ¬ x < nI a := by
  rw [Int32.le_iff_toInt_le, nI_toInt hb] at h
  rw [Int32.lt_iff_toInt_lt, nI_toInt (by omega)]
  omega
theorem wn_nle {x : Int32} {a b : Nat} (h : nI b ≤ x) (hab : a < b) (hb : b < 2 ^ 31) : ¬ x ≤ nI a := by
  rw [Int32.le_iff_toInt_le, nI_toInt hb] at h
  rw [Int32.le_iff_toInt_le, nI_toInt (by omega)]
  omega
theorem wn_ix (n : Nat) (x : Int32) (hn : n < 2 ^ 31) : wn_bad n x ∨ ∃ j : Nat, j < n ∧ x = nI j := by
  rcases pk_ix x hn with h | h | h
  · exact Or.inl (Or.inl h)
  · exact Or.inl (Or.inr h)
  · exact Or.inr h
/-- x < 0, else above a: a branch for a bad value (strict) -/
theorem wn_b1 {A B C : Prop} {x : Int32} {n a : Nat} (h : wn_bad n x) (ha : a < n) (hn : n < 2 ^ 31) (hA : A) (hB : B) : (x < 0 → A) ∧ (¬ x < 0 → ((nI a < x → B) ∧ (¬ nI a < x → C))) := by
  refine br_c (fun _ => hA) (fun z => ?_)
  rcases h with h | h
  · exact absurd h z
  · exact br_t (wn_gt h ha hn) hB
theorem wn_b2 {A B C : Prop} {x : Int32} {n a : Nat} (h : wn_bad n x) (ha : a ≤ n) (hn : n < 2 ^ 31) (hA : A) (hB : B) : (x < 0 → A) ∧ (¬ x < 0 → ((x < nI a → C) ∧ (¬ x < nI a → B))) := by
  refine br_c (fun _ => hA) (fun z => ?_)
  rcases h with h | h
  · exact absurd h z
  · exact br_f (wn_ngt h ha hn) hB
theorem wn_b3 {A B C : Prop} {x : Int32} {n a : Nat} (h : wn_bad n x) (ha : a < n) (hn : n < 2 ^ 31) (hA : A) (hB : B) : (x < 0 → A) ∧ (¬ x < 0 → ((x ≤ nI a → C) ∧ (¬ x ≤ nI a → B))) := by
  refine br_c (fun _ => hA) (fun z => ?_)
  rcases h with h | h
  · exact absurd h z
  · exact br_f (wn_nle h ha hn) hB
theorem wn_varB {post : Int32 → Prop} {v : Int32} (h : wn_bad 6 v) (hp : post 0) : wpL_variable post () v := wn_b1 (a := 5) h (by decide) (by decide) hp hp
theorem wn_varK {post : Int32 → Prop} {k : Nat} (hk : k < 6) (hp : post 1) : wpL_variable post () (nI k) := br_f (nI_pos (by omega)) (br_f (nI_nlt (b := k) (a := 5) (by omega) (by decide)) hp)
theorem wn_bvB {post : Int32 → Prop} {v : Int32} (h : wn_bad 6 v) (hp : post 1) : wpX_badVariable post () v := wn_b2 (a := 6) h (by decide) (by decide) hp hp
theorem wn_bvK {post : Int32 → Prop} {k : Nat} (hk : k < 6) (hp : post 0) : wpX_badVariable post () (nI k) := br_f (nI_pos (by omega)) (br_t (nI_lt (b := 6) hk (by decide)) hp)
theorem wn_bcB {post : Int32 → Prop} {v : Int32} (h : wn_bad 21 v) (hp : post 1) : wpX_badCost post () v := wn_b3 (a := 20) h (by decide) (by decide) hp hp
theorem wn_bcK {post : Int32 → Prop} {k : Nat} (hk : k < 21) (hp : post 0) : wpX_badCost post () (nI k) := br_f (nI_pos (by omega)) (br_t (nI_le (b := 20) (by omega) (by decide)) hp)
section
variable {rd fl fo be : Int32} {a1 a2 a3 a4 a5 a6 a7 a8 a9 a10 a11 : Nat → Int32}
theorem wn_St_V {T X Y V P d : Nat} (V' : Nat) (h : wn_St T X Y V 0 P d rd fl a1 a2 a3 a4 a5 a6 a8 a9 a10 a11) : wn_St T X Y V' 0 P d rd fl a1 a2 a3 a4 a5 a6 a8 a9 a10 a11 := by
  obtain ⟨hT, hc, hd, h1, h4, hr, hg⟩ := h
  refine ⟨hT, hc, hd, fun i hi => ?_, h4, ?_, hg⟩
  · rw [h1 i hi, wn_ob_0, wn_ob_0]
  · rcases hr with h | ⟨e1, e2, h5, h6⟩
    · exact Or.inl h
    · refine Or.inr ⟨e1, e2, fun i hi => ?_, h6⟩
      rw [h5 i hi]
      have : wn_am 0 = 0 := rfl
      rw [this, wn_ob_0, wn_ob_0]
theorem wn_St_drop {T X Y V c P d : Nat} (h : wn_St T X Y V c P d rd fl a1 a2 a3 a4 a5 a6 a8 a9 a10 a11) : wn_St 0 X Y V c P d 0 fl a1 a2 a3 a4 a5 a6 a8 a9 a10 a11 :=
  ⟨Nat.zero_le _, h.2.1, h.2.2.1, h.2.2.2.1, fun z => absurd z (by omega), Or.inl rfl, h.2.2.2.2.2.2⟩
/-- what was set, against the picture -/
def wn_set (v w c x7 : Int32) (V e : Nat) : Prop := (x7 = 0 ∧ e = 0) ∨ (x7 = 1 ∧ ∃ k j : Nat, k < 6 ∧ j < 3 ∧ v = nI k ∧ w = nI j ∧ V = k * 3 + j ∧ c = nI e)
theorem wn_l236 {post : Int32 → St0 → Prop} {mc ms kc ks : Nat} {v w c x7 z0 z1 : Int32} {X Y V e P d : Nat} (hp : post 1 ()) (hz : z1 = z0) (hS : wn_St 0 X Y V e P d rd fl a1 a2 a3 a4 a5 a6 a8 a9 a10 a11) (hs : wn_set v w c x7 V e) :
    wL_lawOf_236 post mc ms v w c x7 z0 z1 kc ks (nI 0) rd fl fo be a1 a2 a3 a4 a5 a6 a7 a8 a9 a10 a11 := by
  refine br_t hz ?_
  rcases hs with ⟨rfl, rfl⟩ | ⟨rfl, k, j, hk, hj, rfl, rfl, rfl, rfl⟩
  · rcases wn_ix 6 v (by decide) with hv | ⟨k, hk, rfl⟩
    · unfold wpX_leastWith
      exact wn_bvB hv (br_f (by decide) (wn_varB hv (br_t rfl (br_t rfl hp))))
    · rcases wn_ix 3 w (by decide) with hw | ⟨j, hj, rfl⟩
      · unfold wpX_leastWith
        have fin : wpL_variable (fun r_300 => (((r_300 = 0 → (wL_lawOf_294 post mc ms (-1) (-2) kc ks)) ∧ (¬ r_300 = 0 → (((w < 0 → (wL_lawOf_268 post mc ms (-2) kc ks)) ∧ (¬ w < 0 → (((w ≤ 2 → ((((0 : Int32) = 0 → (wL_lawOf_294 post mc ms 0 (-2) kc ks)) ∧ (¬ (0 : Int32) = 0 → (((c = 20 → (wL_lawOf_294 post mc ms (-6) (-2) kc ks)) ∧ (¬ c = 20 → (wL_lawOf_294 post mc ms c (-2) kc ks)))))))) ∧ (¬ w ≤ 2 → (wL_lawOf_268 post mc ms (-2) kc ks))))))))))) () (nI k) :=
          wn_varK hk (br_f (by decide) (wn_b3 (a := 2) hw (by decide) (by decide) (br_t rfl hp) (br_t rfl hp)))
        exact wn_bvK hk (br_t rfl (wn_b2 (a := 3) hw (by decide) (by decide) fin fin))
      · refine wn_leastWith hk hj (wn_St_V (k * 3 + j) hS) (fun u => ?_)
        exact wn_varK hk (br_f (by decide) (br_f (nI_pos (by omega)) (br_t (nI_le (b := 2) (by omega) (by decide)) (br_t rfl (br_t rfl hp)))))
  · have he : e ≤ 20 := hS.2.1
    refine wn_leastWith hk hj hS (fun u => ?_)
    refine wn_varK hk (br_f (by decide) (br_f (nI_pos (by omega)) (br_t (nI_le (b := 2) (by omega) (by decide)) (br_f (by decide) (pk_eq e 20 (fun z => ?_) (fun z => ?_))))))
    · rw [if_pos z]
      exact br_t rfl hp
    · rw [if_neg z]
      exact br_t rfl hp
theorem wn_l217 {post : Int32 → St0 → Prop} {mc ms kc ks : Nat} {v w c x7 x8 z0 z1 : Int32} {T X Y V e P d : Nat} (hp : post 1 ()) (hz : ¬ z1 < z0) (hx : (x8 = 0 ∧ T = 0) ∨ (x8 = 1 ∧ T = 1)) (hS : wn_St T X Y V e P d rd fl a1 a2 a3 a4 a5 a6 a8 a9 a10 a11) (hs : wn_set v w c x7 V e) :
    wL_lawOf_217 post mc ms v w c x7 x8 z0 z1 kc ks (nI T) rd fl fo be a1 a2 a3 a4 a5 a6 a7 a8 a9 a10 a11 := by
  refine br_f hz ?_
  rcases hx with ⟨rfl, rfl⟩ | ⟨rfl, rfl⟩
  · unfold wpX_drop
    exact br_t rfl (br_t rfl (wn_l236 hp rfl hS hs))
  · unfold wpX_drop
    exact br_f (nI_ne0 (by decide) (by decide)) (nm_r (nI_pred 0) (br_f (by decide) (wn_l236 hp rfl (wn_St_drop hS) hs)))
theorem wn_l194 {post : Int32 → St0 → Prop} {mc ms kc ks : Nat} {v w c x7 x8 z0 z1 : Int32} {T X Y V e P d : Nat} (hp : post 1 ()) (hz : z1 = z0) (hx : (x8 = 0 ∧ T = 0) ∨ (x8 = 1 ∧ T = 1)) (hS : wn_St T X Y V e P d rd fl a1 a2 a3 a4 a5 a6 a8 a9 a10 a11) (hs : wn_set v w c x7 V e) :
    wL_lawOf_194 post mc ms v w c x7 x8 z0 z1 kc ks (nI T) rd fl fo be a1 a2 a3 a4 a5 a6 a7 a8 a9 a10 a11 := by
  refine br_t hz ?_
  rcases wn_ix 6 v (by decide) with hv | ⟨k, hk, rfl⟩
  · unfold wpX_value
    exact wn_bvB hv (br_f (by decide) (wn_varB hv (br_t rfl (wn_l217 hp (by decide) hx hS hs))))
  · refine wn_value hk hS (fun j fo' be' b5 b6 b7 b8 b9 b10 b11 hj hS' => ?_)
    exact wn_varK hk (br_f (by decide) (wn_l217 hp (nI_pos (by omega)) hx hS' hs))
theorem wn_l137 {post : Int32 → St0 → Prop} {mc ms kc ks : Nat} {v w c p x7 x8 z0 z1 : Int32} {T X Y V e P : Nat} (hp : post 1 ()) (hz : z1 = z0) (hx : (x8 = 0 ∧ T = 0) ∨ (x8 = 1 ∧ T = 1)) (hS : wn_St T X Y V e P 0 rd fl a1 a2 a3 a4 a5 a6 a8 a9 a10 a11) (hs : wn_set v w c x7 V e) :
    wL_lawOf_137 post mc ms v w c p x7 x8 z0 z1 kc ks (nI T) rd fl fo be a1 a2 a3 a4 a5 a6 a7 a8 a9 a10 a11 := by
  refine br_t hz ?_
  rcases hx with ⟨rfl, rfl⟩ | ⟨rfl, rfl⟩
  · unfold wpX_pair
    exact br_f (by decide) (br_f (by decide) (br_t rfl (wn_l194 hp rfl (Or.inl ⟨rfl, rfl⟩) hS hs)))
  · unfold wpX_pair
    refine br_f (by decide) (br_t (by decide) ?_)
    rcases wn_ix 9 p (by decide) with hq | ⟨q, hq, rfl⟩
    · have go := wn_l194 (mc := mc) (ms := ms) (kc := kc) (ks := ks) (fo := fo) (be := be) (a7 := a7) (x8 := 1) (z0 := -2) (z1 := -2) hp rfl (Or.inr ⟨rfl, rfl⟩) hS hs
      have fin : ((1 : Int32) = 0 → wL_lawOf_194 post mc ms v w c x7 1 (-4) (-2) kc ks (nI 1) rd fl fo be a1 a2 a3 a4 a5 a6 a7 a8 a9 a10 a11) ∧ (¬ (1 : Int32) = 0 → (((p < 0 → wL_lawOf_173 post mc ms v w c x7 1 (-2) kc ks (nI 1) rd fl fo be a1 a2 a3 a4 a5 a6 a7 a8 a9 a10 a11)) ∧ (¬ p < 0 → (((p ≤ 8 → (((c < 0 → wL_lawOf_188 post mc ms v w c x7 1 (-2) kc ks (nI 1) rd fl fo be a1 a2 a3 a4 a5 a6 a7 a8 a9 a10 a11)) ∧ (¬ c < 0 → (((c ≤ 20 → wL_lawOf_194 post mc ms v w c x7 1 0 (-2) kc ks (nI 1) rd fl fo be a1 a2 a3 a4 a5 a6 a7 a8 a9 a10 a11)) ∧ (¬ c ≤ 20 → wL_lawOf_188 post mc ms v w c x7 1 (-2) kc ks (nI 1) rd fl fo be a1 a2 a3 a4 a5 a6 a7 a8 a9 a10 a11))))) ∧ (¬ p ≤ 8 → wL_lawOf_173 post mc ms v w c x7 1 (-2) kc ks (nI 1) rd fl fo be a1 a2 a3 a4 a5 a6 a7 a8 a9 a10 a11)))))) :=
        br_f (by decide) (wn_b3 (a := 8) hq (by decide) (by decide) go go)
      exact wn_b3 (a := 8) hq (by decide) (by decide) fin fin
    · refine br_f (nI_pos (by omega)) (br_t (nI_le (b := 8) (by omega) (by decide)) ?_)
      rcases wn_ix 21 c (by decide) with hc | ⟨f, hf, rfl⟩
      · refine wn_bcB hc (br_f (by decide) (br_f (by decide) (br_f (nI_pos (by omega)) (br_t (nI_le (b := 8) (by omega) (by decide)) ?_))))
        exact wn_b3 (a := 20) hc (by decide) (by decide) (wn_l194 hp rfl (Or.inr ⟨rfl, rfl⟩) hS hs) (wn_l194 hp rfl (Or.inr ⟨rfl, rfl⟩) hS hs)
      · obtain ⟨hT, he, hd, h1, h4, hr, hg⟩ := hS
        obtain ⟨g1, g2, g3, g4, g5⟩ := h4 rfl
        have e0 : (0 : Int32) * 9 + nI q = nI q := by
          rw [Int32.zero_mul, Int32.zero_add]
        refine wn_bcK hf (br_t rfl ?_)
        rw [e0, nI_clamp (show q < 2 ^ 31 by omega)]
        refine ⟨pk_in q 72 (by omega), nm_r ((g5 q hq).trans (by rw [wn_ob_0])) ⟨pk_in q 72 (by omega), nm_e ?_⟩⟩
        refine br_f (by decide) (br_f (nI_pos (by omega)) (br_t (nI_le (b := 8) (by omega) (by decide)) (br_f (nI_pos (by omega)) (br_t (nI_le (b := 20) (by omega) (by decide)) ?_))))
        refine wn_l194 (T := 1) (X := X) (Y := Y) (V := V) (e := e) (P := q) (d := f) hp rfl (Or.inr ⟨rfl, rfl⟩) ⟨hT, he, by omega, h1, fun _ => ⟨g1, g2, g3, g4, fun j hj => ?_⟩, Or.inl rfl, hg⟩ hs
        by_cases ej : j = q
        · rw [ej, pk_us]
          unfold wn_ob
          rw [if_pos rfl]
        · rw [pk_un ej, g5 j hj, wn_ob_0]
          unfold wn_ob
          rw [if_neg ej]
end
end
section
section
variable {rd fl fo be : Int32} {a1 a2 a3 a4 a5 a6 a7 a8 a9 a10 a11 : Nat → Int32}
/-- was a table made -/
def wn_made (x y z : Int32) : Prop := (z = 0 ∧ (wn_bad 6 x ∨ (∃ i : Nat, i < 6 ∧ x = nI i ∧ (wn_bad 6 y ∨ ∃ j : Nat, j < 6 ∧ y = nI j ∧ x = y)))) ∨ (z = 1 ∧ ∃ i j : Nat, i < 6 ∧ j < 6 ∧ x = nI i ∧ y = nI j ∧ ¬ x = y)
theorem wn_l117 {post : Int32 → St0 → Prop} {mc ms kc ks : Nat} {v w c x y p x7 z0 : Int32} {X Y V e P d : Nat} (hp : post 1 ()) (hm : wn_made x y z0) (hS : wn_St 0 X Y V e P d rd fl a1 a2 a3 a4 a5 a6 a8 a9 a10 a11) (hs : wn_set v w c x7 V e) :
    wL_lawOf_117 post mc ms v w c x y p x7 z0 kc ks (nI 0) rd fl fo be a1 a2 a3 a4 a5 a6 a7 a8 a9 a10 a11 := by
  have hS0 : wn_St 0 X Y V e P 0 rd fl a1 a2 a3 a4 a5 a6 a8 a9 a10 a11 := by
    obtain ⟨hT, he, hd, h1, h4, hr, hg⟩ := hS
    refine ⟨hT, he, by omega, h1, fun z => absurd z (by omega), ?_, hg⟩
    rcases hr with h | ⟨e1, e2, h5, h6⟩
    · exact Or.inl h
    · exact Or.inr ⟨e1, e2, h5, fun z => absurd z (by omega)⟩
  unfold wL_lawOf_117
  rcases hm with ⟨rfl, hb⟩ | ⟨rfl, i, j, hi, hj, rfl, rfl, hne⟩
  · have go := wn_l137 (mc := mc) (ms := ms) (kc := kc) (ks := ks) (fo := fo) (be := be) (a7 := a7) (p := p) (x8 := 0) (z0 := -1) (z1 := -1) hp rfl (Or.inl ⟨rfl, rfl⟩) hS0 hs
    unfold wpX_table
    rcases hb with hx | ⟨i, hi, rfl, hy | ⟨j, hj, rfl, hxy⟩⟩
    · exact wn_bvB hx (br_f (by decide) (br_t rfl go))
    · exact wn_bvK hi (br_t rfl (wn_bvB hy (br_f (by decide) (br_t rfl go))))
    · exact wn_bvK hi (br_t rfl (wn_bvK hj (br_t rfl (br_t hxy (br_t rfl go)))))
  · unfold wpX_table
    refine wn_bvK hi (br_t rfl (wn_bvK hj (br_t rfl (br_f hne (br_t (by decide) ⟨pk_in 0 8 (by decide), nm_e ⟨pk_in 0 8 (by decide), nm_e ?_⟩⟩)))))
    rw [nI_clamp (show 0 < 2 ^ 31 by decide)]
    have e0 : ∀ q : Nat, nI 0 * 9 + nI q = nI q := by
      intro q
      rw [nI_0, Int32.zero_mul, Int32.zero_add]
    refine pk_loop (fun n q s => wX_table_55 _ (nI 0) rd fl fo be n (nI q) a1 (upd a2 0 (nI i)) (upd a3 0 (nI j)) s a5 a6 a7 a8 a9 a10 a11) (fun q s => ∀ t, t < q → s t = 0) 9 0 a4 (by omega) (fun t ht => absurd ht (by omega)) ?_ ?_
    · intro n s hs'
      refine pk_le 9 9 (fun _ => nm_r (nI_1 0) ?_) (fun z => absurd z (by omega))
      rw [nI_pred]
      refine br_f (by decide) ?_
      refine wn_l137 (T := 1) (X := i) (Y := j) (V := V) (e := e) (P := 0) hp rfl (Or.inr ⟨rfl, rfl⟩) ⟨Nat.le_refl _, hS.2.1, by omega, hS.2.2.2.1, fun _ => ⟨pk_us, pk_us, hi, hj, fun t ht => ?_⟩, Or.inl rfl, hS.2.2.2.2.2.2⟩ hs
      rw [hs' t ht, wn_ob_0]
      rfl
    · intro n q s hq hs' hw
      refine pk_le 9 q (fun z => absurd z (by omega)) (fun _ => ?_)
      rw [e0, nI_clamp (show q < 2 ^ 31 by omega)]
      exact ⟨pk_in q 72 (by omega), nm_e (nm_r (nI_1 q) (hw _ (wn_fill (f := fun _ => 0) hs' rfl)))⟩
theorem wn_l86 {post : Int32 → St0 → Prop} {mc ms kc ks : Nat} {v w c x y p x7 z0 z1 : Int32} {X Y V e P d : Nat} (hp : post 1 ()) (hz : z1 = z0) (hS : wn_St 0 X Y V e P d rd fl a1 a2 a3 a4 a5 a6 a8 a9 a10 a11) (hs : wn_set v w c x7 V e) :
    wL_lawOf_86 post mc ms v w c x y p x7 z0 z1 kc ks (nI 0) rd fl fo be a1 a2 a3 a4 a5 a6 a7 a8 a9 a10 a11 := by
  refine br_t hz ?_
  rcases wn_ix 6 x (by decide) with hx | ⟨i, hi, rfl⟩
  · exact wn_varB hx (br_t rfl (wn_l117 hp (Or.inl ⟨rfl, Or.inl hx⟩) hS hs))
  · refine wn_varK hi (br_f (by decide) ?_)
    rcases wn_ix 6 y (by decide) with hy | ⟨j, hj, rfl⟩
    · exact wn_varB hy (br_t rfl (wn_l117 hp (Or.inl ⟨rfl, Or.inr ⟨i, hi, rfl, Or.inl hy⟩⟩) hS hs))
    · exact wn_varK hj (br_f (by decide) (br_c (fun z => wn_l117 hp (Or.inl ⟨rfl, Or.inr ⟨i, hi, rfl, Or.inr ⟨j, hj, rfl, z⟩⟩⟩) hS hs) (fun z => wn_l117 hp (Or.inr ⟨rfl, i, j, hi, hj, rfl, rfl, z⟩) hS hs)))
/-- was the cost set -/
def wn_was (v w c z : Int32) : Prop := (z = 0 ∧ (wn_bad 6 v ∨ (∃ k : Nat, k < 6 ∧ v = nI k ∧ (wn_bad 3 w ∨ ∃ j : Nat, j < 3 ∧ w = nI j ∧ wn_bad 21 c)))) ∨ (z = 1 ∧ ∃ k j e : Nat, k < 6 ∧ j < 3 ∧ e < 21 ∧ v = nI k ∧ w = nI j ∧ c = nI e)
theorem wn_l40 {post : Int32 → St0 → Prop} {mc ms kc ks : Nat} {v w c x y p z0 : Int32} {X Y V P d : Nat} (hp : post 1 ()) (hm : wn_was v w c z0) (hS : wn_St 0 X Y V 0 P d rd fl a1 a2 a3 a4 a5 a6 a8 a9 a10 a11) :
    wL_lawOf_40 post mc ms v w c x y p z0 kc ks (nI 0) rd fl fo be a1 a2 a3 a4 a5 a6 a7 a8 a9 a10 a11 := by
  unfold wL_lawOf_40
  rcases hm with ⟨rfl, hb⟩ | ⟨rfl, k, j, e, hk, hj, he, rfl, rfl, rfl⟩
  · have go : ∀ r : Int32, wL_lawOf_86 post mc ms v w c x y p 0 r r kc ks (nI 0) rd fl fo be a1 a2 a3 a4 a5 a6 a7 a8 a9 a10 a11 := fun r => wn_l86 hp rfl hS (Or.inl ⟨rfl, rfl⟩)
    unfold wpX_cost
    rcases hb with hv | ⟨k, hk, rfl, hw | ⟨j, hj, rfl, hc⟩⟩
    · exact wn_bvB hv (br_f (by decide) (br_t rfl (wn_varB hv (br_t rfl (go (-1))))))
    · have fin := fun (A B : Prop) (hB : B) => wn_varK (post := fun r_89 => (((r_89 = 0 → A) ∧ (¬ r_89 = 0 → (((w < 0 → (wL_lawOf_79 post mc ms (nI k) w c x y p 0 (-2) kc ks (nI 0) rd fl fo be a1 a2 a3 a4 a5 a6 a7 a8 a9 a10 a11)) ∧ (¬ w < 0 → (((w ≤ 2 → (wL_lawOf_86 post mc ms (nI k) w c x y p 0 (-3) (-2) kc ks (nI 0) rd fl fo be a1 a2 a3 a4 a5 a6 a7 a8 a9 a10 a11)) ∧ (¬ w ≤ 2 → (wL_lawOf_79 post mc ms (nI k) w c x y p 0 (-2) kc ks (nI 0) rd fl fo be a1 a2 a3 a4 a5 a6 a7 a8 a9 a10 a11))))))))))) hk (br_f (by decide) (wn_b3 (a := 2) hw (by decide) (by decide) (go (-2)) (go (-2))))
      exact wn_bvK hk (br_t rfl (wn_b2 (a := 3) hw (by decide) (by decide) (br_t rfl (fin _ True trivial)) (br_t rfl (fin _ True trivial))))
    · exact wn_bvK hk (br_t rfl (br_f (nI_pos (by omega)) (br_t (nI_lt (b := 3) hj (by decide)) (wn_bcB hc (br_f (by decide) (br_t rfl (wn_varK hk (br_f (by decide) (br_f (nI_pos (by omega)) (br_t (nI_le (b := 2) (by omega) (by decide)) (go (-3))))))))))))
  · unfold wpX_cost
    refine wn_bvK hk (br_t rfl (br_f (nI_pos (by omega)) (br_t (nI_lt (b := 3) hj (by decide)) (wn_bcK he (br_t rfl ?_)))))
    rw [wn_v3, nI_clamp (show k * 3 + j < 2 ^ 31 by omega)]
    refine ⟨pk_in (k * 3 + j) 18 (by omega), nm_r (e' := 0) ?_ ⟨pk_in (k * 3 + j) 18 (by omega), nm_e (br_f (by decide) ?_)⟩⟩
    · rw [hS.2.2.2.1 _ (by omega), wn_ob_0]
      rfl
    · refine wn_l86 (X := X) (Y := Y) (V := k * 3 + j) (e := e) (P := P) (d := d) hp rfl ⟨Nat.zero_le _, by omega, hS.2.2.1, fun i hi => ?_, fun z => absurd z (by omega), Or.inl rfl, hS.2.2.2.2.2.2⟩ (Or.inr ⟨rfl, k, j, hk, hj, rfl, rfl, rfl, rfl⟩)
      by_cases ei : i = k * 3 + j
      · rw [ei, pk_us]
        unfold wn_ob
        rw [if_pos rfl]
      · rw [pk_un ei, hS.2.2.2.1 i hi, wn_ob_0]
        unfold wn_ob
        rw [if_neg ei]
end
theorem wn_St_new : wn_St 0 0 0 0 0 0 0 0 0 (fun _ => 0) (fun _ => 0) (fun _ => 0) (fun _ => 0) (fun _ => 0) (fun _ => 0) (fun _ => 0) (fun _ => 0) (fun _ => 0) (fun _ => 0) := by
  refine ⟨Nat.zero_le _, by omega, by omega, fun i _ => ?_, fun z => absurd z (by omega), Or.inl rfl, ⟨fun _ => 0, fun i _ => ⟨rfl, Nat.zero_le _⟩⟩, ⟨fun _ => 0, fun i _ => ⟨rfl, Nat.zero_le _⟩⟩, ⟨fun _ => 0, fun i _ => ⟨rfl, Nat.zero_le _⟩⟩, fun i _ => ⟨0, by omega, rfl⟩⟩
  rw [wn_ob_0]
  rfl
theorem wn_lawOf {post : Int32 → St0 → Prop} {v w c x y p : Int32} (hp : post 1 ()) : wpL_lawOf post 12 243 () v w c x y p := by
  refine ⟨by omega, by omega, 11, 227, by omega, by omega, ?_⟩
  refine ⟨by omega, by omega, by omega, by omega, by omega, by omega, by omega, by omega, by omega, by omega, by omega, by omega, by omega, by omega, by omega, by omega, by omega, by omega, by omega, by omega, by omega, by omega, ?_⟩
  have go : ∀ z : Int32, wn_was v w c z → wL_lawOf_40 post 12 243 v w c x y p z (1 + 11) (16 + 227) 0 0 0 0 0 (fun _ => 0) (fun _ => 0) (fun _ => 0) (fun _ => 0) (fun _ => 0) (fun _ => 0) (fun _ => 0) (fun _ => 0) (fun _ => 0) (fun _ => 0) (fun _ => 0) := fun z hz => wn_l40 hp hz wn_St_new
  rcases wn_ix 6 v (by decide) with hv | ⟨k, hk, rfl⟩
  · exact wn_varB hv (br_t rfl (go 0 (Or.inl ⟨rfl, Or.inl hv⟩)))
  · refine wn_varK hk (br_f (by decide) ?_)
    rcases wn_ix 3 w (by decide) with hw | ⟨j, hj, rfl⟩
    · have g := go 0 (Or.inl ⟨rfl, Or.inr ⟨k, hk, rfl, Or.inl hw⟩⟩)
      exact wn_b1 (a := 2) hw (by decide) (by decide) g g
    · refine br_f (nI_pos (by omega)) (br_f (nI_nlt (b := j) (a := 2) (by omega) (by decide)) ?_)
      rcases wn_ix 21 c (by decide) with hc | ⟨e, he, rfl⟩
      · have g := go 0 (Or.inl ⟨rfl, Or.inr ⟨k, hk, rfl, Or.inr ⟨j, hj, rfl, hc⟩⟩⟩)
        exact wn_b1 (a := 20) hc (by decide) (by decide) g g
      · exact br_f (nI_pos (by omega)) (br_f (nI_nlt (b := e) (a := 20) (by omega) (by decide)) (go 1 (Or.inr ⟨rfl, k, j, e, hk, hj, he, rfl, rfl, rfl⟩)))
theorem wn_cell {post : Int32 → Prop} {L : Nat} {xs : Nat → Int32} (i : Nat) (hL : L ≤ 6) (hi : i < 6) (h : ∀ x, post x) : wpL_cellAt post L xs () (nI i) :=
  pk_le L i (fun _ => h 0) (fun z => ⟨pk_in i L z, h _⟩)
theorem i_vc (xs : Nat → Int32) (L : Nat) (hL : L ≤ 6) : wpL_law (fun r => r = 1) L xs := by
  unfold wpL_law
  refine wn_cell 0 hL (by omega) (fun v => wn_cell 1 hL (by omega) (fun w => wn_cell 2 hL (by omega) (fun c => wn_cell 3 hL (by omega) (fun x => wn_cell 4 hL (by omega) (fun y => wn_cell 5 hL (by omega) (fun p => ?_))))))
  exact ⟨12, 243, by omega, by omega, wn_lawOf rfl⟩
end
