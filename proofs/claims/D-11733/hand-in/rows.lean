section
/-! ===== sums, moved costs ===== -/
def wn_sm (f : Nat → Nat) : Nat → Nat
  | 0 => 0
  | n + 1 => wn_sm f n + f n
theorem wn_sm_cg {f g : Nat → Nat} (n : Nat) (h : ∀ u, u < n → f u = g u) : wn_sm f n = wn_sm g n := by
  induction n with
  | zero => rfl
  | succ n ih =>
    show wn_sm f n + f n = wn_sm g n + g n
    rw [ih (fun u hu => h u (by omega)), h n (by omega)]
theorem wn_sm_ch {f g : Nat → Nat} {v : Nat} (n : Nat) (hv : v < n) (h : ∀ u, u < n → u ≠ v → f u = g u) : wn_sm f n + g v = wn_sm g n + f v := by
  induction n with
  | zero => omega
  | succ n ih =>
    show wn_sm f n + f n + g v = wn_sm g n + g n + f v
    by_cases e : v = n
    · subst e
      rw [wn_sm_cg v (fun u hu => h u (by omega) (by omega))]
      omega
    · have h1 := ih (by omega) (fun u hu => h u (by omega))
      have h2 := h n (by omega) (by omega)
      omega
def wn_mo (p q : Nat) : Nat := if 50000 ≤ p then 100000 else if q < 50000 then p + q else 100000
def wn_ls (c l : Nat) : Nat := if l < 50000 then (if c < 50000 then c - l else 100000) else 0
theorem wn_mo_le (p q : Nat) : wn_mo p q ≤ 100000 := by
  unfold wn_mo
  (repeat' split)
  all_goals omega
theorem wn_mo_min (p q : Nat) : min 50000 (wn_mo p q) = min 50000 (p + q) := by
  unfold wn_mo
  (repeat' split)
  all_goals omega
theorem wn_ls_le {c l : Nat} (h : c ≤ 100000) : wn_ls c l ≤ 100000 := by
  unfold wn_ls
  (repeat' split)
  all_goals omega
theorem wn_move {f c l : Nat} (h : l ≤ c) (r : Nat) : min 50000 (wn_mo f l + wn_ls c l + r) = min 50000 (f + c + r) := by
  unfold wn_mo wn_ls
  (repeat' split)
  all_goals omega
/-- one function changed at one place -/
def wn_set (q : Nat → Nat) (v k : Nat) : Nat → Nat := fun j => if j = v then k else q j
theorem wn_set_s {q : Nat → Nat} {v k : Nat} : wn_set q v k v = k := by
  unfold wn_set
  rw [if_pos rfl]
theorem wn_set_n {q : Nat → Nat} {v k j : Nat} (h : j ≠ v) : wn_set q v k j = q j := by
  unfold wn_set
  rw [if_neg h]
/-- an array holds a function of naturals -/
def wn_ar (n : Nat) (a : Nat → Int32) (f : Nat → Nat) : Prop := ∀ i, i < n → a i = nI (f i) ∧ f i ≤ 100000
theorem wn_ar_set {n : Nat} {a : Nat → Int32} {f : Nat → Nat} (h : wn_ar n a f) {k v : Nat} {x : Int32} (hx : x = nI v) (hv : v ≤ 100000) : wn_ar n (upd a k x) (wn_set f k v) := by
  intro i hi
  by_cases e : i = k
  · rw [e, pk_us, wn_set_s]
    exact ⟨hx, hv⟩
  · rw [pk_un e, wn_set_n e]
    exact h i hi
/-- the whole cost of an assignment; what a value adds with the variables below k -/
def wn_T (m x y fl : Nat) (on tw : Nat → Nat) (q : Nat → Nat) : Nat := fl + wn_sm (fun u => on (3 * u + q u)) 6 + (if m = 0 then 0 else tw (q x + 3 * q y))
def wn_wt (m x y : Nat) (on tw q : Nat → Nat) (v a k : Nat) : Nat := on (3 * v + a) + (if m = 0 then 0 else if v = x then (if y < k then tw (a + 3 * q y) else 0) else if v = y then (if x < k then tw (q x + 3 * a) else 0) else 0)
theorem wn_wt_le (m x y : Nat) (on tw q : Nat → Nat) (v a : Nat) {k k' : Nat} (h : k ≤ k') : wn_wt m x y on tw q v a k ≤ wn_wt m x y on tw q v a k' := by
  unfold wn_wt
  (repeat' split)
  all_goals omega
theorem wn_wt_cg {m x y : Nat} {on tw q q' : Nat → Nat} (v a : Nat) {k : Nat} (h : ∀ u, u < k → q u = q' u) : wn_wt m x y on tw q v a k = wn_wt m x y on tw q' v a k := by
  unfold wn_wt
  by_cases hm : m = 0
  · rw [if_pos hm, if_pos hm]
  · rw [if_neg hm, if_neg hm]
    by_cases e : v = x
    · rw [if_pos e, if_pos e]
      by_cases hy : y < k
      · rw [if_pos hy, if_pos hy, h y hy]
      · rw [if_neg hy, if_neg hy]
    · rw [if_neg e, if_neg e]
      by_cases e2 : v = y
      · rw [if_pos e2, if_pos e2]
        by_cases hx : x < k
        · rw [if_pos hx, if_pos hx, h x hx]
        · rw [if_neg hx, if_neg hx]
      · rw [if_neg e2, if_neg e2]
theorem wn_T_wt {m x y : Nat} (fl : Nat) (on tw q : Nat → Nat) (hx : x < 6) (hy : y < 6) (hxy : x ≠ y) : fl + wn_sm (fun u => wn_wt m x y on tw q u (q u) u) 6 = wn_T m x y fl on tw q := by
  unfold wn_T
  by_cases hm : m = 0
  · rw [if_pos hm]
    have h := wn_sm_cg (f := fun u => wn_wt m x y on tw q u (q u) u) (g := fun u => on (3 * u + q u)) 6 (fun u _ => by
      show wn_wt m x y on tw q u (q u) u = on (3 * u + q u)
      unfold wn_wt
      rw [if_pos hm]
      rfl)
    omega
  · rw [if_neg hm]
    by_cases hlt : x < y
    · have h := wn_sm_ch (f := fun u => wn_wt m x y on tw q u (q u) u) (g := fun u => on (3 * u + q u)) (v := y) 6 hy (fun u _ hne => by
        show wn_wt m x y on tw q u (q u) u = on (3 * u + q u)
        unfold wn_wt
        rw [if_neg hm]
        by_cases e : u = x
        · rw [if_pos e, if_neg (by omega)]
          rfl
        · rw [if_neg e, if_neg hne]
          rfl)
      have e1 : wn_wt m x y on tw q y (q y) y = on (3 * y + q y) + tw (q x + 3 * q y) := by
        unfold wn_wt
        rw [if_neg hm, if_neg (fun z => hxy z.symm), if_pos rfl, if_pos hlt]
      omega
    · have h := wn_sm_ch (f := fun u => wn_wt m x y on tw q u (q u) u) (g := fun u => on (3 * u + q u)) (v := x) 6 hx (fun u _ hne => by
        show wn_wt m x y on tw q u (q u) u = on (3 * u + q u)
        unfold wn_wt
        rw [if_neg hm, if_neg hne]
        by_cases e : u = y
        · rw [if_pos e, if_neg (by omega)]
          rfl
        · rw [if_neg e]
          rfl)
      have e1 : wn_wt m x y on tw q x (q x) x = on (3 * x + q x) + tw (q x + 3 * q y) := by
        unfold wn_wt
        rw [if_neg hm, if_pos rfl, if_pos (by omega)]
      omega
/-! ===== the assignments in their order ===== -/
def wn_lv (lo hi : Nat → Nat) : Nat → (Nat → Nat) → List (Nat → Nat)
  | 0, q => [q]
  | d + 1, q => (List.range' (lo (5 - d)) (hi (5 - d) + 1 - lo (5 - d))).flatMap (fun k => wn_lv lo hi d (wn_set q (5 - d) k))
def wn_lk (lo hi : Nat → Nat) (d : Nat) (q : Nat → Nat) (k : Nat) : List (Nat → Nat) := (List.range' k (hi (5 - d) + 1 - k)).flatMap (fun k => wn_lv lo hi d (wn_set q (5 - d) k))
theorem wn_lk_c {lo hi : Nat → Nat} {d : Nat} {q : Nat → Nat} {k : Nat} (h : k ≤ hi (5 - d)) : wn_lk lo hi d q k = wn_lv lo hi d (wn_set q (5 - d) k) ++ wn_lk lo hi d q (k + 1) := by
  unfold wn_lk
  rw [show hi (5 - d) + 1 - k = (hi (5 - d) + 1 - (k + 1)) + 1 by omega, List.range'_succ, List.flatMap_cons]
theorem wn_lk_n {lo hi : Nat → Nat} {d : Nat} {q : Nat → Nat} {k : Nat} (h : hi (5 - d) < k) : wn_lk lo hi d q k = [] := by
  unfold wn_lk
  rw [show hi (5 - d) + 1 - k = 0 by omega]
  rfl
theorem wn_lv_m {lo hi : Nat → Nat} : ∀ (d : Nat) (q p : Nat → Nat), d ≤ 6 → p ∈ wn_lv lo hi d q → (∀ u, u < 6 - d → p u = q u) ∧ (∀ u, 6 - d ≤ u → u < 6 → lo u ≤ p u ∧ p u ≤ hi u) := by
  intro d
  induction d with
  | zero =>
    intro q p _ hp
    have e : p = q := List.mem_singleton.mp hp
    subst e
    exact ⟨fun _ _ => rfl, fun u h1 h2 => absurd h1 (by omega)⟩
  | succ d ih =>
    intro q p hd hp
    obtain ⟨k, hk, hp⟩ := List.mem_flatMap.mp hp
    have hk := List.mem_range'_1.mp hk
    obtain ⟨h1, h2⟩ := ih _ p (by omega) hp
    refine ⟨fun u hu => ?_, fun u hu hu6 => ?_⟩
    · rw [h1 u (by omega), wn_set_n (by omega)]
    · by_cases e : u = 5 - d
      · rw [h1 u (by omega), e, wn_set_s]
        omega
      · exact h2 u (by omega) hu6
theorem wn_lv_e {lo hi : Nat → Nat} : ∀ (d : Nat) (q p : Nat → Nat), d ≤ 6 → (∀ u, u < 6 - d → p u = q u) → (∀ u, 6 - d ≤ u → u < 6 → lo u ≤ p u ∧ p u ≤ hi u) → ∃ p', p' ∈ wn_lv lo hi d q ∧ ∀ u, u < 6 → p' u = p u := by
  intro d
  induction d with
  | zero =>
    intro q p _ h _
    exact ⟨q, List.mem_singleton.mpr rfl, fun u hu => (h u (by omega)).symm⟩
  | succ d ih =>
    intro q p hd h1 h2
    have hk := h2 (5 - d) (by omega) (by omega)
    obtain ⟨p', hp, he⟩ := ih (wn_set q (5 - d) (p (5 - d))) p (by omega) (fun u hu => by
      by_cases e : u = 5 - d
      · rw [e, wn_set_s]
      · rw [wn_set_n e]
        exact h1 u (by omega)) (fun u hu hu6 => h2 u (by omega) hu6)
    exact ⟨p', List.mem_flatMap.mpr ⟨p (5 - d), List.mem_range'_1.mpr (by omega), hp⟩, he⟩
def wn_rk (q : Nat → Nat) : Nat := 243 * q 0 + 81 * q 1 + 27 * q 2 + 9 * q 3 + 3 * q 4 + q 5
theorem wn_rk_lt {p q : Nat → Nat} {v : Nat} (hv : v < 6) (h1 : ∀ u, u < v → p u = q u) (h2 : p v < q v) (h3 : ∀ u, v < u → u < 6 → p u < 3) : wn_rk p < wn_rk q := by
  unfold wn_rk
  have a0 := h1 0
  have a1 := h1 1
  have a2 := h1 2
  have a3 := h1 3
  have a4 := h1 4
  have b1 := h3 1
  have b2 := h3 2
  have b3 := h3 3
  have b4 := h3 4
  have b5 := h3 5
  have hc : v = 0 ∨ v = 1 ∨ v = 2 ∨ v = 3 ∨ v = 4 ∨ v = 5 := by omega
  rcases hc with e | e | e | e | e | e
  all_goals
    subst e
    omega
theorem wn_lv_s {lo hi : Nat → Nat} (hh : ∀ u, u < 6 → hi u < 3) : ∀ (d : Nat) (q : Nat → Nat), d ≤ 6 → (wn_lv lo hi d q).Pairwise (fun p p' => wn_rk p ≤ wn_rk p') := by
  intro d
  induction d with
  | zero => exact fun q _ => List.pairwise_singleton _ _
  | succ d ih =>
    intro q hd
    refine List.pairwise_flatMap.mpr ⟨fun k _ => ih _ (by omega), ?_⟩
    refine List.Pairwise.imp (fun {a b} (hab : a < b) p hp p' hp' => ?_) List.pairwise_lt_range'
    obtain ⟨h1, h2⟩ := wn_lv_m d _ p (by omega) hp
    obtain ⟨h3, h4⟩ := wn_lv_m d _ p' (by omega) hp'
    refine Nat.le_of_lt (wn_rk_lt (v := 5 - d) (by omega) (fun u hu => ?_) ?_ (fun u hu hu6 => ?_))
    · rw [h1 u (by omega), h3 u (by omega), wn_set_n (by omega), wn_set_n (by omega)]
    · rw [h1 _ (by omega), h3 _ (by omega), wn_set_s, wn_set_s]
      exact hab
    · have := h2 u (by omega) hu6
      have := hh u hu6
      omega
/-! ===== what a search gathers ===== -/
def wn_D (B : Nat) (sh : Bool) (b : Nat) : Nat := if sh = true ∧ b ≤ B then b else B + 1
def wn_lf (T : (Nat → Nat) → Nat) (B : Nat) (sh : Bool) (A : Nat × Nat × (Nat → Nat)) (q : Nat → Nat) : Nat × Nat × (Nat → Nat) := if T q < wn_D B sh A.2.1 then (A.1 + 1, if T q < A.2.1 then (T q, q) else A.2) else A
theorem wn_D_le (B : Nat) (sh : Bool) (b : Nat) : wn_D B sh b ≤ B + 1 := by
  unfold wn_D
  split
  all_goals omega
theorem wn_fold_no {T : (Nat → Nat) → Nat} {B : Nat} {sh : Bool} {A : Nat × Nat × (Nat → Nat)} (l : List (Nat → Nat)) (h : ∀ q, q ∈ l → wn_D B sh A.2.1 ≤ T q) : l.foldl (wn_lf T B sh) A = A := by
  induction l with
  | nil => rfl
  | cons q l ih =>
    rw [List.foldl_cons]
    have e : wn_lf T B sh A q = A := by
      unfold wn_lf
      rw [if_neg (by have := h q (List.mem_cons_self ..); omega)]
    rw [e]
    exact ih (fun q hq => h q (List.mem_cons_of_mem _ hq))
theorem wn_fold_cg {T T' : (Nat → Nat) → Nat} {B : Nat} {sh : Bool} (hB : B < 50000) (l : List (Nat → Nat)) (h : ∀ q, q ∈ l → min 50000 (T q) = min 50000 (T' q)) : ∀ A, l.foldl (wn_lf T B sh) A = l.foldl (wn_lf T' B sh) A := by
  induction l with
  | nil => exact fun _ => rfl
  | cons q l ih =>
    intro A
    rw [List.foldl_cons, List.foldl_cons]
    have e : wn_lf T B sh A q = wn_lf T' B sh A q := by
      unfold wn_lf
      have h1 := h q (List.mem_cons_self ..)
      have h2 := wn_D_le B sh A.2.1
      by_cases c : T q < wn_D B sh A.2.1
      · have e : T' q = T q := by omega
        rw [e]
      · rw [if_neg c, if_neg (by omega)]
    rw [e]
    exact ih (fun q hq => h q (List.mem_cons_of_mem _ hq)) _
theorem wn_fold_b {T : (Nat → Nat) → Nat} {B : Nat} {sh : Bool} (hB : B < 50000) (l : List (Nat → Nat)) : ∀ A, A.2.1 ≤ 100000 → (l.foldl (wn_lf T B sh) A).2.1 ≤ 100000 := by
  induction l with
  | nil => exact fun _ h => h
  | cons q l ih =>
    intro A hA
    rw [List.foldl_cons]
    refine ih _ ?_
    unfold wn_lf
    have h2 := wn_D_le B sh A.2.1
    by_cases c : T q < wn_D B sh A.2.1
    · rw [if_pos c]
      by_cases c2 : T q < A.2.1
      · rw [if_pos c2]
        show T q ≤ 100000
        omega
      · rw [if_neg c2]
        exact hA
    · rw [if_neg c]
      exact hA
theorem wn_fold_n {T : (Nat → Nat) → Nat} {B : Nat} (l : List (Nat → Nat)) : ∀ A, (l.foldl (wn_lf T B false) A).1 = A.1 + l.countP (fun q => decide (T q ≤ B)) := by
  induction l with
  | nil => exact fun _ => rfl
  | cons q l ih =>
    intro A
    rw [List.foldl_cons, ih, List.countP_cons]
    unfold wn_lf
    have e : wn_D B false A.2.1 = B + 1 := by
      unfold wn_D
      rw [if_neg (fun z => absurd z.1 (by decide))]
    rw [e]
    by_cases c : T q ≤ B
    · have e2 : (if decide (T q ≤ B) = true then 1 else 0) = 1 := if_pos (decide_eq_true c)
      rw [if_pos (by omega), e2]
      show A.1 + 1 + _ = _
      omega
    · have e2 : (if decide (T q ≤ B) = true then 1 else 0) = 0 := if_neg (by rw [decide_eq_true_iff]; exact c)
      rw [if_neg (by omega), e2]
      rfl
theorem wn_fold_m {T rk : (Nat → Nat) → Nat} {B : Nat} (l : List (Nat → Nat)) : ∀ A, l.Pairwise (fun p q => rk p ≤ rk q) →
    ((l.foldl (wn_lf T B true) A).2 = A.2 ∧ ∀ q, q ∈ l → wn_D B true A.2.1 ≤ T q) ∨ (∃ q, q ∈ l ∧ (l.foldl (wn_lf T B true) A).2 = (T q, q) ∧ T q < wn_D B true A.2.1 ∧ ∀ p, p ∈ l → T q ≤ T p ∧ (T p = T q → rk q ≤ rk p)) := by
  induction l with
  | nil => exact fun A _ => Or.inl ⟨rfl, fun q hq => absurd hq (List.not_mem_nil)⟩
  | cons q l ih =>
    intro A hs
    rw [List.foldl_cons]
    obtain ⟨s1, s2⟩ := List.pairwise_cons.mp hs
    by_cases c : T q < wn_D B true A.2.1
    · have hb : T q < A.2.1 ∧ T q ≤ B := by
        unfold wn_D at c
        by_cases z : A.2.1 ≤ B
        · rw [if_pos ⟨rfl, z⟩] at c
          omega
        · rw [if_neg (fun w => z w.2)] at c
          omega
      have e : wn_lf T B true A q = (A.1 + 1, T q, q) := by
        unfold wn_lf
        rw [if_pos c, if_pos hb.1]
      have eD : wn_D B true (T q) = T q := by
        unfold wn_D
        rw [if_pos ⟨rfl, hb.2⟩]
      rw [e]
      rcases ih (A.1 + 1, T q, q) s2 with ⟨h1, h2⟩ | ⟨p, hp, h1, h2, h3⟩
      · refine Or.inr ⟨q, List.mem_cons_self .., h1, c, fun p hp => ?_⟩
        rcases List.mem_cons.mp hp with z | z
        · rw [z]
          exact ⟨Nat.le_refl _, fun _ => Nat.le_refl _⟩
        · have h4 := h2 p z
          dsimp only at h4
          rw [eD] at h4
          exact ⟨h4, fun _ => s1 p z⟩
      · dsimp only at h2
        rw [eD] at h2
        refine Or.inr ⟨p, List.mem_cons_of_mem _ hp, h1, by omega, fun p' hp' => ?_⟩
        rcases List.mem_cons.mp hp' with z | z
        · rw [z]
          exact ⟨by omega, fun w => absurd w (by omega)⟩
        · exact h3 p' z
    · have e : wn_lf T B true A q = A := by
        unfold wn_lf
        rw [if_neg c]
      rw [e]
      rcases ih A s2 with ⟨h1, h2⟩ | ⟨p, hp, h1, h2, h3⟩
      · refine Or.inl ⟨h1, fun p hp => ?_⟩
        rcases List.mem_cons.mp hp with z | z
        · rw [z]
          omega
        · exact h2 p z
      · refine Or.inr ⟨p, List.mem_cons_of_mem _ hp, h1, h2, fun p' hp' => ?_⟩
        rcases List.mem_cons.mp hp' with z | z
        · rw [z]
          exact ⟨by omega, fun w => absurd w (by omega)⟩
        · exact h3 p' z
end
section
section
variable {tb rd fr fo be : Int32} {a1 a2 a3 a4 a5 a6 a7 a8 a9 a10 a11 : Nat → Int32}
theorem wn_more {post : Int32 → Prop} {x y : Int32} (p q : Nat) (h : post (nI (wn_mo p q))) (hx : x = nI p) (hy : y = nI q) (hp : p ≤ 100000) (hq : q ≤ 100000) : wpX_more post () x y := by
  subst hx hy
  unfold wn_mo at h
  refine pk_le 50000 p (fun z => ?_) (fun z => pk_lt q 50000 (fun z2 => ?_) (fun z2 => ?_))
  · rw [if_pos z] at h
    exact h
  · rw [if_neg (by omega), if_pos z2] at h
    rw [nI_add]
    exact h
  · rw [if_neg (by omega), if_neg (by omega)] at h
    exact h
theorem wn_less {post : Int32 → Prop} {x y : Int32} (c l : Nat) (h : post (nI (wn_ls c l))) (hx : x = nI c) (hy : y = nI l) (hl : l ≤ c) (h5 : l < 50000) (hc : c ≤ 100000) : wpX_less post () x y := by
  subst hx hy
  unfold wn_ls at h
  rw [if_pos h5] at h
  refine pk_lt c 50000 (fun z => ?_) (fun z => ?_)
  · rw [if_pos z] at h
    rw [pk_sub hl]
    exact h
  · rw [if_neg (by omega)] at h
    exact h
/-- the place of a pair in the one table -/
def wn_at (fx : Bool) (a b : Nat) : Nat := if fx = true then a + 3 * b else b + 3 * a
theorem wn_pairAt {post : Int32 → Prop} {t x y w : Int32} (fx : Bool) (a b : Nat) (h : post (nI (wn_at fx a b))) (ht : t = 0) (hx : x = nI a) (hy : y = nI b) (hw : w = if fx = true then 1 else 0) : wpX_pairAt post () t x y w := by
  subst ht hx hy hw
  unfold wn_at at h
  cases fx with
  | true =>
    refine br_f (by decide) ?_
    have e : ((0 : Int32) * 9 + nI a) + 3 * nI b = nI (a + 3 * b) := by
      show (nI 0 * nI 9 + nI a) + nI 3 * nI b = nI (a + 3 * b)
      rw [pk_mul, pk_mul, nI_add, nI_add]
      congr 1
      omega
    rw [e]
    exact h
  | false =>
    refine br_t (by decide) ?_
    have e : ((0 : Int32) * 9 + nI b) + 3 * nI a = nI (b + 3 * a) := by
      show (nI 0 * nI 9 + nI b) + nI 3 * nI a = nI (b + 3 * a)
      rw [pk_mul, pk_mul, nI_add, nI_add]
      congr 1
      omega
    rw [e]
    exact h
theorem wn_at_lt {fx : Bool} {a b : Nat} (ha : a < 3) (hb : b < 3) : wn_at fx a b < 9 := by
  unfold wn_at
  split
  all_goals omega
theorem wn_v3 (v a : Nat) : nI v * 3 + nI a = nI (3 * v + a) := by
  show nI v * nI 3 + nI a = nI (3 * v + a)
  rw [pk_mul, nI_add]
  congr 1
  omega
theorem wn_badV {post : Int32 → Prop} {x : Int32} (v : Nat) (hv : v < 6) (h : post 0) (hx : x = nI v) : wpX_badVariable post () x := by
  subst hx
  exact br_f (nI_pos (by omega)) (pk_lt v 6 (fun _ => h) (fun z => absurd z (by omega)))
theorem wn_badC {post : Int32 → Prop} {x : Int32} (c : Nat) (hc : c ≤ 20) (h : post 0) (hx : x = nI c) : wpX_badCost post () x := by
  subst hx
  exact br_f (nI_pos (by omega)) (pk_le c 20 (fun _ => h) (fun z => absurd z (by omega)))
theorem wn_asMoved {post : Int32 → Prop} {x : Int32} (c : Nat) (hc : c ≤ 20) (h : post (nI (if c = 20 then 100000 else c))) (hx : x = nI c) : wpX_asMoved post () x := by
  subst hx
  refine pk_eq c 20 (fun z => ?_) (fun z => ?_)
  · rw [if_pos z] at h
    exact h
  · rw [if_neg z] at h
    exact h
theorem wn_freeAll {post : St2 → Prop} (H : ∀ a, (∀ v, v < 6 → a v = -1) → post (tb, rd, fr, fo, be, a1, a2, a3, a4, a5, a6, a, a8, a9, a10, a11)) : wpX_freeAll post (tb, rd, fr, fo, be, a1, a2, a3, a4, a5, a6, a7, a8, a9, a10, a11) :=
  pk_loop (fun n i s => wX_freeAll_2 post tb rd fr fo be n (nI i) a1 a2 a3 a4 a5 a6 s a8 a9 a10 a11) (fun i s => ∀ j, j < i → s j = -1) 6 0 a7 (by omega) (fun j hj => absurd hj (by omega))
    (fun n s h => pk_le 6 6 (fun _ => H s h) (fun z => absurd z (by omega)))
    (fun n i s hi h hw => pk_le 6 i (fun z => absurd z (by omega)) (fun _ => ⟨pk_in i 6 hi, nm_r (by rw [nI_clamp (by omega)]) (nm_r (nI_1 i) (hw (upd s i (-1)) (fun j hj => by
      by_cases e : j = i
      · rw [e, pk_us]
      · rw [pk_un e]
        exact h j (by omega))))⟩))
theorem wn_take {post : St2 → Prop} {x : Int32} (b c : Nat) (hb : b ≤ 100000) (hc : c ≤ 100000) (hx : x = nI c) (h1 : b ≤ c → post (tb, rd, fr, fo + 1, nI b, a1, a2, a3, a4, a5, a6, a7, a8, a9, a10, a11))
    (h2 : c < b → ∀ a, (∀ v, v < 6 → a v = a8 v) → post (tb, rd, fr, fo + 1, nI c, a1, a2, a3, a4, a5, a6, a7, a8, a9, a10, a)) : wpX_take post (tb, rd, fr, fo, nI b, a1, a2, a3, a4, a5, a6, a7, a8, a9, a10, a11) x := by
  subst hx
  refine nm_e (pk_le b c h1 (fun z => ?_))
  exact pk_loop (fun n i s => wX_take_25 post tb rd fr (fo + 1) (nI c) n (nI i) a1 a2 a3 a4 a5 a6 a7 a8 a9 a10 s) (fun i s => ∀ j, j < i → s j = a8 j) 6 0 a11 (by omega) (fun j hj => absurd hj (by omega))
    (fun n s h => pk_le 6 6 (fun _ => h2 z s h) (fun z => absurd z (by omega)))
    (fun n i s hi h hw => pk_le 6 i (fun z => absurd z (by omega)) (fun _ => ⟨pk_in i 6 hi, pk_in i 6 hi, nm_r (by rw [nI_clamp (by omega)]) (nm_r (nI_1 i) (hw (upd s i (a8 i)) (fun j hj => by
      by_cases e : j = i
      · rw [e, pk_us]
      · rw [pk_un e]
        exact h j (by omega))))⟩))
/-- which values are open: the least and the last of each variable -/
def wn_fx (a7 : Nat → Int32) (lo hi : Nat → Nat) : Prop := ∀ v, v < 6 → (a7 v < 0 ∧ lo v = 0 ∧ hi v = 2) ∨ (a7 v = nI (lo v) ∧ hi v = lo v ∧ lo v < 3)
theorem wn_open {post : St2 → Prop} {lo hi : Nat → Nat} (hf : wn_fx a7 lo hi) {v : Nat} {x : Int32} (hv : v < 6) (hx : x = nI v) (H : post (tb, rd, fr, fo, be, a1, a2, a3, a4, a5, a6, a7, a8, a9, upd a10 v (nI (lo v)), a11)) : wpX_open post (tb, rd, fr, fo, be, a1, a2, a3, a4, a5, a6, a7, a8, a9, a10, a11) x := by
  subst hx
  unfold wpX_open
  dsimp only
  rw [nI_clamp (show v < 2 ^ 31 by omega)]
  refine ⟨pk_in v 6 hv, ?_⟩
  rcases hf v hv with ⟨h1, h2, h3⟩ | ⟨h1, h2, h3⟩
  · rw [h2] at H
    exact br_t h1 ⟨pk_in v 6 hv, nm_e H⟩
  · refine br_f (by rw [h1]; exact nI_pos (by omega)) ⟨pk_in v 6 hv, pk_in v 6 hv, nm_r (by rw [h1]) H⟩
theorem wn_last {post : Int32 → Prop} {lo hi : Nat → Nat} (hf : wn_fx a7 lo hi) {v : Nat} (hv : v < 6) (H : post (nI (hi v))) : wpX_lastValue post (tb, rd, fr, fo, be, a1, a2, a3, a4, a5, a6, a7, a8, a9, a10, a11) (nI v) := by
  unfold wpX_lastValue
  dsimp only
  rw [nI_clamp (show v < 2 ^ 31 by omega)]
  refine ⟨pk_in v 6 hv, ?_⟩
  rcases hf v hv with ⟨h1, h2, h3⟩ | ⟨h1, h2, h3⟩
  · rw [h3] at H
    exact br_t h1 H
  · rw [h2, ← h1] at H
    exact br_f (by rw [h1]; exact nI_pos (by omega)) ⟨pk_in v 6 hv, H⟩
/-- the moved costs in a state -/
def wn_net (m x y : Nat) (on tw : Nat → Nat) (tb : Int32) (a2 a3 a5 a6 : Nat → Int32) : Prop := m ≤ 1 ∧ tb = nI m ∧ x < 6 ∧ y < 6 ∧ x ≠ y ∧ a2 0 = nI x ∧ a3 0 = nI y ∧ wn_ar 18 a5 on ∧ (m = 1 → wn_ar 9 a6 tw)
theorem wn_t82 {post : Int32 → Prop} {J : Int32 → Int32 → Prop} {x1 w : Int32} {tw q : Nat → Nat} (fx : Bool) {a k o c : Nat} (ht : wn_ar 9 a6 tw) (ha : a < 3) (hk : k ≤ 6) (ho : o < 6) (hc : c ≤ 100000) (hq : ∀ u, u < k → a8 u = nI (q u) ∧ q u < 3) (hw : w = if fx = true then 1 else 0)
    (H1 : k ≤ o → J (nI c) 1) (H2 : o < k → J (nI (wn_mo c (tw (wn_at fx a (q o))))) 1) : wX_withTaken_82 post J x1 (nI a) (nI k) (nI c) 0 w (nI o) tb rd fr fo be a1 a2 a3 a4 a5 a6 a7 a8 a9 a10 a11 := by
  unfold wX_withTaken_82
  rw [nI_clamp (show o < 2 ^ 31 by omega)]
  refine pk_le k o (fun z => nm_r (e' := 1) (by decide) (H1 z)) (fun z => ⟨pk_in o 6 ho, ?_⟩)
  have hb := (hq o z).2
  have h9 : wn_at fx a (q o) < 9 := wn_at_lt ha hb
  refine wn_pairAt fx a (q o) ⟨pk_in (wn_at fx a (q o)) 72 (by omega), ?_⟩ rfl rfl (hq o z).1 hw
  rw [nI_clamp (by omega)]
  exact wn_more c (tw (wn_at fx a (q o))) (nm_r (e' := 1) (by decide) (H2 z)) rfl (ht _ h9).1 hc (ht _ h9).2
theorem wn_wTaken {post : Int32 → Prop} {m x y : Nat} {on tw q : Nat → Nat} (hn : wn_net m x y on tw tb a2 a3 a5 a6) {v a k : Nat} (hv : v < 6) (ha : a < 3) (hk : k ≤ 6) (hq : ∀ u, u < k → a8 u = nI (q u) ∧ q u < 3)
    (H : ∀ c, c ≤ 100000 → min 50000 c = min 50000 (wn_wt m x y on tw q v a k) → post (nI c)) : wpX_withTaken post (tb, rd, fr, fo, be, a1, a2, a3, a4, a5, a6, a7, a8, a9, a10, a11) (nI v) (nI a) (nI k) := by
  obtain ⟨hm, htb, hx, hy, hxy, h2, h3, h5, h6⟩ := hn
  subst htb
  have hc := h5 (3 * v + a) (by omega)
  unfold wpX_withTaken
  dsimp only
  rw [wn_v3, nI_clamp (show 3 * v + a < 2 ^ 31 by omega), hc.1]
  refine ⟨pk_in (3 * v + a) 18 (by omega), nm_e ?_⟩
  by_cases m0 : m = 0
  · subst m0
    refine ⟨1, pk_le 0 0 (fun _ => H _ hc.2 ?_) (fun z => absurd z (by omega))⟩
    unfold wn_wt
    rw [if_pos rfl]
    rfl
  · have m1 : m = 1 := by omega
    subst m1
    have h6 := h6 rfl
    have fin : ∀ c, c ≤ 100000 → min 50000 c = min 50000 (wn_wt 1 x y on tw q v a k) → wX_withTaken_15 post (nI v) (nI a) (nI k) (nI 1) rd fr fo be a1 a2 a3 a4 a5 a6 a7 a8 a9 a10 a11 1 (nI c) 1 :=
      fun c h1 h2 => pk_le 1 1 (fun _ => H c h1 h2) (fun z => absurd z (by omega))
    refine ⟨2, pk_le 1 0 (fun z => absurd z (by omega)) (fun _ => ⟨pk_in 0 8 (by omega), ?_⟩)⟩
    rw [sb_cl0, h2]
    refine pk_eq x v (fun z => ?_) (fun z => ?_)
    · subst z
      refine br_f (by decide) ⟨pk_in 0 8 (by omega), ?_⟩
      rw [sb_cl0, h3]
      refine br_f (by decide) (wn_t82 (q := q) true h6 ha hk hy hc.2 hq rfl (fun g => fin _ hc.2 ?_) (fun g => fin _ (wn_mo_le _ _) ?_))
      · unfold wn_wt
        rw [if_neg (by decide), if_pos rfl, if_neg (by omega)]
        rfl
      · unfold wn_wt
        rw [if_neg (by decide), if_pos rfl, if_pos g, wn_mo_min]
        rfl
    · refine br_t rfl ⟨pk_in 0 8 (by omega), ?_⟩
      rw [sb_cl0, h2]
      refine br_t rfl ⟨pk_in 0 8 (by omega), ?_⟩
      rw [sb_cl0, h3]
      refine pk_eq y v (fun g => ?_) (fun g => nm_r (e' := 1) (by decide) (fin _ hc.2 ?_))
      · refine wn_t82 (q := q) false h6 ha hk hx hc.2 hq rfl (fun g2 => fin _ hc.2 ?_) (fun g2 => fin _ (wn_mo_le _ _) ?_)
        · unfold wn_wt
          rw [if_neg (by decide), if_neg (fun w => z w.symm), if_pos g.symm, if_neg (by omega)]
          rfl
        · unfold wn_wt
          rw [if_neg (by decide), if_neg (fun w => z w.symm), if_pos g.symm, if_pos g2, wn_mo_min]
          rfl
      · unfold wn_wt
        rw [if_neg (by decide), if_neg (fun w => z w.symm), if_neg (fun w => g w.symm)]
        rfl
end
end
section
section
variable {tb rd fr fo be : Int32} {a1 a2 a3 a4 a5 a6 a7 a8 a9 a10 a11 : Nat → Int32}
/-- what variable u adds, seen with those before it -/
def wn_F (m x y : Nat) (on tw q : Nat → Nat) : Nat → Nat := fun u => wn_wt m x y on tw q u (q u) u
/-- q' goes on from the first k values of q, by open values -/
def wn_ext (lo hi : Nat → Nat) (k : Nat) (q q' : Nat → Nat) : Prop := (∀ u, u < k → q' u = q u) ∧ (∀ u, k ≤ u → u < 6 → lo u ≤ q' u ∧ q' u ≤ hi u)
theorem wn_t68 {post : Int32 → Prop} {J4 J17 : Int32 → Int32 → Prop} {x1 x2 x3 w : Int32} {l i c : Nat} (hl : l ≤ 100000) (hc : c ≤ 100000) (hw : w = nI c) (H : J17 (nI (min l c)) (nI (i + 1))) : wX_ahead_68 post J4 J17 x1 x2 x3 (nI l) (nI i) w tb rd fr fo be a1 a2 a3 a4 a5 a6 a7 a8 a9 a10 a11 := by
  subst hw
  refine pk_le l c (fun z => nm_r (nI_1 i) ?_) (fun z => nm_r (nI_1 i) ?_)
  · rw [show min l c = l by omega] at H
    exact H
  · rw [show min l c = c by omega] at H
    exact H
theorem wn_ah17 {post : Int32 → Prop} {J4 : Int32 → Int32 → Prop} {m x y : Nat} {on tw q lo hi : Nat → Nat} (hn : wn_net m x y on tw tb a2 a3 a5 a6) (hf : wn_fx a7 lo hi) {v k c : Nat} (hv : v < 6) (hk : k ≤ 6) (hc : c ≤ 100000) (hq : ∀ u, u < k → a8 u = nI (q u) ∧ q u < 3)
    (H : ∀ l, l ≤ 100000 → (∀ a, a < 3 → lo v ≤ a → a ≤ hi v → min 50000 l ≤ wn_wt m x y on tw q v a k) → J4 (nI (wn_mo c l)) (nI (v + 1))) : ∃ n, wX_ahead_17 post J4 (nI k) (nI c) (nI v) tb rd fr fo be a1 a2 a3 a4 a5 a6 a7 a8 a9 a10 a11 n 100000 0 :=
  pk_loop (σ := Nat) (fun n i l => wX_ahead_17 post J4 (nI k) (nI c) (nI v) tb rd fr fo be a1 a2 a3 a4 a5 a6 a7 a8 a9 a10 a11 n (nI l) (nI i)) (fun i l => l ≤ 100000 ∧ ∀ a, a < i → lo v ≤ a → a ≤ hi v → min 50000 l ≤ wn_wt m x y on tw q v a k) 3 0 100000 (by omega) ⟨Nat.le_refl _, fun a ha => absurd ha (by omega)⟩
    (fun n l h => pk_le 3 3 (fun _ => wn_more c l (nm_r (nI_1 v) (H l h.1 h.2)) rfl rfl hc h.1) (fun z => absurd z (by omega)))
    (fun n i l hi3 h hw => pk_le 3 i (fun z => absurd z (by omega)) (fun _ => ⟨pk_in v 6 hv, by
      have J : ∀ c', c' ≤ 100000 → (lo v ≤ i → i ≤ hi v → min 50000 c' = min 50000 (wn_wt m x y on tw q v i k)) → wX_ahead_17 post J4 (nI k) (nI c) (nI v) tb rd fr fo be a1 a2 a3 a4 a5 a6 a7 a8 a9 a10 a11 n (nI (min l c')) (nI (i + 1)) := by
        intro c' h1 h2
        refine hw (min l c') ⟨by omega, fun a ha hlo hhi => ?_⟩
        by_cases e : a = i
        · subst e
          have := h2 hlo hhi
          omega
        · have := h.2 a (by omega) hlo hhi
          omega
      have op : wX_ahead_43 post J4 (wX_ahead_17 post J4 (nI k) (nI c) (nI v) tb rd fr fo be a1 a2 a3 a4 a5 a6 a7 a8 a9 a10 a11 n) (nI k) (nI c) (nI v) (nI l) (nI i) tb rd fr fo be a1 a2 a3 a4 a5 a6 a7 a8 a9 a10 a11 := by
        refine br_f (by decide) (wn_wTaken (q := q) hn hv hi3 hk hq (fun c' h1 h2 => wn_t68 h.1 h1 rfl (J c' h1 (fun _ _ => h2))))
      rw [nI_clamp (show v < 2 ^ 31 by omega)]
      rcases hf v hv with ⟨h1, h2, h3⟩ | ⟨h1, h2, h3⟩
      · exact br_t h1 op
      · refine br_f (by rw [h1]; exact nI_pos (by omega)) ⟨pk_in v 6 hv, ?_⟩
        refine pk_eq (lo v) i (fun z => op) (fun z => br_t rfl (wn_t68 h.1 (Nat.le_refl 100000) rfl (J 100000 (Nat.le_refl _) (fun w1 w2 => absurd w1 (by omega))))) h1⟩))
theorem wn_ahead {post : Int32 → Prop} {m x y : Nat} {on tw q lo hi : Nat → Nat} (hn : wn_net m x y on tw tb a2 a3 a5 a6) (hf : wn_fx a7 lo hi) {k : Nat} (hk : k ≤ 6) (hq : ∀ u, u < k → a8 u = nI (q u) ∧ q u < 3)
    (H : ∀ c, c ≤ 100000 → (∀ q', wn_ext lo hi k q q' → min 50000 c + wn_sm (wn_F m x y on tw q') k ≤ wn_sm (wn_F m x y on tw q') 6) → post (nI c)) : wpX_ahead post (tb, rd, fr, fo, be, a1, a2, a3, a4, a5, a6, a7, a8, a9, a10, a11) (nI k) :=
  pk_loop (σ := Nat) (fun n v c => wX_ahead_4 post (nI k) tb rd fr fo be a1 a2 a3 a4 a5 a6 a7 a8 a9 a10 a11 n (nI c) (nI v)) (fun v c => k ≤ v ∧ c ≤ 100000 ∧ ∀ q', wn_ext lo hi k q q' → min 50000 c + wn_sm (wn_F m x y on tw q') k ≤ wn_sm (wn_F m x y on tw q') v) 6 k 0 hk
    ⟨Nat.le_refl _, by omega, fun q' _ => by omega⟩
    (fun n c h => pk_le 6 6 (fun _ => H c h.2.1 h.2.2) (fun z => absurd z (by omega)))
    (fun n v c hv h hw => pk_le 6 v (fun z => absurd z (by omega)) (fun _ => wn_ah17 (q := q) (lo := lo) (hi := hi) hn hf hv hk h.2.1 hq (fun l hl hlo => hw (wn_mo c l) ⟨by omega, wn_mo_le _ _, fun q' hq' => by
      have h1 := h.2.2 q' hq'
      have h2 := hq'.2 v h.1 hv
      have h3 : q' v < 3 := by
        rcases hf v hv with ⟨g1, g2, g3⟩ | ⟨g1, g2, g3⟩
        · omega
        · omega
      have h4 := hlo (q' v) h3 h2.1 h2.2
      have h5 : wn_wt m x y on tw q v (q' v) k = wn_wt m x y on tw q' v (q' v) k := wn_wt_cg v (q' v) (fun u hu => (hq'.1 u hu).symm)
      have h6 := wn_wt_le m x y on tw q' v (q' v) h.1
      have h7 : wn_sm (wn_F m x y on tw q') (v + 1) = wn_sm (wn_F m x y on tw q') v + wn_wt m x y on tw q' v (q' v) v := rfl
      have h8 := wn_mo_min c l
      omega⟩)))
theorem wn_d19 {post : Int32 → St2 → Prop} {m x y fl b : Nat} {on tw q lo hi : Nat → Nat} (hn : wn_net m x y on tw tb a2 a3 a5 a6) (hf : wn_fx a7 lo hi) {l : Nat} (hl : l < 6) (hq : ∀ u, u < l + 1 → a8 u = nI (q u) ∧ q u < 3)
    {c r D : Nat} {lim z0 : Int32} (hz : z0 = nI r) (hc : a9 (l + 1) = nI c) (hc1 : c ≤ 100000) (hc2 : min 50000 c = min 50000 (fl + wn_sm (wn_F m x y on tw q) (l + 1))) (hr : r ≤ 100000) (hb : b ≤ 100000) (hr5 : l = 5 → r = 0)
    (hr2 : ∀ q', wn_ext lo hi (l + 1) q q' → min 50000 r + wn_sm (wn_F m x y on tw q') (l + 1) ≤ wn_sm (wn_F m x y on tw q') 6) (hD : D ≤ 50000) (hlim : ∀ k, k ≤ 100000 → (nI k ≤ lim ↔ k < D))
    (H1 : (∀ q', wn_ext lo hi (l + 1) q q' → D ≤ wn_T m x y fl on tw q') → post (nI l) (tb, rd, fr, fo, nI b, a1, a2, a3, a4, a5, a6, a7, a8, a9, a10, a11))
    (H2 : l = 5 → wn_T m x y fl on tw q < D → ∀ a, (wn_T m x y fl on tw q < b → ∀ v, v < 6 → a v = nI (q v)) → (b ≤ wn_T m x y fl on tw q → a = a11) → post (nI l) (tb, rd, fr, fo + 1, nI (if wn_T m x y fl on tw q < b then wn_T m x y fl on tw q else b), a1, a2, a3, a4, a5, a6, a7, a8, a9, a10, a))
    (H3 : l < 5 → post (nI (l + 1)) (tb, rd, fr, fo, nI b, a1, a2, a3, a4, a5, a6, a7, a8, a9, upd a10 (l + 1) (nI (lo (l + 1))), a11)) :
    wX_descend_19 post (nI l) lim z0 tb rd fr fo (nI b) a1 a2 a3 a4 a5 a6 a7 a8 a9 a10 a11 := by
  subst hz
  have hT : ∀ q', fl + wn_sm (wn_F m x y on tw q') 6 = wn_T m x y fl on tw q' := fun q' => wn_T_wt fl on tw q' hn.2.2.1 hn.2.2.2.1 hn.2.2.2.2.1
  have cut : ¬ wn_mo c r < D → ∀ q', wn_ext lo hi (l + 1) q q' → D ≤ wn_T m x y fl on tw q' := by
    intro h q' hq'
    have e1 := hT q'
    have e2 := hr2 q' hq'
    have e3 : wn_sm (wn_F m x y on tw q') (l + 1) = wn_sm (wn_F m x y on tw q) (l + 1) := wn_sm_cg (l + 1) (fun u hu => by
      show wn_wt m x y on tw q' u (q' u) u = wn_wt m x y on tw q u (q u) u
      rw [hq'.1 u hu]
      exact wn_wt_cg u (q u) (fun w hw => hq'.1 w (by omega)))
    have e4 := wn_mo_min c r
    omega
  unfold wX_descend_19
  rw [nI_1, nI_clamp (show l + 1 < 2 ^ 31 by omega)]
  refine ⟨pk_in (l + 1) 7 (by omega), ?_⟩
  have hmo := wn_mo_le c r
  refine wn_more c r ?_ hc rfl hc1 hr
  refine pk_le 50000 (wn_mo c r) (fun z => H1 (cut (by omega))) (fun z => ?_)
  by_cases hcut : wn_mo c r < D
  · refine br_t ((hlim _ hmo).mpr hcut) ?_
    refine pk_eq (l + 1) 6 (fun e => ?_) (fun e => ?_)
    · have l5 : l = 5 := by omega
      have r0 := hr5 l5
      have e4 := wn_mo_min c r
      have eT := hT q
      have ec : c = wn_T m x y fl on tw q := by
        rw [l5] at hc2
        have e6 : wn_sm (wn_F m x y on tw q) (5 + 1) = wn_sm (wn_F m x y on tw q) 6 := rfl
        omega
      have hc' : a9 6 = nI c := by
        rw [← e]
        exact hc
      refine wn_take b c hb hc1 hc' (fun g => ?_) (fun g a ha => ?_)
      · have h := H2 l5 (by omega) a11 (fun w => absurd w (by omega)) (fun _ => rfl)
        rw [if_neg (by omega)] at h
        exact h
      · have h := H2 l5 (by omega) a (fun _ v hv => by rw [ha v hv]; exact (hq v (by omega)).1) (fun w => absurd w (by omega))
        rw [if_pos (by omega), ← ec] at h
        exact h
    · exact wn_open hf (by omega) rfl (H3 (by omega))
  · exact br_f (fun w => hcut ((hlim _ hmo).mp w)) (H1 (cut hcut))
theorem wn_desc {post : Int32 → St2 → Prop} {m x y fl b : Nat} {on tw q lo hi : Nat → Nat} (hn : wn_net m x y on tw tb a2 a3 a5 a6) (hf : wn_fx a7 lo hi) {l : Nat} (hl : l < 6) (hq : ∀ u, u < l + 1 → a8 u = nI (q u) ∧ q u < 3)
    {c D : Nat} {lim : Int32} (hc : a9 (l + 1) = nI c) (hc1 : c ≤ 100000) (hc2 : min 50000 c = min 50000 (fl + wn_sm (wn_F m x y on tw q) (l + 1))) (hb : b ≤ 100000)
    (hD : D ≤ 50000) (hlim : ∀ k, k ≤ 100000 → (nI k ≤ lim ↔ k < D))
    (H1 : (∀ q', wn_ext lo hi (l + 1) q q' → D ≤ wn_T m x y fl on tw q') → post (nI l) (tb, rd, fr, fo, nI b, a1, a2, a3, a4, a5, a6, a7, a8, a9, a10, a11))
    (H2 : l = 5 → wn_T m x y fl on tw q < D → ∀ a, (wn_T m x y fl on tw q < b → ∀ v, v < 6 → a v = nI (q v)) → (b ≤ wn_T m x y fl on tw q → a = a11) → post (nI l) (tb, rd, fr, fo + 1, nI (if wn_T m x y fl on tw q < b then wn_T m x y fl on tw q else b), a1, a2, a3, a4, a5, a6, a7, a8, a9, a10, a))
    (H3 : l < 5 → post (nI (l + 1)) (tb, rd, fr, fo, nI b, a1, a2, a3, a4, a5, a6, a7, a8, a9, upd a10 (l + 1) (nI (lo (l + 1))), a11)) :
    wpX_descend post (tb, rd, fr, fo, nI b, a1, a2, a3, a4, a5, a6, a7, a8, a9, a10, a11) (nI l) lim := by
  refine pk_le 6 (l + 1) (fun z => ?_) (fun z => ?_) rfl (nI_1 l)
  · have e : l = 5 := by omega
    exact wn_d19 (r := 0) hn hf hl hq rfl hc hc1 hc2 (by omega) hb (fun _ => rfl) (fun q' _ => by
      rw [e]
      show min 50000 0 + wn_sm (wn_F m x y on tw q') 6 ≤ wn_sm (wn_F m x y on tw q') 6
      omega) hD hlim H1 H2 H3
  · rw [nI_1]
    exact wn_ahead hn hf (by omega) hq (fun r hr hr2 => wn_d19 (r := r) hn hf hl hq rfl hc hc1 hc2 hr hb (fun w => absurd w (by omega)) hr2 hD hlim H1 H2 H3)
end
end
section
section
variable {tb rd fr fo be : Int32} {a1 a2 a3 a4 a5 a6 a7 a8 a9 a10 a11 : Nat → Int32}
theorem wn_lim1 {b k : Nat} (hb : b ≤ 100000) (hk : k ≤ 100000) : nI k ≤ nI b - 1 ↔ k < b := by
  cases b with
  | zero =>
    constructor
    · intro h
      exfalso
      have h0 : nI 0 - 1 < 0 := by decide
      have h1 := nI_pos' (n := k) (by omega)
      rw [Int32.le_iff_toInt_le] at h h1
      rw [Int32.lt_iff_toInt_lt] at h0
      omega
    · intro h
      omega
  | succ b =>
    rw [nI_pred, nI_leI (by omega) (by omega)]
    omega
theorem wn_step {post : St2 → Prop} {m x y fl b B : Nat} {on tw q lo hi : Nat → Nat} (sh : Bool) (hn : wn_net m x y on tw tb a2 a3 a5 a6) (hf : wn_fx a7 lo hi) (hB : B < 50000) {l k n s c0 : Nat} (hl : l < 6) (hs : s < 3000) (hq : ∀ u, u < l → a8 u = nI (q u) ∧ q u < 3)
    (h9 : a9 l = nI c0) (hc0 : c0 ≤ 100000) (hc2 : min 50000 c0 = min 50000 (fl + wn_sm (wn_F m x y on tw q) l)) (h10 : a10 l = nI k) (hk : k ≤ hi l) (hh : hi l < 3) (hb : b ≤ 100000)
    (H1 : (∀ q', wn_ext lo hi (l + 1) (wn_set q l k) q' → wn_D B sh b ≤ wn_T m x y fl on tw q') → ∀ c, wX_search_35 post (nI B) (if sh = true then 1 else 0) n (nI l) (nI (s + 1)) tb rd fr fo (nI b) a1 a2 a3 a4 a5 a6 a7 (upd a8 l (nI k)) (upd a9 (l + 1) (nI c)) (upd a10 l (nI (k + 1))) a11)
    (H2 : l = 5 → wn_T m x y fl on tw (wn_set q l k) < wn_D B sh b → ∀ c a, (wn_T m x y fl on tw (wn_set q l k) < b → ∀ v, v < 6 → a v = nI (wn_set q l k v)) → (b ≤ wn_T m x y fl on tw (wn_set q l k) → a = a11) →
      wX_search_35 post (nI B) (if sh = true then 1 else 0) n (nI l) (nI (s + 1)) tb rd fr (fo + 1) (nI (if wn_T m x y fl on tw (wn_set q l k) < b then wn_T m x y fl on tw (wn_set q l k) else b)) a1 a2 a3 a4 a5 a6 a7 (upd a8 l (nI k)) (upd a9 (l + 1) (nI c)) (upd a10 l (nI (k + 1))) a)
    (H3 : l < 5 → ∀ c, c ≤ 100000 → min 50000 c = min 50000 (fl + wn_sm (wn_F m x y on tw (wn_set q l k)) (l + 1)) →
      wX_search_35 post (nI B) (if sh = true then 1 else 0) n (nI (l + 1)) (nI (s + 1)) tb rd fr fo (nI b) a1 a2 a3 a4 a5 a6 a7 (upd a8 l (nI k)) (upd a9 (l + 1) (nI c)) (upd (upd a10 l (nI (k + 1))) (l + 1) (nI (lo (l + 1)))) a11) :
    wX_search_35 post (nI B) (if sh = true then 1 else 0) (n + 1) (nI l) (nI s) tb rd fr fo (nI b) a1 a2 a3 a4 a5 a6 a7 a8 a9 a10 a11 := by
  refine pk_le 3000 s (fun z => absurd z (by omega)) (fun _ => br_f (nI_pos (by omega)) ⟨pk_in l 6 hl, wn_last hf hl ?_⟩)
  rw [nI_clamp (show l < 2 ^ 31 by omega), h10, nI_1 k, nI_1 l, nI_clamp (show l + 1 < 2 ^ 31 by omega)]
  refine br_t (nI_le hk (by omega)) ⟨pk_in l 6 hl, pk_in l 6 hl, nm_e ⟨pk_in l 6 hl, pk_in l 6 hl, nm_e ⟨pk_in l 6 hl, ?_⟩⟩⟩
  rw [pk_us]
  have q1 : ∀ u, u < l + 1 → upd a8 l (nI k) u = nI (wn_set q l k u) ∧ wn_set q l k u < 3 := by
    intro u hu
    by_cases e : u = l
    · rw [e, pk_us, wn_set_s]
      exact ⟨rfl, by omega⟩
    · rw [pk_un e, wn_set_n e]
      exact hq u (by omega)
  refine wn_wTaken (q := wn_set q l k) hn hl (by omega) (by omega) (fun u hu => q1 u (by omega)) (fun c hc hc' => ⟨pk_in l 7 (by omega), wn_more c0 c ⟨pk_in (l + 1) 7 (by omega), nm_e ?_⟩ h9 rfl hc0 hc⟩)
  have hsum : min 50000 (wn_mo c0 c) = min 50000 (fl + wn_sm (wn_F m x y on tw (wn_set q l k)) (l + 1)) := by
    have e1 : wn_sm (wn_F m x y on tw (wn_set q l k)) (l + 1) = wn_sm (wn_F m x y on tw (wn_set q l k)) l + wn_wt m x y on tw (wn_set q l k) l (wn_set q l k l) l := rfl
    rw [wn_set_s] at e1
    have e2 : wn_sm (wn_F m x y on tw (wn_set q l k)) l = wn_sm (wn_F m x y on tw q) l := wn_sm_cg l (fun u hu => by
      show wn_wt m x y on tw (wn_set q l k) u (wn_set q l k u) u = wn_wt m x y on tw q u (q u) u
      rw [wn_set_n (show u ≠ l by omega)]
      exact wn_wt_cg u (q u) (fun w hw => wn_set_n (by omega)))
    have e3 := wn_mo_min c0 c
    omega
  have key : ∀ lim : Int32, (∀ k', k' ≤ 100000 → (nI k' ≤ lim ↔ k' < wn_D B sh b)) → wX_search_146 post (wX_search_35 post (nI B) (if sh = true then 1 else 0) n) (nI B) (if sh = true then 1 else 0) (nI s) lim (nI l) tb rd fr fo (nI b) a1 a2 a3 a4 a5 a6 a7 (upd a8 l (nI k)) (upd a9 (l + 1) (nI (wn_mo c0 c))) (upd a10 l (nI (k + 1))) a11 := by
    intro lim hlim
    have hD := wn_D_le B sh b
    unfold wX_search_146
    refine wn_desc (q := wn_set q l k) (fl := fl) (c := wn_mo c0 c) (D := wn_D B sh b) hn hf hl q1 pk_us (wn_mo_le _ _) hsum hb (by omega) hlim (fun h => ?_) (fun h1 h2 a h3 h4 => ?_) (fun h => ?_)
    · exact nm_r (nI_1 s) (H1 h _)
    · exact nm_r (nI_1 s) (H2 h1 h2 _ a h3 h4)
    · exact nm_r (nI_1 s) (H3 h _ (wn_mo_le _ _) hsum)
  cases sh with
  | false =>
    refine br_t rfl (key (nI B) (fun k' hk' => ?_))
    rw [nI_leI (by omega) (by omega)]
    unfold wn_D
    rw [if_neg (fun z => absurd z.1 (by decide))]
    omega
  | true =>
    refine br_f (by decide) (pk_lt B b (fun z => key (nI B) (fun k' hk' => ?_)) (fun z => key (nI b - 1) (fun k' hk' => ?_)))
    · rw [nI_leI (by omega) (by omega)]
      unfold wn_D
      rw [if_neg (fun w => absurd w.2 (by omega))]
      omega
    · rw [wn_lim1 hb hk']
      unfold wn_D
      rw [if_pos ⟨rfl, z⟩]
def wn_M : Nat → Nat
  | 0 => 0
  | d + 1 => 3 * (1 + wn_M d) + 1
theorem wn_dfs {post : St2 → Prop} {m x y fl B : Nat} {on tw lo hi : Nat → Nat} (sh : Bool) (hn : wn_net m x y on tw tb a2 a3 a5 a6) (hf : wn_fx a7 lo hi) (hB : B < 50000) :
    ∀ (d l : Nat), l + d = 5 → ∀ (r k n s : Nat) (q : Nat → Nat) (A : Nat × Nat × (Nat → Nat)) (a8 a9 a10 a11 : Nat → Int32), hi l + 1 - k = r → k ≤ 3 → n + s = 3001 → s + r * (1 + wn_M d) + 1 ≤ 2000 →
    (∀ u, u < l → a8 u = nI (q u) ∧ q u < 3) → (∃ c, a9 l = nI c ∧ c ≤ 100000 ∧ min 50000 c = min 50000 (fl + wn_sm (wn_F m x y on tw q) l)) → a10 l = nI k → A.2.1 ≤ 100000 → (A.2.1 < 100000 → ∀ v, v < 6 → a11 v = nI (A.2.2 v)) →
    (∀ (n' s' : Nat) (A' : Nat × Nat × (Nat → Nat)) (a8' a9' a10' a11' : Nat → Int32), n' + s' = 3001 → s' ≤ s + r * (1 + wn_M d) + 1 → A' = (wn_lk lo hi d q k).foldl (wn_lf (wn_T m x y fl on tw) B sh) A → (A'.2.1 < 100000 → ∀ v, v < 6 → a11' v = nI (A'.2.2 v)) →
      (∀ u, u < l → a8' u = a8 u) → (∀ u, u ≤ l → a9' u = a9 u) → (∀ u, u < l → a10' u = a10 u) →
      wX_search_35 post (nI B) (if sh = true then 1 else 0) n' (nI l + (-1)) (nI s') tb rd fr (nI A'.1) (nI A'.2.1) a1 a2 a3 a4 a5 a6 a7 a8' a9' a10' a11') →
    wX_search_35 post (nI B) (if sh = true then 1 else 0) n (nI l) (nI s) tb rd fr (nI A.1) (nI A.2.1) a1 a2 a3 a4 a5 a6 a7 a8 a9 a10 a11 := by
  have hh : ∀ v, v < 6 → hi v < 3 := by
    intro v hv
    rcases hf v hv with ⟨g1, g2, g3⟩ | ⟨g1, g2, g3⟩
    · omega
    · omega
  intro d
  induction d with
  | zero =>
    intro l hl r
    have l5 : l = 5 := by omega
    subst l5
    induction r with
    | zero =>
      intro k n s q A a8 a9 a10 a11 hr hk hns hs hq h9 h10 hA hA11 K
      obtain ⟨n0, rfl⟩ : ∃ n0, n = n0 + 1 := ⟨n - 1, by omega⟩
      have h3 := hh 5 (by omega)
      refine pk_le 3000 s (fun z => absurd z (by omega)) (fun _ => br_f (nI_pos (by omega)) ⟨pk_in 5 6 (by omega), wn_last hf (by omega) ?_⟩)
      rw [nI_clamp (show 5 < 2 ^ 31 by omega), h10]
      refine br_f (nI_ge (by omega) (by omega)) (nm_e (nm_r (nI_1 s) ?_))
      exact K n0 (s + 1) A a8 a9 a10 a11 (by omega) (by omega) (by rw [wn_lk_n (by show hi 5 < k; omega)]; rfl) hA11 (fun _ _ => rfl) (fun _ _ => rfl) (fun _ _ => rfl)
    | succ r ih =>
      intro k n s q A a8 a9 a10 a11 hr hk hns hs hq h9 h10 hA hA11 K
      obtain ⟨n0, rfl⟩ : ∃ n0, n = n0 + 1 := ⟨n - 1, by omega⟩
      obtain ⟨c0, h9, hc0, hc2⟩ := h9
      have h3 := hh 5 (by omega)
      have hM : (r + 1) * (1 + wn_M 0) = r * (1 + wn_M 0) + (1 + wn_M 0) := Nat.add_one_mul _ _
      have eL : wn_lk lo hi 0 q k = wn_set q 5 k :: wn_lk lo hi 0 q (k + 1) := wn_lk_c (by show k ≤ hi 5; omega)
      have nx : ∀ (A1 : Nat × Nat × (Nat → Nat)) (c : Nat) (a11' : Nat → Int32), A1 = wn_lf (wn_T m x y fl on tw) B sh A (wn_set q 5 k) → A1.2.1 ≤ 100000 → (A1.2.1 < 100000 → ∀ v, v < 6 → a11' v = nI (A1.2.2 v)) →
          wX_search_35 post (nI B) (if sh = true then 1 else 0) n0 (nI 5) (nI (s + 1)) tb rd fr (nI A1.1) (nI A1.2.1) a1 a2 a3 a4 a5 a6 a7 (upd a8 5 (nI k)) (upd a9 (5 + 1) (nI c)) (upd a10 5 (nI (k + 1))) a11' := by
        intro A1 c a11' e1 e2 e3
        refine ih (k + 1) n0 (s + 1) q A1 _ _ _ a11' (by omega) (by omega) (by omega) (by omega) (fun u hu => by rw [pk_un (by omega)]; exact hq u hu) ⟨c0, by rw [pk_un (by omega)]; exact h9, hc0, hc2⟩ pk_us e2 e3 ?_
        intro n' s' A' b8 b9 b10 b11 g1 g2 g3 g4 g5 g6 g7
        refine K n' s' A' b8 b9 b10 b11 g1 (by omega) (by rw [g3, eL, List.foldl_cons, e1]) g4 (fun u hu => ?_) (fun u hu => ?_) (fun u hu => ?_)
        · rw [g5 u hu, pk_un (by omega)]
        · rw [g6 u hu, pk_un (by omega)]
        · rw [g7 u hu, pk_un (by omega)]
      refine wn_step sh hn hf hB (by omega) (by omega) hq h9 hc0 hc2 h10 (by omega) h3 hA (fun h c => ?_) (fun _ hT c a ha1 ha2 => ?_) (fun z => absurd z (by omega))
      · refine nx A c a11 ?_ hA hA11
        unfold wn_lf
        rw [if_neg]
        have := h (wn_set q 5 k) ⟨fun _ _ => rfl, fun u z1 z2 => absurd z1 (by omega)⟩
        omega
      · have hDl := wn_D_le B sh A.2.1
        have e : wn_lf (wn_T m x y fl on tw) B sh A (wn_set q 5 k) = (A.1 + 1, if wn_T m x y fl on tw (wn_set q 5 k) < A.2.1 then (wn_T m x y fl on tw (wn_set q 5 k), wn_set q 5 k) else A.2) := by
          unfold wn_lf
          rw [if_pos hT]
        rw [nI_1]
        by_cases g : wn_T m x y fl on tw (wn_set q 5 k) < A.2.1
        · rw [if_pos g] at e ⊢
          exact nx (A.1 + 1, wn_T m x y fl on tw (wn_set q 5 k), wn_set q 5 k) c a e.symm (by show wn_T m x y fl on tw (wn_set q 5 k) ≤ 100000; omega) (fun _ => ha1 g)
        · rw [if_neg g] at e ⊢
          exact nx (A.1 + 1, A.2) c a e.symm hA (fun w => by rw [ha2 (by omega)]; exact hA11 w)
  | succ d ihd =>
    intro l hl r
    have l5 : l < 5 := by omega
    have e5 : 5 - (d + 1) = l := by omega
    have e4 : 5 - d = l + 1 := by omega
    induction r with
    | zero =>
      intro k n s q A a8 a9 a10 a11 hr hk hns hs hq h9 h10 hA hA11 K
      obtain ⟨n0, rfl⟩ : ∃ n0, n = n0 + 1 := ⟨n - 1, by omega⟩
      have h3 := hh l (by omega)
      refine pk_le 3000 s (fun z => absurd z (by omega)) (fun _ => br_f (nI_pos (by omega)) ⟨pk_in l 6 (by omega), wn_last hf (by omega) ?_⟩)
      rw [nI_clamp (show l < 2 ^ 31 by omega), h10]
      refine br_f (nI_ge (by omega) (by omega)) (nm_e (nm_r (nI_1 s) ?_))
      exact K n0 (s + 1) A a8 a9 a10 a11 (by omega) (by omega) (by rw [wn_lk_n (by rw [e5]; omega)]; rfl) hA11 (fun _ _ => rfl) (fun _ _ => rfl) (fun _ _ => rfl)
    | succ r ih =>
      intro k n s q A a8 a9 a10 a11 hr hk hns hs hq h9 h10 hA hA11 K
      obtain ⟨n0, rfl⟩ : ∃ n0, n = n0 + 1 := ⟨n - 1, by omega⟩
      obtain ⟨c0, h9, hc0, hc2⟩ := h9
      have h3 := hh l (by omega)
      have hM : (r + 1) * (1 + wn_M (d + 1)) = r * (1 + wn_M (d + 1)) + (1 + wn_M (d + 1)) := Nat.add_one_mul _ _
      have eL : wn_lk lo hi (d + 1) q k = wn_lv lo hi (d + 1) (wn_set q l k) ++ wn_lk lo hi (d + 1) q (k + 1) := by
        rw [wn_lk_c (by rw [e5]; omega), e5]
      have nx : ∀ (A1 : Nat × Nat × (Nat → Nat)) (n1 s1 : Nat) (b8 b9 b10 b11 : Nat → Int32), n1 + s1 = 3001 → s1 ≤ s + 1 + wn_M (d + 1) → A1 = (wn_lv lo hi (d + 1) (wn_set q l k)).foldl (wn_lf (wn_T m x y fl on tw) B sh) A → (A1.2.1 < 100000 → ∀ v, v < 6 → b11 v = nI (A1.2.2 v)) →
          (∀ u, u < l → b8 u = a8 u) → (∀ u, u ≤ l → b9 u = a9 u) → (∀ u, u < l → b10 u = a10 u) → b10 l = nI (k + 1) →
          wX_search_35 post (nI B) (if sh = true then 1 else 0) n1 (nI l) (nI s1) tb rd fr (nI A1.1) (nI A1.2.1) a1 a2 a3 a4 a5 a6 a7 b8 b9 b10 b11 := by
        intro A1 n1 s1 b8 b9 b10 b11 hns1 hs1 e1 e3 f8 f9 f10 f10'
        refine ih (k + 1) n1 s1 q A1 b8 b9 b10 b11 (by omega) (by omega) hns1 (by omega) (fun u hu => by rw [f8 u hu]; exact hq u hu) ⟨c0, by rw [f9 l (by omega)]; exact h9, hc0, hc2⟩ f10' (by rw [e1]; exact wn_fold_b hB _ A hA) e3 ?_
        intro n' s' A' c8 c9 c10 c11 g1 g2 g3 g4 g5 g6 g7
        refine K n' s' A' c8 c9 c10 c11 g1 (by omega) (by rw [g3, eL, List.foldl_append, e1]) g4 (fun u hu => ?_) (fun u hu => ?_) (fun u hu => ?_)
        · rw [g5 u hu, f8 u hu]
        · rw [g6 u hu, f9 u hu]
        · rw [g7 u hu, f10 u hu]
      refine wn_step sh hn hf hB (by omega) (by omega) hq h9 hc0 hc2 h10 (by omega) h3 hA (fun h c => ?_) (fun z => absurd z (by omega)) (fun _ c hc1 hc => ?_)
      · refine nx A n0 (s + 1) _ _ _ a11 (by omega) (by omega) ?_ hA11 (fun u hu => pk_un (by omega)) (fun u hu => pk_un (by omega)) (fun u hu => pk_un (by omega)) pk_us
        rw [wn_fold_no]
        intro p hp
        obtain ⟨g1, g2⟩ := wn_lv_m (d + 1) _ p (by omega) hp
        exact h p ⟨fun u hu => g1 u (by omega), fun u hu1 hu2 => g2 u (by omega) hu2⟩
      · have hlo : lo (l + 1) ≤ 3 ∧ hi (l + 1) + 1 - lo (l + 1) ≤ 3 := by
          rcases hf (l + 1) (by omega) with ⟨g1, g2, g3⟩ | ⟨g1, g2, g3⟩
          · omega
          · omega
        have hmul : (hi (l + 1) + 1 - lo (l + 1)) * (1 + wn_M d) ≤ 3 * (1 + wn_M d) := Nat.mul_le_mul_right _ hlo.2
        have eM : wn_M (d + 1) = 3 * (1 + wn_M d) + 1 := rfl
        refine ihd (l + 1) (by omega) _ (lo (l + 1)) n0 (s + 1) (wn_set q l k) A _ _ _ a11 rfl hlo.1 (by omega) (by omega) (fun u hu => ?_) ⟨c, pk_us, hc1, hc⟩ pk_us hA hA11 ?_
        · by_cases e : u = l
          · rw [e, pk_us, wn_set_s]
            exact ⟨rfl, by omega⟩
          · rw [pk_un e, wn_set_n e]
            exact hq u (by omega)
        · intro n' s' A' c8 c9 c10 c11 g1 g2 g3 g4 g5 g6 g7
          rw [pk_m1]
          refine nx A' n' s' c8 c9 c10 c11 g1 (by omega) ?_ g4 (fun u hu => ?_) (fun u hu => ?_) (fun u hu => ?_) ?_
          · rw [g3]
            unfold wn_lk
            rw [e4]
            show _ = ((List.range' (lo (5 - d)) (hi (5 - d) + 1 - lo (5 - d))).flatMap (fun k' => wn_lv lo hi d (wn_set (wn_set q l k) (5 - d) k'))).foldl _ A
            rw [e4]
          · rw [g5 u (by omega), pk_un (by omega)]
          · rw [g6 u (by omega), pk_un (by omega)]
          · rw [g7 u (by omega), pk_un (by omega), pk_un (by omega)]
          · rw [g7 l (by omega), pk_un (by omega), pk_us]
end
end
section
section
variable {tb rd fr fo be : Int32} {a1 a2 a3 a4 a5 a6 a7 a8 a9 a10 a11 : Nat → Int32}
theorem wn_at_inj {fx : Bool} {a b b' : Nat} (h : wn_at fx a b = wn_at fx a b') : b = b' := by
  unfold wn_at at h
  cases fx with
  | true =>
    rw [if_pos rfl, if_pos rfl] at h
    omega
  | false =>
    rw [if_neg (by decide), if_neg (by decide)] at h
    omega
/-- no assignment's cost has changed, where it is below the half -/
def wn_eqv (m x y fl : Nat) (on tw : Nat → Nat) (fl' : Nat) (on' tw' : Nat → Nat) : Prop := ∀ q : Nat → Nat, (∀ v, v < 6 → q v < 3) → min 50000 (wn_T m x y fl' on' tw' q) = min 50000 (wn_T m x y fl on tw q)
theorem wn_mv102 {post : St2 → Prop} {tw : Nat → Nat} (fx : Bool) {a l : Nat} {w : Int32} (hw : w = if fx = true then 1 else 0) (ha : a < 3) (hl : l ≤ 100000) (ht : wn_ar 9 a6 tw) (hm : ∀ b, b < 3 → l ≤ tw (wn_at fx a b))
    (H : ∀ s tw', wn_ar 9 s tw' → (∀ b, b < 3 → tw' (wn_at fx a b) = wn_ls (tw (wn_at fx a b)) l) → (∀ j, j < 9 → (∀ b, b < 3 → j ≠ wn_at fx a b) → tw' j = tw j) → post (tb, rd, fr, fo, be, a1, a2, a3, a4, a5, s, a7, a8, a9, a10, a11)) :
    ∃ n, wX_moveToValue_102 post 0 (nI a) w (nI l) tb rd fr fo be n 0 a1 a2 a3 a4 a5 a6 a7 a8 a9 a10 a11 :=
  pk_loop (fun n i s => wX_moveToValue_102 post 0 (nI a) w (nI l) tb rd fr fo be n (nI i) a1 a2 a3 a4 a5 s a7 a8 a9 a10 a11)
    (fun i s => ∃ tw', wn_ar 9 s tw' ∧ (∀ b, b < i → tw' (wn_at fx a b) = wn_ls (tw (wn_at fx a b)) l) ∧ (∀ j, j < 9 → (∀ b, b < i → j ≠ wn_at fx a b) → tw' j = tw j)) 3 0 a6 (by omega)
    ⟨tw, ht, fun b hb => absurd hb (by omega), fun j _ _ => rfl⟩
    (fun n s h => pk_le 3 3 (fun _ => by
      obtain ⟨tw', h1, h2, h3⟩ := h
      exact H s tw' h1 h2 h3) (fun z => absurd z (by omega)))
    (fun n i s hi h hw' => pk_le 3 i (fun z => absurd z (by omega)) (fun _ => by
      obtain ⟨tw', h1, h2, h3⟩ := h
      have h9 : wn_at fx a i < 9 := wn_at_lt ha hi
      have e0 : tw' (wn_at fx a i) = tw (wn_at fx a i) := h3 _ h9 (fun b hb z => by have := wn_at_inj z; omega)
      have hs := h1 _ h9
      rw [e0] at hs
      have st : ∀ v, v ≤ 100000 → v = wn_ls (tw (wn_at fx a i)) l → wX_moveToValue_102 post 0 (nI a) w (nI l) tb rd fr fo be n (nI (i + 1)) a1 a2 a3 a4 a5 (upd s (wn_at fx a i) (nI v)) a7 a8 a9 a10 a11 := by
        intro v hv ev
        refine hw' _ ⟨wn_set tw' (wn_at fx a i) v, wn_ar_set h1 rfl hv, fun b hb => ?_, fun j hj hne => ?_⟩
        · by_cases e : b = i
          · rw [e, wn_set_s, ev]
          · rw [wn_set_n (fun z => e (wn_at_inj z))]
            exact h2 b (by omega)
        · rw [wn_set_n (hne i (by omega))]
          exact h3 j hj (fun b hb => hne b (by omega))
      refine wn_pairAt fx a i ?_ rfl rfl rfl hw
      rw [nI_clamp (show wn_at fx a i < 2 ^ 31 by omega)]
      refine pk_lt l 50000 (fun z => ⟨pk_in (wn_at fx a i) 72 (by omega), ?_⟩) (fun z => ⟨pk_in (wn_at fx a i) 72 (by omega), nm_e (nm_r (nI_1 i) ?_)⟩)
      · exact wn_less (tw (wn_at fx a i)) l ⟨pk_in (wn_at fx a i) 72 (by omega), nm_e (nm_r (nI_1 i) (st _ (wn_ls_le hs.2) rfl))⟩ hs.1 rfl (hm i hi) z hs.2
      · refine st 0 (by omega) ?_
        unfold wn_ls
        rw [if_neg (by omega)]))
theorem wn_mtv {post : St2 → Prop} {x y : Nat} {on tw : Nat → Nat} (fx : Bool) {a : Nat} {w t : Int32} (hw : w = if fx = true then 1 else 0) (ht0 : t = 0) (ha : a < 3) (hx : x < 6) (hy : y < 6) (hxy : x ≠ y) (h2 : a2 0 = nI x) (h3 : a3 0 = nI y) (h5 : wn_ar 18 a5 on) (h6 : wn_ar 9 a6 tw)
    (H : ∀ s5 s6 on' tw', wn_ar 18 s5 on' → wn_ar 9 s6 tw' → (∀ fl, wn_eqv 1 x y fl on tw fl on' tw') → post (tb, rd, fr, fo, be, a1, a2, a3, a4, s5, s6, a7, a8, a9, a10, a11)) :
    wpX_moveToValue post (tb, rd, fr, fo, be, a1, a2, a3, a4, a5, a6, a7, a8, a9, a10, a11) t (nI a) w := by
  subst ht0
  have fin : ∀ (l v : Nat), l ≤ 100000 → v < 6 → v = (if fx = true then x else y) → (∀ b, b < 3 → l ≤ tw (wn_at fx a b)) → wX_moveToValue_70 post 0 (nI a) w (nI l) (nI v) tb rd fr fo be a1 a2 a3 a4 a5 a6 a7 a8 a9 a10 a11 := by
    intro l v hl hv ev hm
    have hc := h5 (3 * v + a) (by omega)
    unfold wX_moveToValue_70
    rw [wn_v3, nI_clamp (show 3 * v + a < 2 ^ 31 by omega)]
    refine ⟨pk_in (3 * v + a) 18 (by omega), wn_more (on (3 * v + a)) l ⟨pk_in (3 * v + a) 18 (by omega), nm_e ?_⟩ hc.1 rfl hc.2 hl⟩
    refine wn_mv102 fx hw ha hl h6 hm (fun s tw' g1 g2 g3 => H _ s (wn_set on (3 * v + a) (wn_mo (on (3 * v + a)) l)) tw' (wn_ar_set h5 rfl (wn_mo_le _ _)) g1 (fun fl q hq => ?_))
    unfold wn_T
    rw [if_neg (by decide), if_neg (by decide)]
    have qx := hq x hx
    have qy := hq y hy
    by_cases e : q v = a
    · have hs := wn_sm_ch (f := fun u => wn_set on (3 * v + a) (wn_mo (on (3 * v + a)) l) (3 * u + q u)) (g := fun u => on (3 * u + q u)) (v := v) 6 hv (fun u hu hne => wn_set_n (by have := hq u hu; omega))
      rw [e, wn_set_s] at hs
      have ex : ∃ b, b < 3 ∧ q x + 3 * q y = wn_at fx a b := by
        unfold wn_at
        cases fx with
        | true =>
          rw [if_pos rfl] at ev
          subst ev
          exact ⟨q y, qy, by rw [if_pos rfl, e]⟩
        | false =>
          rw [if_neg (by decide)] at ev
          subst ev
          exact ⟨q x, qx, by rw [if_neg (by decide), e]⟩
      obtain ⟨b, hb, eb⟩ := ex
      rw [eb, g2 b hb]
      have mv := wn_move (f := on (3 * v + a)) (hm b hb) (fl + wn_sm (fun u => on (3 * u + q u)) 6 - on (3 * v + a))
      have le : on (3 * v + a) ≤ wn_sm (fun u => on (3 * u + q u)) 6 := by
        have z := wn_sm_ch (f := fun u => if u = v then 0 else on (3 * u + q u)) (g := fun u => on (3 * u + q u)) (v := v) 6 hv (fun u hu hne => if_neg hne)
        rw [if_pos rfl, e] at z
        omega
      omega
    · have hs := wn_sm_cg (f := fun u => wn_set on (3 * v + a) (wn_mo (on (3 * v + a)) l) (3 * u + q u)) (g := fun u => on (3 * u + q u)) 6 (fun u hu => wn_set_n (by
        have := hq u hu
        by_cases eu : u = v
        · subst eu
          omega
        · omega))
      rw [hs, g3 (q x + 3 * q y) (by omega) (fun b hb z => ?_)]
      unfold wn_at at z
      cases fx with
      | true =>
        rw [if_pos rfl] at ev z
        subst ev
        omega
      | false =>
        rw [if_neg (by decide)] at ev z
        subst ev
        omega
  exact pk_loop (σ := Nat) (fun n i l => wX_moveToValue_7 post 0 (nI a) w tb rd fr fo be a1 a2 a3 a4 a5 a6 a7 a8 a9 a10 a11 n (nI l) (nI i)) (fun i l => l ≤ 100000 ∧ ∀ b, b < i → l ≤ tw (wn_at fx a b)) 3 0 100000 (by omega) ⟨Nat.le_refl _, fun b hb => absurd hb (by omega)⟩
    (fun n l h => pk_le 3 3 (fun _ => by
      have hl := h.1
      refine pk_eq l 0 (fun z => H a5 a6 on tw h5 h6 (fun fl q _ => rfl)) (fun z => ?_)
      rw [sb_cl0, h2, h3]
      cases fx with
      | true =>
        refine br_f (by rw [hw]; decide) ⟨pk_in 0 8 (by omega), ?_⟩
        exact fin l x hl hx rfl h.2
      | false =>
        refine br_t hw ⟨pk_in 0 8 (by omega), ?_⟩
        exact fin l y hl hy rfl h.2) (fun z => absurd z (by omega)))
    (fun n i l hi h hw' => pk_le 3 i (fun z => absurd z (by omega)) (fun _ => by
      have h9 : wn_at fx a i < 9 := wn_at_lt ha hi
      have hl := h.1
      have hs := h6 _ h9
      refine wn_pairAt fx a i ⟨pk_in (wn_at fx a i) 72 (by omega), ?_⟩ rfl rfl rfl hw
      rw [nI_clamp (show wn_at fx a i < 2 ^ 31 by omega), hs.1]
      refine nm_e (pk_le l (tw (wn_at fx a i)) (fun z => nm_r (nI_1 i) (hw' l ⟨hl, fun b hb => ?_⟩)) (fun z => nm_r (nI_1 i) (hw' (tw (wn_at fx a i)) ⟨hs.2, fun b hb => ?_⟩)))
      · by_cases e : b = i
        · rw [e]
          exact z
        · exact h.2 b (by omega)
      · by_cases e : b = i
        · rw [e]
          exact Nat.le_refl _
        · have := h.2 b (by omega)
          omega))
theorem wn_mf55 {post : St2 → Prop} {on : Nat → Nat} {v l : Nat} (hv : v < 6) (hl : l ≤ 100000) (h5 : wn_ar 18 a5 on) (hm : ∀ a, a < 3 → l ≤ on (3 * v + a))
    (H : ∀ s on', wn_ar 18 s on' → (∀ a, a < 3 → on' (3 * v + a) = wn_ls (on (3 * v + a)) l) → (∀ j, j < 18 → (∀ a, a < 3 → j ≠ 3 * v + a) → on' j = on j) → post (tb, rd, fr, fo, be, a1, a2, a3, a4, s, a6, a7, a8, a9, a10, a11)) :
    ∃ n, wX_moveToFloor_55 post (nI v) (nI l) tb rd fr fo be n 0 a1 a2 a3 a4 a5 a6 a7 a8 a9 a10 a11 :=
  pk_loop (fun n i s => wX_moveToFloor_55 post (nI v) (nI l) tb rd fr fo be n (nI i) a1 a2 a3 a4 s a6 a7 a8 a9 a10 a11)
    (fun i s => ∃ on', wn_ar 18 s on' ∧ (∀ b, b < i → on' (3 * v + b) = wn_ls (on (3 * v + b)) l) ∧ (∀ j, j < 18 → (∀ b, b < i → j ≠ 3 * v + b) → on' j = on j)) 3 0 a5 (by omega)
    ⟨on, h5, fun b hb => absurd hb (by omega), fun j _ _ => rfl⟩
    (fun n s h => pk_le 3 3 (fun _ => by
      obtain ⟨on', h1, h2, h3⟩ := h
      exact H s on' h1 h2 h3) (fun z => absurd z (by omega)))
    (fun n i s hi h hw' => pk_le 3 i (fun z => absurd z (by omega)) (fun _ => by
      obtain ⟨on', h1, h2, h3⟩ := h
      have h9 : 3 * v + i < 18 := by omega
      have e0 : on' (3 * v + i) = on (3 * v + i) := h3 _ h9 (fun b hb z => by omega)
      have hs := h1 _ h9
      rw [e0] at hs
      have st : ∀ c, c ≤ 100000 → c = wn_ls (on (3 * v + i)) l → wX_moveToFloor_55 post (nI v) (nI l) tb rd fr fo be n (nI (i + 1)) a1 a2 a3 a4 (upd s (3 * v + i) (nI c)) a6 a7 a8 a9 a10 a11 := by
        intro c hc ec
        refine hw' _ ⟨wn_set on' (3 * v + i) c, wn_ar_set h1 rfl hc, fun b hb => ?_, fun j hj hne => ?_⟩
        · by_cases e : b = i
          · rw [e, wn_set_s, ec]
          · rw [wn_set_n (by omega)]
            exact h2 b (by omega)
        · rw [wn_set_n (hne i (by omega))]
          exact h3 j hj (fun b hb => hne b (by omega))
      rw [wn_v3, nI_clamp (show 3 * v + i < 2 ^ 31 by omega)]
      refine pk_lt l 50000 (fun z => ⟨pk_in (3 * v + i) 18 (by omega), ?_⟩) (fun z => ⟨pk_in (3 * v + i) 18 (by omega), nm_e (nm_r (nI_1 i) ?_)⟩)
      · exact wn_less (on (3 * v + i)) l ⟨pk_in (3 * v + i) 18 (by omega), nm_e (nm_r (nI_1 i) (st _ (wn_ls_le hs.2) rfl))⟩ hs.1 rfl (hm i hi) z hs.2
      · refine st 0 (by omega) ?_
        unfold wn_ls
        rw [if_neg (by omega)]))
theorem wn_mtf {post : St2 → Prop} {on : Nat → Nat} {v fl : Nat} (hv : v < 6) (hfl : fl ≤ 100000) (h5 : wn_ar 18 a5 on)
    (H : ∀ fl' s5 on', fl' ≤ 100000 → wn_ar 18 s5 on' → (∀ m x y tw, wn_eqv m x y fl on tw fl' on' tw) → post (tb, rd, nI fl', fo, be, a1, a2, a3, a4, s5, a6, a7, a8, a9, a10, a11)) :
    wpX_moveToFloor post (tb, rd, nI fl, fo, be, a1, a2, a3, a4, a5, a6, a7, a8, a9, a10, a11) (nI v) :=
  pk_loop (σ := Nat) (fun n i l => wX_moveToFloor_5 post (nI v) tb rd (nI fl) fo be a1 a2 a3 a4 a5 a6 a7 a8 a9 a10 a11 n (nI l) (nI i)) (fun i l => l ≤ 100000 ∧ ∀ b, b < i → l ≤ on (3 * v + b)) 3 0 100000 (by omega) ⟨Nat.le_refl _, fun b hb => absurd hb (by omega)⟩
    (fun n l h => pk_le 3 3 (fun _ => by
      have hl := h.1
      refine wn_more fl l ?_ rfl rfl hfl hl
      refine wn_mf55 hv hl h5 h.2 (fun s on' g1 g2 g3 => H (wn_mo fl l) s on' (wn_mo_le _ _) g1 (fun m x y tw q hq => ?_))
      unfold wn_T
      have qv := hq v hv
      have hs := wn_sm_ch (f := fun u => on' (3 * u + q u)) (g := fun u => on (3 * u + q u)) (v := v) 6 hv (fun u hu hne => g3 _ (by have := hq u hu; omega) (fun b hb z => by have := hq u hu; omega))
      rw [g2 (q v) qv] at hs
      have mv := wn_move (f := fl) (h.2 (q v) qv) (wn_sm (fun u => on (3 * u + q u)) 6 - on (3 * v + q v) + (if m = 0 then 0 else tw (q x + 3 * q y)))
      have le : on (3 * v + q v) ≤ wn_sm (fun u => on (3 * u + q u)) 6 := by
        have z := wn_sm_ch (f := fun u => if u = v then 0 else on (3 * u + q u)) (g := fun u => on (3 * u + q u)) (v := v) 6 hv (fun u hu hne => if_neg hne)
        rw [if_pos rfl] at z
        omega
      omega) (fun z => absurd z (by omega)))
    (fun n i l hi h hw' => pk_le 3 i (fun z => absurd z (by omega)) (fun _ => by
      have hl := h.1
      have hs := h5 (3 * v + i) (by omega)
      rw [wn_v3, nI_clamp (show 3 * v + i < 2 ^ 31 by omega), hs.1]
      refine ⟨pk_in (3 * v + i) 18 (by omega), ?_⟩
      refine pk_le l (on (3 * v + i)) (fun z => nm_r (nI_1 i) (hw' l ⟨hl, fun b hb => ?_⟩)) (fun z => ⟨pk_in (3 * v + i) 18 (by omega), nm_e (nm_r (nI_1 i) (hw' (on (3 * v + i)) ⟨hs.2, fun b hb => ?_⟩))⟩)
      · by_cases e : b = i
        · rw [e]
          exact z
        · exact h.2 b (by omega)
      · by_cases e : b = i
        · rw [e]
          exact Nat.le_refl _
        · have := h.2 b (by omega)
          omega))
end
end
section
section
variable {tb rd fr fo be : Int32} {a1 a2 a3 a4 a5 a6 a7 a8 a9 a10 a11 : Nat → Int32}
theorem wn_fill {f s : Nat → Int32} {i : Nat} {x : Int32} (h : ∀ j, j < i → s j = f j) (hx : x = f i) : ∀ j, j < i + 1 → upd s i x j = f j := by
  intro j hj
  by_cases e : j = i
  · rw [e, pk_us, hx]
  · rw [pk_un e]
    exact h j (by omega)
def wn_am (c : Nat) : Nat := if c = 20 then 100000 else c
theorem wn_am_le {c : Nat} (h : c ≤ 20) : wn_am c ≤ 100000 := by
  unfold wn_am
  split
  all_goals omega
def wn_T0 (m x y : Nat) (co pc q : Nat → Nat) : Nat := wn_T m x y 0 (fun i => wn_am (co i)) (fun i => wn_am (pc i)) q
/-- the state holds these costs; where it is ready, its moved costs are these costs moved -/
def wn_pic (m x y : Nat) (co pc : Nat → Nat) (tb rd fr : Int32) (a1 a2 a3 a4 a5 a6 : Nat → Int32) : Prop :=
  m ≤ 1 ∧ tb = nI m ∧ x < 6 ∧ y < 6 ∧ x ≠ y ∧ a2 0 = nI x ∧ a3 0 = nI y ∧ (∀ i, i < 18 → a1 i = nI (co i) ∧ co i ≤ 20) ∧ (∀ i, i < 9 → a4 i = nI (pc i) ∧ pc i ≤ 20) ∧
  (¬ rd = 0 → ∃ (fl : Nat) (on tw : Nat → Nat), fr = nI fl ∧ fl ≤ 100000 ∧ wn_ar 18 a5 on ∧ (m = 1 → wn_ar 9 a6 tw) ∧ ∀ q : Nat → Nat, (∀ v, v < 6 → q v < 3) → min 50000 (wn_T m x y fl on tw q) = min 50000 (wn_T0 m x y co pc q))
theorem wn_p126 {post : St2 → Prop} {m x y : Nat} {on tw : Nat → Nat} (hfl : fr = 0) (h5 : wn_ar 18 a5 on)
    (H : ∀ fl' s5 on', fl' ≤ 100000 → wn_ar 18 s5 on' → wn_eqv m x y 0 on tw fl' on' tw → post (tb, rd, nI fl', fo, be, a1, a2, a3, a4, s5, a6, a7, a8, a9, a10, a11)) :
    ∃ n, wX_prepare_126 post n 0 tb rd fr fo be a1 a2 a3 a4 a5 a6 a7 a8 a9 a10 a11 := by
  subst hfl
  exact pk_loop (σ := Nat × (Nat → Int32)) (fun n i s => wX_prepare_126 post n (nI i) tb rd (nI s.1) fo be a1 a2 a3 a4 s.2 a6 a7 a8 a9 a10 a11) (fun i s => s.1 ≤ 100000 ∧ ∃ on', wn_ar 18 s.2 on' ∧ wn_eqv m x y 0 on tw s.1 on' tw) 6 0 (0, a5) (by omega)
    ⟨Nat.zero_le _, on, h5, fun q _ => rfl⟩
    (fun n s h => pk_le 6 6 (fun _ => by
      obtain ⟨h1, on', h2, h3⟩ := h
      exact H s.1 s.2 on' h1 h2 h3) (fun z => absurd z (by omega)))
    (fun n i s hi h hw => pk_le 6 i (fun z => absurd z (by omega)) (fun _ => by
      obtain ⟨h1, on', h2, h3⟩ := h
      exact wn_mtf hi h1 h2 (fun fl' s5 on2 g1 g2 g3 => nm_r (nI_1 i) (hw (fl', s5) ⟨g1, on2, g2, fun q hq => (g3 m x y tw q hq).trans (h3 q hq)⟩))))
theorem wn_p93 {post : St2 → Prop} {J : Int32 → Int32 → Int32 → Int32 → Int32 → Int32 → (Nat → Int32) → (Nat → Int32) → (Nat → Int32) → (Nat → Int32) → (Nat → Int32) → (Nat → Int32) → (Nat → Int32) → (Nat → Int32) → (Nat → Int32) → (Nat → Int32) → (Nat → Int32) → Prop} {x y : Nat} {on tw : Nat → Nat} (hx : x < 6) (hy : y < 6) (hxy : x ≠ y) (h2 : a2 0 = nI x) (h3 : a3 0 = nI y) (h5 : wn_ar 18 a5 on) (h6 : wn_ar 9 a6 tw)
    (H : ∀ s5 s6 on' tw', wn_ar 18 s5 on' → wn_ar 9 s6 tw' → (∀ fl, wn_eqv 1 x y fl on tw fl on' tw') → J 1 tb rd fr fo be a1 a2 a3 a4 s5 s6 a7 a8 a9 a10 a11) :
    ∃ n, wX_prepare_93 post J 0 n 0 tb rd fr fo be a1 a2 a3 a4 a5 a6 a7 a8 a9 a10 a11 :=
  pk_loop (σ := (Nat → Int32) × (Nat → Int32)) (fun n i s => wX_prepare_93 post J 0 n (nI i) tb rd fr fo be a1 a2 a3 a4 s.1 s.2 a7 a8 a9 a10 a11) (fun i s => ∃ on' tw', wn_ar 18 s.1 on' ∧ wn_ar 9 s.2 tw' ∧ ∀ fl, wn_eqv 1 x y fl on tw fl on' tw') 3 0 (a5, a6) (by omega)
    ⟨on, tw, h5, h6, fun fl q _ => rfl⟩
    (fun n s h => pk_le 3 3 (fun _ => by
      obtain ⟨on', tw', g1, g2, g3⟩ := h
      exact nm_r (e' := 1) (by decide) (H s.1 s.2 on' tw' g1 g2 g3)) (fun z => absurd z (by omega)))
    (fun n i s hi h hw => pk_le 3 i (fun z => absurd z (by omega)) (fun _ => by
      obtain ⟨on', tw', g1, g2, g3⟩ := h
      refine wn_mtv true rfl rfl hi hx hy hxy h2 h3 g1 g2 (fun s5 s6 on2 tw2 k1 k2 k3 => ?_)
      refine wn_mtv false rfl rfl hi hx hy hxy h2 h3 k1 k2 (fun s5' s6' on3 tw3 j1 j2 j3 => ?_)
      exact nm_r (nI_1 i) (hw (s5', s6') ⟨on3, tw3, j1, j2, fun fl q hq => ((j3 fl q hq).trans (k3 fl q hq)).trans (g3 fl q hq)⟩)))
theorem wn_p83 {post : St2 → Prop} {m x y : Nat} {on tw : Nat → Nat} (hm : m ≤ 1) (htb : tb = nI m) (hfl : fr = 0) (hx : x < 6) (hy : y < 6) (hxy : x ≠ y) (h2 : a2 0 = nI x) (h3 : a3 0 = nI y) (h5 : wn_ar 18 a5 on) (h6 : m = 1 → wn_ar 9 a6 tw)
    (H : ∀ fl' s5 s6 on' tw', fl' ≤ 100000 → wn_ar 18 s5 on' → (m = 1 → wn_ar 9 s6 tw') → wn_eqv m x y 0 on tw fl' on' tw' → post (tb, rd, nI fl', fo, be, a1, a2, a3, a4, s5, s6, a7, a8, a9, a10, a11)) :
    ∃ n, wX_prepare_83 post n 0 tb rd fr fo be a1 a2 a3 a4 a5 a6 a7 a8 a9 a10 a11 := by
  by_cases m0 : m = 0
  · subst m0
    refine ⟨1, br_t (by rw [htb]; decide) ?_⟩
    exact wn_p126 (m := 0) (x := x) (y := y) (tw := tw) hfl h5 (fun fl' s5 on' g1 g2 g3 => H fl' s5 a6 on' tw g1 g2 h6 g3)
  · have m1 : m = 1 := by omega
    subst m1
    refine ⟨2, br_f (by rw [htb]; decide) ?_⟩
    refine wn_p93 hx hy hxy h2 h3 h5 (h6 rfl) (fun s5 s6 on' tw' g1 g2 g3 => br_t (by rw [htb]; decide) ?_)
    exact wn_p126 (m := 1) (x := x) (y := y) (tw := tw') hfl g1 (fun fl' s5' on2 k1 k2 k3 => H fl' s5' s6 on2 tw' k1 k2 (fun _ => g2) (fun q hq => (k3 q hq).trans (g3 0 q hq)))
theorem wn_prepare {post : St2 → Prop} {m x y : Nat} {co pc : Nat → Nat} (hp : wn_pic m x y co pc tb rd fr a1 a2 a3 a4 a5 a6)
    (H : ∀ rd' fr' s5 s6, ¬ rd' = 0 → wn_pic m x y co pc tb rd' fr' a1 a2 a3 a4 s5 s6 → post (tb, rd', fr', fo, be, a1, a2, a3, a4, s5, s6, a7, a8, a9, a10, a11)) :
    wpX_prepare post (tb, rd, fr, fo, be, a1, a2, a3, a4, a5, a6, a7, a8, a9, a10, a11) := by
  refine br_c (fun z => ?_) (fun z => H rd fr a5 a6 z hp)
  obtain ⟨hm, htb, hx, hy, hxy, h2, h3, h1, h4, _⟩ := hp
  have fin : ∀ s5 s6, (∀ j, j < 18 → s5 j = nI (wn_am (co j))) → (∀ j, j < m * 9 → s6 j = nI (wn_am (pc j))) → ∃ n, wX_prepare_83 post n 0 tb 1 0 fo be a1 a2 a3 a4 s5 s6 a7 a8 a9 a10 a11 := by
    intro s5 s6 g5 g6
    refine wn_p83 (on := fun i => wn_am (co i)) (tw := fun i => wn_am (pc i)) hm htb rfl hx hy hxy h2 h3 (fun i hi => ⟨g5 i hi, wn_am_le (h1 i hi).2⟩) (fun e i hi => ⟨g6 i (by omega), wn_am_le (h4 i hi).2⟩) ?_
    intro fl' t5 t6 on' tw' k1 k2 k3 k4
    exact H 1 (nI fl') t5 t6 (by decide) ⟨hm, htb, hx, hy, hxy, h2, h3, h1, h4, fun _ => ⟨fl', on', tw', rfl, k1, k2, k3, fun q hq => k4 q hq⟩⟩
  have e9 : tb * 9 = nI (m * 9) := by
    rw [htb]
    show nI m * nI 9 = nI (m * 9)
    rw [pk_mul]
  exact pk_loop (fun n i s => wX_prepare_20 post tb 1 0 fo be n (nI i) a1 a2 a3 a4 s a6 a7 a8 a9 a10 a11) (fun i s => ∀ j, j < i → s j = nI (wn_am (co j))) 18 0 a5 (by omega) (fun j hj => absurd hj (by omega))
    (fun n s h => pk_le 18 18 (fun _ =>
      pk_loop (fun n i t => wX_prepare_49 post tb 1 0 fo be n (nI i) a1 a2 a3 a4 s t a7 a8 a9 a10 a11) (fun i t => ∀ j, j < i → t j = nI (wn_am (pc j))) (m * 9) 0 a6 (by omega) (fun j hj => absurd hj (by omega))
        (fun n t h' => br_t (by rw [e9]; exact nI_le (Nat.le_refl _) (by omega)) (fin s t h h'))
        (fun n i t hi h' hw => by
          refine br_f (by rw [e9]; exact nI_ge hi (by omega)) ⟨pk_in i 72 (by omega), ?_⟩
          rw [nI_clamp (show i < 2 ^ 31 by omega)]
          have h4i := h4 i (by omega)
          exact wn_asMoved (pc i) h4i.2 ⟨pk_in i 72 (by omega), nm_e (nm_r (nI_1 i) (hw _ (wn_fill (f := fun j => nI (wn_am (pc j))) h' rfl)))⟩ h4i.1)) (fun z => absurd z (by omega)))
    (fun n i s hi h hw => pk_le 18 i (fun z => absurd z (by omega)) (fun _ => ⟨pk_in i 18 hi, by
      rw [nI_clamp (show i < 2 ^ 31 by omega)]
      have h1i := h1 i hi
      exact wn_asMoved (co i) h1i.2 ⟨pk_in i 18 hi, nm_e (nm_r (nI_1 i) (hw _ (wn_fill (f := fun j => nI (wn_am (co j))) h rfl)))⟩ h1i.1⟩))
/-- the whole search: what it gathers over all assignments in their order -/
theorem wn_search {post : St2 → Prop} {m x y B : Nat} {co pc lo hi : Nat → Nat} (sh : Bool) {p0 p1 : Int32} (hp : wn_pic m x y co pc tb rd fr a1 a2 a3 a4 a5 a6) (hf : wn_fx a7 lo hi) (hB : B < 50000) (hp0 : p0 = nI B) (hp1 : p1 = if sh = true then 1 else 0)
    (H : ∀ rd' fr' s5 s6 s8 s9 s10 s11 (A : Nat × Nat × (Nat → Nat)), wn_pic m x y co pc tb rd' fr' a1 a2 a3 a4 s5 s6 → A = (wn_lv lo hi 6 (fun _ => 0)).foldl (wn_lf (wn_T0 m x y co pc) B sh) (0, 100000, fun _ => 0) → A.2.1 ≤ 100000 → (A.2.1 < 100000 → ∀ v, v < 6 → s11 v = nI (A.2.2 v)) →
      post (tb, rd', fr', nI A.1, nI A.2.1, a1, a2, a3, a4, s5, s6, a7, s8, s9, s10, s11)) :
    wpX_search post (tb, rd, fr, fo, be, a1, a2, a3, a4, a5, a6, a7, a8, a9, a10, a11) p0 p1 := by
  subst hp0 hp1
  have hh : ∀ v, v < 6 → lo v ≤ 3 ∧ hi v < 3 := by
    intro v hv
    rcases hf v hv with ⟨g1, g2, g3⟩ | ⟨g1, g2, g3⟩
    · omega
    · omega
  refine wn_prepare hp (fun rd' fr' s5 s6 hr hp' => nm_e (wn_open (v := 0) hf (by decide) rfl ⟨3001, ?_⟩))
  have hp2 := hp'
  obtain ⟨hm, htb, hx, hy, hxy, h2, h3, h1, h4, h7⟩ := hp2
  obtain ⟨fl, on, tw, hfr, hfl, g5, g6, gT⟩ := h7 hr
  have h0 := hh 0 (by omega)
  have hM : wn_M 5 = 484 := rfl
  have hmul : (hi 0 + 1 - lo 0) * (1 + wn_M 5) ≤ 3 * (1 + wn_M 5) := Nat.mul_le_mul_right _ (by omega)
  refine wn_dfs (m := m) (x := x) (y := y) (fl := fl) (on := on) (tw := tw) sh ⟨hm, htb, hx, hy, hxy, h2, h3, g5, g6⟩ hf hB 5 0 rfl _ (lo 0) 3001 0 (fun _ => 0) (0, 100000, fun _ => 0) _ _ _ _ rfl h0.1 rfl (by omega) (fun u hu => absurd hu (by omega)) ⟨fl, ?_, hfl, rfl⟩ pk_us (Nat.le_refl _) (fun z => absurd z (Nat.lt_irrefl _)) ?_
  · rw [hfr]
    exact pk_us
  · intro n' s' A' b8 b9 b10 b11 k1 k2 k3 k4 _ _ _
    obtain ⟨n0, rfl⟩ : ∃ n0, n' = n0 + 1 := ⟨n' - 1, by omega⟩
    refine pk_le 3000 s' (fun z => absurd z (by omega)) (fun _ => br_t (by decide) (H rd' fr' s5 s6 b8 b9 b10 b11 A' hp' ?_ ?_ k4))
    · rw [k3]
      refine wn_fold_cg hB _ (fun q hq => gT q (fun v hv => ?_)) _
      have z1 := (wn_lv_m 6 _ q (Nat.le_refl _) hq).2 v (by omega) hv
      have z2 := hh v hv
      omega
    · rw [k3]
      exact wn_fold_b hB _ _ (Nat.le_refl _)
end
end
section
section
variable {tb rd fr fo be : Int32} {a1 a2 a3 a4 a5 a6 a7 a8 a9 a10 a11 : Nat → Int32}
def wn_ok (lo hi q : Nat → Nat) : Prop := ∀ v, v < 6 → lo v ≤ q v ∧ q v ≤ hi v
def wn_none (m x y : Nat) (co pc lo hi : Nat → Nat) : Prop := ∀ q, wn_ok lo hi q → 50000 ≤ wn_T0 m x y co pc q
def wn_best (m x y : Nat) (co pc lo hi q : Nat → Nat) : Prop := wn_ok lo hi q ∧ wn_T0 m x y co pc q < 50000 ∧ ∀ p, wn_ok lo hi p → wn_T0 m x y co pc q ≤ wn_T0 m x y co pc p ∧ (wn_T0 m x y co pc p = wn_T0 m x y co pc q → wn_rk q ≤ wn_rk p)
def wn_LR (m x y : Nat) (co pc lo hi : Nat → Nat) (r : Int32) (s : Nat → Int32) : Prop := (r = -6 ∧ wn_none m x y co pc lo hi) ∨ (∃ q, wn_best m x y co pc lo hi q ∧ r = nI (wn_T0 m x y co pc q) ∧ ∀ v, v < 6 → s v = nI (q v))
def wn_cnt (m x y : Nat) (co pc : Nat → Nat) (B : Nat) : Nat := (wn_lv (fun _ => 0) (fun _ => 2) 6 (fun _ => 0)).countP (fun q => decide (wn_T0 m x y co pc q ≤ B))
theorem wn_T0_cg {m x y : Nat} {co pc p q : Nat → Nat} (hx : x < 6) (hy : y < 6) (h : ∀ u, u < 6 → p u = q u) : wn_T0 m x y co pc p = wn_T0 m x y co pc q := by
  unfold wn_T0 wn_T
  rw [h x hx, h y hy, wn_sm_cg (f := fun u => wn_am (co (3 * u + p u))) (g := fun u => wn_am (co (3 * u + q u))) 6 (fun u hu => by rw [h u hu])]
theorem wn_rk_cg {p q : Nat → Nat} (h : ∀ u, u < 6 → p u = q u) : wn_rk p = wn_rk q := by
  unfold wn_rk
  rw [h 0 (by omega), h 1 (by omega), h 2 (by omega), h 3 (by omega), h 4 (by omega), h 5 (by omega)]
theorem wn_n6 {k : Nat} (h : k < 50000) : ¬ nI k = -6 := by
  intro e
  have h1 := nI_toInt (n := k) (by omega)
  rw [e] at h1
  have h2 : (-6 : Int32).toInt = -6 := by decide
  omega
theorem wn_free (h : ∀ v, v < 6 → a7 v = -1) : wn_fx a7 (fun _ => 0) (fun _ => 2) := fun v hv => Or.inl ⟨by rw [h v hv]; decide, rfl, rfl⟩
theorem wn_fix {lo hi : Nat → Nat} (h : wn_fx a7 lo hi) {v k : Nat} (hk : k < 3) : wn_fx (upd a7 v (nI k)) (wn_set lo v k) (wn_set hi v k) := by
  intro u hu
  by_cases e : u = v
  · rw [e, pk_us, wn_set_s, wn_set_s]
    exact Or.inr ⟨rfl, rfl, hk⟩
  · rw [pk_un e, wn_set_n e, wn_set_n e]
    exact h u hu
theorem wn_leastCost {post : Int32 → St2 → Prop} {m x y : Nat} {co pc lo hi : Nat → Nat} (hp : wn_pic m x y co pc tb rd fr a1 a2 a3 a4 a5 a6) (hf : wn_fx a7 lo hi)
    (H : ∀ rd' fr' fo' be' s5 s6 s8 s9 s10 s11 r, wn_pic m x y co pc tb rd' fr' a1 a2 a3 a4 s5 s6 → wn_LR m x y co pc lo hi r s11 → post r (tb, rd', fr', fo', be', a1, a2, a3, a4, s5, s6, a7, s8, s9, s10, s11)) :
    wpX_leastCost post (tb, rd, fr, fo, be, a1, a2, a3, a4, a5, a6, a7, a8, a9, a10, a11) := by
  refine wn_search (B := 49999) true hp hf (by decide) rfl rfl (fun rd' fr' s5 s6 s8 s9 s10 s11 A hp' hA hA1 hA2 => ?_)
  have hh : ∀ v, v < 6 → hi v < 3 := by
    intro v hv
    rcases hf v hv with ⟨g1, g2, g3⟩ | ⟨g1, g2, g3⟩
    · omega
    · omega
  have hx := hp.2.2.1
  have hy := hp.2.2.2.1
  have ex : ∀ p, wn_ok lo hi p → ∃ p', p' ∈ wn_lv lo hi 6 (fun _ => 0) ∧ wn_T0 m x y co pc p' = wn_T0 m x y co pc p ∧ wn_rk p' = wn_rk p := by
    intro p hp
    obtain ⟨p', h1, h2⟩ := wn_lv_e 6 (fun _ => 0) p (Nat.le_refl _) (fun u hu => absurd hu (by omega)) (fun u _ hu => hp u hu)
    exact ⟨p', h1, wn_T0_cg hx hy h2, wn_rk_cg h2⟩
  have hD : wn_D 49999 true 100000 = 50000 := rfl
  rcases wn_fold_m (T := wn_T0 m x y co pc) (B := 49999) (wn_lv lo hi 6 (fun _ => 0)) (0, 100000, fun _ => 0) (wn_lv_s hh 6 (fun _ => 0) (Nat.le_refl _)) with ⟨h1, h2⟩ | ⟨q, hq, h1, h2, h3⟩
  · rw [← hA] at h1
    have e : A.2.1 = 100000 := by rw [h1]
    refine pk_lt A.2.1 50000 (fun z => absurd z (by omega)) (fun _ => H rd' fr' _ _ s5 s6 s8 s9 s10 s11 (-6) hp' (Or.inl ⟨rfl, fun p hp => ?_⟩))
    obtain ⟨p', g1, g2, g3⟩ := ex p hp
    rw [← g2]
    exact h2 p' g1
  · rw [← hA] at h1
    have e : A.2.1 = wn_T0 m x y co pc q := by rw [h1]
    have e2 : A.2.2 = q := by rw [h1]
    have h2' : wn_T0 m x y co pc q < 50000 := h2
    refine pk_lt A.2.1 50000 (fun _ => H rd' fr' _ _ s5 s6 s8 s9 s10 s11 (nI A.2.1) hp' (Or.inr ⟨q, ⟨fun v hv => (wn_lv_m 6 _ q (Nat.le_refl _) hq).2 v (by omega) hv, h2', fun p hp => ?_⟩, by rw [e], ?_⟩)) (fun z => absurd z (by omega))
    · obtain ⟨p', g1, g2, g3⟩ := ex p hp
      rw [← g2, ← g3]
      exact h3 p' g1
    · intro v hv
      rw [hA2 (by omega) v hv, e2]
theorem wn_countUpTo {post : Int32 → St2 → Prop} {m x y B : Nat} {co pc : Nat → Nat} {p0 : Int32} (hp : wn_pic m x y co pc tb rd fr a1 a2 a3 a4 a5 a6) (hf : wn_fx a7 (fun _ => 0) (fun _ => 2)) (hB : B < 50000) (hp0 : p0 = nI B)
    (H : ∀ rd' fr' fo' be' s5 s6 s8 s9 s10 s11, wn_pic m x y co pc tb rd' fr' a1 a2 a3 a4 s5 s6 → post (nI (wn_cnt m x y co pc B)) (tb, rd', fr', fo', be', a1, a2, a3, a4, s5, s6, a7, s8, s9, s10, s11)) :
    wpX_countUpTo post (tb, rd, fr, fo, be, a1, a2, a3, a4, a5, a6, a7, a8, a9, a10, a11) p0 := by
  refine wn_search (B := B) false hp hf hB hp0 rfl (fun rd' fr' s5 s6 s8 s9 s10 s11 A hp' hA hA1 hA2 => ?_)
  have e : A.1 = wn_cnt m x y co pc B := by
    rw [hA, wn_fold_n]
    show 0 + wn_cnt m x y co pc B = wn_cnt m x y co pc B
    omega
  have h := H rd' fr' (nI A.1) (nI A.2.1) s5 s6 s8 s9 s10 s11 hp'
  rw [← e] at h
  exact h
theorem wn_least {post : Int32 → St2 → Prop} {m x y : Nat} {co pc : Nat → Nat} (hp : wn_pic m x y co pc tb rd fr a1 a2 a3 a4 a5 a6)
    (H : ∀ rd' fr' fo' be' s5 s6 s7 s8 s9 s10 s11 r, wn_pic m x y co pc tb rd' fr' a1 a2 a3 a4 s5 s6 → wn_LR m x y co pc (fun _ => 0) (fun _ => 2) r s11 → post r (tb, rd', fr', fo', be', a1, a2, a3, a4, s5, s6, s7, s8, s9, s10, s11)) :
    wpX_least post (tb, rd, fr, fo, be, a1, a2, a3, a4, a5, a6, a7, a8, a9, a10, a11) :=
  wn_freeAll (fun s7 h7 => wn_leastCost hp (wn_free h7) (fun rd' fr' fo' be' s5 s6 s8 s9 s10 s11 r h1 h2 => H rd' fr' fo' be' s5 s6 s7 s8 s9 s10 s11 r h1 h2))
theorem wn_ties {post : Int32 → St2 → Prop} {m x y : Nat} {co pc : Nat → Nat} (hp : wn_pic m x y co pc tb rd fr a1 a2 a3 a4 a5 a6)
    (H : ∀ rd' fr' fo' be' s5 s6 s7 s8 s9 s10 s11 r, wn_pic m x y co pc tb rd' fr' a1 a2 a3 a4 s5 s6 → ((r = 0 ∧ wn_none m x y co pc (fun _ => 0) (fun _ => 2)) ∨ (∃ q, wn_best m x y co pc (fun _ => 0) (fun _ => 2) q ∧ r = nI (wn_cnt m x y co pc (wn_T0 m x y co pc q)))) → post r (tb, rd', fr', fo', be', a1, a2, a3, a4, s5, s6, s7, s8, s9, s10, s11)) :
    wpX_ties post (tb, rd, fr, fo, be, a1, a2, a3, a4, a5, a6, a7, a8, a9, a10, a11) := by
  refine wn_freeAll (fun s7 h7 => wn_leastCost hp (wn_free h7) (fun rd' fr' fo' be' s5 s6 s8 s9 s10 s11 r h1 h2 => ?_))
  rcases h2 with ⟨e, hn⟩ | ⟨q, hq, e, _⟩
  · exact br_t e (H rd' fr' fo' be' s5 s6 s7 s8 s9 s10 s11 0 h1 (Or.inl ⟨rfl, hn⟩))
  · refine br_f (by rw [e]; exact wn_n6 hq.2.1) (wn_countUpTo h1 (wn_free h7) hq.2.1 e (fun rd2 fr2 fo2 be2 t5 t6 t8 t9 t10 t11 g1 => ?_))
    exact H rd2 fr2 fo2 be2 t5 t6 s7 t8 t9 t10 t11 _ g1 (Or.inr ⟨q, hq, rfl⟩)
theorem wn_allowed {post : Int32 → St2 → Prop} {m x y : Nat} {co pc : Nat → Nat} (hp : wn_pic m x y co pc tb rd fr a1 a2 a3 a4 a5 a6)
    (H : ∀ rd' fr' fo' be' s5 s6 s7 s8 s9 s10 s11, wn_pic m x y co pc tb rd' fr' a1 a2 a3 a4 s5 s6 → post (nI (wn_cnt m x y co pc 49999)) (tb, rd', fr', fo', be', a1, a2, a3, a4, s5, s6, s7, s8, s9, s10, s11)) :
    wpX_allowed post (tb, rd, fr, fo, be, a1, a2, a3, a4, a5, a6, a7, a8, a9, a10, a11) :=
  wn_freeAll (fun s7 h7 => wn_countUpTo (B := 49999) hp (wn_free h7) (by decide) rfl (fun rd2 fr2 fo2 be2 t5 t6 t8 t9 t10 t11 g1 => H rd2 fr2 fo2 be2 t5 t6 s7 t8 t9 t10 t11 g1))
theorem wn_upTo {post : Int32 → St2 → Prop} {m x y : Nat} {co pc : Nat → Nat} {p0 : Int32} (hp : wn_pic m x y co pc tb rd fr a1 a2 a3 a4 a5 a6)
    (H0 : ¬ 0 ≤ p0 → post 0 (tb, rd, fr, fo, be, a1, a2, a3, a4, a5, a6, a7, a8, a9, a10, a11))
    (H : ∀ b, b < 2 ^ 31 → p0 = nI b → ∀ rd' fr' fo' be' s5 s6 s7 s8 s9 s10 s11, wn_pic m x y co pc tb rd' fr' a1 a2 a3 a4 s5 s6 → post (nI (wn_cnt m x y co pc (min b 49999))) (tb, rd', fr', fo', be', a1, a2, a3, a4, s5, s6, s7, s8, s9, s10, s11)) :
    wpX_upTo post (tb, rd, fr, fo, be, a1, a2, a3, a4, a5, a6, a7, a8, a9, a10, a11) p0 := by
  refine br_c (fun z => ?_) H0
  have z' : ¬ p0 < 0 := by
    rw [Int32.le_iff_toInt_le] at z
    rw [Int32.lt_iff_toInt_lt]
    omega
  obtain ⟨b, hb, e⟩ := nI_of z'
  have H' := H b hb e
  subst e
  refine wn_freeAll (fun s7 h7 => pk_le 50000 b (fun g => ?_) (fun g => ?_))
  · rw [show min b 49999 = 49999 by omega] at H'
    exact wn_countUpTo (B := 49999) hp (wn_free h7) (by decide) rfl (fun rd2 fr2 fo2 be2 t5 t6 t8 t9 t10 t11 g1 => H' rd2 fr2 fo2 be2 t5 t6 s7 t8 t9 t10 t11 g1)
  · rw [show min b 49999 = b by omega] at H'
    exact wn_countUpTo (B := b) hp (wn_free h7) g rfl (fun rd2 fr2 fo2 be2 t5 t6 t8 t9 t10 t11 g1 => H' rd2 fr2 fo2 be2 t5 t6 s7 t8 t9 t10 t11 g1)
theorem wn_leastWith {post : Int32 → St2 → Prop} {m x y : Nat} {co pc : Nat → Nat} {v k : Nat} {p0 p1 : Int32} (hp : wn_pic m x y co pc tb rd fr a1 a2 a3 a4 a5 a6) (hv : v < 6) (hk : k < 3) (hp0 : p0 = nI v) (hp1 : p1 = nI k)
    (H : ∀ rd' fr' fo' be' s5 s6 s7 s8 s9 s10 s11 r, wn_pic m x y co pc tb rd' fr' a1 a2 a3 a4 s5 s6 → wn_LR m x y co pc (wn_set (fun _ => 0) v k) (wn_set (fun _ => 2) v k) r s11 → post r (tb, rd', fr', fo', be', a1, a2, a3, a4, s5, s6, s7, s8, s9, s10, s11)) :
    wpX_leastWith post (tb, rd, fr, fo, be, a1, a2, a3, a4, a5, a6, a7, a8, a9, a10, a11) p0 p1 := by
  subst hp0 hp1
  unfold wpX_leastWith
  dsimp only
  refine wn_badV v hv ?_ rfl
  refine br_t rfl (br_f (nI_pos (by omega)) (pk_lt k 3 (fun _ => ?_) (fun z => absurd z (by omega))))
  refine wn_freeAll (fun s7 h7 => ⟨pk_in v 6 hv, nm_r (by rw [nI_clamp (by omega)]) ?_⟩)
  exact wn_leastCost hp (wn_fix (wn_free h7) hk) (fun rd' fr' fo' be' s5 s6 s8 s9 s10 s11 r h1 h2 => H rd' fr' fo' be' s5 s6 _ s8 s9 s10 s11 r h1 h2)
theorem wn_value {post : Int32 → St2 → Prop} {m x y : Nat} {co pc : Nat → Nat} {v : Nat} {p0 : Int32} (hp : wn_pic m x y co pc tb rd fr a1 a2 a3 a4 a5 a6) (hv : v < 6) (hp0 : p0 = nI v)
    (H : ∀ rd' fr' fo' be' s5 s6 s7 s8 s9 s10 s11 r, wn_pic m x y co pc tb rd' fr' a1 a2 a3 a4 s5 s6 → ((r = -6 ∧ wn_none m x y co pc (fun _ => 0) (fun _ => 2)) ∨ (∃ q, wn_best m x y co pc (fun _ => 0) (fun _ => 2) q ∧ r = nI (q v))) → post r (tb, rd', fr', fo', be', a1, a2, a3, a4, s5, s6, s7, s8, s9, s10, s11)) :
    wpX_value post (tb, rd, fr, fo, be, a1, a2, a3, a4, a5, a6, a7, a8, a9, a10, a11) p0 := by
  subst hp0
  unfold wpX_value
  dsimp only
  refine wn_badV v hv ?_ rfl
  refine br_t rfl ?_
  refine wn_freeAll (fun s7 h7 => wn_leastCost hp (wn_free h7) (fun rd' fr' fo' be' s5 s6 s8 s9 s10 s11 r h1 h2 => ?_))
  rcases h2 with ⟨e, hn⟩ | ⟨q, hq, e, hs⟩
  · exact br_t e (H rd' fr' fo' be' s5 s6 s7 s8 s9 s10 s11 (-6) h1 (Or.inl ⟨rfl, hn⟩))
  · refine br_f (by rw [e]; exact wn_n6 hq.2.1) ⟨pk_in v 6 hv, ?_⟩
    show post (s11 (nI v).toNatClampNeg) (tb, rd', fr', fo', be', a1, a2, a3, a4, s5, s6, s7, s8, s9, s10, s11)
    rw [nI_clamp (show v < 2 ^ 31 by omega), hs v hv]
    exact H rd' fr' fo' be' s5 s6 s7 s8 s9 s10 s11 (nI (q v)) h1 (Or.inr ⟨q, hq, rfl⟩)
theorem wn_ok_fix {a b k : Nat} {p : Nat → Nat} (ha : a < 6) (hb : b < 6) (hk : k < 3) : wn_ok (wn_set (wn_set (fun _ => 0) a k) b k) (wn_set (wn_set (fun _ => 2) a k) b k) p ↔ wn_ok (fun _ => 0) (fun _ => 2) p ∧ p a = k ∧ p b = k := by
  constructor
  · intro h
    have e1 : p a = k := by
      have := h a ha
      by_cases e : a = b
      · rw [e, wn_set_s, wn_set_s] at this
        rw [e]
        omega
      · rw [wn_set_n e, wn_set_s, wn_set_n e, wn_set_s] at this
        omega
    have e2 : p b = k := by
      have := h b hb
      rw [wn_set_s, wn_set_s] at this
      omega
    refine ⟨fun v hv => ?_, e1, e2⟩
    have := h v hv
    by_cases g1 : v = b
    · rw [g1, e2]
      show 0 ≤ k ∧ k ≤ 2
      omega
    · by_cases g2 : v = a
      · rw [g2, e1]
        show 0 ≤ k ∧ k ≤ 2
        omega
      · rw [wn_set_n g1, wn_set_n g2, wn_set_n g1, wn_set_n g2] at this
        exact this
  · rintro ⟨h, e1, e2⟩ v hv
    by_cases g1 : v = b
    · rw [g1, wn_set_s, wn_set_s]
      omega
    · by_cases g2 : v = a
      · rw [wn_set_n g1, wn_set_n g1, g2, wn_set_s, wn_set_s]
        omega
      · rw [wn_set_n g1, wn_set_n g2, wn_set_n g1, wn_set_n g2]
        exact h v hv
theorem wn_canAgree {post : Int32 → St2 → Prop} {m x y : Nat} {co pc : Nat → Nat} {a b : Nat} {p0 p1 : Int32} (hp : wn_pic m x y co pc tb rd fr a1 a2 a3 a4 a5 a6) (ha : a < 6) (hb : b < 6) (hp0 : p0 = nI a) (hp1 : p1 = nI b)
    (H : ∀ rd' fr' fo' be' s5 s6 s7 s8 s9 s10 s11 r, wn_pic m x y co pc tb rd' fr' a1 a2 a3 a4 s5 s6 →
      ((r = 0 ∧ wn_none m x y co pc (fun _ => 0) (fun _ => 2)) ∨ (∃ q, wn_best m x y co pc (fun _ => 0) (fun _ => 2) q ∧ ((r = 1 ∧ ∃ p, wn_ok (fun _ => 0) (fun _ => 2) p ∧ p a = p b ∧ wn_T0 m x y co pc p = wn_T0 m x y co pc q) ∨ (r = 0 ∧ ∀ p, wn_ok (fun _ => 0) (fun _ => 2) p → p a = p b → wn_T0 m x y co pc p ≠ wn_T0 m x y co pc q)))) →
      post r (tb, rd', fr', fo', be', a1, a2, a3, a4, s5, s6, s7, s8, s9, s10, s11)) :
    wpX_canAgree post (tb, rd, fr, fo, be, a1, a2, a3, a4, a5, a6, a7, a8, a9, a10, a11) p0 p1 := by
  subst hp0 hp1
  unfold wpX_canAgree
  dsimp only
  refine wn_badV a ha ?_ rfl
  refine br_t rfl ?_
  refine wn_badV b hb ?_ rfl
  refine br_t rfl ?_
  refine wn_freeAll (fun s7 h7 => wn_leastCost hp (wn_free h7) (fun rd' fr' fo' be' s5 s6 s8 s9 s10 s11 r h1 h2 => ?_))
  rcases h2 with ⟨e, hn⟩ | ⟨q, hq, e, _⟩
  · exact br_t e (H rd' fr' fo' be' s5 s6 s7 s8 s9 s10 s11 0 h1 (Or.inl ⟨rfl, hn⟩))
  · refine br_f (by rw [e]; exact wn_n6 hq.2.1) ?_
    subst e
    refine pk_loop (σ := Int32 × Int32 × Int32 × Int32 × (Nat → Int32) × (Nat → Int32) × (Nat → Int32) × (Nat → Int32) × (Nat → Int32) × (Nat → Int32) × (Nat → Int32))
      (fun n i s => wX_canAgree_36 post (nI a) (nI b) (nI (wn_T0 m x y co pc q)) n (nI i) tb s.1 s.2.1 s.2.2.1 s.2.2.2.1 a1 a2 a3 a4 s.2.2.2.2.1 s.2.2.2.2.2.1 s.2.2.2.2.2.2.1 s.2.2.2.2.2.2.2.1 s.2.2.2.2.2.2.2.2.1 s.2.2.2.2.2.2.2.2.2.1 s.2.2.2.2.2.2.2.2.2.2)
      (fun i s => wn_pic m x y co pc tb s.1 s.2.1 a1 a2 a3 a4 s.2.2.2.2.1 s.2.2.2.2.2.1 ∧ ∀ p, wn_ok (fun _ => 0) (fun _ => 2) p → p a = p b → p a < i → wn_T0 m x y co pc p ≠ wn_T0 m x y co pc q)
      3 0 (rd', fr', fo', be', s5, s6, s7, s8, s9, s10, s11) (by omega) ⟨h1, fun p _ _ z => absurd z (by omega)⟩
      (fun n s h => pk_le 3 3 (fun _ => H _ _ _ _ _ _ _ _ _ _ _ 0 h.1 (Or.inr ⟨q, hq, Or.inr ⟨rfl, fun p hp1 hp2 => h.2 p hp1 hp2 (by have := hp1 a ha; dsimp only at this; omega)⟩⟩)) (fun z => absurd z (by omega)))
      (fun n i s hi h hw => pk_le 3 i (fun z => absurd z (by omega)) (fun _ => ?_))
    refine wn_freeAll (fun t7 h7 => ⟨pk_in a 6 ha, nm_r (by rw [nI_clamp (show a < 2 ^ 31 by omega)]) ⟨pk_in b 6 hb, nm_r (by rw [nI_clamp (show b < 2 ^ 31 by omega)]) ?_⟩⟩)
    refine wn_leastCost h.1 (wn_fix (wn_fix (wn_free h7) hi) hi) (fun rd2 fr2 fo2 be2 t5 t6 t8 t9 t10 t11 r g1 g2 => ?_)
    rcases g2 with ⟨e, hn⟩ | ⟨q2, hq2, e, _⟩
    · refine br_f (by rw [e]; exact fun z => wn_n6 hq.2.1 z.symm) (nm_r (nI_1 i) (hw (rd2, fr2, fo2, be2, t5, t6, _, t8, t9, t10, t11) ⟨g1, fun p k1 k2 k3 => ?_⟩))
      by_cases c : p a = i
      · have := hn p ((wn_ok_fix ha hb hi).mpr ⟨k1, c, by omega⟩)
        have := hq.2.1
        omega
      · exact h.2 p k1 k2 (by omega)
    · have o2 := (wn_ok_fix ha hb hi).mp hq2.1
      subst e
      have hT2 := hq2.2.1
      have hT := hq.2.1
      refine pk_eq (wn_T0 m x y co pc q2) (wn_T0 m x y co pc q) (fun z => ?_) (fun z => nm_r (nI_1 i) (hw (rd2, fr2, fo2, be2, t5, t6, _, t8, t9, t10, t11) ⟨g1, fun p k1 k2 k3 => ?_⟩))
      · exact H rd2 fr2 fo2 be2 t5 t6 _ t8 t9 t10 t11 1 g1 (Or.inr ⟨q, hq, Or.inl ⟨rfl, q2, o2.1, by omega, z⟩⟩)
      · by_cases c : p a = i
        · have l1 := (hq2.2.2 p ((wn_ok_fix ha hb hi).mpr ⟨k1, c, by omega⟩)).1
          have l2 := (hq.2.2 q2 o2.1).1
          omega
        · exact h.2 p k1 k2 (by omega)
end
end
section
/-! ===== the law's nine pairs, and what the assignments cost by them ===== -/
def wn_vx (x y k : Nat) : Nat := if x < y then k / 3 else k % 3
def wn_vy (x y k : Nat) : Nat := if x < y then k % 3 else k / 3
def wn_kp (x y a b : Nat) : Nat := if x < y then 3 * a + b else 3 * b + a
def wn_g (e : Nat) (pc : Nat → Nat) (a b : Nat) : Nat := (if a = 1 then e else 0) + wn_am (pc (a + 3 * b))
def wn_G (x y e : Nat) (pc : Nat → Nat) (k : Nat) : Nat := wn_g e pc (wn_vx x y k) (wn_vy x y k)
def wn_co (x e : Nat) : Nat → Nat := fun i => if i = 3 * x + 1 then e else 0
theorem wn_kp_s {x y a b : Nat} (ha : a < 3) (hb : b < 3) : wn_kp x y a b < 9 ∧ wn_vx x y (wn_kp x y a b) = a ∧ wn_vy x y (wn_kp x y a b) = b := by
  unfold wn_kp wn_vx wn_vy
  by_cases h : x < y
  · rw [if_pos h, if_pos h, if_pos h]
    omega
  · rw [if_neg h, if_neg h, if_neg h]
    omega
theorem wn_v_s {x y k : Nat} (hk : k < 9) : wn_vx x y k < 3 ∧ wn_vy x y k < 3 ∧ wn_kp x y (wn_vx x y k) (wn_vy x y k) = k := by
  unfold wn_kp wn_vx wn_vy
  by_cases h : x < y
  · rw [if_pos h, if_pos h, if_pos h]
    omega
  · rw [if_neg h, if_neg h, if_neg h]
    omega
theorem wn_sum_co {x e : Nat} {q : Nat → Nat} (hx : x < 6) (he : e < 20) (hq : wn_ok (fun _ => 0) (fun _ => 2) q) : wn_sm (fun u => wn_am (wn_co x e (3 * u + q u))) 6 = if q x = 1 then e else 0 := by
  have h := wn_sm_ch (f := fun u => wn_am (wn_co x e (3 * u + q u))) (g := fun _ => 0) (v := x) 6 hx (fun u hu hne => by
    have h1 : q u ≤ 2 := (hq u hu).2
    have h2 : q x ≤ 2 := (hq x hx).2
    show wn_am (wn_co x e (3 * u + q u)) = 0
    unfold wn_co
    rw [if_neg (by omega)]
    rfl)
  have h0 : wn_sm (fun _ => 0) 6 = 0 := rfl
  have h3 : wn_am (wn_co x e (3 * x + q x)) = if q x = 1 then e else 0 := by
    unfold wn_co
    by_cases c : q x = 1
    · rw [if_pos (by omega), if_pos c]
      unfold wn_am
      rw [if_neg (by omega)]
    · rw [if_neg (by omega), if_neg c]
      rfl
  omega
theorem wn_T01 {x y e : Nat} {pc q : Nat → Nat} (hx : x < 6) (hy : y < 6) (he : e < 20) (hq : wn_ok (fun _ => 0) (fun _ => 2) q) : wn_T0 1 x y (wn_co x e) pc q = wn_G x y e pc (wn_kp x y (q x) (q y)) := by
  have h1 : q x ≤ 2 := (hq x hx).2
  have h2 : q y ≤ 2 := (hq y hy).2
  obtain ⟨_, k2, k3⟩ := wn_kp_s (x := x) (y := y) (a := q x) (b := q y) (by omega) (by omega)
  unfold wn_G wn_g
  rw [k2, k3]
  unfold wn_T0 wn_T
  rw [wn_sum_co hx he hq, Nat.zero_add]
  rfl
theorem wn_T00 {x y e : Nat} {pc q : Nat → Nat} (hx : x < 6) (he : e < 20) (hq : wn_ok (fun _ => 0) (fun _ => 2) q) : wn_T0 0 x y (wn_co x e) pc q = if q x = 1 then e else 0 := by
  unfold wn_T0 wn_T
  rw [wn_sum_co hx he hq, Nat.zero_add]
  rfl
/-- an assignment with two given values -/
theorem wn_set2 {x y a b : Nat} {q : Nat → Nat} (hxy : x ≠ y) (ha : a < 3) (hb : b < 3) (hq : wn_ok (fun _ => 0) (fun _ => 2) q) : wn_ok (fun _ => 0) (fun _ => 2) (wn_set (wn_set q x a) y b) ∧ wn_set (wn_set q x a) y b x = a ∧ wn_set (wn_set q x a) y b y = b ∧ ∀ u, u ≠ x → u ≠ y → wn_set (wn_set q x a) y b u = q u := by
  refine ⟨fun u hu => ?_, ?_, wn_set_s, fun u h1 h2 => by rw [wn_set_n h2, wn_set_n h1]⟩
  · by_cases e : u = y
    · rw [e, wn_set_s]
      show 0 ≤ b ∧ b ≤ 2
      omega
    · rw [wn_set_n e]
      by_cases e2 : u = x
      · rw [e2, wn_set_s]
        show 0 ≤ a ∧ a ≤ 2
        omega
      · rw [wn_set_n e2]
        exact hq u hu
  · rw [wn_set_n hxy, wn_set_s]
theorem wn_ok0 : wn_ok (fun _ => 0) (fun _ => 2) (fun _ => 0) := fun _ _ => ⟨Nat.le_refl _, Nat.zero_le _⟩
/-- each of the nine pairs is taken by some assignment -/
theorem wn_take1 {x y e : Nat} {pc q : Nat → Nat} (hx : x < 6) (hy : y < 6) (hxy : x ≠ y) (he : e < 20) (hq : wn_ok (fun _ => 0) (fun _ => 2) q) {k : Nat} (hk : k < 9) :
    ∃ p, wn_ok (fun _ => 0) (fun _ => 2) p ∧ p x = wn_vx x y k ∧ p y = wn_vy x y k ∧ wn_T0 1 x y (wn_co x e) pc p = wn_G x y e pc k ∧ ∀ u, u ≠ x → u ≠ y → p u = q u := by
  obtain ⟨h1, h2, h3⟩ := wn_v_s (x := x) (y := y) hk
  obtain ⟨g1, g2, g3, g4⟩ := wn_set2 hxy h1 h2 hq
  refine ⟨_, g1, g2, g3, ?_, g4⟩
  rw [wn_T01 hx hy he g1, g2, g3, h3]
theorem wn_none1 {x y e : Nat} {pc : Nat → Nat} (hx : x < 6) (hy : y < 6) (hxy : x ≠ y) (he : e < 20) (h : wn_none 1 x y (wn_co x e) pc (fun _ => 0) (fun _ => 2)) : ∀ k, k < 9 → 50000 ≤ wn_G x y e pc k := by
  intro k hk
  obtain ⟨p, h1, _, _, h2, _⟩ := wn_take1 (pc := pc) hx hy hxy he wn_ok0 hk
  rw [← h2]
  exact h p h1
/-- the best assignment takes the first of the best pairs, and nothing else -/
theorem wn_best1 {x y e : Nat} {pc q : Nat → Nat} (hx : x < 6) (hy : y < 6) (hxy : x ≠ y) (he : e < 20) (h : wn_best 1 x y (wn_co x e) pc (fun _ => 0) (fun _ => 2) q) :
    ∃ j, j < 9 ∧ wn_T0 1 x y (wn_co x e) pc q = wn_G x y e pc j ∧ wn_G x y e pc j < 50000 ∧ (∀ k, k < 9 → wn_G x y e pc j ≤ wn_G x y e pc k ∧ (wn_G x y e pc k = wn_G x y e pc j → j ≤ k)) ∧ q x = wn_vx x y j ∧ q y = wn_vy x y j ∧ ∀ z, z < 6 → z ≠ x → z ≠ y → q z = 0 := by
  obtain ⟨hq, hT, hb⟩ := h
  have h1 : q x ≤ 2 := (hq x hx).2
  have h2 : q y ≤ 2 := (hq y hy).2
  obtain ⟨k1, k2, k3⟩ := wn_kp_s (x := x) (y := y) (a := q x) (b := q y) (by omega) (by omega)
  have e1 := wn_T01 (y := y) (pc := pc) hx hy he hq
  refine ⟨wn_kp x y (q x) (q y), k1, e1, by omega, fun k hk => ?_, k2.symm, k3.symm, fun z hz hzx hzy => ?_⟩
  · obtain ⟨p, g1, g2, g3, g4, g5⟩ := wn_take1 (pc := pc) hx hy hxy he hq hk
    have hp := hb p g1
    rw [g4, e1] at hp
    refine ⟨hp.1, fun ee => ?_⟩
    have hr := hp.2 ee
    have p3 : ∀ u, u < 6 → p u < 3 := fun u hu => by
      have z : p u ≤ 2 := (g1 u hu).2
      omega
    rcases Nat.lt_or_ge k (wn_kp x y (q x) (q y)) with c | c
    · exfalso
      unfold wn_kp at c
      unfold wn_vx at g2
      unfold wn_vy at g3
      by_cases hlt : x < y
      · rw [if_pos hlt] at c g2 g3
        by_cases c2 : p x < q x
        · have := wn_rk_lt (p := p) (q := q) (v := x) hx (fun u hu => g5 u (by omega) (by omega)) c2 (fun u _ hu => p3 u hu)
          omega
        · have := wn_rk_lt (p := p) (q := q) (v := y) hy (fun u hu => by
            by_cases eu : u = x
            · rw [eu]
              omega
            · exact g5 u eu (by omega)) (by omega) (fun u _ hu => p3 u hu)
          omega
      · rw [if_neg hlt] at c g2 g3
        by_cases c2 : p y < q y
        · have := wn_rk_lt (p := p) (q := q) (v := y) hy (fun u hu => g5 u (by omega) (by omega)) c2 (fun u _ hu => p3 u hu)
          omega
        · have := wn_rk_lt (p := p) (q := q) (v := x) hx (fun u hu => by
            by_cases eu : u = y
            · rw [eu]
              omega
            · exact g5 u (by omega) eu) (by omega) (fun u _ hu => p3 u hu)
          omega
    · exact c
  · rcases Nat.eq_zero_or_pos (q z) with c | c
    · exact c
    · exfalso
      have ok : wn_ok (fun _ => 0) (fun _ => 2) (wn_set q z 0) := by
        intro u hu
        by_cases eu : u = z
        · rw [eu, wn_set_s]
          exact ⟨Nat.le_refl _, Nat.zero_le _⟩
        · rw [wn_set_n eu]
          exact hq u hu
      have hp := hb _ ok
      have e2 : wn_T0 1 x y (wn_co x e) pc (wn_set q z 0) = wn_T0 1 x y (wn_co x e) pc q := by
        rw [e1, wn_T01 hx hy he ok, wn_set_n (fun w => hzx w.symm), wn_set_n (fun w => hzy w.symm)]
      have hr := hp.2 e2
      have := wn_rk_lt (p := wn_set q z 0) (q := q) (v := z) hz (fun u hu => wn_set_n (by omega)) (by rw [wn_set_s]; exact c) (fun u _ hu => by
        have z : wn_set q z 0 u ≤ 2 := (ok u hu).2
        omega)
      omega
/-! ===== counting ===== -/
def wn_s3 (f : Nat → Nat) : Nat := f 0 + f 1 + f 2
theorem wn_s3_c (c : Nat) : wn_s3 (fun _ => c) = 3 * c := by
  show c + c + c = 3 * c
  omega
theorem wn_s3_sw (f : Nat → Nat → Nat) : wn_s3 (fun k => wn_s3 (fun j => f j k)) = wn_s3 (fun a => wn_s3 (fun b => f a b)) := by
  show (f 0 0 + f 1 0 + f 2 0) + (f 0 1 + f 1 1 + f 2 1) + (f 0 2 + f 1 2 + f 2 2) = (f 0 0 + f 0 1 + f 0 2) + (f 1 0 + f 1 1 + f 1 2) + (f 2 0 + f 2 1 + f 2 2)
  omega
theorem wn_s3_m (f : Nat → Nat) (c : Nat) : wn_s3 (fun k => c * f k) = c * wn_s3 f := by
  unfold wn_s3
  rw [Nat.mul_add, Nat.mul_add]
theorem wn_cnt_s (P : (Nat → Nat) → Bool) (d : Nat) (q : Nat → Nat) : (wn_lv (fun _ => 0) (fun _ => 2) (d + 1) q).countP P = wn_s3 (fun k => (wn_lv (fun _ => 0) (fun _ => 2) d (wn_set q (5 - d) k)).countP P) := by
  show List.countP P (([0, 1, 2] : List Nat).flatMap (fun k => wn_lv (fun _ => 0) (fun _ => 2) d (wn_set q (5 - d) k))) = _
  rw [List.flatMap_cons, List.flatMap_cons, List.flatMap_cons, List.flatMap_nil, List.countP_append, List.countP_append, List.append_nil]
  show _ = List.countP P (wn_lv (fun _ => 0) (fun _ => 2) d (wn_set q (5 - d) 0)) + List.countP P (wn_lv (fun _ => 0) (fun _ => 2) d (wn_set q (5 - d) 1)) + List.countP P (wn_lv (fun _ => 0) (fun _ => 2) d (wn_set q (5 - d) 2))
  omega
theorem wn_cnt_z (P : (Nat → Nat) → Bool) (q : Nat → Nat) : (wn_lv (fun _ => 0) (fun _ => 2) 0 q).countP P = if P q = true then 1 else 0 := by
  show List.countP P [q] = _
  rw [List.countP_cons, List.countP_nil, Nat.zero_add]
theorem wn_cnt_cg {P P' : (Nat → Nat) → Bool} (l : List (Nat → Nat)) (h : ∀ q, q ∈ l → P q = P' q) : l.countP P = l.countP P' := List.countP_congr (fun q hq => by rw [h q hq])
theorem wn_c729 (w : Nat → Nat → Bool) {x y : Nat} (hx : x < 6) (hy : y < 6) (hxy : x ≠ y) : (wn_lv (fun _ => 0) (fun _ => 2) 6 (fun _ => 0)).countP (fun q => w (q x) (q y)) = 81 * wn_s3 (fun a => wn_s3 (fun b => if w a b = true then 1 else 0)) := by
  have sw := wn_s3_sw (fun a b => if w a b = true then 1 else 0)
  rw [wn_cnt_s]
  simp only [wn_cnt_s, wn_cnt_z]
  have cx : x = 0 ∨ x = 1 ∨ x = 2 ∨ x = 3 ∨ x = 4 ∨ x = 5 := by omega
  have cy : y = 0 ∨ y = 1 ∨ y = 2 ∨ y = 3 ∨ y = 4 ∨ y = 5 := by omega
  rcases cx with e | e | e | e | e | e
  all_goals
    subst e
    rcases cy with e | e | e | e | e | e
    all_goals
      subst e
      first
        | exact absurd rfl hxy
        | (simp [wn_set, wn_s3_c, wn_s3_m]
           omega)
end
section
theorem wn_sm9 (F : Nat → Nat) : wn_sm F 9 = F 0 + F 1 + F 2 + F 3 + F 4 + F 5 + F 6 + F 7 + F 8 := by
  show 0 + F 0 + F 1 + F 2 + F 3 + F 4 + F 5 + F 6 + F 7 + F 8 = _
  omega
theorem wn_sm_0 {f : Nat → Nat} (n : Nat) (h : ∀ u, u < n → f u = 0) : wn_sm f n = 0 := by
  induction n with
  | zero => rfl
  | succ n ih =>
    show wn_sm f n + f n = 0
    rw [ih (fun u hu => h u (by omega)), h n (by omega)]
theorem wn_cnt1 {x y e : Nat} {pc : Nat → Nat} (hx : x < 6) (hy : y < 6) (hxy : x ≠ y) (he : e < 20) (B : Nat) : wn_cnt 1 x y (wn_co x e) pc B = 81 * wn_sm (fun k => if wn_G x y e pc k ≤ B then 1 else 0) 9 := by
  unfold wn_cnt
  refine (wn_cnt_cg (P' := fun q => decide (wn_g e pc (q x) (q y) ≤ B)) _ (fun q hq => ?_)).trans ((wn_c729 (fun a b => decide (wn_g e pc a b ≤ B)) hx hy hxy).trans ?_)
  rotate_left
  · rw [wn_sm9]
    have w : ∀ a b, a < 3 → b < 3 → (if wn_G x y e pc (wn_kp x y a b) ≤ B then 1 else 0) = (if decide (wn_g e pc a b ≤ B) = true then 1 else 0) := by
      intro a b ha hb
      obtain ⟨_, k2, k3⟩ := wn_kp_s (x := x) (y := y) ha hb
      unfold wn_G
      rw [k2, k3]
      by_cases c : wn_g e pc a b ≤ B
      · rw [if_pos c, if_pos (decide_eq_true c)]
      · rw [if_neg c, if_neg (by rw [decide_eq_true_iff]; exact c)]
    show 81 * ((_ + _ + _) + (_ + _ + _) + (_ + _ + _)) = _
    dsimp only
    have w00 := w 0 0 (by decide) (by decide)
    have w01 := w 0 1 (by decide) (by decide)
    have w02 := w 0 2 (by decide) (by decide)
    have w10 := w 1 0 (by decide) (by decide)
    have w11 := w 1 1 (by decide) (by decide)
    have w12 := w 1 2 (by decide) (by decide)
    have w20 := w 2 0 (by decide) (by decide)
    have w21 := w 2 1 (by decide) (by decide)
    have w22 := w 2 2 (by decide) (by decide)
    by_cases h : x < y
    · rw [show wn_kp x y 0 0 = 0 by unfold wn_kp; rw [if_pos h]] at w00
      rw [show wn_kp x y 0 1 = 1 by unfold wn_kp; rw [if_pos h]] at w01
      rw [show wn_kp x y 0 2 = 2 by unfold wn_kp; rw [if_pos h]] at w02
      rw [show wn_kp x y 1 0 = 3 by unfold wn_kp; rw [if_pos h]] at w10
      rw [show wn_kp x y 1 1 = 4 by unfold wn_kp; rw [if_pos h]] at w11
      rw [show wn_kp x y 1 2 = 5 by unfold wn_kp; rw [if_pos h]] at w12
      rw [show wn_kp x y 2 0 = 6 by unfold wn_kp; rw [if_pos h]] at w20
      rw [show wn_kp x y 2 1 = 7 by unfold wn_kp; rw [if_pos h]] at w21
      rw [show wn_kp x y 2 2 = 8 by unfold wn_kp; rw [if_pos h]] at w22
      omega
    · rw [show wn_kp x y 0 0 = 0 by unfold wn_kp; rw [if_neg h]] at w00
      rw [show wn_kp x y 0 1 = 3 by unfold wn_kp; rw [if_neg h]] at w01
      rw [show wn_kp x y 0 2 = 6 by unfold wn_kp; rw [if_neg h]] at w02
      rw [show wn_kp x y 1 0 = 1 by unfold wn_kp; rw [if_neg h]] at w10
      rw [show wn_kp x y 1 1 = 4 by unfold wn_kp; rw [if_neg h]] at w11
      rw [show wn_kp x y 1 2 = 7 by unfold wn_kp; rw [if_neg h]] at w12
      rw [show wn_kp x y 2 0 = 2 by unfold wn_kp; rw [if_neg h]] at w20
      rw [show wn_kp x y 2 1 = 5 by unfold wn_kp; rw [if_neg h]] at w21
      rw [show wn_kp x y 2 2 = 8 by unfold wn_kp; rw [if_neg h]] at w22
      omega
  · have ok : wn_ok (fun _ => 0) (fun _ => 2) q := fun v hv => (wn_lv_m 6 _ q (Nat.le_refl _) hq).2 v (by omega) hv
    have h1 : q x ≤ 2 := (ok x hx).2
    have h2 : q y ≤ 2 := (ok y hy).2
    obtain ⟨_, k2, k3⟩ := wn_kp_s (x := x) (y := y) (a := q x) (b := q y) (by omega) (by omega)
    have e1 : wn_T0 1 x y (wn_co x e) pc q = wn_g e pc (q x) (q y) := by
      rw [wn_T01 hx hy he ok]
      unfold wn_G
      rw [k2, k3]
    rw [e1]
theorem wn_cnt0 {x y e : Nat} {pc : Nat → Nat} (hx : x < 6) (hy : y < 6) (hxy : x ≠ y) (he : e < 20) : wn_cnt 0 x y (wn_co x e) pc 49999 = 729 := by
  unfold wn_cnt
  refine (wn_cnt_cg (P' := fun _ => true) _ (fun q hq => ?_)).trans ((wn_c729 (fun _ _ => true) hx hy hxy).trans ?_)
  rotate_left
  · rfl
  · have ok : wn_ok (fun _ => 0) (fun _ => 2) q := fun v hv => (wn_lv_m 6 _ q (Nat.le_refl _) hq).2 v (by omega) hv
    rw [wn_T00 hx he ok]
    refine decide_eq_true ?_
    split
    all_goals omega
/-! ===== the law's loop over the nine pairs ===== -/
/-- least, ties, agree, first after k pairs -/
def wn_il (x y e : Nat) (pc : Nat → Nat) (k : Nat) (x9 x10 x14 x15 : Int32) : Prop :=
  (x9 = -6 ∧ x10 = 0 ∧ x14 = 0 ∧ ∀ i, i < k → 50000 ≤ wn_G x y e pc i) ∨
  (∃ j, j < k ∧ wn_G x y e pc j < 50000 ∧ x9 = nI (wn_G x y e pc j) ∧ (∀ i, i < k → wn_G x y e pc j ≤ wn_G x y e pc i ∧ (wn_G x y e pc i = wn_G x y e pc j → j ≤ i)) ∧ x10 = nI (wn_sm (fun i => if wn_G x y e pc i = wn_G x y e pc j then 1 else 0) k) ∧ x15 = nI (wn_vx x y j + 3 * wn_vy x y j) ∧
    ((x14 = 1 ∧ ∃ i, i < k ∧ wn_G x y e pc i = wn_G x y e pc j ∧ wn_vx x y i = wn_vy x y i) ∨ (x14 = 0 ∧ ∀ i, i < k → wn_G x y e pc i = wn_G x y e pc j → wn_vx x y i ≠ wn_vy x y i)))
/-- with after k pairs -/
def wn_iw (x y e : Nat) (pc : Nat → Nat) (k : Nat) (x13 : Int32) : Prop :=
  (x13 = -6 ∧ ∀ i, i < k → wn_vy x y i = 2 → 50000 ≤ wn_G x y e pc i) ∨
  (∃ j, j < k ∧ wn_vy x y j = 2 ∧ wn_G x y e pc j < 50000 ∧ x13 = nI (wn_G x y e pc j) ∧ ∀ i, i < k → wn_vy x y i = 2 → wn_G x y e pc j ≤ wn_G x y e pc i)
def wn_io (x y e : Nat) (pc : Nat → Nat) (k : Nat) (x11 : Int32) : Prop := x11 = nI (wn_sm (fun i => if wn_G x y e pc i < 50000 then 1 else 0) k)
def wn_iu (x y e : Nat) (pc : Nat → Nat) (bd : Int32) (k : Nat) (x12 : Int32) : Prop := x12 = nI (wn_sm (fun i => if wn_G x y e pc i < 50000 ∧ ¬ bd < nI (wn_G x y e pc i) then 1 else 0) k)
/-- a pair that is forbidden changes nothing -/
theorem wn_il_no {x y e : Nat} {pc : Nat → Nat} {k : Nat} {x9 x10 x14 x15 : Int32} (h : wn_il x y e pc k x9 x10 x14 x15) (hG : 50000 ≤ wn_G x y e pc k) : wn_il x y e pc (k + 1) x9 x10 x14 x15 := by
  rcases h with ⟨h1, h2, h3, h4⟩ | ⟨j, h1, h2, h3, h4, h5, h6, h7⟩
  · exact Or.inl ⟨h1, h2, h3, lt_s h4 hG⟩
  · refine Or.inr ⟨j, by omega, h2, h3, lt_s h4 ⟨by omega, fun z => absurd z (by omega)⟩, ?_, h6, ?_⟩
    · rw [h5]
      show _ = nI (wn_sm _ k + if wn_G x y e pc k = wn_G x y e pc j then 1 else 0)
      rw [if_neg (by omega)]
      rfl
    · rcases h7 with ⟨g1, i, g2, g3, g4⟩ | ⟨g1, g2⟩
      · exact Or.inl ⟨g1, i, by omega, g3, g4⟩
      · exact Or.inr ⟨g1, lt_s g2 (fun z => absurd z (by omega))⟩
theorem wn_iw_no {x y e : Nat} {pc : Nat → Nat} {k : Nat} {x13 : Int32} (h : wn_iw x y e pc k x13) (hG : wn_vy x y k = 2 → 50000 ≤ wn_G x y e pc k) : wn_iw x y e pc (k + 1) x13 := by
  rcases h with ⟨h1, h2⟩ | ⟨j, h1, h2, h3, h4, h5⟩
  · exact Or.inl ⟨h1, lt_s h2 hG⟩
  · exact Or.inr ⟨j, by omega, h2, h3, h4, lt_s h5 (fun z => by have := hG z; omega)⟩
section
variable {post : Int32 → St0 → Prop} {mc ms kc ks : Nat} {J : Int32 → Int32 → Int32 → Int32 → Int32 → Int32 → Int32 → Int32 → Prop} {x1 x2 x4 x6 x7 x8 x9 x10 x11 x12 x13 x14 x15 : Int32} {t0 t1 t2 t3 t4 : Int32} {b1 b2 b3 b4 b5 b6 b7 b8 b9 b10 b11 : Nat → Int32} {x y e : Nat} {pc : Nat → Nat}
theorem wn_ab3 (a b : Nat) : nI a + 3 * nI b = nI (a + 3 * b) := by
  show nI a + nI 3 * nI b = nI (a + 3 * b)
  rw [pk_mul, nI_add]
theorem wn_l332 {k : Nat} (hk : k < 9) (H : ∀ x14', ((x14' = 1 ∧ wn_vx x y k = wn_vy x y k) ∨ (x14' = 0 ∧ wn_vx x y k ≠ wn_vy x y k)) → J (nI (wn_G x y e pc k)) 1 x11 x12 x13 x14' (nI (wn_vx x y k + 3 * wn_vy x y k)) (nI (k + 1))) :
    wL_lawOf_332 post mc ms J x1 x2 x4 x6 x7 x8 x11 x12 x13 (nI k) (nI (wn_vx x y k)) (nI (wn_vy x y k)) (nI (wn_G x y e pc k)) kc ks t0 t1 t2 t3 t4 b1 b2 b3 b4 b5 b6 b7 b8 b9 b10 b11 := by
  obtain ⟨h1, h2, _⟩ := wn_v_s (x := x) (y := y) hk
  refine pk_eq (wn_vx x y k) (wn_vy x y k) (fun z => nm_r (wn_ab3 _ _) (nm_r (nI_1 k) (H 1 (Or.inl ⟨rfl, z⟩)))) (fun z => nm_r (wn_ab3 _ _) (nm_r (nI_1 k) (H 0 (Or.inr ⟨rfl, z⟩))))
theorem wn_lC {k : Nat} (hk : k < 9) (hS : wn_G x y e pc k < 50000) (hI : wn_il x y e pc k x9 x10 x14 x15)
    (H : ∀ x9' x10' x14' x15', wn_il x y e pc (k + 1) x9' x10' x14' x15' → J x9' x10' x11 x12 x13 x14' x15' (nI (k + 1))) :
    wL_lawOf_293 post mc ms J x1 x2 x4 x6 x7 x8 x9 x10 x11 x12 x13 x14 x15 (nI k) (nI (wn_vx x y k)) (nI (wn_vy x y k)) (nI (wn_G x y e pc k)) kc ks t0 t1 t2 t3 t4 b1 b2 b3 b4 b5 b6 b7 b8 b9 b10 b11 := by
  obtain ⟨v1, v2, _⟩ := wn_v_s (x := x) (y := y) hk
  have new : (∀ i, i < k → wn_G x y e pc k < wn_G x y e pc i) → wL_lawOf_332 post mc ms J x1 x2 x4 x6 x7 x8 x11 x12 x13 (nI k) (nI (wn_vx x y k)) (nI (wn_vy x y k)) (nI (wn_G x y e pc k)) kc ks t0 t1 t2 t3 t4 b1 b2 b3 b4 b5 b6 b7 b8 b9 b10 b11 := by
    intro hlt
    refine wn_l332 hk (fun x14' h14 => H _ _ _ _ (Or.inr ⟨k, by omega, hS, rfl, lt_s (fun i hi => ⟨Nat.le_of_lt (hlt i hi), fun z => absurd z (by have := hlt i hi; omega)⟩) ⟨Nat.le_refl _, fun _ => Nat.le_refl _⟩, ?_, rfl, ?_⟩))
    · show 1 = nI (wn_sm _ k + if wn_G x y e pc k = wn_G x y e pc k then 1 else 0)
      rw [if_pos rfl, wn_sm_0 k (fun u hu => if_neg (by have := hlt u hu; omega))]
      rfl
    · rcases h14 with ⟨g1, g2⟩ | ⟨g1, g2⟩
      · exact Or.inl ⟨g1, k, by omega, rfl, g2⟩
      · exact Or.inr ⟨g1, lt_s (fun i hi z => absurd z (by have := hlt i hi; omega)) (fun _ => g2)⟩
  rcases hI with ⟨h1, h2, h3, h4⟩ | ⟨j, h1, h2, h3, h4, h5, h6, h7⟩
  · have n6 : ¬ nI (wn_G x y e pc k) = x9 := by
      rw [h1]
      exact wn_n6 hS
    refine br_f n6 (br_f n6 (br_t (by rw [h1]; decide) (new (fun i hi => ?_))))
    have := h4 i hi
    omega
  · subst h3
    rcases Nat.lt_trichotomy (wn_G x y e pc k) (wn_G x y e pc j) with c | c | c
    · have n6 : ¬ nI (wn_G x y e pc k) = nI (wn_G x y e pc j) := by
        rw [nI_eq (by omega) (by omega)]
        omega
      refine br_f n6 (br_f n6 (br_f (nI_pos (by omega)) (br_f (nI_ge c (by omega)) (new (fun i hi => ?_)))))
      have := (h4 i hi).1
      omega
    · have eq : nI (wn_G x y e pc k) = nI (wn_G x y e pc j) := by rw [c]
      have fin : ∀ x14', ((x14' = 1 ∧ ∃ i, i < k + 1 ∧ wn_G x y e pc i = wn_G x y e pc j ∧ wn_vx x y i = wn_vy x y i) ∨ (x14' = 0 ∧ ∀ i, i < k + 1 → wn_G x y e pc i = wn_G x y e pc j → wn_vx x y i ≠ wn_vy x y i)) →
          wL_lawOf_310 post mc ms J x1 x2 x4 x6 x7 x8 (nI (wn_G x y e pc j)) x10 x11 x12 x13 x14' x15 (nI k) (nI (wn_vx x y k)) (nI (wn_vy x y k)) (nI (wn_G x y e pc k)) kc ks t0 t1 t2 t3 t4 b1 b2 b3 b4 b5 b6 b7 b8 b9 b10 b11 := by
        intro x14' h14
        refine br_t eq (nm_e (br_f (nI_pos (by omega)) (br_t (by rw [eq]; exact nI_le (Nat.le_refl _) (by omega)) (nm_r (nI_1 k) (H _ _ _ _ (Or.inr ⟨j, by omega, h2, rfl, lt_s h4 ⟨by omega, fun _ => by omega⟩, ?_, h6, h14⟩))))))
        rw [h5, nI_1]
        show _ = nI (wn_sm _ k + if wn_G x y e pc k = wn_G x y e pc j then 1 else 0)
        rw [if_pos c]
      refine br_t eq (pk_eq (wn_vx x y k) (wn_vy x y k) (fun z => fin 1 (Or.inl ⟨rfl, k, by omega, c, z⟩)) (fun z => fin x14 ?_))
      rcases h7 with ⟨g1, i, g2, g3, g4⟩ | ⟨g1, g2⟩
      · exact Or.inl ⟨g1, i, by omega, g3, g4⟩
      · exact Or.inr ⟨g1, lt_s g2 (fun _ => z)⟩
    · have n6 : ¬ nI (wn_G x y e pc k) = nI (wn_G x y e pc j) := by
        rw [nI_eq (by omega) (by omega)]
        omega
      refine br_f n6 (br_f n6 (br_f (nI_pos (by omega)) (br_t (nI_le (by omega) (by omega)) (nm_r (nI_1 k) (H _ _ _ _ (Or.inr ⟨j, by omega, h2, rfl, lt_s h4 ⟨by omega, fun z => absurd z (by omega)⟩, ?_, h6, ?_⟩))))))
      · rw [h5]
        show _ = nI (wn_sm _ k + if wn_G x y e pc k = wn_G x y e pc j then 1 else 0)
        rw [if_neg (by omega)]
        rfl
      · rcases h7 with ⟨g1, i, g2, g3, g4⟩ | ⟨g1, g2⟩
        · exact Or.inl ⟨g1, i, by omega, g3, g4⟩
        · exact Or.inr ⟨g1, lt_s g2 (fun z => absurd z (by omega))⟩
theorem wn_lB {k : Nat} (hk : k < 9) (hS : wn_G x y e pc k < 50000) (hI : wn_iw x y e pc k x13)
    (H : ∀ x13', wn_iw x y e pc (k + 1) x13' → wL_lawOf_293 post mc ms J x1 x2 x4 x6 x7 x8 x9 x10 x11 x12 x13' x14 x15 (nI k) (nI (wn_vx x y k)) (nI (wn_vy x y k)) (nI (wn_G x y e pc k)) kc ks t0 t1 t2 t3 t4 b1 b2 b3 b4 b5 b6 b7 b8 b9 b10 b11) :
    wL_lawOf_271 post mc ms J x1 x2 x4 x6 x7 x8 x9 x10 x11 x12 x13 x14 x15 (nI k) (nI (wn_vx x y k)) (nI (wn_vy x y k)) (nI (wn_G x y e pc k)) kc ks t0 t1 t2 t3 t4 b1 b2 b3 b4 b5 b6 b7 b8 b9 b10 b11 := by
  obtain ⟨v1, v2, _⟩ := wn_v_s (x := x) (y := y) hk
  refine pk_eq (wn_vy x y k) 2 (fun z => ?_) (fun z => H x13 (wn_iw_no hI (fun w => absurd w z)))
  rcases hI with ⟨h1, h2⟩ | ⟨j, h1, h2, h3, h4, h5⟩
  · refine br_t (by rw [h1]; decide) (H _ (Or.inr ⟨k, by omega, z, hS, rfl, lt_s (fun i hi w => ?_) (fun _ => Nat.le_refl _)⟩))
    have := h2 i hi w
    omega
  · subst h4
    refine br_f (nI_pos (by omega)) (pk_le (wn_G x y e pc j) (wn_G x y e pc k) (fun c => H _ (Or.inr ⟨j, by omega, h2, h3, rfl, lt_s h5 (fun _ => c)⟩)) (fun c => H _ (Or.inr ⟨k, by omega, z, hS, rfl, lt_s (fun i hi w => ?_) (fun _ => Nat.le_refl _)⟩)))
    have := h5 i hi w
    omega
theorem wn_lA {k c : Nat} (hk : k < 9) (hc : c ≤ 20) (hx8 : x8 = nI e) (he : e < 20) (hpc : pc (wn_vx x y k + 3 * wn_vy x y k) = c) (hI : wn_il x y e pc k x9 x10 x14 x15) (hw : wn_iw x y e pc k x13) (ho : wn_io x y e pc k x11) (hu : wn_iu x y e pc x4 k x12)
    (H : ∀ x9' x10' x11' x12' x13' x14' x15', wn_il x y e pc (k + 1) x9' x10' x14' x15' → wn_iw x y e pc (k + 1) x13' → wn_io x y e pc (k + 1) x11' → wn_iu x y e pc x4 (k + 1) x12' → J x9' x10' x11' x12' x13' x14' x15' (nI (k + 1))) {z0 : Int32} (hz : z0 = nI (if wn_vx x y k = 1 then e else 0)) :
    wL_lawOf_248 post mc ms J x1 x2 x4 x6 x7 x8 x9 x10 x11 x12 x13 x14 x15 (nI k) (nI (wn_vx x y k)) (nI (wn_vy x y k)) (nI c) z0 (nI c) kc ks t0 t1 t2 t3 t4 b1 b2 b3 b4 b5 b6 b7 b8 b9 b10 b11 := by
  subst hz
  have eG : wn_G x y e pc k = (if wn_vx x y k = 1 then e else 0) + wn_am c := by
    unfold wn_G wn_g
    rw [hpc]
  have hex : (if wn_vx x y k = 1 then e else 0) < 20 := by
    split
    all_goals omega
  unfold wn_io at ho
  unfold wn_iu at hu
  refine nm_r (nI_add _ _) (pk_le 20 c (fun z => nm_r (nI_1 k) ?_) (fun z => nm_e ?_))
  · have hG : 50000 ≤ wn_G x y e pc k := by
      have am : wn_am c = 100000 := by
        unfold wn_am
        rw [if_pos (by omega)]
      omega
    refine H _ _ _ _ _ _ _ (wn_il_no hI hG) (wn_iw_no hw (fun _ => hG)) ?_ ?_
    · rw [ho]
      show _ = nI (wn_sm _ k + if wn_G x y e pc k < 50000 then 1 else 0)
      rw [if_neg (by omega)]
      rfl
    · rw [hu]
      show _ = nI (wn_sm _ k + if wn_G x y e pc k < 50000 ∧ ¬ x4 < nI (wn_G x y e pc k) then 1 else 0)
      rw [if_neg (fun w => absurd w.1 (by omega))]
      rfl
  · have am : wn_am c = c := by
      unfold wn_am
      rw [if_neg (by omega)]
    rw [am] at eG
    have eS : c + (if wn_vx x y k = 1 then e else 0) = wn_G x y e pc k := by omega
    have hS : wn_G x y e pc k < 50000 := by omega
    rw [eS]
    have ho' : wn_io x y e pc (k + 1) (x11 + 1) := by
      unfold wn_io
      show _ = nI (wn_sm _ k + if wn_G x y e pc k < 50000 then 1 else 0)
      rw [if_pos hS, ho, nI_1]
    have hu' : ∀ b, (x4 < nI (wn_G x y e pc k) ∧ b = x12) ∨ (¬ x4 < nI (wn_G x y e pc k) ∧ b = x12 + 1) → wn_iu x y e pc x4 (k + 1) b := by
      intro b hb
      unfold wn_iu
      show _ = nI (wn_sm _ k + if wn_G x y e pc k < 50000 ∧ ¬ x4 < nI (wn_G x y e pc k) then 1 else 0)
      rcases hb with ⟨g1, g2⟩ | ⟨g1, g2⟩
      · rw [if_neg (fun w => w.2 g1), g2, hu]
        rfl
      · rw [if_pos ⟨hS, g1⟩, g2, hu, nI_1]
    refine br_c (fun g => ?_) (fun g => nm_e ?_)
    · exact wn_lB hk hS hw (fun x13' h13 => wn_lC hk hS hI (fun x9' x10' x14' x15' hl => H _ _ _ _ _ _ _ hl h13 ho' (hu' _ (Or.inl ⟨g, rfl⟩))))
    · exact wn_lB hk hS hw (fun x13' h13 => wn_lC hk hS hI (fun x9' x10' x14' x15' hl => H _ _ _ _ _ _ _ hl h13 ho' (hu' _ (Or.inr ⟨g, rfl⟩))))
end
end
section
/-! ===== the answers against the law's nine pairs ===== -/
def wn_tf (x y : Nat) (co pc : Nat → Nat) (r : Int32) : Prop := (r = 0 ∧ wn_none 1 x y co pc (fun _ => 0) (fun _ => 2)) ∨ (∃ q, wn_best 1 x y co pc (fun _ => 0) (fun _ => 2) q ∧ r = nI (wn_cnt 1 x y co pc (wn_T0 1 x y co pc q)))
def wn_vf (x y : Nat) (co pc : Nat → Nat) (v : Nat) (r : Int32) : Prop := (r = -6 ∧ wn_none 1 x y co pc (fun _ => 0) (fun _ => 2)) ∨ (∃ q, wn_best 1 x y co pc (fun _ => 0) (fun _ => 2) q ∧ r = nI (q v))
def wn_gf (x y : Nat) (co pc : Nat → Nat) (a b : Nat) (r : Int32) : Prop := (r = 0 ∧ wn_none 1 x y co pc (fun _ => 0) (fun _ => 2)) ∨ (∃ q, wn_best 1 x y co pc (fun _ => 0) (fun _ => 2) q ∧ ((r = 1 ∧ ∃ p, wn_ok (fun _ => 0) (fun _ => 2) p ∧ p a = p b ∧ wn_T0 1 x y co pc p = wn_T0 1 x y co pc q) ∨ (r = 0 ∧ ∀ p, wn_ok (fun _ => 0) (fun _ => 2) p → p a = p b → wn_T0 1 x y co pc p ≠ wn_T0 1 x y co pc q)))
/-- what the law's variables say of the answers -/
def wn_fin (x y e : Nat) (pc : Nat → Nat) (x9 x10 x14 x15 : Int32) : Prop :=
  (∀ r s, wn_LR 1 x y (wn_co x e) pc (fun _ => 0) (fun _ => 2) r s → r = x9) ∧ (∀ r, wn_tf x y (wn_co x e) pc r → r = 81 * x10) ∧ (∀ r, wn_gf x y (wn_co x e) pc x y r → r = x14) ∧
  ((0 ≤ x9 ∧ (∀ r, wn_vf x y (wn_co x e) pc x r → r = x15 - x15 / 3 * 3) ∧ (∀ r, wn_vf x y (wn_co x e) pc y r → r = x15 / 3) ∧ (∀ z r, z < 6 → z ≠ x → z ≠ y → wn_vf x y (wn_co x e) pc z r → r = 0) ∧ (∀ z r, wn_gf x y (wn_co x e) pc z z r → r = 1)) ∨
   (¬ 0 ≤ x9 ∧ (∀ v r, wn_vf x y (wn_co x e) pc v r → r = -6) ∧ (∀ z r, wn_gf x y (wn_co x e) pc z z r → r = 0)))
theorem wn_il_fin {x y e : Nat} {pc : Nat → Nat} {x9 x10 x14 x15 : Int32} (hx : x < 6) (hy : y < 6) (hxy : x ≠ y) (he : e < 20) (h : wn_il x y e pc 9 x9 x10 x14 x15) : wn_fin x y e pc x9 x10 x14 x15 := by
  rcases h with ⟨h1, h2, h3, h4⟩ | ⟨j, h1, h2, h3, h4, h5, h6, h7⟩
  · have nb : ∀ q, wn_best 1 x y (wn_co x e) pc (fun _ => 0) (fun _ => 2) q → False := by
      intro q hq
      obtain ⟨j, g1, g2, g3, _⟩ := wn_best1 hx hy hxy he hq
      have := h4 j g1
      omega
    refine ⟨fun r s hr => ?_, fun r hr => ?_, fun r hr => ?_, Or.inr ⟨by rw [h1]; decide, fun v r hr => ?_, fun z r hr => ?_⟩⟩
    · rcases hr with ⟨g1, _⟩ | ⟨q, hq, _⟩
      · rw [g1, h1]
      · exact absurd hq (nb q)
    · rcases hr with ⟨g1, _⟩ | ⟨q, hq, _⟩
      · rw [g1, h2]
        decide
      · exact absurd hq (nb q)
    · rcases hr with ⟨g1, _⟩ | ⟨q, hq, _⟩
      · rw [g1, h3]
      · exact absurd hq (nb q)
    · rcases hr with ⟨g1, _⟩ | ⟨q, hq, _⟩
      · exact g1
      · exact absurd hq (nb q)
    · rcases hr with ⟨g1, _⟩ | ⟨q, hq, _⟩
      · exact g1
      · exact absurd hq (nb q)
  · have nn : wn_none 1 x y (wn_co x e) pc (fun _ => 0) (fun _ => 2) → False := by
      intro hn
      have := wn_none1 hx hy hxy he hn j h1
      omega
    have bb : ∀ q, wn_best 1 x y (wn_co x e) pc (fun _ => 0) (fun _ => 2) q → wn_T0 1 x y (wn_co x e) pc q = wn_G x y e pc j ∧ q x = wn_vx x y j ∧ q y = wn_vy x y j ∧ ∀ z, z < 6 → z ≠ x → z ≠ y → q z = 0 := by
      intro q hq
      obtain ⟨j', g1, g2, g3, g4, g5, g6, g7⟩ := wn_best1 hx hy hxy he hq
      have k1 := g4 j h1
      have k2 := h4 j' g1
      have ej : j' = j := by
        have e1 : wn_G x y e pc j' = wn_G x y e pc j := by omega
        have k3 := k1.2 e1.symm
        have k4 := k2.2 e1
        omega
      subst ej
      exact ⟨g2, g5, g6, g7⟩
    obtain ⟨v1, v2, _⟩ := wn_v_s (x := x) (y := y) h1
    refine ⟨fun r s hr => ?_, fun r hr => ?_, fun r hr => ?_, Or.inl ⟨by rw [h3]; exact nI_pos' (by omega), fun r hr => ?_, fun r hr => ?_, fun z r hz hzx hzy hr => ?_, fun z r hr => ?_⟩⟩
    · rcases hr with ⟨_, hn⟩ | ⟨q, hq, g1, _⟩
      · exact absurd hn nn
      · rw [g1, h3, (bb q hq).1]
    · rcases hr with ⟨_, hn⟩ | ⟨q, hq, g1⟩
      · exact absurd hn nn
      · rw [g1, (bb q hq).1, wn_cnt1 hx hy hxy he, h5]
        show _ = nI 81 * _
        rw [pk_mul]
        have es : wn_sm (fun k => if wn_G x y e pc k ≤ wn_G x y e pc j then 1 else 0) 9 = wn_sm (fun i => if wn_G x y e pc i = wn_G x y e pc j then 1 else 0) 9 := wn_sm_cg 9 (fun u hu => by
          have := (h4 u hu).1
          by_cases c : wn_G x y e pc u = wn_G x y e pc j
          · rw [if_pos c, if_pos (by omega)]
          · rw [if_neg c, if_neg (by omega)])
        rw [es]
    · rcases hr with ⟨_, hn⟩ | ⟨q, hq, g⟩
      · exact absurd hn nn
      · have eq := (bb q hq).1
        rcases g with ⟨g1, p, g2, g3, g4⟩ | ⟨g1, g2⟩
        · rcases h7 with ⟨k1, _⟩ | ⟨k1, k2⟩
          · rw [g1, k1]
          · exfalso
            have p1 : p x ≤ 2 := (g2 x hx).2
            have p2 : p y ≤ 2 := (g2 y hy).2
            obtain ⟨w1, w2, w3⟩ := wn_kp_s (x := x) (y := y) (a := p x) (b := p y) (by omega) (by omega)
            refine k2 _ w1 ?_ (by omega)
            rw [← wn_T01 hx hy he g2, g4, eq]
        · rcases h7 with ⟨k1, i, k2, k3, k4⟩ | ⟨k1, k2⟩
          · exfalso
            obtain ⟨p, w1, w2, w3, w4, _⟩ := wn_take1 (pc := pc) hx hy hxy he wn_ok0 k2
            exact g2 p w1 (by omega) (by omega)
          · rw [g1, k1]
    · rcases hr with ⟨_, hn⟩ | ⟨q, hq, g1⟩
      · exact absurd hn nn
      · rw [g1, h6, (bb q hq).2.1]
        show _ = _ - _ / nI 3 * nI 3
        rw [pk_rem (by omega) (by decide) (by decide)]
        congr 1
        omega
    · rcases hr with ⟨_, hn⟩ | ⟨q, hq, g1⟩
      · exact absurd hn nn
      · rw [g1, h6, (bb q hq).2.2.1]
        show _ = _ / nI 3
        rw [pk_div (by omega) (by decide) (by decide)]
        congr 1
        omega
    · rcases hr with ⟨_, hn⟩ | ⟨q, hq, g1⟩
      · exact absurd hn nn
      · rw [g1, (bb q hq).2.2.2 z hz hzx hzy]
        rfl
    · rcases hr with ⟨_, hn⟩ | ⟨q, hq, g⟩
      · exact absurd hn nn
      · rcases g with ⟨g1, _⟩ | ⟨_, g2⟩
        · exact g1
        · exact absurd rfl (g2 q hq.1 rfl)
theorem wn_io_ans {x y e : Nat} {pc : Nat → Nat} {x11 : Int32} (hx : x < 6) (hy : y < 6) (hxy : x ≠ y) (he : e < 20) (h : wn_io x y e pc 9 x11) : nI (wn_cnt 1 x y (wn_co x e) pc 49999) = 81 * x11 := by
  unfold wn_io at h
  rw [wn_cnt1 hx hy hxy he, h]
  show _ = nI 81 * _
  rw [pk_mul]
  have es : wn_sm (fun k => if wn_G x y e pc k ≤ 49999 then 1 else 0) 9 = wn_sm (fun i => if wn_G x y e pc i < 50000 then 1 else 0) 9 := wn_sm_cg 9 (fun u hu => by
    by_cases c : wn_G x y e pc u < 50000
    · rw [if_pos c, if_pos (by omega)]
    · rw [if_neg c, if_neg (by omega)])
  rw [es]
theorem wn_iu_neg {x y e : Nat} {pc : Nat → Nat} {bd x12 : Int32} (h : wn_iu x y e pc bd 9 x12) (hb : ¬ 0 ≤ bd) : 0 = 81 * x12 := by
  unfold wn_iu at h
  rw [wn_sm_0 9 (fun u hu => if_neg (fun w => ?_))] at h
  · rw [h]
    decide
  · have h1 := nI_pos' (n := wn_G x y e pc u) (by omega)
    have h2 := w.2
    rw [Int32.le_iff_toInt_le] at h1 hb
    rw [Int32.lt_iff_toInt_lt] at h2
    omega
theorem wn_iu_ans {x y e b : Nat} {pc : Nat → Nat} {bd x12 : Int32} (hx : x < 6) (hy : y < 6) (hxy : x ≠ y) (he : e < 20) (h : wn_iu x y e pc bd 9 x12) (hb : b < 2 ^ 31) (e1 : bd = nI b) : nI (wn_cnt 1 x y (wn_co x e) pc (min b 49999)) = 81 * x12 := by
  unfold wn_iu at h
  subst e1
  rw [wn_cnt1 hx hy hxy he, h]
  show _ = nI 81 * _
  rw [pk_mul]
  have es : wn_sm (fun k => if wn_G x y e pc k ≤ min b 49999 then 1 else 0) 9 = wn_sm (fun i => if wn_G x y e pc i < 50000 ∧ ¬ nI b < nI (wn_G x y e pc i) then 1 else 0) 9 := wn_sm_cg 9 (fun u hu => by
    by_cases c : wn_G x y e pc u < 50000
    · by_cases c2 : wn_G x y e pc u ≤ b
      · rw [if_pos (by omega), if_pos ⟨c, nI_nlt c2 hb⟩]
      · rw [if_neg (by omega), if_neg (fun w => w.2 (nI_lt (by omega) (by omega)))]
    · rw [if_neg (by omega), if_neg (fun w => c w.1)])
  rw [es]
theorem wn_ok_f1 {v k : Nat} {p : Nat → Nat} (hv : v < 6) (hk : k < 3) : wn_ok (wn_set (fun _ => 0) v k) (wn_set (fun _ => 2) v k) p ↔ wn_ok (fun _ => 0) (fun _ => 2) p ∧ p v = k := by
  constructor
  · intro h
    have e : p v = k := by
      have := h v hv
      rw [wn_set_s, wn_set_s] at this
      omega
    refine ⟨fun u hu => ?_, e⟩
    by_cases g : u = v
    · rw [g, e]
      show 0 ≤ k ∧ k ≤ 2
      omega
    · have := h u hu
      rw [wn_set_n g, wn_set_n g] at this
      exact this
  · rintro ⟨h, e⟩ u hu
    by_cases g : u = v
    · rw [g, wn_set_s, wn_set_s]
      omega
    · rw [wn_set_n g, wn_set_n g]
      exact h u hu
theorem wn_iw_ans {x y e : Nat} {pc : Nat → Nat} {x13 r : Int32} {s : Nat → Int32} (hx : x < 6) (hy : y < 6) (hxy : x ≠ y) (he : e < 20) (h : wn_iw x y e pc 9 x13) (hr : wn_LR 1 x y (wn_co x e) pc (wn_set (fun _ => 0) y 2) (wn_set (fun _ => 2) y 2) r s) : r = x13 := by
  have tk : ∀ k, k < 9 → wn_vy x y k = 2 → ∃ p, wn_ok (wn_set (fun _ => 0) y 2) (wn_set (fun _ => 2) y 2) p ∧ wn_T0 1 x y (wn_co x e) pc p = wn_G x y e pc k := by
    intro k hk h2
    obtain ⟨p, w1, w2, w3, w4, _⟩ := wn_take1 (pc := pc) hx hy hxy he wn_ok0 hk
    exact ⟨p, (wn_ok_f1 hy (by decide)).mpr ⟨w1, by omega⟩, w4⟩
  rcases hr with ⟨g1, g2⟩ | ⟨q, ⟨g1, g2, g3⟩, g4, _⟩
  · rcases h with ⟨h1, h2⟩ | ⟨j, h1, h2, h3, h4, h5⟩
    · rw [g1, h1]
    · exfalso
      obtain ⟨p, w1, w2⟩ := tk j h1 h2
      have := g2 p w1
      omega
  · obtain ⟨o1, o2⟩ := (wn_ok_f1 hy (by decide)).mp g1
    have p1 : q x ≤ 2 := (o1 x hx).2
    obtain ⟨w1, w2, w3⟩ := wn_kp_s (x := x) (y := y) (a := q x) (b := q y) (by omega) (by omega)
    have eT := wn_T01 (y := y) (pc := pc) hx hy he o1
    rcases h with ⟨h1, h2⟩ | ⟨j, h1, h2, h3, h4, h5⟩
    · exfalso
      have := h2 _ w1 (by omega)
      omega
    · have k1 := h5 _ w1 (by omega)
      obtain ⟨p, z1, z2⟩ := tk j h1 h2
      have k2 := (g3 p z1).1
      rw [g4, h4]
      congr 1
      omega
theorem wn_l0_ans {x y e : Nat} {pc : Nat → Nat} {r : Int32} {s : Nat → Int32} (hx : x < 6) (he : e < 20) (hr : wn_LR 0 x y (wn_co x e) pc (fun _ => 0) (fun _ => 2) r s) : r = 0 := by
  have e0 : wn_T0 0 x y (wn_co x e) pc (fun _ => 0) = 0 := by
    rw [wn_T00 hx he wn_ok0, if_neg (by decide)]
  rcases hr with ⟨g1, g2⟩ | ⟨q, ⟨g1, g2, g3⟩, g4, _⟩
  · have := g2 _ wn_ok0
    omega
  · have := (g3 _ wn_ok0).1
    rw [g4, show wn_T0 0 x y (wn_co x e) pc q = 0 by omega]
    rfl
theorem wn_w0_ans {x y e : Nat} {pc : Nat → Nat} {r : Int32} {s : Nat → Int32} (hx : x < 6) (he : e < 20) (hr : wn_LR 0 x y (wn_co x e) pc (wn_set (fun _ => 0) x 1) (wn_set (fun _ => 2) x 1) r s) : r = nI e := by
  rcases hr with ⟨g1, g2⟩ | ⟨q, ⟨g1, g2, g3⟩, g4, _⟩
  · exfalso
    have o1 : wn_ok (fun _ => 0) (fun _ => 2) (wn_set (fun _ => 0) x 1) := by
      intro u hu
      by_cases g : u = x
      · rw [g, wn_set_s]
        show 0 ≤ 1 ∧ 1 ≤ 2
        omega
      · rw [wn_set_n g]
        show 0 ≤ 0 ∧ 0 ≤ 2
        omega
    have := g2 _ ((wn_ok_f1 hx (by decide)).mpr ⟨o1, wn_set_s⟩)
    rw [wn_T00 hx he o1, wn_set_s, if_pos rfl] at this
    omega
  · obtain ⟨o1, o2⟩ := (wn_ok_f1 hx (by decide)).mp g1
    rw [g4, wn_T00 hx he o1, if_pos o2]
end
section
section
variable {tb rd fr fo be : Int32} {a1 a2 a3 a4 a5 a6 a7 a8 a9 a10 a11 : Nat → Int32}
theorem wn_drop {post : Int32 → St2 → Prop} {x y : Nat} {co pc : Nat → Nat} (hp : wn_pic 1 x y co pc tb rd fr a1 a2 a3 a4 a5 a6)
    (H : wn_pic 0 x y co pc (nI 0) 0 fr a1 a2 a3 a4 a5 a6 → post (nI 0) (nI 0, 0, fr, fo, be, a1, a2, a3, a4, a5, a6, a7, a8, a9, a10, a11)) : wpX_drop post (tb, rd, fr, fo, be, a1, a2, a3, a4, a5, a6, a7, a8, a9, a10, a11) := by
  obtain ⟨hm, htb, hx, hy, hxy, h2, h3, h1, h4, _⟩ := hp
  subst htb
  exact br_f (by decide) (nm_r (nI_pred 0) (H ⟨by decide, rfl, hx, hy, hxy, h2, h3, h1, h4, fun z => absurd rfl z⟩))
theorem wn_upTo' {post : Int32 → St2 → Prop} {m x y : Nat} {co pc : Nat → Nat} {p0 : Int32} (hp : wn_pic m x y co pc tb rd fr a1 a2 a3 a4 a5 a6)
    (H : ∀ rd' fr' fo' be' s5 s6 s7 s8 s9 s10 s11 r, wn_pic m x y co pc tb rd' fr' a1 a2 a3 a4 s5 s6 → ((¬ 0 ≤ p0 ∧ r = 0) ∨ (∃ b, b < 2 ^ 31 ∧ p0 = nI b ∧ r = nI (wn_cnt m x y co pc (min b 49999)))) → post r (tb, rd', fr', fo', be', a1, a2, a3, a4, s5, s6, s7, s8, s9, s10, s11)) :
    wpX_upTo post (tb, rd, fr, fo, be, a1, a2, a3, a4, a5, a6, a7, a8, a9, a10, a11) p0 :=
  wn_upTo hp (fun z => H _ _ _ _ _ _ _ _ _ _ _ 0 hp (Or.inl ⟨z, rfl⟩)) (fun b hb e rd' fr' fo' be' s5 s6 s7 s8 s9 s10 s11 h => H rd' fr' fo' be' s5 s6 s7 s8 s9 s10 s11 _ h (Or.inr ⟨b, hb, e, rfl⟩))
end
section
variable {post : Int32 → St0 → Prop} {mc ms kc ks : Nat} {x1 x2 x4 x6 x7 x8 x9 x10 x11 x12 x13 x14 x15 x16 z0 z1 : Int32} {tb rd fr fo be : Int32} {a1 a2 a3 a4 a5 a6 a7 a8 a9 a10 a11 : Nat → Int32} {x y e : Nat} {pc : Nat → Nat}
theorem wn_l583 (H : post 1 ()) (hp : wn_pic 1 x y (wn_co x e) pc tb rd fr a1 a2 a3 a4 a5 a6) (he : e < 20) (h6 : x6 = nI x) (h8 : x8 = nI e) (hz : z1 = z0) : wL_lawOf_583 post mc ms x6 x8 z0 z1 kc ks tb rd fr fo be a1 a2 a3 a4 a5 a6 a7 a8 a9 a10 a11 := by
  have hx := hp.2.2.1
  have hy := hp.2.2.2.1
  have hxy := hp.2.2.2.2.1
  refine br_t hz ?_
  refine wn_drop hp (fun hp0 => br_t rfl ?_)
  refine wn_least hp0 (fun rd' fr' fo' be' s5 s6 s7 s8 s9 s10 s11 r p1 f1 => br_t (wn_l0_ans hx he f1) ?_)
  refine wn_leastWith (k := 1) p1 hx (by decide) h6 rfl (fun rd' fr' fo' be' s5 s6 s7 s8 s9 s10 s11 r p2 f2 => br_t ((wn_w0_ans hx he f2).trans h8.symm) ?_)
  exact wn_allowed p2 (fun rd' fr' fo' be' s5 s6 s7 s8 s9 s10 s11 p3 => br_t (by rw [wn_cnt0 hx hy hxy he]; rfl) H)
theorem wn_l573 (H : post 1 ()) (hp : wn_pic 1 x y (wn_co x e) pc tb rd fr a1 a2 a3 a4 a5 a6) (he : e < 20) (h6 : x6 = nI x) (h8 : x8 = nI e) (hz : (0 ≤ x9 → z0 = 0) ∧ (¬ 0 ≤ x9 → z0 = 1)) : wL_lawOf_573 post mc ms x6 x8 x9 z0 kc ks tb rd fr fo be a1 a2 a3 a4 a5 a6 a7 a8 a9 a10 a11 :=
  br_c (fun g => wn_l583 H hp he h6 h8 (hz.1 g)) (fun g => wn_l583 H hp he h6 h8 (hz.2 g))
theorem wn_l553 {z : Nat} (H : post 1 ()) (hp : wn_pic 1 x y (wn_co x e) pc tb rd fr a1 a2 a3 a4 a5 a6) (he : e < 20) (h6 : x6 = nI x) (h8 : x8 = nI e) (hF : wn_fin x y e pc x9 x10 x14 x15) (hz6 : z < 6) (h16 : x16 = nI z) (hz : z1 = z0) : wL_lawOf_553 post mc ms x6 x8 x9 x16 z0 z1 kc ks tb rd fr fo be a1 a2 a3 a4 a5 a6 a7 a8 a9 a10 a11 := by
  refine br_t hz ?_
  refine wn_canAgree hp hz6 hz6 h16 h16 (fun rd' fr' fo' be' s5 s6 s7 s8 s9 s10 s11 r p1 f1 => ?_)
  rcases hF.2.2.2 with ⟨g0, _, _, _, g5⟩ | ⟨g0, _, g3⟩
  · have er := g5 z r f1
    exact br_f (by rw [er]; decide) (wn_l573 H p1 he h6 h8 ⟨fun _ => rfl, fun w => absurd g0 w⟩)
  · have er := g3 z r f1
    exact br_t er (wn_l573 H p1 he h6 h8 ⟨fun w => absurd w g0, fun _ => rfl⟩)
theorem wn_l506 (H : post 1 ()) (hp : wn_pic 1 x y (wn_co x e) pc tb rd fr a1 a2 a3 a4 a5 a6) (he : e < 20) (h8 : x8 = nI e) (hF : wn_fin x y e pc x9 x10 x14 x15) : ∃ n, wL_lawOf_506 post mc ms (nI x) (nI y) x8 x9 kc ks tb rd fr fo be a1 a2 a3 a4 a5 a6 a7 a8 a9 a10 a11 n 0 0 := by
  have hx := hp.2.2.1
  have hy := hp.2.2.2.1
  have hxy := hp.2.2.2.2.1
  refine pk_loop (σ := Nat) (fun n i z => wL_lawOf_506 post mc ms (nI x) (nI y) x8 x9 kc ks tb rd fr fo be a1 a2 a3 a4 a5 a6 a7 a8 a9 a10 a11 n (nI z) (nI i)) (fun i z => z ≤ i ∧ (∀ w, w < z → w = x ∨ w = y) ∧ (z < i → z ≠ x ∧ z ≠ y)) 3 0 0 (by omega) ⟨by omega, fun w hw => absurd hw (by omega), fun w => absurd w (by omega)⟩
    (fun n z h => pk_le 3 3 (fun _ => ?_) (fun z => absurd z (by omega))) (fun n i z hi h hw => pk_le 3 i (fun z => absurd z (by omega)) (fun _ => ?_))
  · obtain ⟨k1, k2, k3⟩ := h
    have z3 : z < 3 := by
      rcases Nat.lt_or_ge z 3 with c | c
      · exact c
      · have w0 := k2 0 (by omega)
        have w1 := k2 1 (by omega)
        have w2 := k2 2 (by omega)
        omega
    have k4 := k3 z3
    refine wn_value hp (show z < 6 by omega) rfl (fun rd' fr' fo' be' s5 s6 s7 s8 s9 s10 s11 r p1 f1 => ?_)
    rcases hF.2.2.2 with ⟨g0, _, _, g4, _⟩ | ⟨g0, g2, _⟩
    · exact br_t g0 (wn_l553 H p1 he rfl h8 hF (by omega) rfl (g4 z r (by omega) k4.1 k4.2 f1))
    · exact br_f g0 (wn_l553 H p1 he rfl h8 hF (by omega) rfl (g2 z r f1))
  · obtain ⟨k1, k2, k3⟩ := h
    refine pk_eq z x (fun g => nm_r (nI_1 z) (nm_r (nI_1 i) (hw (z + 1) ⟨by omega, lt_s k2 (Or.inl g), fun w => absurd (k3 (by omega)).1 (by omega)⟩))) (fun g => pk_eq z y (fun g2 => nm_r (nI_1 z) (nm_r (nI_1 i) (hw (z + 1) ⟨by omega, lt_s k2 (Or.inr g2), fun w => absurd (k3 (by omega)).2 (by omega)⟩))) (fun g2 => nm_r (nI_1 i) (hw z ⟨by omega, k2, fun _ => ⟨g, g2⟩⟩)))
theorem wn_l495 (H : post 1 ()) (hp : wn_pic 1 x y (wn_co x e) pc tb rd fr a1 a2 a3 a4 a5 a6) (he : e < 20) (h8 : x8 = nI e) (hF : wn_fin x y e pc x9 x10 x14 x15) (hz : z1 = z0) : wL_lawOf_495 post mc ms (nI x) (nI y) x8 x9 z0 z1 kc ks tb rd fr fo be a1 a2 a3 a4 a5 a6 a7 a8 a9 a10 a11 :=
  br_t hz (wn_l506 H hp he h8 hF)
theorem wn_l471 (H : post 1 ()) (hp : wn_pic 1 x y (wn_co x e) pc tb rd fr a1 a2 a3 a4 a5 a6) (he : e < 20) (h8 : x8 = nI e) (hF : wn_fin x y e pc x9 x10 x14 x15) (hz : z1 = z0) : wL_lawOf_471 post mc ms (nI x) (nI y) x8 x9 x15 z0 z1 kc ks tb rd fr fo be a1 a2 a3 a4 a5 a6 a7 a8 a9 a10 a11 := by
  have hy := hp.2.2.2.1
  refine br_t hz ?_
  refine wn_value hp hy rfl (fun rd' fr' fo' be' s5 s6 s7 s8 s9 s10 s11 r p1 f1 => ?_)
  rcases hF.2.2.2 with ⟨g0, _, g3, _, _⟩ | ⟨g0, g2, _⟩
  · exact br_t g0 ⟨by decide, wn_l495 H p1 he h8 hF (g3 r f1)⟩
  · exact br_f g0 (wn_l495 H p1 he h8 hF (g2 y r f1))
def wn_atv (u v : Int32) (k : Nat) : Int32 := if 6 ≤ k then (v >>> ((5 * (nI k - 6)) &&& 31)) &&& 31 else (u >>> ((5 * nI k) &&& 31)) &&& 31
def wn_cs (u v : Int32) (k : Nat) : Nat := min 20 (wn_atv u v k).toNatClampNeg
theorem wn_atv_n (u v : Int32) (k : Nat) : ∃ j : Nat, j < 32 ∧ wn_atv u v k = nI j := by
  unfold wn_atv
  split
  · exact pk_andE _ 5 (by decide)
  · exact pk_andE _ 5 (by decide)
theorem wn_at0 {P : Int32 → Prop} {u v w : Int32} (k : Nat) (hk : k < 9) (hw : w = nI k) (h : P (wn_atv u v k)) : wpL_at P () u v w := by
  subst hw
  unfold wn_atv at h
  refine pk_le 6 k (fun z => ?_) (fun z => ?_)
  · rw [if_pos z] at h
    exact h
  · rw [if_neg (by omega)] at h
    exact h
theorem wn_costL {P : Int32 → Prop} {u v w : Int32} (k : Nat) (hk : k < 9) (hw : w = nI k) (h : P (nI (wn_cs u v k))) : wpL_cost P () u v w := by
  obtain ⟨j, hj, e⟩ := wn_atv_n u v k
  unfold wn_cs at h
  rw [e, nI_clamp (by omega)] at h
  unfold wpL_cost
  refine wn_at0 k hk hw ?_
  rw [e]
  refine pk_le j 20 (fun z => wn_at0 k hk hw ?_) (fun z => ?_)
  · rw [e]
    rw [show min 20 j = j by omega] at h
    exact h
  · rw [show min 20 j = 20 by omega] at h
    exact h
theorem wn_l169 (H : post 1 ()) (hp : wn_pic 1 x y (wn_co x e) pc tb rd fr a1 a2 a3 a4 a5 a6) (he : e < 20) (hpc : ∀ i, i < 9 → pc i = wn_cs x1 x2 i) : ∃ n, wL_lawOf_169 post mc ms x1 x2 x4 (nI x) (nI y) (nI e) kc ks tb rd fr fo be a1 a2 a3 a4 a5 a6 a7 a8 a9 a10 a11 n (-6) 0 0 0 (-6) 0 (-6) 0 := by
  have hx := hp.2.2.1
  have hy := hp.2.2.2.1
  have hxy := hp.2.2.2.2.1
  refine pk_loop (σ := Int32 × Int32 × Int32 × Int32 × Int32 × Int32 × Int32) (fun n k s => wL_lawOf_169 post mc ms x1 x2 x4 (nI x) (nI y) (nI e) kc ks tb rd fr fo be a1 a2 a3 a4 a5 a6 a7 a8 a9 a10 a11 n s.1 s.2.1 s.2.2.1 s.2.2.2.1 s.2.2.2.2.1 s.2.2.2.2.2.1 s.2.2.2.2.2.2 (nI k))
    (fun k s => wn_il x y e pc k s.1 s.2.1 s.2.2.2.2.2.1 s.2.2.2.2.2.2 ∧ wn_iw x y e pc k s.2.2.2.2.1 ∧ wn_io x y e pc k s.2.2.1 ∧ wn_iu x y e pc x4 k s.2.2.2.1) 9 0 (-6, 0, 0, 0, -6, 0, -6) (by omega)
    ⟨Or.inl ⟨rfl, rfl, rfl, fun i hi => absurd hi (by omega)⟩, Or.inl ⟨rfl, fun i hi => absurd hi (by omega)⟩, rfl, rfl⟩
    (fun n s h => pk_le 9 9 (fun _ => ?_) (fun z => absurd z (by omega))) (fun n k s hk h hw => pk_le 9 k (fun z => absurd z (by omega)) (fun _ => ?_))
  · obtain ⟨i1, i2, i3, i4⟩ := h
    have hF := wn_il_fin hx hy hxy he i1
    refine wn_least hp (fun rd' fr' fo' be' s5 s6 s7 s8 s9 s10 s11 r p1 f1 => br_t (hF.1 r s11 f1) ?_)
    refine wn_ties p1 (fun rd' fr' fo' be' s5 s6 s7 s8 s9 s10 s11 r p2 f2 => br_t (hF.2.1 r f2) ?_)
    refine wn_allowed p2 (fun rd' fr' fo' be' s5 s6 s7 s8 s9 s10 s11 p3 => br_t (wn_io_ans hx hy hxy he i3) ?_)
    refine wn_upTo' p3 (fun rd' fr' fo' be' s5 s6 s7 s8 s9 s10 s11 r p4 f4 => br_t ?_ ?_)
    · rcases f4 with ⟨g1, g2⟩ | ⟨b, g1, g2, g3⟩
      · rw [g2]
        exact wn_iu_neg i4 g1
      · rw [g3]
        exact wn_iu_ans hx hy hxy he i4 g1 g2
    · refine wn_leastWith (k := 2) p4 hy (by decide) rfl rfl (fun rd' fr' fo' be' s5 s6 s7 s8 s9 s10 s11 r p5 f5 => br_t (wn_iw_ans hx hy hxy he i2 f5) ?_)
      refine wn_canAgree p5 hx hy rfl rfl (fun rd' fr' fo' be' s5 s6 s7 s8 s9 s10 s11 r p6 f6 => br_t (hF.2.2.1 r f6) ?_)
      refine wn_value p6 hx rfl (fun rd' fr' fo' be' s5 s6 s7 s8 s9 s10 s11 r p7 f7 => ?_)
      rcases hF.2.2.2 with ⟨g0, g2, _, _, _⟩ | ⟨g0, g2, _⟩
      · exact br_t g0 ⟨by decide, wn_l471 H p7 he rfl hF (g2 r f7)⟩
      · exact br_f g0 (wn_l471 H p7 he rfl hF (g2 x r f7))
  · obtain ⟨i1, i2, i3, i4⟩ := h
    obtain ⟨v1, v2, _⟩ := wn_v_s (x := x) (y := y) hk
    have key : wL_lawOf_218 post mc ms (wL_lawOf_169 post mc ms x1 x2 x4 (nI x) (nI y) (nI e) kc ks tb rd fr fo be a1 a2 a3 a4 a5 a6 a7 a8 a9 a10 a11 n) x1 x2 x4 (nI x) (nI y) (nI e) s.1 s.2.1 s.2.2.1 s.2.2.2.1 s.2.2.2.2.1 s.2.2.2.2.2.1 s.2.2.2.2.2.2 (nI k) (nI (wn_vx x y k)) (nI (wn_vy x y k)) kc ks tb rd fr fo be a1 a2 a3 a4 a5 a6 a7 a8 a9 a10 a11 := by
      unfold wL_lawOf_218
      refine wn_costL (wn_vx x y k + 3 * wn_vy x y k) (by omega) (wn_ab3 _ _) ?_
      have hc : wn_cs x1 x2 (wn_vx x y k + 3 * wn_vy x y k) ≤ 20 := Nat.min_le_left _ _
      have HH : ∀ x9' x10' x11' x12' x13' x14' x15', wn_il x y e pc (k + 1) x9' x10' x14' x15' → wn_iw x y e pc (k + 1) x13' → wn_io x y e pc (k + 1) x11' → wn_iu x y e pc x4 (k + 1) x12' → wL_lawOf_169 post mc ms x1 x2 x4 (nI x) (nI y) (nI e) kc ks tb rd fr fo be a1 a2 a3 a4 a5 a6 a7 a8 a9 a10 a11 n x9' x10' x11' x12' x13' x14' x15' (nI (k + 1)) :=
        fun x9' x10' x11' x12' x13' x14' x15' j1 j2 j3 j4 => hw (x9', x10', x11', x12', x13', x14', x15') ⟨j1, j2, j3, j4⟩
      refine pk_eq (wn_vx x y k) 1 (fun z => wn_lA hk hc rfl he (hpc _ (by omega)) i1 i2 i3 i4 HH (by rw [if_pos z])) (fun z => wn_lA hk hc rfl he (hpc _ (by omega)) i1 i2 i3 i4 HH (by rw [if_neg z]; rfl))
    refine ⟨by decide, nm_r (pk_div (a := k) (d := 3) (by omega) (by decide) (by decide)) ⟨by decide, nm_r (pk_rem (a := k) (d := 3) (by omega) (by decide) (by decide)) ?_⟩⟩
    refine pk_le y x (fun z => pk_le y x (fun _ => ?_) (fun w => absurd w (by omega))) (fun z => pk_le y x (fun w => absurd w (by omega)) (fun _ => ?_))
    · rw [show wn_vx x y k = k % 3 from if_neg (by omega), show wn_vy x y k = k / 3 from if_neg (by omega)] at key
      exact key
    · rw [show wn_vx x y k = k / 3 from if_pos z, show wn_vy x y k = k % 3 from if_pos z] at key
      exact key
end
end
section
section
variable {tb rd fr fo be : Int32} {a1 a2 a3 a4 a5 a6 a7 a8 a9 a10 a11 : Nat → Int32}
theorem wn_09 (i : Nat) : (0 : Int32) * 9 + nI i = nI i := by
  show nI 0 * nI 9 + nI i = nI i
  rw [pk_mul, nI_add]
  congr 1
  omega
theorem wn_table {post : Int32 → St2 → Prop} {x y : Nat} (hx : x < 6) (hy : y < 6) (hxy : x ≠ y) (h4 : ∀ j, a4 j = 0)
    (H : ∀ s, (∀ j, s j = 0) → post 0 (nI 1, 0, fr, fo, be, a1, upd a2 0 (nI x), upd a3 0 (nI y), s, a5, a6, a7, a8, a9, a10, a11)) : wpX_table post (0, rd, fr, fo, be, a1, a2, a3, a4, a5, a6, a7, a8, a9, a10, a11) (nI x) (nI y) := by
  unfold wpX_table
  dsimp only
  refine wn_badV x hx ?_ rfl
  refine br_t rfl ?_
  refine wn_badV y hy ?_ rfl
  refine br_t rfl (br_f (fun z => hxy ((nI_eq (by omega) (by omega)).mp z)) (br_t (by decide) ⟨pk_in 0 8 (by omega), nm_r (by rw [sb_cl0]) ⟨pk_in 0 8 (by omega), nm_r (by rw [sb_cl0]) ?_⟩⟩))
  refine pk_loop (fun n i s => wX_table_55 post 0 rd fr fo be n (nI i) a1 (upd a2 0 (nI x)) (upd a3 0 (nI y)) s a5 a6 a7 a8 a9 a10 a11) (fun i s => ∀ j, s j = 0) 9 0 a4 (by omega) h4
    (fun n s h => pk_le 9 9 (fun _ => nm_r (e' := nI 1) (by decide) ?_) (fun z => absurd z (by omega)))
    (fun n i s hi h hw => pk_le 9 i (fun z => absurd z (by omega)) (fun _ => ?_))
  · rw [show nI 1 - 1 = 0 by decide]
    exact H s h
  · rw [wn_09, nI_clamp (show i < 2 ^ 31 by omega)]
    refine ⟨pk_in i 72 (by omega), nm_e (nm_r (nI_1 i) (hw _ (fun j => ?_)))⟩
    by_cases ej : j = i
    · rw [ej, pk_us]
    · rw [pk_un ej]
      exact h j
theorem wn_pairL {post : Int32 → St2 → Prop} {i c : Nat} {p1 p2 : Int32} (hi : i < 9) (hc : c ≤ 20) (hp1 : p1 = nI i) (hp2 : p2 = nI c) (H : post (a4 i) (nI 1, 0, fr, fo, be, a1, a2, a3, upd a4 i (nI c), a5, a6, a7, a8, a9, a10, a11)) :
    wpX_pair post (nI 1, rd, fr, fo, be, a1, a2, a3, a4, a5, a6, a7, a8, a9, a10, a11) 0 p1 p2 := by
  subst hp1 hp2
  refine br_f (by decide) (br_t (by decide) (br_f (nI_pos (by omega)) (pk_le i 8 (fun _ => ?_) (fun z => absurd z (by omega)))))
  refine wn_badC c hc ?_ rfl
  rw [wn_09, nI_clamp (show i < 2 ^ 31 by omega)]
  exact br_t rfl ⟨pk_in i 72 (by omega), nm_e ⟨pk_in i 72 (by omega), nm_e H⟩⟩
theorem wn_costM {post : Int32 → St2 → Prop} {x c : Nat} {p2 : Int32} (hx : x < 6) (hc : c ≤ 20) (hp2 : p2 = nI c) (H : post (a1 (3 * x + 1)) (tb, 0, fr, fo, be, upd a1 (3 * x + 1) (nI c), a2, a3, a4, a5, a6, a7, a8, a9, a10, a11)) :
    wpX_cost post (tb, rd, fr, fo, be, a1, a2, a3, a4, a5, a6, a7, a8, a9, a10, a11) (nI x) 1 p2 := by
  subst hp2
  unfold wpX_cost
  dsimp only
  refine wn_badV x hx ?_ rfl
  refine br_t rfl (br_f (by decide) (br_t (by decide) ?_))
  refine wn_badC c hc ?_ rfl
  rw [show nI x * 3 + 1 = nI (3 * x + 1) from wn_v3 x 1, nI_clamp (show 3 * x + 1 < 2 ^ 31 by omega)]
  exact br_t rfl ⟨pk_in (3 * x + 1) 18 (by omega), nm_e ⟨pk_in (3 * x + 1) 18 (by omega), nm_e H⟩⟩
theorem wn_l65 {post : Int32 → St0 → Prop} {mc ms kc ks : Nat} {J : Int32 → Int32 → Int32 → Int32 → Int32 → Int32 → (Nat → Int32) → (Nat → Int32) → (Nat → Int32) → (Nat → Int32) → (Nat → Int32) → (Nat → Int32) → (Nat → Int32) → (Nat → Int32) → (Nat → Int32) → (Nat → Int32) → (Nat → Int32) → Prop} {x1 x2 x3 x4 x6 x7 : Int32} {k : Nat} (hk : k < 3)
    (h4 : ∀ i, i < 9 → a4 i = if i % 3 < k then nI (wn_cs x1 x2 i) else 0) (H : ∀ s, (∀ i, i < 9 → s i = if i % 3 < k + 1 then nI (wn_cs x1 x2 i) else 0) → J (nI (k + 1)) (nI 1) 0 fr fo be a1 a2 a3 s a5 a6 a7 a8 a9 a10 a11) :
    ∃ n, wL_lawOf_65 post mc ms J x1 x2 x3 x4 x6 x7 (nI k) kc ks n 0 (nI 1) 0 fr fo be a1 a2 a3 a4 a5 a6 a7 a8 a9 a10 a11 := by
  refine pk_loop (fun n q s => wL_lawOf_65 post mc ms J x1 x2 x3 x4 x6 x7 (nI k) kc ks n (nI q) (nI 1) 0 fr fo be a1 a2 a3 s a5 a6 a7 a8 a9 a10 a11) (fun q s => ∀ i, i < 9 → s i = if i % 3 < k ∨ (i % 3 = k ∧ i / 3 < q) then nI (wn_cs x1 x2 i) else 0) 3 0 a4 (by omega) (fun i hi => ?_)
    (fun n s h => pk_le 3 3 (fun _ => nm_r (nI_1 k) (H s (fun i hi => ?_))) (fun z => absurd z (by omega)))
    (fun n q s hq h hw => pk_le 3 q (fun z => absurd z (by omega)) (fun _ => ?_))
  · rw [h4 i hi]
    by_cases c : i % 3 < k
    · rw [if_pos c, if_pos (Or.inl c)]
    · rw [if_neg c, if_neg (by omega)]
  · rw [h i hi]
    by_cases c : i % 3 < k + 1
    · rw [if_pos c, if_pos (by omega)]
    · rw [if_neg c, if_neg (by omega)]
  · refine wn_costL (k + 3 * q) (by omega) (wn_ab3 k q) ?_
    refine wn_pairL (i := k + 3 * q) (c := wn_cs x1 x2 (k + 3 * q)) (by omega) (Nat.min_le_left _ _) (wn_ab3 k q) rfl ?_
    refine br_t ?_ (nm_r (nI_1 q) (hw _ (fun i hi => ?_)))
    · rw [h (k + 3 * q) (by omega), if_neg (by omega)]
    · by_cases ei : i = k + 3 * q
      · rw [ei, pk_us, if_pos (by omega)]
      · rw [pk_un ei, h i hi]
        by_cases c : i % 3 < k ∨ (i % 3 = k ∧ i / 3 < q)
        · rw [if_pos c, if_pos (by omega)]
        · rw [if_neg c, if_neg (by omega)]
theorem wn_l56 {post : Int32 → St0 → Prop} {mc ms kc ks : Nat} {x1 x2 x3 x4 : Int32} {x y : Nat} (H : post 1 ()) (hx : x < 6) (hy : y < 6) (hxy : x ≠ y) (h1 : ∀ j, a1 j = 0) (h2 : a2 0 = nI x) (h3 : a3 0 = nI y) (h4 : ∀ j, a4 j = 0) :
    ∃ n, wL_lawOf_56 post mc ms x1 x2 x3 x4 (nI x) (nI y) kc ks n 0 (nI 1) 0 fr fo be a1 a2 a3 a4 a5 a6 a7 a8 a9 a10 a11 := by
  refine pk_loop (fun n k s => wL_lawOf_56 post mc ms x1 x2 x3 x4 (nI x) (nI y) kc ks n (nI k) (nI 1) 0 fr fo be a1 a2 a3 s a5 a6 a7 a8 a9 a10 a11) (fun k s => ∀ i, i < 9 → s i = if i % 3 < k then nI (wn_cs x1 x2 i) else 0) 3 0 a4 (by omega) (fun i hi => by rw [h4, if_neg (by omega)])
    (fun n s h => pk_le 3 3 (fun _ => ⟨by decide, ?_⟩) (fun z => absurd z (by omega)))
    (fun n k s hk h hw => pk_le 3 k (fun z => absurd z (by omega)) (fun _ => wn_l65 hk h (fun s' h' => hw s' h')))
  obtain ⟨t, ht, et⟩ := pk_andE x3 (m := 255) 8 (by decide)
  have ht' : t < 256 := ht
  refine nm_r (e' := nI (t % 20)) ?_ ?_
  · rw [et]
    exact pk_rem (by omega) (by decide) (by decide)
  · refine wn_costM (c := t % 20) hx (by omega) rfl (br_t (h1 _) ?_)
    refine wn_l169 (pc := wn_cs x1 x2) H ⟨Nat.le_refl _, rfl, hx, hy, hxy, h2, h3, fun i hi => ?_, fun i hi => ?_, fun z => absurd rfl z⟩ (by omega) (fun i _ => rfl)
    · unfold wn_co
      by_cases ei : i = 3 * x + 1
      · rw [ei, pk_us, if_pos rfl]
        exact ⟨rfl, by omega⟩
      · rw [pk_un ei, if_neg ei, h1]
        exact ⟨rfl, by omega⟩
    · rw [h i hi, if_pos (by omega)]
      exact ⟨rfl, Nat.min_le_left _ _⟩
end
theorem wn_lawOf {post : Int32 → St0 → Prop} (H : post 1 ()) (p0 p1 p2 p3 p4 : Int32) : wpL_lawOf post 146 2336 () p0 p1 p2 p3 p4 := by
  obtain ⟨t, ht, et⟩ := pk_andE p0 (m := 255) 8 (by decide)
  obtain ⟨s, hs, es⟩ := pk_andE (p0 >>> ((8 : Int32) &&& 31)) (m := 255) 8 (by decide)
  have ht' : t < 256 := ht
  have hs' : s < 256 := hs
  refine ⟨by decide, by decide, 11, 227, by decide, by decide, ?_⟩
  refine ⟨by decide, by decide, by decide, by decide, by decide, by decide, by decide, by decide, by decide, by decide, by decide, by decide, by decide, by decide, by decide, by decide, by decide, by decide, by decide, by decide, by decide, by decide, ?_⟩
  refine ⟨by decide, nm_r (e' := nI (t % 6)) ?_ ⟨by decide, by decide, nm_r (e' := nI ((t % 6 + 1 + s % 5) % 6)) ?_ ?_⟩⟩
  · rw [et]
    exact pk_rem (by omega) (by decide) (by decide)
  · rw [es]
    have e5 : nI s - nI s / 5 * 5 = nI (s % 5) := pk_rem (by omega) (by decide) (by decide)
    rw [e5, nI_1, nI_add]
    exact pk_rem (by omega) (by decide) (by decide)
  · refine wn_table (by omega) (by omega) (by omega) (fun _ => rfl) (fun a4 h4 => br_t rfl ?_)
    exact wn_l56 H (by omega) (by omega) (by omega) (fun _ => rfl) pk_us pk_us h4
theorem wn_cell {post : Int32 → Prop} {L : Nat} {xs : Nat → Int32} (hL : L ≤ 5) (k : Nat) (hk : k < 5) {p : Int32} (hp : p = nI k) (H : ∀ r, post r) : wpL_cellAt post L xs () p := by
  subst hp
  exact pk_le L k (fun _ => H _) (fun z => ⟨pk_in k L z, H _⟩)
theorem i_vc (xs : Nat → Int32) (L : Nat) (hL : L ≤ 5) : wpL_law (fun r => r = 1) L xs := by
  unfold wpL_law
  refine wn_cell hL 0 (by decide) rfl (fun r1 => wn_cell hL 1 (by decide) rfl (fun r2 => wn_cell hL 2 (by decide) rfl (fun r3 => wn_cell hL 3 (by decide) rfl (fun r4 => wn_cell hL 4 (by decide) rfl (fun r5 => ⟨146, 2336, by decide, by decide, ?_⟩)))))
  exact wn_lawOf (post := fun r _ => r = 1) rfl r1 r2 r3 r4 r5
end
