section
/-- the value between two points: one edge s-d of value v -/
def nc_w (s d v i j : Nat) : Nat := if (i = s ∧ j = d) ∨ (i = d ∧ j = s) then v else 0
/-- the table of values holds that one edge -/
def nc_E (s d v : Nat) (a : Nat → Int32) : Prop := ∀ i j, i < 6 → j < 6 → a (6 * i + j) = nI (nc_w s d v i j)
/-- the least point of a point's group -/
def nc_pt (s d v j : Nat) : Nat := if 0 < v ∧ (j = s ∨ j = d) then min s d else j
def nc_P (n s d v : Nat) (a : Nat → Int32) : Prop := ∀ j, j < n → a j = nI (nc_pt s d v j)
/-- the degree of a point -/
def nc_dg (s d v p : Nat) : Nat := if p = s ∨ p = d then v else 0
/-- the degree's running sum over the points below i -/
def nc_S (s d v p i : Nat) : Nat := if p = s then (if d < i then v else 0) else if p = d then (if s < i then v else 0) else 0
theorem nc_w_le (s d v i j : Nat) : nc_w s d v i j ≤ v := by
  unfold nc_w
  split <;> omega
theorem nc_w_sym (s d v i j : Nat) : nc_w s d v i j = nc_w d s v i j := by
  unfold nc_w
  by_cases h : (i = s ∧ j = d) ∨ (i = d ∧ j = s)
  · rw [if_pos h, if_pos (by omega)]
  · rw [if_neg h, if_neg (by omega)]
theorem nc_E_sym {s d v : Nat} {a : Nat → Int32} (h : nc_E s d v a) : nc_E d s v a := by
  intro i j hi hj
  rw [h i j hi hj, nc_w_sym]
theorem nc_w0 (s d i j : Nat) : nc_w s d 0 i j = 0 := by
  have := nc_w_le s d 0 i j
  omega
theorem nc_E0 (s d : Nat) : nc_E s d 0 (fun _ => 0) := by
  intro i j hi hj
  rw [nc_w0]
  rfl
theorem nc_wP {s d v i j : Nat} (h : 0 < nc_w s d v i j) : 0 < v ∧ ((i = s ∧ j = d) ∨ (i = d ∧ j = s)) := by
  unfold nc_w at h
  split at h
  · rename_i g
    exact ⟨h, g⟩
  · omega
theorem nc_w1 (s d v : Nat) : nc_w s d v s d = v := by
  unfold nc_w
  rw [if_pos (by omega)]
theorem nc_pt_lt {n s d v j : Nat} (hs : s < n) (hd : d < n) (hj : j < n) : nc_pt s d v j < n := by
  unfold nc_pt
  split <;> omega
theorem nc_pt0 (s d j : Nat) : nc_pt s d 0 j = j := by
  unfold nc_pt
  rw [if_neg (by omega)]
theorem nc_pt1 {s d v : Nat} (hv : 0 < v) (j : Nat) (hsd : s ≠ d) : nc_pt s d v j = nc_pt s d v s ↔ (j = s ∨ j = d) := by
  unfold nc_pt
  rw [if_pos (show 0 < v ∧ (s = s ∨ s = d) from ⟨hv, Or.inl rfl⟩)]
  by_cases h : j = s ∨ j = d
  · rw [if_pos ⟨hv, h⟩]
    exact ⟨fun _ => h, fun _ => rfl⟩
  · rw [if_neg (fun z => h z.2)]
    constructor
    · intro e
      omega
    · intro e
      exact absurd e h
theorem nc_S0 (s d v p : Nat) : nc_S s d v p 0 = 0 := by
  unfold nc_S
  split
  · rw [if_neg (by omega)]
  · split
    · rw [if_neg (by omega)]
    · rfl
theorem nc_S1 {s d v p i : Nat} (hsd : s ≠ d) : nc_S s d v p i + nc_w s d v p i = nc_S s d v p (i + 1) := by
  unfold nc_S nc_w
  by_cases h1 : p = s
  · rw [if_pos h1, if_pos h1]
    by_cases h2 : i = d
    · rw [if_neg (by omega), if_pos (by omega), if_pos (by omega)]
      omega
    · rw [if_neg (show ¬ ((p = s ∧ i = d) ∨ (p = d ∧ i = s)) by omega)]
      by_cases h3 : d < i
      · rw [if_pos h3, if_pos (by omega)]
        omega
      · rw [if_neg h3, if_neg (by omega)]
  · rw [if_neg h1, if_neg h1]
    by_cases h2 : p = d
    · rw [if_pos h2, if_pos h2]
      by_cases h4 : i = s
      · rw [if_neg (by omega), if_pos (by omega), if_pos (by omega)]
        omega
      · rw [if_neg (show ¬ ((p = s ∧ i = d) ∨ (p = d ∧ i = s)) by omega)]
        by_cases h3 : s < i
        · rw [if_pos h3, if_pos (by omega)]
          omega
        · rw [if_neg h3, if_neg (by omega)]
    · rw [if_neg h2, if_neg h2, if_neg (by omega)]
theorem nc_Sn {s d v p n : Nat} (hs : s < n) (hd : d < n) : nc_S s d v p n = nc_dg s d v p := by
  unfold nc_S nc_dg
  by_cases h1 : p = s
  · rw [if_pos h1, if_pos hd, if_pos (Or.inl h1)]
  · rw [if_neg h1]
    by_cases h2 : p = d
    · rw [if_pos h2, if_pos hs, if_pos (Or.inr h2)]
    · rw [if_neg h2, if_neg (by omega)]
theorem nc_dg_le (s d v p : Nat) : nc_dg s d v p ≤ v := by
  unfold nc_dg
  split <;> omega
theorem nc_i6 (a b : Nat) : 6 * nI a + nI b = nI (6 * a + b) := by
  rw [show (6 : Int32) = nI 6 from rfl, pk_mul, nI_add]
theorem nc_i7 (a b : Nat) : 7 * nI a + nI b = nI (7 * a + b) := by
  rw [show (7 : Int32) = nI 7 from rfl, pk_mul, nI_add]
theorem nc_i7m (a b : Nat) : 7 * (nI (a + 1) - 1) + nI (b + 1) - 1 = nI (7 * a + b) := by
  rw [nI_pred, nc_i7, show 7 * a + (b + 1) = 7 * a + b + 1 by omega, nI_pred]
theorem nc_neg : ∀ w, w < 10 → (-(nI w)).toInt64 = -(lN w) := by decide
theorem nc_fill {f s : Nat → Int32} {i : Nat} {x : Int32} (h : ∀ j, j < i → s j = f j) (hx : x = f i) : ∀ j, j < i + 1 → upd s i x j = f j := by
  intro j hj
  by_cases e : j = i
  · rw [e, pk_us, hx]
  · rw [pk_un e]
    exact h j (by omega)
theorem nc_fillL {f s : Nat → Int64} {i : Nat} {x : Int64} (h : ∀ j, j < i → s j = f j) (hx : x = f i) : ∀ j, j < i + 1 → vp_updL s i x j = f j := by
  intro j hj
  by_cases e : j = i
  · rw [e, pk_uLs, hx]
  · rw [pk_uLn e]
    exact h j (by omega)
end
section
/-- the groups while they are sought: m below M the two ends, c: the edge has been seen -/
def nc_Q (n m M v : Nat) (c : Prop) (a : Nat → Int32) : Prop :=
  (∀ j, j < n → j ≠ M → a j = nI j) ∧ (a M = nI M ∨ (0 < v ∧ a M = nI m)) ∧ (0 < v → c → a M = nI m)
theorem nc_35 {post : St2 → Prop} {J : Int32 → (Nat → Int32) → (Nat → Int32) → (Nat → Int64) → (Nat → Int32) → (Nat → Int64) → Prop} {fn fs fd : Int32} {fb ft fw : Int64} {a1 a2 a4 : Nat → Int32} {a3 a5 : Nat → Int64} {n m M v r : Nat}
    (hn : n ≤ 6) (hm : m < M) (hM : M < n) (hv : v ≤ 9) (hE : nc_E m M v a1) (h0 : nc_Q n m M v False a2)
    (H : ∀ a, nc_Q n m M v True a → J (nI (r + 1)) a1 a a3 a4 a5) :
    ∃ f, wX_findParts_35 post J (nI r) fn fs fd fb ft fw f 0 a1 a2 a3 a4 a5 := by
  refine pk_loop (fun f k a => wX_findParts_35 post J (nI r) fn fs fd fb ft fw f (nI k) a1 a a3 a4 a5) (fun k a => nc_Q n m M v (6 * m + M < k) a) 36 0 a2 (by omega) ⟨h0.1, h0.2.1, fun _ z => absurd z (by omega)⟩ ?_ ?_
  · intro f a h
    exact pk_le 36 36 (fun _ => nm_r (nI_1 r) (H a ⟨h.1, h.2.1, fun z _ => h.2.2 z (by omega)⟩)) (fun z => absurd z (by omega))
  · intro f k a hk h hw
    have hw' : ∀ a', nc_Q n m M v (6 * m + M < k + 1) a' → wX_findParts_35 post J (nI r) fn fs fd fb ft fw f (nI (k + 1)) a1 a' a3 a4 a5 := hw
    have eE : a1 k = nI (nc_w m M v (k / 6) (k % 6)) := by
      have t := hE (k / 6) (k % 6) (by omega) (by omega)
      rwa [show 6 * (k / 6) + k % 6 = k by omega] at t
    have hwv := nc_w_le m M v (k / 6) (k % 6)
    show wX_findParts_35 post J (nI r) fn fs fd fb ft fw (f + 1) (nI k) a1 a a3 a4 a5
    refine pk_le 36 k (fun z => absurd z (by omega)) (fun _ => ⟨by decide, nm_r (pk_div (d := 6) (by omega) (by omega) (by omega)) ⟨by decide, nm_r (pk_rem (d := 6) (by omega) (by omega) (by omega)) ⟨pk_in k 36 hk, ?_⟩⟩⟩)
    rw [nI_clamp (show k < 2 ^ 31 by omega), nI_clamp (show k / 6 < 2 ^ 31 by omega), nI_clamp (show k % 6 < 2 ^ 31 by omega), eE]
    refine pk_le (nc_w m M v (k / 6) (k % 6)) 0 (fun z => nm_r (nI_1 k) (hw' a ⟨h.1, h.2.1, fun zv zk => ?_⟩)) (fun z => ⟨pk_in (k / 6) 6 (by omega), pk_in (k % 6) 6 (by omega), ?_⟩) rfl rfl (by omega) (by omega)
    · by_cases e : 6 * m + M < k
      · exact h.2.2 zv e
      · have e1 : k / 6 = m := by omega
        have e2 : k % 6 = M := by omega
        rw [e1, e2, nc_w1] at z
        omega
    · obtain ⟨zv, g⟩ := nc_wP z
      have em : a m = nI m := h.1 m (by omega) (by omega)
      rcases g with ⟨g1, g2⟩ | ⟨g1, g2⟩
      · rw [g1, g2, em]
        rcases h.2.1 with e | ⟨_, e⟩
        · rw [e]
          refine pk_le M m (fun z => absurd z (by omega)) (fun _ => ⟨pk_in m 6 (by omega), pk_in M 6 (by omega), nm_e (nm_r (nI_1 k) (hw' _ ⟨fun j hj hjM => ?_, Or.inr ⟨zv, pk_us⟩, fun _ _ => pk_us⟩))⟩)
          rw [pk_un hjM]
          exact h.1 j hj hjM
        · rw [e]
          exact pk_le m m (fun _ => nm_r (nI_1 k) (hw' a ⟨h.1, h.2.1, fun _ _ => e⟩)) (fun z => absurd z (by omega))
      · rw [g1, g2, em]
        have kk : 0 < v → 6 * m + M < k + 1 → a M = nI m := fun z1 z2 => h.2.2 z1 (by omega)
        rcases h.2.1 with e | ⟨_, e⟩
        · have t := hw' a ⟨h.1, h.2.1, kk⟩
          rw [e]
          exact pk_le m M (fun _ => nm_r (nI_1 k) t) (fun z => absurd z (by omega))
        · have t := hw' a ⟨h.1, h.2.1, kk⟩
          rw [e]
          exact pk_le m m (fun _ => nm_r (nI_1 k) t) (fun z => absurd z (by omega))
theorem nc_25 {post : St2 → Prop} {fs fd : Int32} {fb ft fw : Int64} {a1 a2 a4 : Nat → Int32} {a3 a5 : Nat → Int64} {n m M v : Nat}
    (hn : n ≤ 6) (hm : m < M) (hM : M < n) (hv : v ≤ 9) (hE : nc_E m M v a1) (h0 : ∀ j, j < n → a2 j = nI j)
    (H : ∀ a, nc_Q n m M v True a → post (nI n, fs, fd, fb, ft, fw, a1, a, a3, a4, a5)) :
    ∃ f, wX_findParts_25 post (nI n) fs fd fb ft fw f 0 a1 a2 a3 a4 a5 := by
  refine pk_loop (fun f r a => wX_findParts_25 post (nI n) fs fd fb ft fw f (nI r) a1 a a3 a4 a5) (fun r a => nc_Q n m M v (0 < r) a) n 0 a2 (by omega) ⟨fun j hj _ => h0 j hj, Or.inl (h0 M hM), fun _ z => absurd z (by omega)⟩ ?_ ?_
  · intro f a h
    exact pk_le n n (fun _ => H a ⟨h.1, h.2.1, fun z _ => h.2.2 z (by omega)⟩) (fun z => absurd z (by omega))
  · intro f r a hr h hw
    exact pk_le n r (fun z => absurd z (by omega)) (fun _ => nc_35 hn hm hM hv hE ⟨h.1, h.2.1, fun _ z => z.elim⟩ (fun a' h' => hw a' ⟨h'.1, h'.2.1, fun z _ => h'.2.2 z trivial⟩))
theorem nc_2 {post : St2 → Prop} {fs fd : Int32} {fb ft fw : Int64} {a1 a2 a4 : Nat → Int32} {a3 a5 : Nat → Int64} {n m M v : Nat}
    (hn : n ≤ 6) (hm : m < M) (hM : M < n) (hv : v ≤ 9) (hE : nc_E m M v a1)
    (H : ∀ a, nc_Q n m M v True a → post (nI n, fs, fd, fb, ft, fw, a1, a, a3, a4, a5)) :
    ∃ f, wX_findParts_2 post (nI n) fs fd fb ft fw f 0 a1 a2 a3 a4 a5 := by
  refine pk_loop (fun f i a => wX_findParts_2 post (nI n) fs fd fb ft fw f (nI i) a1 a a3 a4 a5) (fun i a => ∀ j, j < i → a j = nI j) n 0 a2 (by omega) (fun j hj => absurd hj (by omega)) ?_ ?_
  · intro f a h
    exact pk_le n n (fun _ => nc_25 hn hm hM hv hE h H) (fun z => absurd z (by omega))
  · intro f i a hi h hw
    refine pk_le n i (fun z => absurd z (by omega)) (fun _ => ⟨pk_in i 6 (by omega), nm_e (nm_r (nI_1 i) (hw _ ?_))⟩)
    rw [nI_clamp (show i < 2 ^ 31 by omega)]
    exact nc_fill h rfl
theorem nc_findParts {post : St2 → Prop} {fs fd : Int32} {fb ft fw : Int64} {a1 a2 a4 : Nat → Int32} {a3 a5 : Nat → Int64} {n s d v : Nat}
    (hn : n ≤ 6) (hs : s < n) (hd : d < n) (hsd : s ≠ d) (hv : v ≤ 9) (hE : nc_E s d v a1)
    (H : ∀ a, nc_P n s d v a → post (nI n, fs, fd, fb, ft, fw, a1, a, a3, a4, a5)) :
    wpX_findParts post (nI n, fs, fd, fb, ft, fw, a1, a2, a3, a4, a5) := by
  have key : ∀ m M, m < M → M < n → m = min s d → M = max s d → ∀ a, nc_Q n m M v True a → nc_P n s d v a := by
    intro m M hm hM em eM a h j hj
    unfold nc_pt
    by_cases e : j = M
    · by_cases z : 0 < v
      · rw [if_pos ⟨z, by omega⟩, e, h.2.2 z trivial, em]
      · rw [if_neg (fun t => z t.1), e]
        rcases h.2.1 with g | g
        · exact g
        · exact absurd g.1 z
    · rw [h.1 j hj e]
      by_cases z : 0 < v ∧ (j = s ∨ j = d)
      · rw [if_pos z]
        congr 1
        omega
      · rw [if_neg z]
  by_cases z : s < d
  · exact nc_2 hn z hd hv hE (fun a h => H a (key s d z hd (by omega) (by omega) a h))
  · exact nc_2 hn (show d < s by omega) hs hv (nc_E_sym hE) (fun a h => H a (key d s (by omega) hs (by omega) (by omega) a h))
end
section
/-- the voltages when the two probes are the only points of their group -/
def nc_V (n s : Nat) (a : Nat → Int64) : Prop := ∀ j, j < n → a j = if j = s then 1 else 0
theorem nc_196 {post : Int32 → St2 → Prop} {x3 fs fd : Int32} {ft fw : Int64} {a1 a2 a4 : Nat → Int32} {a3 a5 : Nat → Int64} {n s : Nat}
    (hn : n ≤ 6) (hs : s < n) (h4 : ∀ j, j < n → a4 j = -1)
    (H : ∀ a, nc_V n s a → post 1 (nI n, fs, fd, 1, ft, fw, a1, a2, a3, a4, a)) :
    ∃ f, wX_solve_196 post (nI s) x3 (nI n) fs fd 1 ft fw f 0 a1 a2 a3 a4 a5 := by
  refine pk_loop (fun f i a => wX_solve_196 post (nI s) x3 (nI n) fs fd 1 ft fw f (nI i) a1 a2 a3 a4 a) (fun i a => ∀ j, j < i → a j = 0) n 0 a5 (by omega) (fun j hj => absurd hj (by omega)) ?_ ?_
  · intro f a h
    refine pk_le n n (fun _ => ⟨pk_in s 6 (by omega), nm_e ?_⟩) (fun z => absurd z (by omega))
    rw [nI_clamp (show s < 2 ^ 31 by omega)]
    refine H _ (fun j hj => ?_)
    by_cases e : j = s
    · rw [e, pk_uLs, if_pos rfl]
    · rw [pk_uLn e, if_neg e]
      exact h j hj
  · intro f i a hi h hw
    refine pk_le n i (fun z => absurd z (by omega)) (fun _ => ⟨pk_in i 6 (by omega), ?_⟩)
    rw [nI_clamp (show i < 2 ^ 31 by omega)]
    exact br_t (h4 i hi) ⟨pk_in i 6 (by omega), nm_e (nm_r (nI_1 i) (hw _ (nc_fillL (f := fun _ => 0) h rfl)))⟩
theorem nc_fillRow {post : St2 → Prop} {fn fs fd : Int32} {fb ft fw : Int64} {a1 a2 a4 : Nat → Int32} {a3 a5 : Nat → Int64} {p : Nat} {x y : Int32}
    (hp : p < 6) (h4 : a4 p = -1) (H : post (fn, fs, fd, fb, ft, fw, a1, a2, a3, a4, a5)) :
    wpX_fillRow post (fn, fs, fd, fb, ft, fw, a1, a2, a3, a4, a5) (nI p) x y := by
  unfold wpX_fillRow
  refine ⟨pk_in p 6 hp, nm_r (e' := -1) ?_ (br_t rfl H)⟩
  rw [nI_clamp (show p < 2 ^ 31 by omega)]
  exact h4
theorem nc_91 {post : Int32 → St2 → Prop} {fs fd : Int32} {fb ft fw : Int64} {a1 a2 a4 : Nat → Int32} {a3 a5 : Nat → Int64} {n s : Nat}
    (hn : n ≤ 6) (hs : s < n) (h4 : ∀ j, j < n → a4 j = -1)
    (H : ∀ a, nc_V n s a → post 1 (nI n, fs, fd, 1, ft, fw, a1, a2, a3, a4, a)) :
    ∃ f, wX_solve_91 post (nI s) 0 f 0 (nI n) fs fd fb ft fw a1 a2 a3 a4 a5 := by
  refine pk_loop (σ := Unit) (fun f i _ => wX_solve_91 post (nI s) 0 f (nI i) (nI n) fs fd fb ft fw a1 a2 a3 a4 a5) (fun _ _ => True) n 0 () (by omega) trivial ?_ ?_
  · intro f _ _
    exact pk_le n n (fun _ => ⟨1, pk_le 0 0 (fun _ => nc_196 hn hs h4 H) (fun z => absurd z (by omega))⟩) (fun z => absurd z (by omega))
  · intro f i _ hi _ hw
    exact pk_le n i (fun z => absurd z (by omega)) (fun _ => nc_fillRow (by omega) (h4 i hi) (nm_r (nI_1 i) (hw () trivial)))
theorem nc_26 {post : Int32 → St2 → Prop} {fs fd : Int32} {fb ft fw : Int64} {a1 a2 a4 : Nat → Int32} {a3 a5 : Nat → Int64} {n s d v : Nat}
    (hn : n ≤ 6) (hs : s < n) (hd : d < n) (hsd : s ≠ d) (hv : 0 < v) (hP : nc_P n s d v a2)
    (H : ∀ a a', nc_V n s a' → post 1 (nI n, fs, fd, 1, ft, fw, a1, a2, a3, a, a')) :
    ∃ f, wX_solve_26 post (nI s) (nI d) (nI n) fs fd fb ft fw f 0 0 a1 a2 a3 a4 a5 := by
  refine pk_loop (fun f i a => wX_solve_26 post (nI s) (nI d) (nI n) fs fd fb ft fw f 0 (nI i) a1 a2 a3 a a5) (fun i a => ∀ j, j < i → a j = -1) n 0 a4 (by omega) (fun j hj => absurd hj (by omega)) ?_ ?_
  · intro f a h
    exact pk_le n n (fun _ => nc_91 hn hs h (H a)) (fun z => absurd z (by omega))
  · intro f i a hi h hw
    have t := hw (upd a i (-1)) (nc_fill (f := fun _ => -1) h rfl)
    refine pk_le n i (fun z => absurd z (by omega)) (fun _ => ⟨pk_in i 6 (by omega), nm_e ⟨pk_in i 6 (by omega), pk_in s 6 (by omega), ?_⟩⟩)
    rw [nI_clamp (show i < 2 ^ 31 by omega), nI_clamp (show s < 2 ^ 31 by omega), hP i hi, hP s hs]
    have b1 := nc_pt_lt (v := v) hs hd hi
    have b2 := nc_pt_lt (v := v) hs hd hs
    refine pk_eq (nc_pt s d v i) (nc_pt s d v s) (fun z => ?_) (fun _ => nm_r (nI_1 i) t) rfl rfl (by omega) (by omega)
    refine pk_eq i s (fun _ => nm_r (nI_1 i) t) (fun z1 => pk_eq i d (fun _ => nm_r (nI_1 i) t) (fun z2 => ?_))
    have := (nc_pt1 hv i hsd).mp z
    omega
theorem nc_solve {post : Int32 → St2 → Prop} {fs fd : Int32} {fb ft fw : Int64} {a1 a2 a4 : Nat → Int32} {a3 a5 : Nat → Int64} {n s d v : Nat}
    (hn : n ≤ 6) (hs : s < n) (hd : d < n) (hsd : s ≠ d) (hv : v ≤ 9) (hE : nc_E s d v a1)
    (H0 : v = 0 → ∀ a, post 0 (nI n, fs, fd, fb, ft, fw, a1, a, a3, a4, a5))
    (H1 : 0 < v → ∀ a a' a'', nc_P n s d v a → nc_V n s a'' → post 1 (nI n, fs, fd, 1, ft, fw, a1, a, a3, a', a'')) :
    wpX_solve post (nI n, fs, fd, fb, ft, fw, a1, a2, a3, a4, a5) (nI s) (nI d) := by
  unfold wpX_solve
  refine nc_findParts hn hs hd hsd hv hE (fun a h => ⟨pk_in s 6 (by omega), pk_in d 6 (by omega), ?_⟩)
  rw [nI_clamp (show s < 2 ^ 31 by omega), nI_clamp (show d < 2 ^ 31 by omega), h s hs, h d hd]
  have b1 := nc_pt_lt (v := v) hs hd hd
  have b2 := nc_pt_lt (v := v) hs hd hs
  refine pk_eq (nc_pt s d v s) (nc_pt s d v d) (fun z => ?_) (fun z => ?_) rfl rfl (by omega) (by omega)
  · by_cases e : 0 < v
    · exact nc_26 hn hs hd hsd e h (fun a' a'' h' => H1 e a a' a'' h h')
    · have e' : v = 0 := by omega
      rw [e', nc_pt0, nc_pt0] at z
      exact absurd z hsd
  · by_cases e : 0 < v
    · exact absurd ((nc_pt1 e d hsd).mpr (Or.inr rfl)).symm z
    · exact H0 (by omega) a
end
section
theorem nc_from_step {s d v n i : Nat} {a1 : Nat → Int32} {a5 : Nat → Int64} (hn : n ≤ 6) (hs : s < n) (hi : i < n) (hsd : s ≠ d) (hv : v ≤ 9) (hE : nc_E s d v a1) (hV : nc_V n s a5) :
    lN (if d < i then v else 0) + (a1 (6 * s + i)).toInt64 * (1 - a5 i) = lN (if d < i + 1 then v else 0) := by
  have b := nc_w_le s d v s i
  rw [hE s i (by omega) (by omega), hV i hi, nI_l (show nc_w s d v s i < 2 ^ 31 by omega)]
  by_cases e : i = d
  · rw [if_neg (show ¬ d < i by omega), if_neg (show ¬ i = s by omega), if_pos (show d < i + 1 by omega), e, nc_w1, Int64.sub_zero, Int64.mul_one]
    exact Int64.zero_add _
  · have w0 : nc_w s d v s i = 0 := by
      rcases Nat.eq_zero_or_pos (nc_w s d v s i) with z | z
      · exact z
      · have := (nc_wP z).2
        omega
    rw [w0, show lN 0 = 0 from rfl, Int64.zero_mul, Int64.add_zero]
    by_cases z : d < i
    · rw [if_pos z, if_pos (by omega)]
    · rw [if_neg z, if_neg (by omega)]
theorem nc_from {post : Int64 → Prop} {fs fd : Int32} {ft fw : Int64} {a1 a2 a4 : Nat → Int32} {a3 a5 : Nat → Int64} {n s d v : Nat}
    (hn : n ≤ 6) (hs : s < n) (hd : d < n) (hsd : s ≠ d) (hv : v ≤ 9) (hE : nc_E s d v a1) (hV : nc_V n s a5) (H : post (lN v)) :
    wpX_currentFrom post (nI n, fs, fd, 1, ft, fw, a1, a2, a3, a4, a5) (nI s) := by
  unfold wpX_currentFrom
  refine pk_loop (σ := Int64) (fun f i x => wX_currentFrom_5 post (nI s) (nI n) fs fd 1 ft fw a1 a2 a3 a4 a5 f x (nI i)) (fun i x => x = lN (if d < i then v else 0)) n 0 0 (by omega) rfl ?_ ?_
  · intro f x h
    refine pk_le n n (fun _ => ?_) (fun z => absurd z (by omega))
    rw [h, if_pos hd]
    exact H
  · intro f i x hi h hw
    refine pk_le n i (fun z => absurd z (by omega)) (fun _ => ⟨pk_in (6 * s + i) 36 (by omega) (nc_i6 s i), pk_in i 6 (by omega), nm_r (e' := lN (if d < i + 1 then v else 0)) ?_ (nm_r (nI_1 i) (hw _ rfl))⟩)
    rw [nc_i6, nI_clamp (show 6 * s + i < 2 ^ 31 by omega), nI_clamp (show i < 2 ^ 31 by omega), h]
    exact nc_from_step hn hs hi hsd hv hE hV
theorem nc_show_68 {post : St2 → Prop} {fn fs fd : Int32} {fb ft fw : Int64} {a1 a2 a4 : Nat → Int32} {a3 a5 : Nat → Int64} {t : Nat}
    (H : post (fn, fs, fd, fb, lN t, 1, a1, a2, a3, a4, a5)) :
    wX_show_55 post (lN t) 1 1 fn fs fd fb ft fw a1 a2 a3 a4 a5 := by
  unfold wX_show_55 wX_show_68
  exact br_f (by decide) ⟨by decide, nm_r Int64.div_one ⟨by decide, nm_r Int64.div_one H⟩⟩
theorem nc_show_20 {post : St2 → Prop} {fn fs fd : Int32} {fb ft fw : Int64} {a1 a2 a4 : Nat → Int32} {a3 a5 : Nat → Int64} {t : Nat} (ht : t ≤ 9)
    (H : post (fn, fs, fd, fb, lN t, 1, a1, a2, a3, a4, a5)) :
    ∃ f, wX_show_20 post (lN t) 1 fn fs fd fb ft fw a1 a2 a3 a4 a5 f (lN t) 1 0 := by
  have G : wX_show_55 post (lN t) 1 1 fn fs fd fb ft fw a1 a2 a3 a4 a5 := nc_show_68 H
  have N0 : ∀ u : Nat, 0 < u → u ≤ 9 → ¬ lN u = 0 := by
    intro u h1 h2 e
    have := (lN_eq (a := u) (b := 0) (by omega) (by omega)).mp e
    omega
  have R : ∀ a b c : Nat, a ≤ 9 → 0 < b → b ≤ 9 → a % b = c → lN a - lN a / lN b * lN b = lN c := by
    intro a b c ha h0 hb e
    rw [pk_lRem (by omega) h0 (by omega), e]
  have F : ∀ (x y : Int64) (k : Nat) (f : Nat), k < 100 → x = 0 → y = 1 → wX_show_20 post (lN t) 1 fn fs fd fb ft fw a1 a2 a3 a4 a5 (f + 1) x y (nI k) := by
    intro x y k f hk ex ey
    rw [ex, ey]
    exact pk_le 100 k (fun z => absurd z (by omega)) (fun _ => br_t rfl G)
  have S : ∀ (a b c k f : Nat), k < 100 → b ≤ 9 → 0 < a → a ≤ 9 → b % a = c → wX_show_20 post (lN t) 1 fn fs fd fb ft fw a1 a2 a3 a4 a5 f (lN c) (lN a) (nI (k + 1)) → wX_show_20 post (lN t) 1 fn fs fd fb ft fw a1 a2 a3 a4 a5 (f + 1) (lN a) (lN b) (nI k) := by
    intro a b c k f hk hb h0 ha e hh
    exact pk_le 100 k (fun z => absurd z (by omega)) (fun _ => br_f (N0 a h0 ha) ⟨N0 a h0 ha, nm_r (R b a c hb h0 ha e) (nm_r (nI_1 k) hh)⟩)
  rcases Nat.eq_zero_or_pos t with z | z
  · exact ⟨1, F (lN t) 1 0 0 (by omega) (by rw [z]; rfl) rfl⟩
  · by_cases z1 : t = 1
    · refine ⟨2, S t 1 0 0 1 (by omega) (by omega) z ht (by rw [z1]) (F _ _ 1 0 (by omega) rfl (by rw [z1]; rfl))⟩
    · exact ⟨3, S t 1 1 0 2 (by omega) (by omega) z ht (Nat.mod_eq_of_lt (by omega)) (S 1 t 0 1 1 (by omega) ht (by omega) (by omega) (Nat.mod_one t) (F _ _ 2 0 (by omega) rfl rfl))⟩
theorem nc_show {post : St2 → Prop} {fn fs fd : Int32} {fb ft fw : Int64} {a1 a2 a4 : Nat → Int32} {a3 a5 : Nat → Int64} {t : Nat} {x : Int64} (hx : x = lN t) (ht : t ≤ 9)
    (H : post (fn, fs, fd, fb, lN t, 1, a1, a2, a3, a4, a5)) :
    wpX_show post (fn, fs, fd, fb, ft, fw, a1, a2, a3, a4, a5) x 1 := by
  unfold wpX_show
  rw [hx]
  exact br_t ((lN_le (a := 0) (b := t) (by omega) (by omega)).mpr (by omega)) (nc_show_20 ht H)
theorem nc_currentTop {post : Int64 → St2 → Prop} {fb ft fw : Int64} {a1 a2 a4 : Nat → Int32} {a3 a5 : Nat → Int64} {n s d v : Nat}
    (hn : n ≤ 6) (hs : s < n) (hd : d < n) (hsd : s ≠ d) (hv : v ≤ 9) (hE : nc_E s d v a1)
    (H : ∀ gb gt gw b2 b4 b5, post (lN v) (nI n, nI s, nI d, gb, gt, gw, a1, b2, a3, b4, b5)) :
    wpX_currentTop post (nI n, nI s, nI d, fb, ft, fw, a1, a2, a3, a4, a5) := by
  unfold wpX_currentTop
  dsimp only
  unfold wpX_current
  refine nc_solve hn hs hd hsd hv hE (fun z a => br_t rfl ?_) (fun z a a' a'' hP hV => br_f (by decide) ?_)
  · have t := H fb 0 1 a a4 a5
    rw [z] at t
    exact t
  · exact nc_from hn hs hd hsd hv hE hV (nc_show rfl hv (H _ _ _ _ _ _))
theorem nc_isP0 {post : Int32 → Prop} {fs fd : Int32} {fb ft fw : Int64} {a1 a2 a4 : Nat → Int32} {a3 a5 : Nat → Int64} {fn x : Int32} (h : x < 0 ∨ fn ≤ x) (H : post 0) :
    wpX_isPoint post (fn, fs, fd, fb, ft, fw, a1, a2, a3, a4, a5) x := by
  unfold wpX_isPoint
  by_cases z : x < 0
  · exact br_t z H
  · exact br_f z (br_t (h.resolve_left z) H)
theorem nc_isP1 {post : Int32 → Prop} {fs fd : Int32} {fb ft fw : Int64} {a1 a2 a4 : Nat → Int32} {a3 a5 : Nat → Int64} {n j : Nat} (hn : n ≤ 6) (h : j < n) (H : post 1) :
    wpX_isPoint post (nI n, fs, fd, fb, ft, fw, a1, a2, a3, a4, a5) (nI j) := by
  unfold wpX_isPoint
  exact br_f (nI_pos (by omega)) (br_f (nI_ge h (by omega)) H)
/-- what the voltage's top must be -/
def nc_due (s d v j : Nat) : Int64 := if v = 0 then -2 else if j = s then 1 else if j = d then 0 else -3
theorem nc_voltageTop1 {post : Int64 → St2 → Prop} {fb ft fw : Int64} {a1 a2 a4 : Nat → Int32} {a3 a5 : Nat → Int64} {n s d v j : Nat}
    (hn : n ≤ 6) (hs : s < n) (hd : d < n) (hsd : s ≠ d) (hv : v ≤ 9) (hE : nc_E s d v a1) (hj : j < n)
    (H : ∀ gb gt gw b2 b4 b5, post (nc_due s d v j) (nI n, nI s, nI d, gb, gt, gw, a1, b2, a3, b4, b5)) :
    wpX_voltageTop post (nI n, nI s, nI d, fb, ft, fw, a1, a2, a3, a4, a5) (nI j) := by
  unfold wpX_voltageTop
  dsimp only
  unfold wpX_voltage
  refine nc_isP1 hn hj (br_f (by decide) (nc_solve hn hs hd hsd hv hE (fun z a => br_t rfl (br_f (by decide) ?_)) (fun z a a' a'' hP hV => br_f (by decide) ⟨pk_in j 6 (by omega), pk_in s 6 (by omega), ?_⟩)))
  · have t := H fb ft fw a a4 a5
    unfold nc_due at t
    rw [if_pos z] at t
    exact t
  · have z0 : ¬ v = 0 := by omega
    unfold nc_due at H
    rw [if_neg z0] at H
    rw [nI_clamp (show j < 2 ^ 31 by omega), nI_clamp (show s < 2 ^ 31 by omega), hP j hj, hP s hs]
    have b1 := nc_pt_lt (v := v) hs hd hj
    have b2 := nc_pt_lt (v := v) hs hd hs
    refine pk_eq (nc_pt s d v j) (nc_pt s d v s) (fun e => ⟨pk_in j 6 (by omega), ?_⟩) (fun e => br_f (by decide) ?_) rfl rfl (by omega) (by omega)
    · have e' := (nc_pt1 z j hsd).mp e
      by_cases c : j = s
      · rw [if_pos c] at H
        exact nc_show (t := 1) (by rw [hV j hj, if_pos c]; rfl) (by omega) (br_t (by decide) (H _ _ _ _ _ _))
      · rw [if_neg c, if_pos (e'.resolve_left c)] at H
        exact nc_show (t := 0) (by rw [hV j hj, if_neg c]; rfl) (by omega) (br_t (by decide) (H _ _ _ _ _ _))
    · have e' : ¬ (j = s ∨ j = d) := fun g => e ((nc_pt1 z j hsd).mpr g)
      rw [if_neg (fun g => e' (Or.inl g)), if_neg (fun g => e' (Or.inr g))] at H
      exact H _ _ _ _ _ _
theorem nc_voltageTop0 {post : Int64 → St2 → Prop} {fn fs fd : Int32} {fb ft fw : Int64} {a1 a2 a4 : Nat → Int32} {a3 a5 : Nat → Int64} {x : Int32} (h : x < 0 ∨ fn ≤ x)
    (H : post (-1) (fn, fs, fd, fb, ft, fw, a1, a2, a3, a4, a5)) :
    wpX_voltageTop post (fn, fs, fd, fb, ft, fw, a1, a2, a3, a4, a5) x := by
  unfold wpX_voltageTop
  dsimp only
  unfold wpX_voltage
  exact nc_isP0 h (br_t rfl (br_f (by decide) H))
end
section
theorem nc_degree {post : Int64 → Prop} {fs fd : Int32} {fb ft fw : Int64} {a1 a2 a4 : Nat → Int32} {a3 a5 : Nat → Int64} {n s d v p : Nat}
    (hn : n ≤ 6) (hs : s < n) (hd : d < n) (hsd : s ≠ d) (hv : v ≤ 9) (hE : nc_E s d v a1) (hp : p < n) (H : post (lN (nc_dg s d v p))) :
    wpX_degree post (nI n, fs, fd, fb, ft, fw, a1, a2, a3, a4, a5) (nI p) := by
  unfold wpX_degree
  refine pk_loop (σ := Int64) (fun f i x => wX_degree_5 post (nI p) (nI n) fs fd fb ft fw a1 a2 a3 a4 a5 f x (nI i)) (fun i x => x = lN (nc_S s d v p i)) n 0 0 (by omega) (by rw [nc_S0]; rfl) ?_ ?_
  · intro f x h
    refine pk_le n n (fun _ => ?_) (fun z => absurd z (by omega))
    rw [h, nc_Sn hs hd]
    exact H
  · intro f i x hi h hw
    refine pk_le n i (fun z => absurd z (by omega)) (fun _ => ⟨pk_in (6 * p + i) 36 (by omega) (nc_i6 p i), nm_r (e' := lN (nc_S s d v p (i + 1))) ?_ (nm_r (nI_1 i) (hw _ rfl))⟩)
    have b := nc_w_le s d v p i
    rw [nc_i6, nI_clamp (show 6 * p + i < 2 ^ 31 by omega), h, hE p i (by omega) (by omega), nI_l (show nc_w s d v p i < 2 ^ 31 by omega), lN_add, nc_S1 hsd]
/-- the table's entry for the points i + 1 and j + 1 -/
def nc_e (s d v i j : Nat) : Int64 := if i = j then lN (nc_dg s d v (i + 1)) else -(lN (nc_w s d v (i + 1) (j + 1)))
/-- the table is filled up to row p, column q -/
def nc_T (s d v n p q : Nat) (a : Nat → Int64) : Prop := ∀ i j, i < n → j < n → (i < p ∨ (i = p ∧ j < q)) → a (7 * i + j) = nc_e s d v i j
theorem nc_T1 {s d v n p q : Nat} {a : Nat → Int64} (hn : n ≤ 5) (hq : q < n) (h : nc_T s d v n p q a) : nc_T s d v n p (q + 1) (vp_updL a (7 * p + q) (nc_e s d v p q)) := by
  intro i j hi hj hij
  by_cases e : i = p ∧ j = q
  · rw [e.1, e.2, pk_uLs]
  · rw [pk_uLn (by omega)]
    exact h i j hi hj (by omega)
theorem nc_d19 {post : Int64 → St2 → Prop} {J : Int32 → (Nat → Int32) → (Nat → Int32) → (Nat → Int64) → (Nat → Int32) → (Nat → Int64) → Prop} {x1 fs fd : Int32} {fb ft fw : Int64} {a1 a2 a4 : Nat → Int32} {a3 a5 : Nat → Int64} {n s d v p : Nat}
    (hn : n + 1 ≤ 6) (hs : s < n + 1) (hd : d < n + 1) (hsd : s ≠ d) (hv : v ≤ 9) (hE : nc_E s d v a1) (hp : p < n) (h0 : nc_T s d v n p 0 a3)
    (H : ∀ a, nc_T s d v n (p + 1) 0 a → J (nI (p + 1 + 1)) a1 a2 a a4 a5) :
    ∃ f, wX_determinant_19 post J x1 (nI (p + 1)) (nI (n + 1)) fs fd fb ft fw f 1 a1 a2 a3 a4 a5 := by
  refine pk_loop (fun f q a => wX_determinant_19 post J x1 (nI (p + 1)) (nI (n + 1)) fs fd fb ft fw f (nI (q + 1)) a1 a2 a a4 a5) (fun q a => nc_T s d v n p q a) n 0 a3 (by omega) h0 ?_ ?_
  · intro f a h
    exact pk_le (n + 1) (n + 1) (fun _ => nm_r (nI_1 (p + 1)) (H a (fun i j hi hj hij => h i j hi hj (by omega)))) (fun z => absurd z (by omega))
  · intro f q a hq h hw
    have t : wX_determinant_19 post J x1 (nI (p + 1)) (nI (n + 1)) fs fd fb ft fw f (nI (q + 1 + 1)) a1 a2 (vp_updL a (7 * p + q) (nc_e s d v p q)) a4 a5 := hw _ (nc_T1 (by omega) hq h)
    refine pk_le (n + 1) (q + 1) (fun z => absurd z (by omega)) (fun _ => ?_)
    refine pk_eq (p + 1) (q + 1) (fun z => ?_) (fun z => ?_)
    · refine nc_degree hn hs hd hsd hv hE (by omega) ⟨pk_in (7 * p + q) 42 (by omega) (nc_i7m p q), ?_⟩
      rw [nc_i7m, nI_clamp (show 7 * p + q < 2 ^ 31 by omega)]
      refine nm_e (nm_r (nI_1 (q + 1)) ?_)
      unfold nc_e at t
      rw [if_pos (show p = q by omega)] at t
      exact t
    · refine ⟨pk_in (6 * (p + 1) + (q + 1)) 36 (by omega) (nc_i6 (p + 1) (q + 1)), pk_in (7 * p + q) 42 (by omega) (nc_i7m p q), ?_⟩
      have b := nc_w_le s d v (p + 1) (q + 1)
      rw [nc_i7m, nI_clamp (show 7 * p + q < 2 ^ 31 by omega), nc_i6, nI_clamp (show 6 * (p + 1) + (q + 1) < 2 ^ 31 by omega), hE (p + 1) (q + 1) (by omega) (by omega), nc_neg _ (by omega)]
      refine nm_e (nm_r (nI_1 (q + 1)) ?_)
      unfold nc_e at t
      rw [if_neg (show ¬ p = q by omega)] at t
      exact t
theorem nc_reduceRow {post : St2 → Prop} {fn fs fd : Int32} {fb ft fw : Int64} {a1 a2 a4 : Nat → Int32} {a3 a5 : Nat → Int64} {n i : Nat}
    (hn : n ≤ 5) (h1 : 1 ≤ i) (hi : i < n)
    (H : ∀ a, (∀ j, (j < 7 * i ∨ 7 * i + n ≤ j) → a j = a3 j) → (∀ c, c < n → a (7 * i + c) = a3 0 * a3 (7 * i + c) - a3 (7 * i) * a3 c) → post (fn, fs, fd, fb, ft, fw, a1, a2, a, a4, a5)) :
    wpX_reduceRow post (fn, fs, fd, fb, ft, fw, a1, a2, a3, a4, a5) (nI i) 0 0 (nI n) 1 := by
  have e7 : ∀ c : Nat, (7 : Int32) * 0 + nI c = nI c := by
    intro c
    have t := nc_i7 0 c
    rw [show 7 * 0 + c = c by omega] at t
    exact t
  have eI : (7 : Int32) * nI i + 0 = nI (7 * i) := nc_i7 i 0
  unfold wpX_reduceRow
  refine ⟨pk_in 0 42 (by omega), nm_r (e' := a3 0) rfl ⟨pk_in (7 * i) 42 (by omega) eI, nm_r (e' := a3 (7 * i)) (by rw [eI, nI_clamp (show 7 * i < 2 ^ 31 by omega)]) (br_f (by decide) ?_)⟩⟩
  refine pk_loop (fun f c a => wX_reduceRow_44 post (nI i) 0 (nI n) (a3 0) (a3 (7 * i)) 1 fn fs fd fb ft fw f (nI c) a1 a2 a a4 a5) (fun c a => (∀ j, (j < 7 * i ∨ 7 * i + c ≤ j) → a j = a3 j) ∧ (∀ e, e < c → a (7 * i + e) = a3 0 * a3 (7 * i + e) - a3 (7 * i) * a3 e)) n 0 a3 (by omega) ⟨fun _ _ => rfl, fun e he => absurd he (by omega)⟩ ?_ ?_
  · intro f a h
    exact pk_le n n (fun _ => H a h.1 h.2) (fun z => absurd z (by omega))
  · intro f c a hc h hw
    refine pk_le n c (fun z => absurd z (by omega)) (fun _ => ⟨pk_in (7 * i + c) 42 (by omega) (nc_i7 i c), pk_in c 42 (by omega) (e7 c), by decide, pk_in (7 * i + c) 42 (by omega) (nc_i7 i c), ?_⟩)
    rw [nc_i7, e7, nI_clamp (show 7 * i + c < 2 ^ 31 by omega), nI_clamp (show c < 2 ^ 31 by omega), Int64.div_one, h.1 (7 * i + c) (by omega), h.1 c (by omega)]
    refine nm_e (nm_r (nI_1 c) (hw _ ⟨fun j hj => ?_, fun e he => ?_⟩))
    · rw [pk_uLn (by omega)]
      exact h.1 j (by omega)
    · by_cases g : e = c
      · rw [g, pk_uLs]
      · rw [pk_uLn (by omega)]
        exact h.2 e (by omega)
/-- the second pivot is nought -/
theorem nc_zero {s d v : Nat} (hsd : s ≠ d) (h : 0 < nc_dg s d v 1) (hv : v ≤ 9) : nc_e s d v 0 0 * nc_e s d v 1 1 - nc_e s d v 1 0 * nc_e s d v 0 1 = 0 := by
  have e1 : nc_dg s d v 1 = v ∧ (1 = s ∨ 1 = d) := by
    unfold nc_dg at h ⊢
    by_cases c : 1 = s ∨ 1 = d
    · rw [if_pos c]
      exact ⟨rfl, c⟩
    · rw [if_neg c] at h
      omega
  have e2 : nc_dg s d v 2 = nc_w s d v 1 2 := by
    unfold nc_dg nc_w
    by_cases c : 2 = s ∨ 2 = d
    · rw [if_pos c, if_pos (by omega)]
    · rw [if_neg c, if_neg (by omega)]
  have e3 : nc_w s d v 2 1 = nc_w s d v 1 2 := by
    unfold nc_w
    by_cases c : 2 = s ∨ 2 = d
    · rw [if_pos (by omega), if_pos (by omega)]
    · rw [if_neg (by omega), if_neg (by omega)]
  have e4 : nc_w s d v 1 2 = v ∨ nc_w s d v 1 2 = 0 := by
    unfold nc_w
    split
    · exact Or.inl rfl
    · exact Or.inr rfl
  show lN (nc_dg s d v 1) * lN (nc_dg s d v 2) - (-(lN (nc_w s d v 2 1))) * (-(lN (nc_w s d v 1 2))) = 0
  rw [e1.1, e2, e3]
  rcases e4 with g | g
  · rw [g]
    grind
  · rw [g, show lN 0 = 0 from rfl]
    grind
theorem nc_det {post : Int64 → St2 → Prop} {fs fd : Int32} {fb ft fw : Int64} {a1 a2 a4 : Nat → Int32} {a3 a5 : Nat → Int64} {n s d v : Nat}
    (h2 : 1 ≤ n) (hn : n + 1 ≤ 6) (hs : s < n + 1) (hd : d < n + 1) (hsd : s ≠ d) (hv : v ≤ 9) (hT : nc_T s d v n n 0 a3)
    (H : ∀ a, post (if n = 1 then lN v else 0) (nI (n + 1), fs, fd, fb, ft, fw, a1, a2, a, a4, a5)) :
    ∃ f, wX_determinant_85 post (nI n) f 1 0 (nI (n + 1)) fs fd fb ft fw a1 a2 a3 a4 a5 := by
  have bd := nc_dg_le s d v 1
  have t00 : a3 0 = lN (nc_dg s d v 1) := hT 0 0 (by omega) (by omega) (by omega)
  refine ⟨2, pk_le n 0 (fun z => absurd z (by omega)) (fun _ => ⟨pk_in 0 42 (by omega), nm_r (e' := lN (nc_dg s d v 1)) t00 ?_⟩)⟩
  by_cases c : nc_dg s d v 1 = 0
  · refine br_t (by rw [c]; rfl) ?_
    have t := H a3
    by_cases e : n = 1
    · have e' : nc_dg s d v 1 = v := by
        unfold nc_dg
        rw [if_pos (by omega)]
      rw [if_pos e, ← e', c] at t
      exact t
    · rw [if_neg e] at t
      exact t
  · have cv : nc_dg s d v 1 = v := by
      unfold nc_dg at c ⊢
      by_cases g : 1 = s ∨ 1 = d
      · rw [if_pos g]
      · rw [if_neg g] at c
        omega
    refine br_f (fun z => c ((lN_eq (a := nc_dg s d v 1) (b := 0) (by omega) (by omega)).mp z)) (nm_e ?_)
    have Z := nc_zero hsd (show 0 < nc_dg s d v 1 by omega) hv
    refine pk_loop (fun f i a => wX_determinant_121 post (wX_determinant_85 post (nI n) 1) (nI n) 1 0 (lN (nc_dg s d v 1)) f (nI i) (nI (n + 1)) fs fd fb ft fw a1 a2 a a4 a5) (fun i a => 1 ≤ i ∧ (i ≤ 1 → ∀ j, a j = a3 j) ∧ (1 < i → a 8 = 0)) n 1 a3 h2 ⟨by omega, fun _ _ => rfl, fun z => absurd z (by omega)⟩ ?_ ?_
    · intro f a h
      refine pk_le n n (fun _ => nm_r (e' := 1) (by decide) ?_) (fun z => absurd z (by omega))
      refine pk_le n 1 (fun z => ?_) (fun z => ⟨pk_in 8 42 (by omega), nm_r (e' := 0) (h.2.2 z) (br_t rfl ?_)⟩)
      · have t := H a
        rw [if_pos (by omega), ← cv] at t
        exact t
      · have t := H a
        rw [if_neg (by omega)] at t
        exact t
    · intro f i a hi h hw
      refine pk_le n i (fun z => absurd z (by omega)) (fun _ => nc_reduceRow (by omega) h.1 hi (fun a' k1 k2 => nm_r (nI_1 i) (hw a' ⟨by omega, fun z => absurd z (by have := h.1; omega), fun _ => ?_⟩)))
      by_cases c1 : i = 1
      · have g := h.2.1 (by omega)
        have k := k2 1 (by omega)
        rw [c1, g, g, g, g] at k
        have q1 : a3 (7 * 1 + 1) = nc_e s d v 1 1 := hT 1 1 (by omega) (by omega) (by omega)
        have q2 : a3 (7 * 1) = nc_e s d v 1 0 := hT 1 0 (by omega) (by omega) (by omega)
        have q3 : a3 1 = nc_e s d v 0 1 := hT 0 1 (by omega) (by omega) (by omega)
        have q4 : a3 0 = nc_e s d v 0 0 := hT 0 0 (by omega) (by omega) (by omega)
        rw [q1, q2, q3, q4, Z] at k
        exact k
      · have h1 := h.1
        rw [k1 8 (by omega)]
        exact h.2.2 (by omega)
theorem nc_trees {post : Int64 → St2 → Prop} {fs fd : Int32} {fb ft fw : Int64} {a1 a2 a4 : Nat → Int32} {a3 a5 : Nat → Int64} {n s d v : Nat}
    (h2 : 1 ≤ n) (hn : n + 1 ≤ 6) (hs : s < n + 1) (hd : d < n + 1) (hsd : s ≠ d) (hv : v ≤ 9) (hE : nc_E s d v a1)
    (H : ∀ a, post (if n = 1 then lN v else 0) (nI (n + 1), fs, fd, fb, ft, fw, a1, a2, a, a4, a5)) :
    wpX_trees post (nI (n + 1), fs, fd, fb, ft, fw, a1, a2, a3, a4, a5) := by
  unfold wpX_trees
  dsimp only
  unfold wpX_determinant
  refine nm_r (e' := nI n) (nI_pred n) ?_
  refine pk_loop (fun f p a => wX_determinant_9 _ (nI n) (nI (n + 1)) fs fd fb ft fw f (nI (p + 1)) a1 a2 a a4 a5) (fun p a => nc_T s d v n p 0 a) n 0 a3 (by omega) (fun i j _ _ z => absurd z (by omega)) ?_ ?_
  · intro f a h
    exact pk_le (n + 1) (n + 1) (fun _ => nc_det h2 hn hs hd hsd hv h H) (fun z => absurd z (by omega))
  · intro f p a hp h hw
    exact pk_le (n + 1) (p + 1) (fun z => absurd z (by omega)) (fun _ => nc_d19 hn hs hd hsd hv hE hp h (fun a' h' => hw a' h'))
end
section
theorem nc_264 {post : Int32 → St0 → Prop} {mc ms kc ks : Nat} {x4 : Int32} {z0 : Int64} {fb ft fw : Int64} {a1 a2 a4 : Nat → Int32} {a3 a5 : Nat → Int64} {n s d v : Nat}
    (H : post 1 ()) (h2 : 2 ≤ n) (hn : n ≤ 6) (hs : s < n) (hd : d < n) (hsd : s ≠ d) (hv : v ≤ 9) (hE : nc_E s d v a1)
    (hz : ((x4 < 0 ∨ nI n ≤ x4) ∧ z0 = -1) ∨ ∃ j, j < n ∧ x4 = nI j ∧ z0 = nc_due s d v j) :
    wL_lawOf_264 post mc ms x4 (nI n) (nI v) z0 kc ks (nI n) (nI s) (nI d) fb ft fw a1 a2 a3 a4 a5 := by
  have T : ∀ gb gt gw b2 b4 b5, wpX_trees (fun r_139 u => match u with | (fm0_n_140, fm0_source_141, fm0_drain_142, fm0_bottom_143, fm0_topNow_144, fm0_bottomNow_145, am2831_148, am2832_151, am2833_154, am2834_157, am2835_160) => (((nI n = 2 → (wL_lawOf_299 post mc ms (nI v).toInt64 r_139 kc ks)) ∧ (¬ nI n = 2 → (wL_lawOf_299 post mc ms 0 r_139 kc ks))))) (nI n, nI s, nI d, gb, gt, gw, a1, b2, a3, b4, b5) := by
    intro gb gt gw b2 b4 b5
    obtain ⟨m, rfl⟩ : ∃ m, n = m + 1 := ⟨n - 1, by omega⟩
    refine nc_trees (by omega) hn hs hd hsd hv hE (fun a => ?_)
    refine pk_eq (m + 1) 2 (fun z => ?_) (fun z => ?_)
    · rw [if_pos (by omega), nI_l (by omega)]
      exact br_t rfl H
    · rw [if_neg (by omega)]
      exact br_t rfl H
  unfold wL_lawOf_264
  rcases hz with ⟨g, rfl⟩ | ⟨j, hj, rfl, rfl⟩
  · exact nc_voltageTop0 g (br_t rfl (T _ _ _ _ _ _))
  · exact nc_voltageTop1 hn hs hd hsd hv hE hj (fun gb gt gw b2 b4 b5 => br_t rfl (T gb gt gw b2 b4 b5))
theorem nc_181 {post : Int32 → St0 → Prop} {mc ms kc ks : Nat} {x1 x2 x4 z : Int32} {fb ft fw : Int64} {a1 a2 a4 : Nat → Int32} {a3 a5 : Nat → Int64} {n s d v : Nat}
    (H : post 1 ()) (h2 : 2 ≤ n) (hn : n ≤ 6) (hs : s < n) (hd : d < n) (hsd : s ≠ d) (hv : v ≤ 9) (hE : nc_E s d v a1)
    (hx : 0 < v → x1 = nI s ∧ x2 = nI d) :
    wL_lawOf_181 post mc ms x1 x2 x4 (nI n) (nI v) z z kc ks (nI n) (nI s) (nI d) fb ft fw a1 a2 a3 a4 a5 := by
  unfold wL_lawOf_181
  refine br_t rfl (nc_currentTop hn hs hd hsd hv hE (fun gb gt gw b2 b4 b5 => br_t (nI_l (by omega)).symm ?_))
  by_cases c1 : x4 < 0
  · refine br_t c1 ?_
    unfold wL_lawOf_216 wL_lawOf_217
    exact br_t rfl (nc_264 H h2 hn hs hd hsd hv hE (Or.inl ⟨Or.inl c1, rfl⟩))
  · refine br_f c1 ?_
    by_cases c2 : nI n ≤ x4
    · refine br_t c2 ?_
      unfold wL_lawOf_216 wL_lawOf_217
      exact br_t rfl (nc_264 H h2 hn hs hd hsd hv hE (Or.inl ⟨Or.inr c2, rfl⟩))
    · refine br_f c2 ?_
      obtain ⟨j, hj, ej⟩ : ∃ j, j < n ∧ x4 = nI j := by
        rcases pk_ix x4 (n := n) (by omega) with g | g | g
        · exact absurd g c1
        · exact absurd g c2
        · exact g
      have K : ∀ z0, z0 = nc_due s d v j → wL_lawOf_264 post mc ms x4 (nI n) (nI v) z0 kc ks (nI n) (nI s) (nI d) gb gt gw a1 b2 a3 b4 b5 := fun z0 e => nc_264 H h2 hn hs hd hsd hv hE (Or.inr ⟨j, hj, ej, e⟩)
      unfold nc_due at K
      unfold wL_lawOf_217
      refine br_f (by decide) ?_
      by_cases v0 : v = 0
      · refine br_t (by rw [v0]; rfl) (K _ ?_)
        rw [if_pos v0]
      · refine br_f (nI_ne0 (by omega) (by omega)) ?_
        obtain ⟨e1, e2⟩ := hx (by omega)
        rw [e1, e2]
        refine pk_eq j s (fun g => K _ ?_) (fun g => pk_eq j d (fun g' => K _ ?_) (fun g' => K _ ?_) ej) ej
        · rw [if_neg v0, if_pos g]
        · rw [if_neg v0, if_neg g, if_pos g']
        · rw [if_neg v0, if_neg g, if_neg g']
theorem nc_no {post : Int32 → St0 → Prop} {mc ms kc ks : Nat} {x1 x2 x3 x4 z : Int32} {n : Nat}
    (H : post 1 ()) (h2 : 2 ≤ n) (hn : n ≤ 6) (hp : (x1 < 0 ∨ nI n ≤ x1) ∨ (x2 < 0 ∨ nI n ≤ x2)) :
    wL_lawOf_87 post mc ms x1 x2 x3 x4 (nI n) 0 z kc ks (nI n) 0 1 0 0 0 (fun _ => 0) (fun _ => 0) (fun _ => 0) (fun _ => 0) (fun _ => 0) := by
  have A : wL_lawOf_181 post mc ms x1 x2 x4 (nI n) 0 (-1) (-1) kc ks (nI n) 0 1 0 0 0 (fun _ => 0) (fun _ => 0) (fun _ => 0) (fun _ => 0) (fun _ => 0) :=
    nc_181 (s := 0) (d := 1) (v := 0) H h2 hn (by omega) (by omega) (by omega) (by omega) (nc_E0 0 1) (fun z => absurd z (by omega))
  have B : wL_lawOf_152 post mc ms x1 x2 x4 (nI n) 0 0 kc ks (nI n) 0 1 0 0 0 (fun _ => 0) (fun _ => 0) (fun _ => 0) (fun _ => 0) (fun _ => 0) := by
    unfold wL_lawOf_152 wpX_probe
    by_cases g : x1 < 0 ∨ nI n ≤ x1
    · exact nc_isP0 g (br_t rfl (br_t rfl A))
    · obtain ⟨j, hj, ej⟩ : ∃ j, j < n ∧ x1 = nI j := by
        rcases pk_ix x1 (n := n) (by omega) with k | k | k
        · exact absurd (Or.inl k) g
        · exact absurd (Or.inr k) g
        · exact k
      rw [ej] at A ⊢
      exact nc_isP1 hn hj (br_f (by decide) (nc_isP0 (hp.resolve_left g) (br_t rfl (br_t rfl A))))
  have C : wL_lawOf_127 post mc ms x1 x2 x3 x4 (nI n) 0 z (-1) (-1) kc ks (nI n) 0 1 0 0 0 (fun _ => 0) (fun _ => 0) (fun _ => 0) (fun _ => 0) (fun _ => 0) := by
    unfold wL_lawOf_127 wL_lawOf_151
    exact br_t rfl (br_t rfl B)
  unfold wL_lawOf_87 wpX_join
  by_cases g : x1 < 0 ∨ nI n ≤ x1
  · exact nc_isP0 g (br_t rfl (br_t rfl C))
  · obtain ⟨j, hj, ej⟩ : ∃ j, j < n ∧ x1 = nI j := by
      rcases pk_ix x1 (n := n) (by omega) with k | k | k
      · exact absurd (Or.inl k) g
      · exact absurd (Or.inr k) g
      · exact k
    rw [ej] at C ⊢
    exact nc_isP1 hn hj (br_f (by decide) (nc_isP0 (hp.resolve_left g) (br_t rfl (br_t rfl C))))
theorem nc_E1 {p q v : Nat} (hp : p < 6) (hq : q < 6) : nc_E p q v (upd (upd (fun _ => 0) (6 * p + q) (nI v)) (6 * q + p) (nI v)) := by
  intro i j hi hj
  unfold nc_w
  by_cases c : i = q ∧ j = p
  · rw [if_pos (by omega), c.1, c.2, pk_us]
  · rw [pk_un (by omega)]
    by_cases c' : i = p ∧ j = q
    · rw [if_pos (by omega), c'.1, c'.2, pk_us]
    · rw [pk_un (by omega), if_neg (by omega)]
      rfl
theorem nc_set {post : St2 → Prop} {fn fs fd : Int32} {fb ft fw : Int64} {a1 a2 a4 : Nat → Int32} {a3 a5 : Nat → Int64} {p q : Nat} {x : Int32} (hp : p < 6) (hq : q < 6) (hpq : p ≠ q)
    (H : post (fn, fs, fd, fb, ft, fw, upd (upd a1 (6 * p + q) x) (6 * q + p) x, a2, a3, a4, a5)) :
    wpX_set post (fn, fs, fd, fb, ft, fw, a1, a2, a3, a4, a5) (nI p) (nI q) x := by
  unfold wpX_set
  refine pk_eq p q (fun z => absurd z hpq) (fun _ => ⟨pk_in (6 * p + q) 36 (by omega) (nc_i6 p q), nm_r (e' := upd a1 (6 * p + q) x) ?_ ⟨pk_in (6 * q + p) 36 (by omega) (nc_i6 q p), nm_r (e' := upd (upd a1 (6 * p + q) x) (6 * q + p) x) ?_ H⟩⟩)
  · rw [nc_i6, nI_clamp (by omega)]
  · rw [nc_i6, nI_clamp (by omega)]
theorem nc_152s {post : Int32 → St0 → Prop} {mc ms kc ks : Nat} {x4 : Int32} {a1 : Nat → Int32} {n p q v : Nat}
    (H : post 1 ()) (h2 : 2 ≤ n) (hn : n ≤ 6) (hp : p < n) (hq : q < n) (hpq : p ≠ q) (hv : v ≤ 9) (hE : nc_E p q v a1) :
    wL_lawOf_152 post mc ms (nI p) (nI q) x4 (nI n) 1 (nI v) kc ks (nI n) 0 1 0 0 0 a1 (fun _ => 0) (fun _ => 0) (fun _ => 0) (fun _ => 0) := by
  unfold wL_lawOf_152 wpX_probe
  refine nc_isP1 hn hp (br_f (by decide) (nc_isP1 hn hq (br_f (by decide) ?_)))
  refine pk_eq p q (fun z => absurd z hpq) (fun _ => br_f (by decide) ?_)
  exact pk_eq p q (fun z => absurd z hpq) (fun _ => nc_181 H h2 hn hp hq hpq hv hE (fun _ => ⟨rfl, rfl⟩))
theorem nc_yes {post : Int32 → St0 → Prop} {mc ms kc ks : Nat} {x3 x4 z : Int32} {n p q : Nat}
    (H : post 1 ()) (h2 : 2 ≤ n) (hn : n ≤ 6) (hp : p < n) (hq : q < n) (hz : (z = 0 ∧ (x3 < 0 ∨ 9 < x3)) ∨ (z = 1 ∧ ∃ v, v ≤ 9 ∧ x3 = nI v)) :
    wL_lawOf_87 post mc ms (nI p) (nI q) x3 x4 (nI n) 1 z kc ks (nI n) 0 1 0 0 0 (fun _ => 0) (fun _ => 0) (fun _ => 0) (fun _ => 0) (fun _ => 0) := by
  unfold wL_lawOf_87 wpX_join
  refine nc_isP1 hn hp (br_f (by decide) (nc_isP1 hn hq (br_f (by decide) ?_)))
  refine pk_eq p q (fun e => ?_) (fun e => ?_)
  · refine br_f (by decide) (br_t (by rw [e]) ?_)
    unfold wL_lawOf_127 wL_lawOf_151 wL_lawOf_152 wpX_probe
    refine br_t rfl (br_f (by decide) (br_t (by rw [e]) ?_))
    refine nc_isP1 hn hp (br_f (by decide) (nc_isP1 hn hq (br_f (by decide) ?_)))
    refine br_t (by rw [e]) (br_f (by decide) (br_t (by rw [e]) ?_))
    exact nc_181 (s := 0) (d := 1) (v := 0) H h2 hn (by omega) (by omega) (by omega) (by omega) (nc_E0 0 1) (fun z => absurd z (by omega))
  · rcases hz with ⟨rfl, g⟩ | ⟨rfl, v, hv, rfl⟩
    · have D : wL_lawOf_127 post mc ms (nI p) (nI q) x3 x4 (nI n) 1 0 (-3) (-3) kc ks (nI n) 0 1 0 0 0 (fun _ => 0) (fun _ => 0) (fun _ => 0) (fun _ => 0) (fun _ => 0) := by
        unfold wL_lawOf_127 wL_lawOf_151
        exact br_t rfl (br_f (by decide) (pk_eq p q (fun z => absurd z e) (fun _ => br_t rfl (nc_152s (v := 0) H h2 hn hp hq e (by omega) (nc_E0 p q)))))
      by_cases c : x3 < 0
      · exact br_t c (br_f (by decide) (pk_eq p q (fun z => absurd z e) (fun _ => br_t rfl D)))
      · have c' : ¬ x3 ≤ 9 := by
          have t := g.resolve_left c
          exact Int32.not_le.mpr t
        exact br_f c (br_f c' (br_f (by decide) (pk_eq p q (fun z => absurd z e) (fun _ => br_t rfl D))))
    · refine br_f (nI_pos (by omega)) (br_t (nI_le (b := 9) hv (by omega)) ⟨pk_in (6 * p + q) 36 (by omega) (nc_i6 p q), nm_r (e' := 0) rfl (nc_set (by omega) (by omega) e ?_)⟩)
      refine br_f (by decide) (pk_eq p q (fun z => absurd z e) (fun _ => br_f (by decide) ?_))
      unfold wL_lawOf_127
      exact br_t rfl (br_f (by decide) (pk_eq p q (fun z => absurd z e) (fun _ => br_f (by decide) (nc_152s H h2 hn hp hq e hv (nc_E1 (by omega) (by omega))))))
theorem nc_33 {post : Int32 → St0 → Prop} {mc ms kc ks : Nat} {x1 x2 x3 x4 : Int32} {n : Nat} (H : post 1 ()) (h2 : 2 ≤ n) (hn : n ≤ 6) :
    wL_lawOf_33 post mc ms x1 x2 x3 x4 (nI n) kc ks (nI n) 0 1 0 0 0 (fun _ => 0) (fun _ => 0) (fun _ => 0) (fun _ => 0) (fun _ => 0) := by
  have N : ((x1 < 0 ∨ nI n ≤ x1) ∨ (x2 < 0 ∨ nI n ≤ x2)) → wL_lawOf_69 post mc ms x1 x2 x3 x4 (nI n) kc ks (nI n) 0 1 0 0 0 (fun _ => 0) (fun _ => 0) (fun _ => 0) (fun _ => 0) (fun _ => 0) := by
    intro g
    unfold wL_lawOf_69 wL_lawOf_70 wL_lawOf_86
    exact br_c (fun _ => nc_no H h2 hn g) (fun _ => br_c (fun _ => nc_no H h2 hn g) (fun _ => nc_no H h2 hn g))
  unfold wL_lawOf_33 wpX_points
  refine br_t rfl (br_c (fun c => N (Or.inl (Or.inl c))) (fun c1 => br_c (fun c => N (Or.inl (Or.inr c))) (fun c2 => br_c (fun c => N (Or.inr (Or.inl c))) (fun c3 => br_c (fun c => N (Or.inr (Or.inr c))) (fun c4 => ?_)))))
  obtain ⟨p, hp, rfl⟩ : ∃ j, j < n ∧ x1 = nI j := by
    rcases pk_ix x1 (n := n) (by omega) with k | k | k
    · exact absurd k c1
    · exact absurd k c2
    · exact k
  obtain ⟨q, hq, rfl⟩ : ∃ j, j < n ∧ x2 = nI j := by
    rcases pk_ix x2 (n := n) (by omega) with k | k | k
    · exact absurd k c3
    · exact absurd k c4
    · exact k
  unfold wL_lawOf_70 wL_lawOf_86
  refine br_c (fun c => nc_yes H h2 hn hp hq (Or.inl ⟨rfl, Or.inl c⟩)) (fun c => br_c (fun c' => nc_yes H h2 hn hp hq (Or.inl ⟨rfl, Or.inr c'⟩)) (fun c' => nc_yes H h2 hn hp hq (Or.inr ⟨rfl, ?_⟩)))
  obtain ⟨v, hv, ev⟩ := nI_of2 (M := 9) (n := 9) (by decide) c (Int32.not_lt.mp c')
  exact ⟨v, hv, ev⟩
theorem nc_lawOf {post : Int32 → St0 → Prop} {p0 p1 p2 p3 p4 : Int32} (H : post 1 ()) : wpL_lawOf post 92 1456 () p0 p1 p2 p3 p4 := by
  unfold wpL_lawOf wpX_init
  refine ⟨by omega, by omega, 5, 96, by omega, by omega, by omega, by omega, by omega, by omega, by omega, by omega, by omega, by omega, by omega, by omega, ?_⟩
  unfold wX_init_55 wL_lawOf_22
  by_cases c : 2 ≤ p0
  · refine br_t c ?_
    by_cases c' : p0 ≤ 6
    · have cz : ¬ p0 < 0 := by
        intro z
        have t : (2 : Int32) < 0 := Int32.lt_of_le_of_lt c z
        exact absurd t (by decide)
      obtain ⟨n, hn, rfl⟩ := nI_of2 (M := 6) (n := 6) (by decide) cz c'
      have h2 : 2 ≤ n := (nI_leI (a := 2) (b := n) (by omega) (by omega)).mp c
      exact br_t c' (br_t c (br_t c' (nc_33 H h2 hn)))
    · exact br_f c' (br_t c (br_f c' (nc_33 (n := 6) H (by omega) (by omega))))
  · exact br_f c (br_t (by decide) (br_f c (br_t (by decide) (nc_33 (n := 2) H (by omega) (by omega)))))
theorem nc_cell {post : Int32 → Prop} {L k : Nat} {xs : Nat → Int32} (hL : L ≤ 5) (hk : k < 5) (H : ∀ r, post r) : wpL_cellAt post L xs () (nI k) :=
  pk_le L k (fun _ => H _) (fun z => ⟨pk_in k L z, H _⟩)
theorem i_vc (xs : Nat → Int32) (L : Nat) (hL : L ≤ 5) : wpL_law (fun r => r = 1) L xs :=
  nc_cell (k := 0) hL (by omega) (fun _ => nc_cell (k := 1) hL (by omega) (fun _ => nc_cell (k := 2) hL (by omega) (fun _ => nc_cell (k := 3) hL (by omega) (fun _ => nc_cell (k := 4) hL (by omega) (fun _ => ⟨92, 1456, by omega, by omega, nc_lawOf rfl⟩)))))
end
