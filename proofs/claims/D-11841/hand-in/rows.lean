section
/-- the array holds the word -/
def as_rep (A : Nat → Int32) (w : List Nat) : Prop := ∀ i, i < w.length → A i = nI (w.getD i 0)
/-- a word of letters -/
def as_let (w : List Nat) : Prop := ∀ x, x ∈ w → 1 ≤ x ∧ x ≤ 8
/-- a boolean as an int -/
def as_b (t : Bool) : Int32 := if t = true then 1 else 0
theorem as_b0 (t : Bool) : as_b t = 0 ↔ ¬ t = true := by cases t <;> decide
theorem as_nil (A : Nat → Int32) : as_rep A [] := fun i hi => absurd hi (Nat.not_lt_zero i)
theorem as_snoc {A : Nat → Int32} {w : List Nat} {n x : Nat} (h : as_rep A w) (hn : n = w.length) : as_rep (upd A n (nI x)) (w ++ [x]) := by
  intro i hi
  rw [hn]
  rw [List.length_append, List.length_singleton] at hi
  by_cases e : i = w.length
  · rw [e, pk_us]
    simp [List.getD_eq_getElem?_getD]
  · rw [pk_un e, h i (by omega)]
    simp only [List.getD_eq_getElem?_getD]
    rw [List.getElem?_append_left (by omega)]
/-- one more place of a copy that begins at o -/
theorem as_fill {s g f : Nat → Int32} {o i k : Nat} {x : Int32} (hk : k = o + i) (hs : ∀ j, s j = if o ≤ j ∧ j < o + i then g (j - o) else f j) (hx : x = g i) : ∀ j, upd s k x j = if o ≤ j ∧ j < o + (i + 1) then g (j - o) else f j := by
  intro j
  rw [hk]
  by_cases e : j = o + i
  · rw [e, pk_us, if_pos (by omega), hx, show o + i - o = i by omega]
  · rw [pk_un e, hs j]
    by_cases c : o ≤ j ∧ j < o + i
    · rw [if_pos c, if_pos (by omega)]
    · rw [if_neg c, if_neg (by omega)]
theorem as_fill0 {g f : Nat → Int32} {o : Nat} : ∀ j, f j = if o ≤ j ∧ j < o + 0 then g (j - o) else f j := by
  intro j
  rw [if_neg (by omega)]
/-- a copy from 0 of a word's array holds the word -/
theorem as_cpy {s g f : Nat → Int32} {w : List Nat} (hg : as_rep g w) (hs : ∀ j, s j = if 0 ≤ j ∧ j < 0 + w.length then g (j - 0) else f j) : as_rep s w := by
  intro i hi
  rw [hs i, if_pos (by omega), Nat.sub_zero]
  exact hg i hi
theorem as_ne9 {A : Nat → Int32} {w : List Nat} (h : as_rep A w) (hl : as_let w) : ∀ i, i < w.length → ¬ A i = 9 := by
  intro i hi
  have hm := hl _ (List.getElem_mem hi)
  rw [h i hi, List.getD_eq_getElem?_getD, List.getElem?_eq_getElem hi]
  show ¬ nI (w[i]) = nI 9
  rw [nI_eq (by omega) (by omega)]
  omega
theorem as_mI (a b c : Nat) : nI a * nI b + nI c = nI (a * b + c) := by rw [pk_mul, nI_add]
end
section
section
variable {tl ru st no wl il cl fo : Int32} {a1 a2 a3 a4 a5 a6 a7 a8 a9 a10 a11 a12 a13 a14 a15 a16 : Nat → Int32}
theorem as_type {post : Int32 → St2 → Prop} {n x : Nat} (hn : n < 12) (h1 : 1 ≤ x) (h9 : x ≤ 9) (h : post (nI (n + 1)) (nI (n + 1), ru, st, no, wl, il, cl, fo, upd a1 n (nI x), a2, a3, a4, a5, a6, a7, a8, a9, a10, a11, a12, a13, a14, a15, a16)) : wpX_type post (nI n, ru, st, no, wl, il, cl, fo, a1, a2, a3, a4, a5, a6, a7, a8, a9, a10, a11, a12, a13, a14, a15, a16) (nI x) :=
  pk_lt x 1 (fun z => absurd z (by omega)) (fun _ => pk_le x 9 (fun _ => pk_lt n 12 (fun _ => ⟨pk_in n 12 hn, nm_r (by rw [nI_clamp (by omega)]) (nm_r (nI_1 n) h)⟩) (fun z => absurd z (by omega))) (fun z => absurd z (by omega)))
theorem as_word1 {post : St2 → Prop} {x : Nat} (h1 : 1 ≤ x) (h9 : x ≤ 9) (h : ∀ A, as_rep A [x] → post (nI 1, ru, st, no, wl, il, cl, fo, A, a2, a3, a4, a5, a6, a7, a8, a9, a10, a11, a12, a13, a14, a15, a16)) : wpL_word post (tl, ru, st, no, wl, il, cl, fo, a1, a2, a3, a4, a5, a6, a7, a8, a9, a10, a11, a12, a13, a14, a15, a16) (nI x) 0 0 0 := by
  unfold wpL_word wpX_erase
  refine as_type (n := 0) (by omega) h1 h9 ?_
  refine pk_le 0 0 (fun _ => ?_) (fun z => absurd z (by omega))
  refine pk_le 0 0 (fun _ => ?_) (fun z => absurd z (by omega))
  refine pk_le 0 0 (fun _ => ?_) (fun z => absurd z (by omega))
  exact h _ (as_snoc (as_nil _) rfl)
theorem as_word2 {post : St2 → Prop} {x y : Nat} (h1 : 1 ≤ x) (h9 : x ≤ 9) (g1 : 1 ≤ y) (g9 : y ≤ 9) (h : ∀ A, as_rep A [x, y] → post (nI 2, ru, st, no, wl, il, cl, fo, A, a2, a3, a4, a5, a6, a7, a8, a9, a10, a11, a12, a13, a14, a15, a16)) : wpL_word post (tl, ru, st, no, wl, il, cl, fo, a1, a2, a3, a4, a5, a6, a7, a8, a9, a10, a11, a12, a13, a14, a15, a16) (nI x) (nI y) 0 0 := by
  unfold wpL_word wpX_erase
  refine as_type (n := 0) (by omega) h1 h9 ?_
  refine pk_le y 0 (fun z => absurd z (by omega)) (fun _ => ?_)
  refine as_type (n := 1) (by omega) g1 g9 ?_
  refine pk_le 0 0 (fun _ => ?_) (fun z => absurd z (by omega))
  refine pk_le 0 0 (fun _ => ?_) (fun z => absurd z (by omega))
  exact h _ (as_snoc (as_snoc (as_nil _) rfl) rfl)
theorem as_word3 {post : St2 → Prop} {x y v : Nat} (h1 : 1 ≤ x) (h9 : x ≤ 9) (g1 : 1 ≤ y) (g9 : y ≤ 9) (k1 : 1 ≤ v) (k9 : v ≤ 9) (h : ∀ A, as_rep A [x, y, v] → post (nI 3, ru, st, no, wl, il, cl, fo, A, a2, a3, a4, a5, a6, a7, a8, a9, a10, a11, a12, a13, a14, a15, a16)) : wpL_word post (tl, ru, st, no, wl, il, cl, fo, a1, a2, a3, a4, a5, a6, a7, a8, a9, a10, a11, a12, a13, a14, a15, a16) (nI x) (nI y) (nI v) 0 := by
  unfold wpL_word wpX_erase
  refine as_type (n := 0) (by omega) h1 h9 ?_
  refine pk_le y 0 (fun z => absurd z (by omega)) (fun _ => ?_)
  refine as_type (n := 1) (by omega) g1 g9 ?_
  refine pk_le v 0 (fun z => absurd z (by omega)) (fun _ => ?_)
  refine as_type (n := 2) (by omega) k1 k9 ?_
  refine pk_le 0 0 (fun _ => ?_) (fun z => absurd z (by omega))
  exact h _ (as_snoc (as_snoc (as_snoc (as_nil _) rfl) rfl) rfl)
theorem as_word4 {post : St2 → Prop} {x y v w : Nat} (h1 : 1 ≤ x) (h9 : x ≤ 9) (g1 : 1 ≤ y) (g9 : y ≤ 9) (k1 : 1 ≤ v) (k9 : v ≤ 9) (m1 : 1 ≤ w) (m9 : w ≤ 9) (h : ∀ A, as_rep A [x, y, v, w] → post (nI 4, ru, st, no, wl, il, cl, fo, A, a2, a3, a4, a5, a6, a7, a8, a9, a10, a11, a12, a13, a14, a15, a16)) : wpL_word post (tl, ru, st, no, wl, il, cl, fo, a1, a2, a3, a4, a5, a6, a7, a8, a9, a10, a11, a12, a13, a14, a15, a16) (nI x) (nI y) (nI v) (nI w) := by
  unfold wpL_word wpX_erase
  refine as_type (n := 0) (by omega) h1 h9 ?_
  refine pk_le y 0 (fun z => absurd z (by omega)) (fun _ => ?_)
  refine as_type (n := 1) (by omega) g1 g9 ?_
  refine pk_le v 0 (fun z => absurd z (by omega)) (fun _ => ?_)
  refine as_type (n := 2) (by omega) k1 k9 ?_
  refine pk_le w 0 (fun z => absurd z (by omega)) (fun _ => ?_)
  refine as_type (n := 3) (by omega) m1 m9 ?_
  exact h _ (as_snoc (as_snoc (as_snoc (as_snoc (as_nil _) rfl) rfl) rfl) rfl)
theorem as_anyNo {post : Int32 → Prop} {n : Nat} (hn : n ≤ 12) (hl : ∀ i, i < n → ¬ a1 i = 9) (h : post 0) : wpX_hasAny post (nI n, ru, st, no, wl, il, cl, fo, a1, a2, a3, a4, a5, a6, a7, a8, a9, a10, a11, a12, a13, a14, a15, a16) :=
  pk_loop (σ := Unit) (fun k i _ => wX_hasAny_2 post (nI n) ru st no wl il cl fo a1 a2 a3 a4 a5 a6 a7 a8 a9 a10 a11 a12 a13 a14 a15 a16 k (nI i)) (fun _ _ => True) n 0 () (by omega) trivial
    (fun k _ _ => pk_le n n (fun _ => h) (fun z => absurd z (by omega)))
    (fun k i _ hi _ hw => pk_le n i (fun z => absurd z (by omega)) (fun _ => ⟨pk_in i 12 (by omega), br_f (by rw [nI_clamp (by omega)]; exact hl i hi) (nm_r (nI_1 i) (hw () trivial))⟩))
theorem as_anyYes {post : Int32 → Prop} (hl : a1 0 = 9) (h : post 1) : wpX_hasAny post (nI 1, ru, st, no, wl, il, cl, fo, a1, a2, a3, a4, a5, a6, a7, a8, a9, a10, a11, a12, a13, a14, a15, a16) :=
  ⟨1, pk_le 1 0 (fun z => absurd z (by omega)) (fun _ => ⟨pk_in 0 12 (by omega), br_t hl h⟩)⟩
theorem as_keep49 {post : Int32 → St2 → Prop} {n p : Nat} (hn : n ≤ 3) (hp : p ≤ 2) (h2 : a2 p = nI n) (h : ∀ A : Nat → Int32, (∀ j, A j = if p * 3 ≤ j ∧ j < p * 3 + n then a1 (j - p * 3) else a3 j) → post (nI n) (0, ru, st, no, wl, il, cl, fo, a1, a2, A, a4, a5, a6, a7, a8, a9, a10, a11, a12, a13, a14, a15, a16)) : ∃ k, wX_keep_49 post (nI p) (nI n) ru st no wl il cl fo k 0 a1 a2 a3 a4 a5 a6 a7 a8 a9 a10 a11 a12 a13 a14 a15 a16 :=
  pk_loop (fun k i s => wX_keep_49 post (nI p) (nI n) ru st no wl il cl fo k (nI i) a1 a2 s a4 a5 a6 a7 a8 a9 a10 a11 a12 a13 a14 a15 a16) (fun i s => ∀ j, s j = if p * 3 ≤ j ∧ j < p * 3 + i then a1 (j - p * 3) else a3 j) n 0 a3 (by omega) as_fill0
    (fun k s hs => pk_le n n (fun _ => ⟨pk_in p 3 (by omega), by rw [nI_clamp (by omega), h2]; exact h s hs⟩) (fun z => absurd z (by omega)))
    (fun k i s hi hs hw => pk_le n i (fun z => absurd z (by omega)) (fun _ => ⟨pk_in i 12 (by omega), pk_in (p * 3 + i) 9 (by omega) (as_mI p 3 i), nm_e (nm_r (nI_1 i) (hw _ (as_fill (pk_cl (p * 3 + i) (as_mI p 3 i)) hs (by rw [nI_clamp (by omega)]))))⟩))
theorem as_keep37 {post : Int32 → St2 → Prop} {n p : Nat} (hn : n ≤ 3) (hp : p ≤ 2) (h : ∀ A : Nat → Int32, (∀ j, A j = if p * 3 ≤ j ∧ j < p * 3 + n then a1 (j - p * 3) else a3 j) → post (nI n) (0, ru, st, no, wl, il, cl, fo, a1, upd a2 p (nI n), A, a4, a5, a6, a7, a8, a9, a10, a11, a12, a13, a14, a15, a16)) : wX_keep_37 post (nI p) (nI n) ru st no wl il cl fo a1 a2 a3 a4 a5 a6 a7 a8 a9 a10 a11 a12 a13 a14 a15 a16 :=
  ⟨pk_in p 3 (by omega), nm_r (by rw [nI_clamp (by omega)]) (as_keep49 hn hp pk_us h)⟩
theorem as_keepNo {post : Int32 → St2 → Prop} {n p : Nat} (hn : n ≤ 3) (hp : p ≤ 2) (hl : ∀ i, i < n → ¬ a1 i = 9) (h : ∀ A : Nat → Int32, (∀ j, A j = if p * 3 ≤ j ∧ j < p * 3 + n then a1 (j - p * 3) else a3 j) → post (nI n) (0, ru, st, no, wl, il, cl, fo, a1, upd a2 p (nI n), A, a4, a5, a6, a7, a8, a9, a10, a11, a12, a13, a14, a15, a16)) : wpX_keep post (nI n, ru, st, no, wl, il, cl, fo, a1, a2, a3, a4, a5, a6, a7, a8, a9, a10, a11, a12, a13, a14, a15, a16) (nI p) :=
  pk_lt p 0 (fun z => absurd z (by omega)) (fun _ => pk_le p 2 (fun _ => as_anyNo (by omega) hl (pk_lt 3 n (fun z => absurd z (by omega)) (fun _ => br_t rfl (as_keep37 hn hp h)))) (fun z => absurd z (by omega)))
theorem as_keepYes {post : Int32 → St2 → Prop} (hl : a1 0 = 9) (h : ∀ A : Nat → Int32, (∀ j, A j = if 2 * 3 ≤ j ∧ j < 2 * 3 + 1 then a1 (j - 2 * 3) else a3 j) → post (nI 1) (0, ru, st, no, wl, il, cl, fo, a1, upd a2 2 (nI 1), A, a4, a5, a6, a7, a8, a9, a10, a11, a12, a13, a14, a15, a16)) : wpX_keep post (nI 1, ru, st, no, wl, il, cl, fo, a1, a2, a3, a4, a5, a6, a7, a8, a9, a10, a11, a12, a13, a14, a15, a16) (nI 2) :=
  pk_lt 2 0 (fun z => absurd z (by omega)) (fun _ => pk_le 2 2 (fun _ => as_anyYes hl (pk_lt 3 1 (fun z => absurd z (by omega)) (fun _ => br_f (by decide) (br_t rfl (as_keep37 (by omega) (by omega) h))))) (fun z => absurd z (by omega)))
theorem as_rule92 {post : Int32 → St2 → Prop} {r : Nat} (hr : r < 10) (h : ∀ A : Nat → Int32, (∀ j, A j = if r * 9 ≤ j ∧ j < r * 9 + 9 then a3 (j - r * 9) else a8 j) → post (nI r) (tl, nI (r + 1), st, no, wl, il, cl, fo, a1, a2, a3, a4, a5, a6, a7, A, a9, a10, a11, a12, a13, a14, a15, a16)) : ∃ k, wX_rule_92 post (nI r) tl (nI r) st no wl il cl fo k 0 a1 a2 a3 a4 a5 a6 a7 a8 a9 a10 a11 a12 a13 a14 a15 a16 :=
  pk_loop (fun k i s => wX_rule_92 post (nI r) tl (nI r) st no wl il cl fo k (nI i) a1 a2 a3 a4 a5 a6 a7 s a9 a10 a11 a12 a13 a14 a15 a16) (fun i s => ∀ j, s j = if r * 9 ≤ j ∧ j < r * 9 + i then a3 (j - r * 9) else a8 j) 9 0 a8 (by omega) as_fill0
    (fun k s hs => pk_le 9 9 (fun _ => nm_r (nI_1 r) (h s hs)) (fun z => absurd z (by omega)))
    (fun k i s hi hs hw => pk_le 9 i (fun z => absurd z (by omega)) (fun _ => ⟨pk_in i 9 (by omega), pk_in (r * 9 + i) 90 (by omega) (as_mI r 9 i), nm_e (nm_r (nI_1 i) (hw _ (as_fill (pk_cl (r * 9 + i) (as_mI r 9 i)) hs (by rw [nI_clamp (by omega)]))))⟩))
theorem as_rule58 {post : Int32 → St2 → Prop} {r : Nat} (hr : r < 10) (h : ∀ A B : Nat → Int32, (∀ j, A j = if r * 3 ≤ j ∧ j < r * 3 + 3 then a2 (j - r * 3) else a7 j) → (∀ j, B j = if r * 9 ≤ j ∧ j < r * 9 + 9 then a3 (j - r * 9) else a8 j) → post (nI r) (tl, nI (r + 1), st, no, wl, il, cl, fo, a1, a2, a3, a4, a5, a6, A, B, a9, a10, a11, a12, a13, a14, a15, a16)) : ∃ k, wX_rule_58 post (nI r) tl (nI r) st no wl il cl fo k 0 a1 a2 a3 a4 a5 a6 a7 a8 a9 a10 a11 a12 a13 a14 a15 a16 :=
  pk_loop (fun k i s => wX_rule_58 post (nI r) tl (nI r) st no wl il cl fo k (nI i) a1 a2 a3 a4 a5 a6 s a8 a9 a10 a11 a12 a13 a14 a15 a16) (fun i s => ∀ j, s j = if r * 3 ≤ j ∧ j < r * 3 + i then a2 (j - r * 3) else a7 j) 3 0 a7 (by omega) as_fill0
    (fun k s hs => pk_le 3 3 (fun _ => as_rule92 hr (fun B hB => h s B hs hB)) (fun z => absurd z (by omega)))
    (fun k i s hi hs hw => pk_le 3 i (fun z => absurd z (by omega)) (fun _ => ⟨pk_in i 3 (by omega), pk_in (r * 3 + i) 30 (by omega) (as_mI r 3 i), nm_e (nm_r (nI_1 i) (hw _ (as_fill (pk_cl (r * 3 + i) (as_mI r 3 i)) hs (by rw [nI_clamp (by omega)]))))⟩))
theorem as_rule {post : Int32 → St2 → Prop} {r q : Nat} {su cr : Int32} (hr : r < 10) (hq : q ≤ 7) (h : ∀ A B : Nat → Int32, (∀ j, A j = if r * 3 ≤ j ∧ j < r * 3 + 3 then a2 (j - r * 3) else a7 j) → (∀ j, B j = if r * 9 ≤ j ∧ j < r * 9 + 9 then a3 (j - r * 9) else a8 j) → post (nI r) (tl, nI (r + 1), st, no, wl, il, cl, fo, a1, a2, a3, upd a4 r (nI q), upd a5 r (vp_nar .boolean su), upd a6 r (vp_nar .boolean cr), A, B, a9, a10, a11, a12, a13, a14, a15, a16)) : wpX_rule post (tl, nI r, st, no, wl, il, cl, fo, a1, a2, a3, a4, a5, a6, a7, a8, a9, a10, a11, a12, a13, a14, a15, a16) (nI q) su cr :=
  pk_lt q 0 (fun z => absurd z (by omega)) (fun _ => pk_le q 7 (fun _ => pk_lt r 10 (fun _ => ⟨pk_in r 10 hr, nm_r (by rw [nI_clamp (by omega)]) ⟨pk_in r 10 hr, nm_r (by rw [nI_clamp (by omega)]) ⟨pk_in r 10 hr, nm_r (by rw [nI_clamp (by omega)]) (as_rule58 hr h)⟩⟩⟩) (fun z => absurd z (by omega))) (fun z => absurd z (by omega)))
/-- the letter tree of the one stem ab -/
def as_ch (a b k : Nat) : Int32 := if k + 1 = a then 1 else if k = 7 + b then 2 else 0
theorem as_child {post : Int32 → St2 → Prop} {q k n : Nat} {x y : Int32} (hx : x = nI q) (hy : y = nI k) (hq : q * 8 + k < 1160) (h0 : a10 (q * 8 + k) = 0) (hn : n < 145) (h : post (nI n) (tl, ru, st, nI (n + 1), wl, il, cl, fo, a1, a2, a3, a4, a5, a6, a7, a8, a9, upd a10 (q * 8 + k) (nI n), upd a11 n (-1), a12, a13, a14, a15, a16)) : wpX_childOf post (tl, ru, st, nI n, wl, il, cl, fo, a1, a2, a3, a4, a5, a6, a7, a8, a9, a10, a11, a12, a13, a14, a15, a16) x y := by
  subst hx hy
  refine nm_r (as_mI q 8 k) ⟨pk_in (q * 8 + k) 1160 hq, ?_⟩
  rw [nI_clamp (show q * 8 + k < 2 ^ 31 by omega)]
  refine br_t h0 (pk_le 145 n (fun z => absurd z (by omega)) (fun _ => ⟨pk_in (q * 8 + k) 1160 hq, nm_e ⟨pk_in n 145 hn, nm_r (by rw [nI_clamp (by omega)]) (nm_r (nI_1 n) ⟨pk_in (q * 8 + k) 1160 hq, ?_⟩)⟩⟩))
  rw [pk_us]
  exact h
theorem as_chain {post : St2 → Prop} {q : Nat} {p : Int32} (hq : q < 145) (h1 : a11 q = -1) (h : post (tl, ru, st, no, wl, il, cl, fo, a1, a2, a3, a4, a5, a6, a7, a8, a9, a10, upd a11 q p, a12, a13, a14, a15, a16)) : wpX_chain post (tl, ru, st, no, wl, il, cl, fo, a1, a2, a3, a4, a5, a6, a7, a8, a9, a10, a11, a12, a13, a14, a15, a16) (nI q) p :=
  ⟨pk_in q 145 hq, br_f (by rw [nI_clamp (by omega), h1]; decide) ⟨pk_in q 145 hq, nm_r (by rw [nI_clamp (by omega)]) h⟩⟩
theorem as_stem {post : Int32 → St2 → Prop} {a b : Nat} {p : Int32} (ha : 1 ≤ a ∧ a ≤ 8) (hb : 1 ≤ b ∧ b ≤ 8) (h1 : as_rep a1 [a, b]) (h10 : ∀ k, a10 k = 0) (h11 : a11 0 = -1)
    (h : ∀ A B : Nat → Int32, (∀ k, A k = as_ch a b k) → B 0 = -1 → B 1 = -1 → B 2 = 0 → post 0 (0, ru, 1, nI 3, wl, il, cl, fo, a1, a2, a3, a4, a5, a6, a7, a8, upd a9 0 (p &&& 255), A, B, upd a12 0 (-1), a13, a14, a15, a16)) :
    wpX_stem post (nI 2, ru, 0, nI 1, wl, il, cl, fo, a1, a2, a3, a4, a5, a6, a7, a8, a9, a10, a11, a12, a13, a14, a15, a16) p := by
  have e0 : a1 0 = nI a := h1 0 (by simp)
  have e1 : a1 1 = nI b := h1 1 (by simp)
  unfold wpX_stem
  refine as_anyNo (by omega) (as_ne9 h1 ?_) ?_
  · intro x hx
    simp at hx
    rcases hx with rfl | rfl
    · exact ha
    · exact hb
  refine br_f (by decide) (br_t rfl (br_t (by decide) ⟨3, ?_⟩))
  refine pk_le 2 0 (fun z => absurd z (by omega)) (fun _ => ⟨pk_in 0 12 (by omega), ?_⟩)
  refine as_child (q := 0) (k := a - 1) rfl (by show a1 0 - nI 1 = _; rw [e0, pk_sub ha.1]) (by omega) (h10 _) (by omega) ?_
  refine nm_r (nI_1 0) ?_
  refine pk_le 2 1 (fun z => absurd z (by omega)) (fun _ => ⟨pk_in 1 12 (by omega), ?_⟩)
  refine as_child (q := 1) (k := b - 1) rfl (by show a1 1 - nI 1 = _; rw [e1, pk_sub hb.1]) (by omega) (by rw [pk_un (by omega)]; exact h10 _) (by omega) ?_
  refine nm_r (nI_1 1) ?_
  refine pk_le 2 2 (fun _ => ⟨pk_in 0 12 (by omega), nm_e ⟨pk_in 0 12 (by omega), nm_e ?_⟩⟩) (fun z => absurd z (by omega))
  refine as_chain (q := 2) (by omega) pk_us ?_
  refine nm_r (show (0 : Int32) + 1 = 1 by decide) ?_
  refine h _ _ ?_ ?_ ?_ ?_
  · intro k
    unfold as_ch
    by_cases c1 : k + 1 = a
    · rw [if_pos c1, pk_un (by omega), show 0 * 8 + (a - 1) = k by omega, pk_us]
      rfl
    · rw [if_neg c1]
      by_cases c2 : k = 7 + b
      · rw [if_pos c2, show 1 * 8 + (b - 1) = k by omega, pk_us]
        rfl
      · rw [if_neg c2, pk_un (by omega), pk_un (by omega)]
        exact h10 k
  · rw [pk_un (by omega), pk_un (by omega), pk_un (by omega)]
    exact h11
  · rw [pk_un (by omega), pk_un (by omega), pk_us]
  · rw [pk_us]
end
end
section
/-- the five letters -/
def as_L (a b d e f : Nat) : Prop := (1 ≤ a ∧ a ≤ 8) ∧ (1 ≤ b ∧ b ≤ 8) ∧ (1 ≤ d ∧ d ≤ 8) ∧ (1 ≤ e ∧ e ≤ 8) ∧ (1 ≤ f ∧ f ≤ 8)
/-- two rules, the first a suffix, the second a prefix; X: both cross -/
def as_R (X : Bool) (ru : Int32) (a5 a6 : Nat → Int32) : Prop := ru = nI 2 ∧ (¬ a5 0 = 0) ∧ a5 1 = 0 ∧ (X = true ↔ (¬ a6 0 = 0) ∧ (¬ a6 1 = 0))
/-- their parts -/
def as_P (b d e f : Nat) (a7 a8 : Nat → Int32) : Prop := (a7 0 = nI 1 ∧ a7 1 = nI 2 ∧ a7 2 = nI 1 ∧ a7 3 = nI 0 ∧ a7 4 = nI 1 ∧ a7 5 = nI 1) ∧ a8 0 = nI b ∧ a8 3 = nI d ∧ a8 4 = nI e ∧ a8 6 = 9 ∧ a8 12 = nI f ∧ a8 15 = 9
/-- the stem's flags against the rules' -/
def as_F (sx px : Bool) (a4 a9 : Nat → Int32) : Prop := a4 0 = 2 ∧ a4 1 = 5 ∧ (sx = true ↔ ((a9 0 >>> ((2 : Int32) &&& 31)) &&& 1) = 1) ∧ (px = true ↔ ((a9 0 >>> ((5 : Int32) &&& 31)) &&& 1) = 1)
/-- the letter tree and the chain of the one stem -/
def as_T (a b : Nat) (a10 a11 a12 : Nat → Int32) : Prop := (∀ k, a10 k = as_ch a b k) ∧ a11 0 = -1 ∧ a11 1 = -1 ∧ a11 2 = 0 ∧ a12 0 = -1
/-- the codes found so far -/
def as_ls (fo : Int32) (A : Nat → Int32) (l : List Nat) : Prop := fo = nI l.length ∧ as_rep A l ∧ ∀ x, x ∈ l → x ≤ 13
def as_add (l : List Nat) (c : Nat) : List Nat := match l with
  | [] => [c]
  | x :: t => if c < x then c :: x :: t else x :: c :: t
theorem as_ch_a {a b : Nat} (ha : 1 ≤ a ∧ a ≤ 8) : as_ch a b (0 * 8 + a - 1) = 1 := by
  unfold as_ch
  rw [if_pos (by omega)]
theorem as_ch_0 {a b x : Nat} (hb : 1 ≤ b ∧ b ≤ 8) (hx : 1 ≤ x ∧ x ≤ 8) (h : ¬ x = a) : as_ch a b (0 * 8 + x - 1) = 0 := by
  unfold as_ch
  rw [if_neg (by omega), if_neg (by omega)]
theorem as_ch_b {a b : Nat} (ha : 1 ≤ a ∧ a ≤ 8) (hb : 1 ≤ b ∧ b ≤ 8) : as_ch a b (1 * 8 + b - 1) = 2 := by
  unfold as_ch
  rw [if_neg (by omega), if_pos (by omega)]
theorem as_ch_1 {a b x : Nat} (ha : 1 ≤ a ∧ a ≤ 8) (hx : 1 ≤ x ∧ x ≤ 8) (h : ¬ x = b) : as_ch a b (1 * 8 + x - 1) = 0 := by
  unfold as_ch
  rw [if_neg (by omega), if_neg (by omega)]
theorem as_ch_2 {a b x : Nat} (ha : 1 ≤ a ∧ a ≤ 8) (hb : 1 ≤ b ∧ b ≤ 8) (hx : 1 ≤ x ∧ x ≤ 8) : as_ch a b (2 * 8 + x - 1) = 0 := by
  unfold as_ch
  rw [if_neg (by omega), if_neg (by omega)]
section
variable {tl ru st no wl il cl fo : Int32} {a1 a2 a3 a4 a5 a6 a7 a8 a9 a10 a11 a12 a13 a14 a15 a16 : Nat → Int32}
theorem as_fcStep {post : Int32 → Prop} {n q i x m : Nat} {u v : Int32} (hu : u = nI q) (hv : v = nI i) (hi : i < m) (hm : m ≤ 20) (hx : a15 i = nI x) (h1 : 1 ≤ x ∧ x ≤ 8) (hq : q ≤ 100)
    (h0 : a10 (q * 8 + x - 1) = 0 → post (-1)) (h : ¬ a10 (q * 8 + x - 1) = 0 → wX_findCore_4 post tl ru st no wl il (nI m) fo a1 a2 a3 a4 a5 a6 a7 a8 a9 a10 a11 a12 a13 a14 a15 a16 n (a10 (q * 8 + x - 1)) (nI (i + 1))) : wX_findCore_4 post tl ru st no wl il (nI m) fo a1 a2 a3 a4 a5 a6 a7 a8 a9 a10 a11 a12 a13 a14 a15 a16 (n + 1) u v := by
  subst hu hv
  have key : nI q * 8 + a15 (nI i).toNatClampNeg - 1 = nI (q * 8 + x - 1) := by
    rw [nI_clamp (show i < 2 ^ 31 by omega), hx]
    show nI q * nI 8 + nI x - nI 1 = _
    rw [as_mI, pk_sub (by omega)]
  refine pk_le m i (fun z => absurd z (by omega)) (fun _ => ⟨pk_in i 20 (by omega), ?_⟩)
  rw [key, nI_clamp (show q * 8 + x - 1 < 2 ^ 31 by omega)]
  exact ⟨pk_in (q * 8 + x - 1) 1160 (by omega), nm_e (br_c h0 (fun z => nm_r (nI_1 i) (h z)))⟩
theorem as_findCore {post : Int32 → Prop} {a b : Nat} {c : List Nat} (ha : 1 ≤ a ∧ a ≤ 8) (hb : 1 ≤ b ∧ b ≤ 8) (ht : ∀ k, a10 k = as_ch a b k) (hc : as_let c) (hr : as_rep a15 c) (hn : c.length ≤ 20)
    (h0 : c = [] → post 0) (h1 : c = [a] → post 1) (h2 : c = [a, b] → post 2) (hN : c ≠ [a, b] → post (-1)) : wpX_findCore post (tl, ru, st, no, wl, il, nI c.length, fo, a1, a2, a3, a4, a5, a6, a7, a8, a9, a10, a11, a12, a13, a14, a15, a16) := by
  refine ⟨4, ?_⟩
  match c, hc, hr, hn, h0, h1, h2, hN with
  | [], hc, hr, hn, h0, h1, h2, hN => exact pk_le 0 0 (fun _ => h0 rfl) (fun z => absurd z (by omega))
  | x :: t, hc, hr, hn, h0, h1, h2, hN =>
    have hx := hc x (by simp)
    refine as_fcStep (q := 0) (i := 0) (x := x) rfl rfl (by simp) hn (hr 0 (by simp)) hx (by omega) (fun z => ?_) (fun z => ?_)
    · refine hN (fun w => ?_)
      rw [ht, (List.cons.inj w).1, as_ch_a ha] at z
      exact absurd z (by decide)
    · by_cases ex : x = a
      · rw [ht, ex, as_ch_a ha]
        match t, hc, hr, hn, h1, h2, hN with
        | [], hc, hr, hn, h1, h2, hN => exact pk_le 1 1 (fun _ => h1 (by rw [ex])) (fun z => absurd z (by omega))
        | y :: t, hc, hr, hn, h1, h2, hN =>
          have hy := hc y (by simp)
          refine as_fcStep (q := 1) (i := 1) (x := y) rfl rfl (by simp) hn (hr 1 (by simp)) hy (by omega) (fun z => ?_) (fun z => ?_)
          · refine hN (fun w => ?_)
            rw [ht, (List.cons.inj (List.cons.inj w).2).1, as_ch_b ha hb] at z
            exact absurd z (by decide)
          · by_cases ey : y = b
            · rw [ht, ey, as_ch_b ha hb]
              match t, hc, hr, hn, h2, hN with
              | [], hc, hr, hn, h2, hN => exact pk_le 2 2 (fun _ => h2 (by rw [ex, ey])) (fun z => absurd z (by omega))
              | r :: t, hc, hr, hn, h2, hN =>
                have hz := hc r (by simp)
                refine as_fcStep (q := 2) (i := 2) (x := r) rfl rfl (by simp) hn (hr 2 (by simp)) hz (by omega) (fun _ => hN (by simp)) (fun z => ?_)
                exact absurd (by rw [ht, as_ch_2 ha hb hz]) z
            · exact absurd (by rw [ht, as_ch_1 ha hy ey]) z
      · exact absurd (by rw [ht, as_ch_0 hb hx ex]) z
theorem as_allows {post : Int32 → Prop} {sx px t : Bool} {r : Int32} (hF : as_F sx px a4 a9) (hr : (r = -1 ∧ t = true) ∨ (r = 0 ∧ t = sx) ∨ (r = 1 ∧ t = px)) (h : post (as_b t)) : wpX_allows post (tl, ru, st, no, wl, il, cl, fo, a1, a2, a3, a4, a5, a6, a7, a8, a9, a10, a11, a12, a13, a14, a15, a16) 0 r := by
  obtain ⟨f1, f2, f3, f4⟩ := hF
  rcases hr with ⟨rfl, rfl⟩ | ⟨rfl, rfl⟩ | ⟨rfl, rfl⟩
  · exact br_t (by decide) h
  · refine br_f (by decide) ⟨pk_in 0 12 (by omega), pk_in 0 10 (by omega), ?_⟩
    have e : a4 (0 : Int32).toNatClampNeg = 2 := f1
    rw [e]
    refine br_c (fun z => ?_) (fun z => ?_)
    · rw [f3.mpr z] at h
      exact h
    · have t0 : t = false := by
        cases t
        · rfl
        · exact absurd (f3.mp rfl) z
      rw [t0] at h
      exact h
  · refine br_f (by decide) ⟨pk_in 0 12 (by omega), pk_in 1 10 (by omega), ?_⟩
    have e : a4 (1 : Int32).toNatClampNeg = 5 := f2
    rw [e]
    refine br_c (fun z => ?_) (fun z => ?_)
    · rw [f4.mpr z] at h
      exact h
    · have t0 : t = false := by
        cases t
        · rfl
        · exact absurd (f4.mp rfl) z
      rw [t0] at h
      exact h
theorem as_addFound {post : St2 → Prop} {l : List Nat} {c : Nat} (hl : as_ls fo a16 l) (h1 : l.length ≤ 1) (hc : c ≤ 13) (h : ∀ fo' A, as_ls fo' A (as_add l c) → post (tl, ru, st, no, wl, il, cl, fo', a1, a2, a3, a4, a5, a6, a7, a8, a9, a10, a11, a12, a13, a14, a15, A)) : wpX_addFound post (tl, ru, st, no, wl, il, cl, fo, a1, a2, a3, a4, a5, a6, a7, a8, a9, a10, a11, a12, a13, a14, a15, a16) (nI c) := by
  obtain ⟨rfl, hr, hb⟩ := hl
  match l, h1, hr, hb, h with
  | [], h1, hr, hb, h =>
    refine pk_lt 0 440 (fun _ => ⟨1, pk_le 0 0 (fun _ => ⟨pk_in 0 440 (by omega), nm_e (nm_r (nI_1 0) (h _ _ ⟨rfl, ?_, ?_⟩))⟩) (fun z => absurd z (by omega))⟩) (fun z => absurd z (by omega))
    · exact as_snoc (as_nil _) rfl
    · intro x hx
      rw [show x = c from List.mem_singleton.mp hx]
      exact hc
  | [x], h1, hr, hb, h =>
    have hx : x ≤ 13 := hb x (by simp)
    have e0 : a16 (nI 1 - 1).toNatClampNeg = nI x := hr 0 (by simp)
    show wpX_addFound post (tl, ru, st, no, wl, il, cl, nI 1, a1, a2, a3, a4, a5, a6, a7, a8, a9, a10, a11, a12, a13, a14, a15, a16) (nI c)
    refine pk_lt 1 440 (fun _ => ⟨2, pk_le 1 0 (fun z => absurd z (by omega)) (fun _ => ⟨pk_in 0 440 (by omega), pk_le x c (fun z => ⟨pk_in 1 440 (by omega), nm_e (nm_r (nI_1 1) (h _ _ ?_))⟩) (fun z => ⟨pk_in 0 440 (by omega), pk_in 1 440 (by omega), nm_e (nm_r (pk_m1 0) (pk_le 0 0 (fun _ => ⟨pk_in 0 440 (by omega), nm_e (nm_r (nI_1 1) (h _ _ ?_))⟩) (fun z => absurd z (by omega))))⟩) e0 rfl⟩)⟩) (fun z => absurd z (by omega))
    · have ea : as_add [x] c = [x] ++ [c] := by
        show (if c < x then [c, x] else [x, c]) = _
        rw [if_neg (by omega)]
        rfl
      rw [ea]
      refine ⟨rfl, as_snoc hr rfl, ?_⟩
      intro y hy
      simp at hy
      rcases hy with rfl | rfl
      · exact hx
      · exact hc
    · have ea : as_add [x] c = [c, x] := by
        show (if c < x then [c, x] else [x, c]) = _
        rw [if_pos (by omega)]
      rw [ea]
      refine ⟨rfl, ?_, ?_⟩
      · intro i hi
        match i, hi with
        | 0, hi => exact pk_us
        | 1, hi =>
          have q : upd (upd a16 1 (a16 (nI 1 - 1).toNatClampNeg)) 0 (nI c) 1 = nI x := by
            rw [pk_un (by decide), pk_us, e0]
          exact q
        | i + 2, hi => exact absurd hi (by simp)
      · intro y hy
        simp at hy
        rcases hy with rfl | rfl
        · exact hc
        · exact hx
  | x :: y :: t, h1, hr, hb, h => exact absurd h1 (by simp)
theorem as_tkEnd {post : St2 → Prop} {x1 x2 x5 : Int32} {n i : Nat} (hi : i ≤ 1) (h5 : x5 = nI i) (h : post (tl, ru, st, no, wl, il, cl, fo, a1, a2, a3, a4, a5, a6, a7, a8, a9, a10, a11, a12, a13, a14, a15, a16)) : wX_takeStems_21 post x1 x2 (n + 1) (-1) x5 tl ru st no wl il cl fo a1 a2 a3 a4 a5 a6 a7 a8 a9 a10 a11 a12 a13 a14 a15 a16 :=
  pk_le 12 i (fun z => absurd z (by omega)) (fun _ => br_t (by decide) h) rfl h5
theorem as_tkOff {post : St2 → Prop} {x1 x2 : Int32} (h12 : a12 0 = -1) (h : post (tl, ru, st, no, wl, il, cl, fo, a1, a2, a3, a4, a5, a6, a7, a8, a9, a10, a11, a12, a13, a14, a15, a16)) : wX_takeStems_56 post (wX_takeStems_21 post x1 x2 1) x1 x2 0 0 (as_b false) tl ru st no wl il cl fo a1 a2 a3 a4 a5 a6 a7 a8 a9 a10 a11 a12 a13 a14 a15 a16 :=
  br_t rfl ⟨pk_in 0 12 (by omega), nm_r h12 (nm_r (nI_1 0) (as_tkEnd (Nat.le_refl 1) rfl h))⟩
theorem as_take {post : St2 → Prop} {a b k : Nat} {sx px ts tp : Bool} {c l : List Nat} {su pr : Int32} (ha : 1 ≤ a ∧ a ≤ 8) (hb : 1 ≤ b ∧ b ≤ 8) (hF : as_F sx px a4 a9) (hT : as_T a b a10 a11 a12) (hc : as_let c) (hr : as_rep a15 c) (hn : c.length ≤ 20)
    (hs : (su = -1 ∧ ts = true) ∨ (su = 0 ∧ ts = sx) ∨ (su = 1 ∧ ts = px)) (hp : (pr = -1 ∧ tp = true) ∨ (pr = 0 ∧ tp = sx) ∨ (pr = 1 ∧ tp = px)) (hk : ((((0 : Int32) * 121) + ((su + 1) * 11)) + pr) + 1 = nI k) (k13 : k ≤ 13) (hl : as_ls fo a16 l) (h1 : c = [a, b] → l.length ≤ 1)
    (h : ∀ fo' A, as_ls fo' A (if c = [a, b] ∧ ts = true ∧ tp = true then as_add l k else l) → post (tl, ru, st, no, wl, il, nI c.length, fo', a1, a2, a3, a4, a5, a6, a7, a8, a9, a10, a11, a12, a13, a14, a15, A)) : wpX_takeStems post (tl, ru, st, no, wl, il, nI c.length, fo, a1, a2, a3, a4, a5, a6, a7, a8, a9, a10, a11, a12, a13, a14, a15, a16) su pr := by
  obtain ⟨t1, t2, t3, t4, t5⟩ := hT
  unfold wpX_takeStems
  refine as_findCore ha hb t1 hc hr hn (fun z => ?_) (fun z => ?_) (fun z => ?_) (fun z => ?_)
  · refine br_t (by decide) ⟨pk_in 0 145 (by omega), nm_r t2 ⟨1, as_tkEnd (Nat.zero_le 1) rfl (h _ _ ?_)⟩⟩
    rw [if_neg (by rw [z]; simp)]
    exact hl
  · refine br_t (by decide) ⟨pk_in 1 145 (by omega), nm_r t3 ⟨1, as_tkEnd (Nat.zero_le 1) rfl (h _ _ ?_)⟩⟩
    rw [if_neg (by rw [z]; simp)]
    exact hl
  · refine br_t (by decide) ⟨pk_in 2 145 (by omega), nm_r t4 ⟨2, pk_le 12 0 (fun z => absurd z (by omega)) (fun _ => br_f (by decide) (as_allows hF hs ?_))⟩⟩
    cases ts with
    | false =>
      refine br_t rfl (as_tkOff t5 (h _ _ ?_))
      rw [if_neg (by simp)]
      exact hl
    | true =>
      refine br_f (by decide) (as_allows hF hp ?_)
      cases tp with
      | false =>
        refine as_tkOff t5 (h _ _ ?_)
        rw [if_neg (by simp)]
        exact hl
      | true =>
        refine br_f (by decide) ?_
        rw [hk]
        refine as_addFound hl (h1 z) k13 (fun fo' A hA => ?_)
        refine ⟨pk_in 0 12 (by omega), nm_r t5 (nm_r (nI_1 0) (as_tkEnd (Nat.le_refl 1) rfl (h _ _ ?_)))⟩
        rw [if_pos ⟨z, rfl, rfl⟩]
        exact hA
  · refine br_f (by decide) (h _ _ ?_)
    rw [if_neg (fun w => z w.1)]
    exact hl
end
end
section
theorem as_split {v : List Nat} (h : 2 ≤ v.length) : ∃ u p q, v = u ++ [p, q] := by
  have e := (List.take_append_drop (v.length - 2) v).symm
  have hl : (v.drop (v.length - 2)).length = 2 := by
    rw [List.length_drop]
    omega
  match hd : v.drop (v.length - 2), hl with
  | [p, q], _ =>
    rw [hd] at e
    exact ⟨_, p, q, e⟩
theorem as_repL {A : Nat → Int32} {u t : List Nat} (h : as_rep A (u ++ t)) : as_rep A u := by
  intro i hi
  rw [h i (by rw [List.length_append]; omega)]
  simp only [List.getD_eq_getElem?_getD]
  rw [List.getElem?_append_left hi]
theorem as_repAt {A : Nat → Int32} {u t : List Nat} {x k : Nat} (h : as_rep A (u ++ x :: t)) (hk : k = u.length) : A k = nI x := by
  subst hk
  rw [h u.length (by simp)]
  simp [List.getD_eq_getElem?_getD]
theorem as_inj2 {u t : List Nat} {p q x y : Nat} (h : u ++ [p, q] = t ++ [x, y]) : u = t ∧ p = x ∧ q = y := by
  have hl : u.length = t.length := by
    have := congrArg List.length h
    simp at this
    exact this
  have e := List.append_inj h hl
  refine ⟨e.1, ?_, ?_⟩
  · exact (List.cons.inj e.2).1
  · exact (List.cons.inj (List.cons.inj e.2).2).1
theorem as_cl0 (m : Nat) (h : m < 2 ^ 31) : (nI m + 0).toNatClampNeg = m := pk_cl m (nI_add m 0) h
section
variable {tl ru st no wl il cl fo : Int32} {a1 a2 a3 a4 a5 a6 a7 a8 a9 a10 a11 a12 a13 a14 a15 a16 : Nat → Int32}
theorem as_uS180 {post : Int32 → St2 → Prop} (h6 : a8 6 = 9) (h : post 1 (tl, ru, st, no, wl, il, cl, fo, a1, a2, a3, a4, a5, a6, a7, a8, a9, a10, a11, a12, a13, a14, a15, a16)) : ∃ k, wX_undoSuffix_180 post 0 (nI 1) tl ru st no wl il cl fo a1 a2 a3 a4 a5 a6 a7 a8 a9 a10 a11 a12 a13 a14 a15 a16 k 0 :=
  ⟨2, pk_le 1 0 (fun z => absurd z (by omega)) (fun _ => ⟨pk_in 6 90 (by omega), nm_r h6 (br_t rfl (nm_r (nI_1 0) (pk_le 1 1 (fun _ => h) (fun z => absurd z (by omega)))))⟩)⟩
theorem as_uS112 {post : Int32 → St2 → Prop} {m b : Nat} (hm : m ≤ 13) (h0 : a8 0 = nI b) (h2 : a7 2 = nI 1) (h6 : a8 6 = 9) (h : post 1 (tl, ru, st, no, wl, il, nI (m + 1), fo, a1, a2, a3, a4, a5, a6, a7, a8, a9, a10, a11, a12, a13, a14, upd a15 m (nI b), a16)) : ∃ k, wX_undoSuffix_112 post 0 (nI 1) (nI m) tl ru st no wl il cl fo k 0 a1 a2 a3 a4 a5 a6 a7 a8 a9 a10 a11 a12 a13 a14 a15 a16 := by
  refine ⟨2, pk_le 1 0 (fun z => absurd z (by omega)) (fun _ => ⟨pk_in 0 90 (by omega), pk_in m 20 (by omega) (nI_add m 0), nm_r (e' := upd a15 m (nI b)) ?_ (nm_r (nI_1 0) (pk_le 1 1 (fun _ => nm_r (nI_add m 1) ⟨pk_in 2 30 (by omega), nm_r h2 (pk_le 1 (m + 1) (fun _ => as_uS180 h6 h) (fun z => absurd z (by omega)))⟩) (fun z => absurd z (by omega))))⟩)⟩
  rw [as_cl0 m (by omega)]
  exact congrArg (upd a15 m) h0
theorem as_uS82 {post : Int32 → St2 → Prop} {m b : Nat} (hm : m ≤ 13) (h0 : a8 0 = nI b) (h2 : a7 2 = nI 1) (h6 : a8 6 = 9) (h : ∀ A : Nat → Int32, (∀ j, A j = if 0 ≤ j ∧ j < 0 + m then a14 (j - 0) else a15 j) → post 1 (tl, ru, st, no, wl, il, nI (m + 1), fo, a1, a2, a3, a4, a5, a6, a7, a8, a9, a10, a11, a12, a13, a14, upd A m (nI b), a16)) : ∃ k, wX_undoSuffix_82 post 0 (nI 1) (nI m) tl ru st no wl il cl fo k 0 a1 a2 a3 a4 a5 a6 a7 a8 a9 a10 a11 a12 a13 a14 a15 a16 :=
  pk_loop (fun k i s => wX_undoSuffix_82 post 0 (nI 1) (nI m) tl ru st no wl il cl fo k (nI i) a1 a2 a3 a4 a5 a6 a7 a8 a9 a10 a11 a12 a13 a14 s a16) (fun i s => ∀ j, s j = if 0 ≤ j ∧ j < 0 + i then a14 (j - 0) else a15 j) m 0 a15 (by omega) as_fill0
    (fun k s hs => pk_le m m (fun _ => as_uS112 hm h0 h2 h6 (h s hs)) (fun z => absurd z (by omega)))
    (fun k i s hi hs hw => pk_le m i (fun z => absurd z (by omega)) (fun _ => ⟨pk_in i 16 (by omega), pk_in i 20 (by omega), nm_e (nm_r (nI_1 i) (hw _ (as_fill (by rw [nI_clamp (by omega)]; omega) hs (by rw [nI_clamp (by omega)]))))⟩))
theorem as_undoS {post : Int32 → St2 → Prop} {b d e f : Nat} {v : List Nat} (hd : d ≤ 8) (he : e ≤ 8) (hP : as_P b d e f a7 a8) (hv : as_let v) (hr : as_rep a14 v) (hn : v.length ≤ 13)
    (h0 : (∀ u, v ≠ u ++ [d, e]) → post 0 (tl, ru, st, no, wl, nI v.length, cl, fo, a1, a2, a3, a4, a5, a6, a7, a8, a9, a10, a11, a12, a13, a14, a15, a16)) (h1 : ∀ u, v = u ++ [d, e] → ∀ A, as_rep A (u ++ [b]) → post 1 (tl, ru, st, no, wl, nI v.length, nI (u ++ [b]).length, fo, a1, a2, a3, a4, a5, a6, a7, a8, a9, a10, a11, a12, a13, a14, A, a16)) : wpX_undoSuffix post (tl, ru, st, no, wl, nI v.length, cl, fo, a1, a2, a3, a4, a5, a6, a7, a8, a9, a10, a11, a12, a13, a14, a15, a16) 0 := by
  obtain ⟨⟨p0, p1, p2, p3, p4, p5⟩, q0, q3, q4, q6, q12, q15⟩ := hP
  refine ⟨pk_in 1 30 (by omega), nm_r p1 ⟨pk_in 0 30 (by omega), nm_r p0 ?_⟩⟩
  by_cases hl : 2 ≤ v.length
  · obtain ⟨u, p, q, ev⟩ := as_split hl
    have hlen : v.length = u.length + 2 := by rw [ev]; simp
    have hp8 := hv p (by rw [ev]; simp)
    have hq8 := hv q (by rw [ev]; simp)
    rw [ev] at hr
    have rp := as_repAt hr rfl
    have hr' : as_rep a14 ((u ++ [p]) ++ q :: []) := by
      rw [List.append_assoc]
      exact hr
    have rq : a14 (u.length + 1) = nI q := as_repAt hr' (by simp)
    have er : nI v.length - nI 2 = nI u.length := by
      rw [pk_sub hl]
      congr 1
      omega
    refine nm_r er (br_t (nI_pos' (by omega)) ⟨3, ?_⟩)
    refine pk_le 2 0 (fun z => absurd z (by omega)) (fun _ => ⟨pk_in u.length 16 (by omega) (nI_add _ 0), pk_in 3 90 (by omega), ?_⟩)
    refine pk_eq p d (fun z => nm_r (nI_1 0) ?_) (fun z => h0 (fun t et => z (as_inj2 (ev.symm.trans et)).2.1)) (by rw [as_cl0 u.length (by omega)]; exact rp) q3
    refine pk_le 2 1 (fun z => absurd z (by omega)) (fun _ => ⟨pk_in (u.length + 1) 16 (by omega) (nI_add _ 1), pk_in 4 90 (by omega), ?_⟩)
    refine pk_eq q e (fun z' => nm_r (nI_1 1) ?_) (fun z' => h0 (fun t et => z' (as_inj2 (ev.symm.trans et)).2.2)) (by rw [pk_cl (u.length + 1) (nI_add _ 1)]; exact rq) q4
    refine pk_le 2 2 (fun _ => as_uS82 (by omega) q0 p2 q6 (fun A hA => ?_)) (fun z => absurd z (by omega))
    have hfin := h1 u (by rw [ev, z, z']) _ (as_snoc (x := b) (as_cpy (as_repL hr) hA) rfl)
    rw [List.length_append, List.length_singleton] at hfin
    exact hfin
  · refine nm_e (br_f ?_ (h0 (fun t et => hl ?_)))
    · intro z
      have := pk_sneg (a := v.length) (b := 2) (by omega) (by omega)
      exact absurd z (Int32.not_le.mpr this)
    · rw [et]
      simp
theorem as_uP179 {post : Int32 → St2 → Prop} (h15 : a8 15 = 9) (h : post 1 (tl, ru, st, no, wl, il, cl, fo, a1, a2, a3, a4, a5, a6, a7, a8, a9, a10, a11, a12, a13, a14, a15, a16)) : ∃ k, wX_undoPrefix_179 post 1 (nI 1) tl ru st no wl il cl fo a1 a2 a3 a4 a5 a6 a7 a8 a9 a10 a11 a12 a13 a14 a15 a16 k 0 :=
  ⟨2, pk_le 1 0 (fun z => absurd z (by omega)) (fun _ => ⟨pk_in 15 90 (by omega), nm_r h15 (br_t rfl (nm_r (nI_1 0) (pk_le 1 1 (fun _ => h) (fun z => absurd z (by omega)))))⟩)⟩
theorem as_sh (i : Nat) (h : 1 ≤ i) : (nI 0 + nI i) - nI 1 = nI (i - 1) := by
  rw [nI_add, pk_sub (by omega)]
  congr 1
  omega
theorem as_uP108 {post : Int32 → St2 → Prop} {t : List Nat} {x : Nat} (ht : 1 ≤ t.length) (hn : t.length ≤ 12) (h5 : a7 5 = nI 1) (h15 : a8 15 = 9) (hr : as_rep a13 (x :: t)) (h : ∀ A, as_rep A t → post 1 (tl, ru, st, no, nI (t.length + 1), nI t.length, cl, fo, a1, a2, a3, a4, a5, a6, a7, a8, a9, a10, a11, a12, a13, A, a15, a16)) : ∃ k, wX_undoPrefix_108 post 1 (nI 1) (nI 0) tl ru st no (nI (t.length + 1)) il cl fo k (nI 1) a1 a2 a3 a4 a5 a6 a7 a8 a9 a10 a11 a12 a13 a14 a15 a16 :=
  pk_loop (fun k i s => wX_undoPrefix_108 post 1 (nI 1) (nI 0) tl ru st no (nI (t.length + 1)) il cl fo k (nI i) a1 a2 a3 a4 a5 a6 a7 a8 a9 a10 a11 a12 a13 s a15 a16) (fun i s => 1 ≤ i ∧ ∀ j, j + 1 < i → s j = a13 (j + 1)) (t.length + 1) 1 a14 (by omega) ⟨Nat.le_refl 1, fun j hj => absurd hj (by omega)⟩
    (fun k s hs => pk_le (t.length + 1) (t.length + 1) (fun _ => nm_r (as_sh _ (by omega)) ⟨pk_in 5 30 (by omega), nm_r h5 (pk_le 1 t.length (fun _ => as_uP179 h15 (h s (fun i hi => by rw [hs.2 i (by omega)]; exact hr (i + 1) (by simp; omega)))) (fun z => absurd z (by omega)))⟩) (fun z => absurd z (by omega)))
    (fun k i s hi hs hw => pk_le (t.length + 1) i (fun z => absurd z (by omega)) (fun _ => ⟨pk_in i 13 (by omega), pk_in (i - 1) 16 (by omega) (as_sh i hs.1), nm_e (nm_r (nI_1 i) (hw _ ⟨by omega, fun j hj => by
      have h1 := hs.1
      rw [pk_cl (i - 1) (as_sh i hs.1), nI_clamp (show i < 2 ^ 31 by omega)]
      by_cases e : j = i - 1
      · rw [e, pk_us, show i - 1 + 1 = i by omega]
      · rw [pk_un e]
        exact hs.2 j (by omega)⟩))⟩))
theorem as_undoP {post : Int32 → St2 → Prop} {b d e f x : Nat} {t : List Nat} (hf : f ≤ 8) (hP : as_P b d e f a7 a8) (hx : x ≤ 8) (hr : as_rep a13 (x :: t)) (ht : 1 ≤ t.length) (hn : t.length ≤ 12)
    (h0 : x ≠ f → post 0 (tl, ru, st, no, nI (t.length + 1), il, cl, fo, a1, a2, a3, a4, a5, a6, a7, a8, a9, a10, a11, a12, a13, a14, a15, a16)) (h1 : x = f → ∀ A, as_rep A t → post 1 (tl, ru, st, no, nI (t.length + 1), nI t.length, cl, fo, a1, a2, a3, a4, a5, a6, a7, a8, a9, a10, a11, a12, a13, A, a15, a16)) : wpX_undoPrefix post (tl, ru, st, no, nI (t.length + 1), il, cl, fo, a1, a2, a3, a4, a5, a6, a7, a8, a9, a10, a11, a12, a13, a14, a15, a16) 1 := by
  obtain ⟨⟨p0, p1, p2, p3, p4, p5⟩, q0, q3, q4, q6, q12, q15⟩ := hP
  refine ⟨pk_in 4 30 (by omega), nm_r p4 ⟨pk_in 3 30 (by omega), nm_r p3 ?_⟩⟩
  refine pk_le 1 (t.length + 1) (fun _ => ⟨2, ?_⟩) (fun z => absurd z (by omega))
  refine pk_le 1 0 (fun z => absurd z (by omega)) (fun _ => ⟨pk_in 0 13 (by omega), pk_in 12 90 (by omega), ?_⟩)
  refine pk_eq x f (fun z => nm_r (nI_1 0) ?_) h0 (hr 0 (by simp)) q12
  refine pk_le 1 1 (fun _ => ⟨1, ?_⟩) (fun z => absurd z (by omega))
  exact pk_le 0 0 (fun _ => as_uP108 ht hn p5 q15 hr (h1 z)) (fun z => absurd z (by omega))
end
end
section
/-- what a word v with prefix undone or not (p) gives: at most one code -/
def as_ss (a b d e : Nat) (sx px X : Bool) (v : List Nat) (p : Bool) : Option Nat :=
  if v = [a, b] ∧ (p = true → px = true) then some (if p = true then 2 else 0)
  else if v = [a, d, e] ∧ sx = true ∧ (p = true → px = true ∧ X = true) then some (if p = true then 13 else 11) else none
def as_opt (l : List Nat) (o : Option Nat) : List Nat := match o with
  | none => l
  | some c => as_add l c
def as_pf (a b d e f : Nat) (sx px X : Bool) (w : List Nat) : Option Nat := match w with
  | [] => none
  | x :: t => if x = f then as_ss a b d e sx px X t true else none
/-- the codes of a word, ascending -/
def as_res (a b d e f : Nat) (sx px X : Bool) (w : List Nat) : List Nat := as_opt (as_opt [] (as_ss a b d e sx px X w false)) (as_pf a b d e f sx px X w)
theorem as_pf_c {a b d e f x : Nat} {sx px X : Bool} {t : List Nat} : as_pf a b d e f sx px X (x :: t) = if x = f then as_ss a b d e sx px X t true else none := rfl
def as_fix (a b d e f : Nat) (sx px X : Bool) (ru st : Int32) (a4 a5 a6 a7 a8 a9 a10 a11 a12 : Nat → Int32) : Prop := as_L a b d e f ∧ as_R X ru a5 a6 ∧ as_P b d e f a7 a8 ∧ as_F sx px a4 a9 ∧ as_T a b a10 a11 a12 ∧ st = 1
theorem as_len1 (o : Option Nat) : (as_opt [] o).length ≤ 1 := by
  cases o with
  | none => exact Nat.zero_le 1
  | some c => exact Nat.le_refl 1
section
variable {tl ru st no wl il cl fo : Int32} {a1 a2 a3 a4 a5 a6 a7 a8 a9 a10 a11 a12 a13 a14 a15 a16 : Nat → Int32}
theorem as_ssEnd {post : St2 → Prop} {x1 : Int32} (h5 : a5 1 = 0) (h : post (tl, nI 2, st, no, wl, il, cl, fo, a1, a2, a3, a4, a5, a6, a7, a8, a9, a10, a11, a12, a13, a14, a15, a16)) : wX_searchSuffixes_44 post x1 2 (nI 1) tl (nI 2) st no wl il cl fo a1 a2 a3 a4 a5 a6 a7 a8 a9 a10 a11 a12 a13 a14 a15 a16 :=
  pk_le 2 1 (fun z => absurd z (by omega)) (fun _ => ⟨pk_in 1 10 (by omega), br_t h5 (nm_r (nI_1 1) (pk_le 2 2 (fun _ => h) (fun z => absurd z (by omega))))⟩)
theorem as_ss83 {post : St2 → Prop} {a b d e f k : Nat} {sx px tp : Bool} {v l : List Nat} {pr : Int32} (hL : as_L a b d e f) (h5 : a5 1 = 0) (hP : as_P b d e f a7 a8) (hF : as_F sx px a4 a9) (hT : as_T a b a10 a11 a12) (hv : as_let v) (hr : as_rep a14 v) (hn : v.length ≤ 13)
    (hp : (pr = -1 ∧ tp = true) ∨ (pr = 0 ∧ tp = sx) ∨ (pr = 1 ∧ tp = px)) (hk : ((((0 : Int32) * 121) + (((0 : Int32) + 1) * 11)) + pr) + 1 = nI k) (k13 : k ≤ 13) (hl : as_ls fo a16 l) (h1 : v = [a, d, e] → l.length ≤ 1)
    (h : ∀ cl' fo' A15 A16, as_ls fo' A16 (if v = [a, d, e] ∧ sx = true ∧ tp = true then as_add l k else l) → post (tl, nI 2, st, no, wl, nI v.length, cl', fo', a1, a2, a3, a4, a5, a6, a7, a8, a9, a10, a11, a12, a13, a14, A15, A16)) :
    wX_searchSuffixes_83 post (wX_searchSuffixes_44 post pr 2) pr 0 tl (nI 2) st no wl (nI v.length) cl fo a1 a2 a3 a4 a5 a6 a7 a8 a9 a10 a11 a12 a13 a14 a15 a16 := by
  obtain ⟨la, lb, ld, le, lf⟩ := hL
  unfold wX_searchSuffixes_83
  refine as_undoS ld.2 le.2 hP hv hr hn (fun hno => ?_) (fun u eu A hA => ?_)
  · refine br_t rfl (nm_r (nI_1 0) (as_ssEnd h5 (h _ _ _ _ ?_)))
    rw [if_neg (fun w => hno [a] w.1)]
    exact hl
  · have hlen : v.length = u.length + 2 := by rw [eu]; simp
    have hiff : u ++ [b] = [a, b] ↔ v = [a, d, e] := by
      rw [eu]
      constructor
      · intro z
        have z' : u ++ [b] = [a] ++ [b] := z
        rw [List.append_cancel_right z']
        rfl
      · intro z
        have z' : u ++ [d, e] = [a] ++ [d, e] := z
        rw [List.append_cancel_right z']
        rfl
    refine br_f (by decide) (as_take (c := u ++ [b]) (ts := sx) la lb hF hT ?_ hA ?_ (Or.inr (Or.inl ⟨rfl, rfl⟩)) hp hk k13 hl (fun z => h1 (hiff.mp z)) (fun fo' A16 hls => ?_))
    · intro y hy
      rw [List.mem_append] at hy
      rcases hy with hy | hy
      · exact hv y (by rw [eu]; exact List.mem_append_left _ hy)
      · rw [List.mem_singleton.mp hy]
        exact lb
    · rw [List.length_append, List.length_singleton]
      omega
    · refine nm_r (nI_1 0) (as_ssEnd h5 (h _ _ _ _ ?_))
      simp only [hiff] at hls
      exact hls
theorem as_ssfx {post : St2 → Prop} {a b d e f : Nat} {sx px X p : Bool} {v l : List Nat} {pr : Int32} (hL : as_L a b d e f) (hR : as_R X ru a5 a6) (hP : as_P b d e f a7 a8) (hF : as_F sx px a4 a9) (hT : as_T a b a10 a11 a12) (hv : as_let v) (hr : as_rep a14 v) (hn : v.length ≤ 13)
    (hp : (pr = -1 ∧ p = false) ∨ (pr = 1 ∧ p = true)) (hl : as_ls fo a16 l) (h1 : l.length ≤ 1)
    (h : ∀ cl' fo' A15 A16, as_ls fo' A16 (as_opt l (as_ss a b d e sx px X v p)) → post (tl, ru, st, no, wl, nI v.length, cl', fo', a1, a2, a3, a4, a5, a6, a7, a8, a9, a10, a11, a12, a13, a14, A15, A16)) : wpX_searchSuffixes post (tl, ru, st, no, wl, nI v.length, cl, fo, a1, a2, a3, a4, a5, a6, a7, a8, a9, a10, a11, a12, a13, a14, a15, a16) pr := by
  obtain ⟨rfl, r5, r51, rX⟩ := hR
  have hL' := hL
  obtain ⟨la, lb, ld, le, lf⟩ := hL'
  have e5 : ¬ a5 (0 : Int32).toNatClampNeg = 0 := r5
  have key : ∀ s : Nat → Int32, as_rep s v → wpX_takeStems (fun u => match u with
      | (tl, ru, st, no, wl, il, cl, fo, a1, a2, a3, a4, a5, a6, a7, a8, a9, a10, a11, a12, a13, a14, a15, a16) => ∃ k, wX_searchSuffixes_44 post pr k 0 tl ru st no wl il cl fo a1 a2 a3 a4 a5 a6 a7 a8 a9 a10 a11 a12 a13 a14 a15 a16) (tl, nI 2, st, no, wl, nI v.length, nI v.length, fo, a1, a2, a3, a4, a5, a6, a7, a8, a9, a10, a11, a12, a13, a14, s, a16) (-1) pr := by
    intro s hs
    rcases hp with ⟨rfl, rfl⟩ | ⟨rfl, rfl⟩
    · refine as_take (ts := true) (tp := true) (k := 0) (c := v) la lb hF hT hv hs (by omega) (Or.inl ⟨rfl, rfl⟩) (Or.inl ⟨rfl, rfl⟩) (by decide) (by omega) hl (fun _ => h1) (fun fo' A hA => ⟨3, ?_⟩)
      refine pk_le 2 0 (fun z => absurd z (by omega)) (fun _ => ⟨pk_in 0 10 (by omega), br_f e5 (br_t (by decide) ?_)⟩)
      refine as_ss83 (tp := true) (k := 11) hL r51 hP hF hT hv hr hn (Or.inl ⟨rfl, rfl⟩) (by decide) (by omega) hA (fun z => ?_) (fun cl' fo2 A15 A16 hB => h _ _ _ _ ?_)
      · rw [if_neg (by rw [z]; simp)]
        exact h1
      · unfold as_ss
        by_cases c1 : v = [a, b]
        · rw [if_pos ⟨c1, fun z => absurd z (by decide)⟩]
          rw [if_neg (by rw [c1]; simp), if_pos ⟨c1, rfl, rfl⟩] at hB
          exact hB
        · rw [if_neg (fun z => c1 z.1)]
          rw [if_neg (c := v = [a, b] ∧ true = true ∧ true = true) (fun z => c1 z.1)] at hB
          by_cases c2 : v = [a, d, e] ∧ sx = true
          · rw [if_pos ⟨c2.1, c2.2, fun z => absurd z (by decide)⟩]
            rw [if_pos ⟨c2.1, c2.2, rfl⟩] at hB
            exact hB
          · rw [if_neg (fun z => c2 ⟨z.1, z.2.1⟩)]
            rw [if_neg (fun z => c2 ⟨z.1, z.2.1⟩)] at hB
            exact hB
    · refine as_take (ts := true) (tp := px) (k := 2) (c := v) la lb hF hT hv hs (by omega) (Or.inl ⟨rfl, rfl⟩) (Or.inr (Or.inr ⟨rfl, rfl⟩)) (by decide) (by omega) hl (fun _ => h1) (fun fo' A hA => ⟨3, ?_⟩)
      refine pk_le 2 0 (fun z => absurd z (by omega)) (fun _ => ⟨pk_in 0 10 (by omega), br_f e5 (br_f (by decide) ⟨pk_in 0 10 (by omega), ?_⟩)⟩)
      have off : X = false → as_opt l (as_ss a b d e sx px X v true) = if v = [a, b] ∧ true = true ∧ px = true then as_add l 2 else l := by
        intro hX
        unfold as_ss
        by_cases c1 : v = [a, b] ∧ px = true
        · rw [if_pos ⟨c1.1, fun _ => c1.2⟩, if_pos (c := v = [a, b] ∧ true = true ∧ px = true) ⟨c1.1, rfl, c1.2⟩]
          rfl
        · rw [if_neg (fun z => c1 ⟨z.1, z.2 rfl⟩), if_neg (c := v = [a, b] ∧ true = true ∧ px = true) (fun z => c1 ⟨z.1, z.2.2⟩), if_neg (by rw [hX]; simp)]
          rfl
      refine br_c (fun z6 => nm_r (nI_1 0) (as_ssEnd r51 (h _ _ _ _ ?_))) (fun z6 => ⟨pk_in 1 10 (by omega), br_c (fun z7 => nm_r (nI_1 0) (as_ssEnd r51 (h _ _ _ _ ?_))) (fun z7 => ?_)⟩)
      · rw [off (by cases X; rfl; exact absurd z6 (rX.mp rfl).1)]
        exact hA
      · rw [off (by cases X; rfl; exact absurd z7 (rX.mp rfl).2)]
        exact hA
      · have hX : X = true := rX.mpr ⟨z6, z7⟩
        refine as_ss83 (tp := px) (k := 13) hL r51 hP hF hT hv hr hn (Or.inr (Or.inr ⟨rfl, rfl⟩)) (by decide) (by omega) hA (fun z => ?_) (fun cl' fo2 A15 A16 hB => h _ _ _ _ ?_)
        · rw [if_neg (by rw [z]; simp)]
          exact h1
        · unfold as_ss
          by_cases c1 : v = [a, b] ∧ px = true
          · rw [if_pos ⟨c1.1, fun _ => c1.2⟩]
            rw [if_neg (by rw [c1.1]; simp), if_pos ⟨c1.1, rfl, c1.2⟩] at hB
            exact hB
          · rw [if_neg (fun z => c1 ⟨z.1, z.2 rfl⟩)]
            rw [if_neg (c := v = [a, b] ∧ true = true ∧ px = true) (fun z => c1 ⟨z.1, z.2.2⟩)] at hB
            by_cases c2 : v = [a, d, e] ∧ sx = true ∧ px = true
            · rw [if_pos ⟨c2.1, c2.2.1, fun _ => ⟨c2.2.2, hX⟩⟩]
              rw [if_pos c2] at hB
              exact hB
            · rw [if_neg (fun z => c2 ⟨z.1, z.2.1, (z.2.2 rfl).1⟩)]
              rw [if_neg c2] at hB
              exact hB
  exact pk_loop (fun k i s => wX_searchSuffixes_2 post pr tl (nI 2) st no wl (nI v.length) cl fo k (nI i) a1 a2 a3 a4 a5 a6 a7 a8 a9 a10 a11 a12 a13 a14 s a16) (fun i s => ∀ j, s j = if 0 ≤ j ∧ j < 0 + i then a14 (j - 0) else a15 j) v.length 0 a15 (by omega) as_fill0
    (fun k s hs => pk_le v.length v.length (fun _ => key s (as_cpy hr hs)) (fun z => absurd z (by omega)))
    (fun k i s hi hs hw => pk_le v.length i (fun z => absurd z (by omega)) (fun _ => ⟨pk_in i 16 (by omega), pk_in i 20 (by omega), nm_e (nm_r (nI_1 i) (hw _ (as_fill (by rw [nI_clamp (by omega)]; omega) hs (by rw [nI_clamp (by omega)]))))⟩))
theorem as_search {post : St2 → Prop} {a b d e f x : Nat} {sx px X : Bool} {t : List Nat} (hL : as_L a b d e f) (hR : as_R X ru a5 a6) (hP : as_P b d e f a7 a8) (hF : as_F sx px a4 a9) (hT : as_T a b a10 a11 a12) (hw : as_let (x :: t)) (hr : as_rep a13 (x :: t)) (ht : 1 ≤ t.length) (hn : t.length ≤ 12)
    (h : ∀ il' cl' fo' A14 A15 A16, as_ls fo' A16 (as_res a b d e f sx px X (x :: t)) → post (tl, ru, st, no, nI (t.length + 1), il', cl', fo', a1, a2, a3, a4, a5, a6, a7, a8, a9, a10, a11, a12, a13, A14, A15, A16)) : wpX_search post (tl, ru, st, no, nI (t.length + 1), il, cl, fo, a1, a2, a3, a4, a5, a6, a7, a8, a9, a10, a11, a12, a13, a14, a15, a16) := by
  have hR' := hR
  obtain ⟨rfl, r5, r51, rX⟩ := hR'
  have e5 : ¬ a5 (0 : Int32).toNatClampNeg = 0 := r5
  have e51 : a5 (nI 1).toNatClampNeg = 0 := r51
  have hx := hw x (by simp)
  have lf := hL.2.2.2.2
  have key : ∀ s : Nat → Int32, as_rep s (x :: t) → wpX_searchSuffixes (fun u => match u with
      | (tl, ru, st, no, wl, il, cl, fo, a1, a2, a3, a4, a5, a6, a7, a8, a9, a10, a11, a12, a13, a14, a15, a16) => ∃ k, wX_search_56 post k 0 tl ru st no wl il cl fo a1 a2 a3 a4 a5 a6 a7 a8 a9 a10 a11 a12 a13 a14 a15 a16) (tl, nI 2, st, no, nI (t.length + 1), nI (t.length + 1), cl, 0, a1, a2, a3, a4, a5, a6, a7, a8, a9, a10, a11, a12, a13, s, a15, a16) (-1) := by
    intro s hs
    refine as_ssfx (v := x :: t) (l := []) (p := false) hL hR hP hF hT hw hs (by rw [List.length_cons]; omega) (Or.inl ⟨rfl, rfl⟩) ⟨rfl, as_nil _, fun y hy => absurd hy List.not_mem_nil⟩ (Nat.zero_le 1) (fun cl' fo' A15 A16 hA => ⟨3, ?_⟩)
    refine pk_le 2 0 (fun z => absurd z (by omega)) (fun _ => ⟨pk_in 0 10 (by omega), br_f e5 (nm_r (nI_1 0) ?_)⟩)
    refine pk_le 2 1 (fun z => absurd z (by omega)) (fun _ => ⟨pk_in 1 10 (by omega), br_t e51 ?_⟩)
    refine as_undoP lf.2 hP hx.2 hr ht hn (fun z => ?_) (fun z A hAt => ?_)
    · refine br_t rfl (nm_r (nI_1 1) (pk_le 2 2 (fun _ => h _ _ _ _ _ _ ?_) (fun z => absurd z (by omega))))
      unfold as_res
      rw [as_pf_c, if_neg z]
      exact hA
    · refine br_f (by decide) (as_ssfx (v := t) (p := true) hL hR hP hF hT (fun y hy => hw y (List.mem_cons_of_mem _ hy)) hAt (by omega) (Or.inr ⟨rfl, rfl⟩) hA (as_len1 _) (fun cl2 fo2 B15 B16 hB => ?_))
      refine nm_r (nI_1 1) (pk_le 2 2 (fun _ => h _ _ _ _ _ _ ?_) (fun z => absurd z (by omega)))
      unfold as_res
      rw [as_pf_c, if_pos z]
      exact hB
  refine br_f (nI_ne0 (by omega) (by omega)) ?_
  exact pk_loop (fun k i s => wX_search_15 post tl (nI 2) st no (nI (t.length + 1)) il cl 0 k (nI i) a1 a2 a3 a4 a5 a6 a7 a8 a9 a10 a11 a12 a13 s a15 a16) (fun i s => ∀ j, s j = if 0 ≤ j ∧ j < 0 + i then a13 (j - 0) else a14 j) (t.length + 1) 0 a14 (by omega) as_fill0
    (fun k s hs => pk_le (t.length + 1) (t.length + 1) (fun _ => key s (as_cpy hr hs)) (fun z => absurd z (by omega)))
    (fun k i s hi hs hw => pk_le (t.length + 1) i (fun z => absurd z (by omega)) (fun _ => ⟨pk_in i 13 (by omega), pk_in i 16 (by omega), nm_e (nm_r (nI_1 i) (hw _ (as_fill (by rw [nI_clamp (by omega)]; omega) hs (by rw [nI_clamp (by omega)]))))⟩))
end
end
section
theorem as_addlen (l : List Nat) (c : Nat) : (as_add l c).length = l.length + 1 := by
  cases l with
  | nil => rfl
  | cons x t =>
    show (if c < x then c :: x :: t else x :: c :: t).length = _
    by_cases z : c < x
    · rw [if_pos z]; rfl
    · rw [if_neg z]; rfl
theorem as_optlen (l : List Nat) (o : Option Nat) : (as_opt l o).length ≤ l.length + 1 := by
  cases o with
  | none => exact Nat.le_succ _
  | some c => exact Nat.le_of_eq (as_addlen l c)
theorem as_reslen (a b d e f : Nat) (sx px X : Bool) (w : List Nat) : (as_res a b d e f sx px X w).length ≤ 2 := by
  unfold as_res
  have h1 := as_optlen (as_opt [] (as_ss a b d e sx px X w false)) (as_pf a b d e f sx px X w)
  have h2 := as_len1 (as_ss a b d e sx px X w false)
  omega
def as_stA (l : List Nat) : Int32 := match l with
  | [] => -6
  | c :: _ => nI (c / 121)
def as_pfA (l : List Nat) : Int32 := match l with
  | [] => -6
  | c :: _ => if c % 11 = 0 then -6 else nI (c % 11 - 1)
def as_sfA (l : List Nat) (i : Nat) : Int32 := if i < l.length then (if l.getD i 0 / 11 % 11 = 0 then -6 else nI (l.getD i 0 / 11 % 11 - 1)) else -6
theorem as_tail {A : Int32 → Prop} {q : Nat} {e : Int32} (hq : q ≤ 11) (he : e = nI q - 1) (h : A (if q = 0 then -6 else nI (q - 1))) : ∀ y, y = e → (0 ≤ y → A y) ∧ (¬ 0 ≤ y → A (-6)) := by
  intro y hy
  rw [hy, he]
  by_cases z : q = 0
  · rw [if_pos z] at h
    rw [z]
    exact br_f (by decide) h
  · rw [if_neg z] at h
    have e1 : nI q - 1 = nI (q - 1) := pk_sub (b := 1) (by omega)
    rw [e1]
    exact br_t (nI_pos' (by omega)) h
/-- how many of the letters 1 .. k lead on -/
def as_cn (a b d e f : Nat) (sx px X : Bool) (w : List Nat) : Nat → Nat
  | 0 => 0
  | k + 1 => as_cn a b d e f sx px X w k + (if as_res a b d e f sx px X (w ++ [k + 1]) = [] then 0 else 1)
theorem as_cnle (a b d e f : Nat) (sx px X : Bool) (w : List Nat) (k : Nat) : as_cn a b d e f sx px X w k ≤ k := by
  induction k with
  | zero => exact Nat.le_refl 0
  | succ k ih =>
    show as_cn a b d e f sx px X w k + (if as_res a b d e f sx px X (w ++ [k + 1]) = [] then 0 else 1) ≤ k + 1
    by_cases z : as_res a b d e f sx px X (w ++ [k + 1]) = []
    · rw [if_pos z]; omega
    · rw [if_neg z]; omega
section
variable {tl ru st no wl il cl fo : Int32} {a1 a2 a3 a4 a5 a6 a7 a8 a9 a10 a11 a12 a13 a14 a15 a16 : Nat → Int32}
theorem as_styped {post : St2 → Prop} {a b d e f x : Nat} {sx px X : Bool} {t : List Nat} (hf : as_fix a b d e f sx px X ru st a4 a5 a6 a7 a8 a9 a10 a11 a12) (hw : as_let (x :: t)) (hr : as_rep a1 (x :: t)) (ht : 1 ≤ t.length) (hn : t.length ≤ 11)
    (h : ∀ wl' il' cl' fo' A13 A14 A15 A16, as_ls fo' A16 (as_res a b d e f sx px X (x :: t)) → post (nI (t.length + 1), ru, st, no, wl', il', cl', fo', a1, a2, a3, a4, a5, a6, a7, a8, a9, a10, a11, a12, A13, A14, A15, A16)) : wpX_searchTyped post (nI (t.length + 1), ru, st, no, wl, il, cl, fo, a1, a2, a3, a4, a5, a6, a7, a8, a9, a10, a11, a12, a13, a14, a15, a16) := by
  obtain ⟨hL, hR, hP, hF, hT, hS⟩ := hf
  have key : ∀ s : Nat → Int32, as_rep s (x :: t) → wpX_search (fun u => match u with
      | (tl, ru, st, no, wl, il, cl, fo, a1, a2, a3, a4, a5, a6, a7, a8, a9, a10, a11, a12, a13, a14, a15, a16) => post (tl, ru, st, no, wl, il, cl, fo, a1, a2, a3, a4, a5, a6, a7, a8, a9, a10, a11, a12, a13, a14, a15, a16)) (nI (t.length + 1), ru, st, no, nI (t.length + 1), il, cl, fo, a1, a2, a3, a4, a5, a6, a7, a8, a9, a10, a11, a12, s, a14, a15, a16) := by
    intro s hs
    exact as_search hL hR hP hF hT hw hs ht (by omega) (fun il' cl' fo' A14 A15 A16 hA => h _ _ _ _ _ _ _ _ hA)
  unfold wpX_searchTyped
  refine as_anyNo (n := t.length + 1) (by omega) (as_ne9 hr hw) (br_t rfl ?_)
  exact pk_loop (fun k i s => wX_searchTyped_23 post (nI (t.length + 1)) ru st no (nI (t.length + 1)) il cl fo k (nI i) a1 a2 a3 a4 a5 a6 a7 a8 a9 a10 a11 a12 s a14 a15 a16) (fun i s => ∀ j, s j = if 0 ≤ j ∧ j < 0 + i then a1 (j - 0) else a13 j) (t.length + 1) 0 a13 (by omega) as_fill0
    (fun k s hs => pk_le (t.length + 1) (t.length + 1) (fun _ => key s (as_cpy hr hs)) (fun z => absurd z (by omega)))
    (fun k i s hi hs hw => pk_le (t.length + 1) i (fun z => absurd z (by omega)) (fun _ => ⟨pk_in i 12 (by omega), pk_in i 13 (by omega), nm_e (nm_r (nI_1 i) (hw _ (as_fill (by rw [nI_clamp (by omega)]; omega) hs (by rw [nI_clamp (by omega)]))))⟩))
theorem as_deriv {post : Int32 → St2 → Prop} {a b d e f x : Nat} {sx px X : Bool} {t : List Nat} (hf : as_fix a b d e f sx px X ru st a4 a5 a6 a7 a8 a9 a10 a11 a12) (hw : as_let (x :: t)) (hr : as_rep a1 (x :: t)) (ht : 1 ≤ t.length) (hn : t.length ≤ 11)
    (h : ∀ wl' il' cl' fo' A13 A14 A15 A16, post (nI (as_res a b d e f sx px X (x :: t)).length) (nI (t.length + 1), ru, st, no, wl', il', cl', fo', a1, a2, a3, a4, a5, a6, a7, a8, a9, a10, a11, a12, A13, A14, A15, A16)) : wpX_derivations post (nI (t.length + 1), ru, st, no, wl, il, cl, fo, a1, a2, a3, a4, a5, a6, a7, a8, a9, a10, a11, a12, a13, a14, a15, a16) := by
  unfold wpX_derivations
  refine as_styped hf hw hr ht hn (fun wl' il' cl' fo' A13 A14 A15 A16 hA => ?_)
  obtain ⟨rfl, hA1, hA2⟩ := hA
  exact h _ _ _ _ _ _ _ _
theorem as_stemOf {post : Int32 → St2 → Prop} {a b d e f x : Nat} {sx px X : Bool} {t : List Nat} (hf : as_fix a b d e f sx px X ru st a4 a5 a6 a7 a8 a9 a10 a11 a12) (hw : as_let (x :: t)) (hr : as_rep a1 (x :: t)) (ht : 1 ≤ t.length) (hn : t.length ≤ 11)
    (h : ∀ wl' il' cl' fo' A13 A14 A15 A16, post (as_stA (as_res a b d e f sx px X (x :: t))) (nI (t.length + 1), ru, st, no, wl', il', cl', fo', a1, a2, a3, a4, a5, a6, a7, a8, a9, a10, a11, a12, A13, A14, A15, A16)) : wpX_stemOf post (nI (t.length + 1), ru, st, no, wl, il, cl, fo, a1, a2, a3, a4, a5, a6, a7, a8, a9, a10, a11, a12, a13, a14, a15, a16) 0 := by
  have hlen := as_reslen a b d e f sx px X (x :: t)
  unfold wpX_stemOf
  refine as_styped hf hw hr ht hn (fun wl' il' cl' fo' A13 A14 A15 A16 hA => ?_)
  obtain ⟨rfl, hA1, hA2⟩ := hA
  refine br_f (by decide) ?_
  match hres : as_res a b d e f sx px X (x :: t), hlen, hA1, hA2, h with
  | [], hlen, hA1, hA2, h => exact pk_lt 0 0 (fun z => absurd z (by omega)) (fun _ => h _ _ _ _ _ _ _ _)
  | c :: r, hlen, hA1, hA2, h =>
    rw [List.length_cons] at hlen
    have hc := hA2 c (by simp)
    have e0 : A16 (0 : Int32).toNatClampNeg / 121 = nI (c / 121) := by
      rw [show A16 (0 : Int32).toNatClampNeg = nI c from hA1 0 (by simp)]
      exact pk_div (d := 121) (by omega) (by omega) (by omega)
    refine pk_lt 0 (r.length + 1) (fun _ => ⟨pk_in 0 440 (by omega), by decide, ?_⟩) (fun z => absurd z (by omega))
    rw [e0]
    exact h _ _ _ _ _ _ _ _
theorem as_prefixOf {post : Int32 → St2 → Prop} {a b d e f x : Nat} {sx px X : Bool} {t : List Nat} (hf : as_fix a b d e f sx px X ru st a4 a5 a6 a7 a8 a9 a10 a11 a12) (hw : as_let (x :: t)) (hr : as_rep a1 (x :: t)) (ht : 1 ≤ t.length) (hn : t.length ≤ 11)
    (h : ∀ wl' il' cl' fo' A13 A14 A15 A16, post (as_pfA (as_res a b d e f sx px X (x :: t))) (nI (t.length + 1), ru, st, no, wl', il', cl', fo', a1, a2, a3, a4, a5, a6, a7, a8, a9, a10, a11, a12, A13, A14, A15, A16)) : wpX_prefixOf post (nI (t.length + 1), ru, st, no, wl, il, cl, fo, a1, a2, a3, a4, a5, a6, a7, a8, a9, a10, a11, a12, a13, a14, a15, a16) 0 := by
  have hlen := as_reslen a b d e f sx px X (x :: t)
  unfold wpX_prefixOf
  refine as_styped hf hw hr ht hn (fun wl' il' cl' fo' A13 A14 A15 A16 hA => ?_)
  obtain ⟨rfl, hA1, hA2⟩ := hA
  refine br_f (by decide) ?_
  match hres : as_res a b d e f sx px X (x :: t), hlen, hA1, hA2, h with
  | [], hlen, hA1, hA2, h => exact pk_lt 0 0 (fun z => absurd z (by omega)) (fun _ => h _ _ _ _ _ _ _ _)
  | c :: r, hlen, hA1, hA2, h =>
    rw [List.length_cons] at hlen
    have hc := hA2 c (by simp)
    have e0 : A16 (0 : Int32).toNatClampNeg - A16 (0 : Int32).toNatClampNeg / 11 * 11 - 1 = nI (c % 11) - 1 := by
      rw [show A16 (0 : Int32).toNatClampNeg = nI c from hA1 0 (by simp)]
      rw [show nI c - nI c / 11 * 11 = nI (c % 11) from pk_rem (d := 11) (by omega) (by omega) (by omega)]
    refine pk_lt 0 (r.length + 1) (fun _ => ⟨pk_in 0 440 (by omega), by decide, ?_⟩) (fun z => absurd z (by omega))
    exact as_tail (A := fun y => post y (nI (t.length + 1), ru, st, no, wl', il', cl', nI (r.length + 1), a1, a2, a3, a4, a5, a6, a7, a8, a9, a10, a11, a12, A13, A14, A15, A16)) (by omega) e0 (h _ _ _ _ _ _ _ _)
theorem as_suffixOf {post : Int32 → St2 → Prop} {a b d e f x i : Nat} {sx px X : Bool} {t : List Nat} {p : Int32} (hp : p = nI i) (hi : i ≤ 2) (hf : as_fix a b d e f sx px X ru st a4 a5 a6 a7 a8 a9 a10 a11 a12) (hw : as_let (x :: t)) (hr : as_rep a1 (x :: t)) (ht : 1 ≤ t.length) (hn : t.length ≤ 11)
    (h : ∀ wl' il' cl' fo' A13 A14 A15 A16, post (as_sfA (as_res a b d e f sx px X (x :: t)) i) (nI (t.length + 1), ru, st, no, wl', il', cl', fo', a1, a2, a3, a4, a5, a6, a7, a8, a9, a10, a11, a12, A13, A14, A15, A16)) : wpX_suffixOf post (nI (t.length + 1), ru, st, no, wl, il, cl, fo, a1, a2, a3, a4, a5, a6, a7, a8, a9, a10, a11, a12, a13, a14, a15, a16) p := by
  subst hp
  have hlen := as_reslen a b d e f sx px X (x :: t)
  unfold wpX_suffixOf
  refine as_styped hf hw hr ht hn (fun wl' il' cl' fo' A13 A14 A15 A16 hA => ?_)
  obtain ⟨rfl, hA1, hA2⟩ := hA
  refine br_f (nI_pos (by omega)) ?_
  unfold as_sfA at h
  refine pk_lt i (as_res a b d e f sx px X (x :: t)).length (fun z => ⟨pk_in i 440 (by omega), by decide, by decide, ?_⟩) (fun z => ?_)
  · have ei := hA1 i z
    have hc : (as_res a b d e f sx px X (x :: t)).getD i 0 ≤ 13 := by
      rw [List.getD_eq_getElem?_getD, List.getElem?_eq_getElem z]
      exact hA2 _ (List.getElem_mem z)
    rw [if_pos z] at h
    generalize (as_res a b d e f sx px X (x :: t)).getD i 0 = c at ei hc h
    have e0 : A16 (nI i).toNatClampNeg / 11 - A16 (nI i).toNatClampNeg / 11 / 11 * 11 - 1 = nI (c / 11 % 11) - 1 := by
      rw [nI_clamp (show i < 2 ^ 31 by omega), ei]
      rw [show nI c / 11 = nI (c / 11) from pk_div (d := 11) (by omega) (by omega) (by omega)]
      rw [show nI (c / 11) - nI (c / 11) / 11 * 11 = nI (c / 11 % 11) from pk_rem (d := 11) (by omega) (by omega) (by omega)]
    exact as_tail (A := fun y => post y (nI (t.length + 1), ru, st, no, wl', il', cl', nI (as_res a b d e f sx px X (x :: t)).length, a1, a2, a3, a4, a5, a6, a7, a8, a9, a10, a11, a12, A13, A14, A15, A16)) (by omega) e0 (h _ _ _ _ _ _ _ _)
  · rw [if_neg (by omega)] at h
    exact h _ _ _ _ _ _ _ _
theorem as_suffixOfM {post : Int32 → St2 → Prop} {a b d e f x : Nat} {sx px X : Bool} {t : List Nat} {p : Int32} (hp : p = -1) (hf : as_fix a b d e f sx px X ru st a4 a5 a6 a7 a8 a9 a10 a11 a12) (hw : as_let (x :: t)) (hr : as_rep a1 (x :: t)) (ht : 1 ≤ t.length) (hn : t.length ≤ 11)
    (h : ∀ wl' il' cl' fo' A13 A14 A15 A16, post (-6) (nI (t.length + 1), ru, st, no, wl', il', cl', fo', a1, a2, a3, a4, a5, a6, a7, a8, a9, a10, a11, a12, A13, A14, A15, A16)) : wpX_suffixOf post (nI (t.length + 1), ru, st, no, wl, il, cl, fo, a1, a2, a3, a4, a5, a6, a7, a8, a9, a10, a11, a12, a13, a14, a15, a16) p := by
  subst hp
  unfold wpX_suffixOf
  exact as_styped hf hw hr ht hn (fun wl' il' cl' fo' A13 A14 A15 A16 hA => br_t (by decide) (h _ _ _ _ _ _ _ _))
theorem as_reflag {post : Int32 → St2 → Prop} {F : Int32} (h9 : a9 0 = F) (h : post F (tl, ru, 1, no, wl, il, cl, fo, a1, a2, a3, a4, a5, a6, a7, a8, upd a9 0 (0 &&& 255), a10, a11, a12, a13, a14, a15, a16)) : wpX_reflag post (tl, ru, 1, no, wl, il, cl, fo, a1, a2, a3, a4, a5, a6, a7, a8, a9, a10, a11, a12, a13, a14, a15, a16) 0 0 :=
  br_f (by decide) (br_t (by decide) ⟨pk_in 0 12 (by omega), nm_r h9 ⟨pk_in 0 12 (by omega), nm_e h⟩⟩)
theorem as_c33 {post : Int32 → St2 → Prop} {J : Int32 → Int32 → Int32 → Int32 → Int32 → Int32 → Int32 → Int32 → Int32 → Int32 → (Nat → Int32) → (Nat → Int32) → (Nat → Int32) → (Nat → Int32) → (Nat → Int32) → (Nat → Int32) → (Nat → Int32) → (Nat → Int32) → (Nat → Int32) → (Nat → Int32) → (Nat → Int32) → (Nat → Int32) → (Nat → Int32) → (Nat → Int32) → (Nat → Int32) → (Nat → Int32) → Prop}
    {a b d e f x c k : Nat} {sx px X : Bool} {t : List Nat} (hf : as_fix a b d e f sx px X ru st a4 a5 a6 a7 a8 a9 a10 a11 a12) (hw : as_let (x :: t)) (hr : as_rep a1 (x :: t)) (hn : t.length ≤ 10) (hk : k < 8) (hc : c ≤ 8)
    (h : ∀ wl' il' cl' fo' A13 A14 A15 A16, J (nI (c + (if as_res a b d e f sx px X (x :: t ++ [k + 1]) = [] then 0 else 1))) (nI (k + 1 + 1)) (nI (t.length + 1)) ru st no wl' il' cl' fo' a1 a2 a3 a4 a5 a6 a7 a8 a9 a10 a11 a12 A13 A14 A15 A16) :
    ∃ n, wX_continuations_33 post J (nI c) (nI (k + 1)) (nI (t.length + 1)) ru st no wl il cl fo n 0 a1 a2 a3 a4 a5 a6 a7 a8 a9 a10 a11 a12 a13 a14 a15 a16 := by
  obtain ⟨hL, hR, hP, hF, hT, hS⟩ := hf
  have hlen := as_reslen a b d e f sx px X (x :: t ++ [k + 1])
  have key : ∀ s : Nat → Int32, as_rep s (x :: t ++ [k + 1]) → wpX_search (fun u => match u with
      | (tl, ru, st, no, wl, il, cl, fo, a1, a2, a3, a4, a5, a6, a7, a8, a9, a10, a11, a12, a13, a14, a15, a16) => (fo ≤ 0 → (∀ x3 : Int32, x3 = nI (k + 1) + 1 → J (nI c) x3 tl ru st no wl il cl fo a1 a2 a3 a4 a5 a6 a7 a8 a9 a10 a11 a12 a13 a14 a15 a16)) ∧ (¬ fo ≤ 0 → (∀ x2 : Int32, x2 = nI c + 1 → (∀ x3 : Int32, x3 = nI (k + 1) + 1 → J x2 x3 tl ru st no wl il cl fo a1 a2 a3 a4 a5 a6 a7 a8 a9 a10 a11 a12 a13 a14 a15 a16)))) (nI (t.length + 1), ru, st, no, nI ((t ++ [k + 1]).length + 1), il, cl, fo, a1, a2, a3, a4, a5, a6, a7, a8, a9, a10, a11, a12, s, a14, a15, a16) := by
    intro s hs
    refine as_search hL hR hP hF hT (x := x) (t := t ++ [k + 1]) ?_ hs (by simp) (by simp; omega) (fun il' cl' fo' A14 A15 A16 hA => ?_)
    · intro y hy
      have hy' : y ∈ (x :: t) ++ [k + 1] := hy
      rw [List.mem_append] at hy'
      rcases hy' with hy | hy
      · exact hw y hy
      · rw [List.mem_singleton.mp hy]
        omega
    · obtain ⟨rfl, hA1, hA2⟩ := hA
      refine pk_le (as_res a b d e f sx px X (x :: t ++ [k + 1])).length 0 (fun z => nm_r (nI_1 _) ?_) (fun z => nm_r (nI_1 _) (nm_r (nI_1 _) ?_))
      · rw [if_pos (List.eq_nil_of_length_eq_zero (by omega))] at h
        exact h _ _ _ _ _ _ _ _
      · rw [if_neg (fun w => by rw [w] at z; exact absurd z (by decide))] at h
        exact h _ _ _ _ _ _ _ _
  refine pk_loop (fun n i s => wX_continuations_33 post J (nI c) (nI (k + 1)) (nI (t.length + 1)) ru st no wl il cl fo n (nI i) a1 a2 a3 a4 a5 a6 a7 a8 a9 a10 a11 a12 s a14 a15 a16) (fun i s => ∀ j, s j = if 0 ≤ j ∧ j < 0 + i then a1 (j - 0) else a13 j) (t.length + 1) 0 a13 (by omega) as_fill0
    (fun n s hs => pk_le (t.length + 1) (t.length + 1) (fun _ => ⟨pk_in (t.length + 1) 13 (by omega), nm_e (nm_r (nI_1 _) ?_)⟩) (fun z => absurd z (by omega)))
    (fun n i s hi hs hw => pk_le (t.length + 1) i (fun z => absurd z (by omega)) (fun _ => ⟨pk_in i 12 (by omega), pk_in i 13 (by omega), nm_e (nm_r (nI_1 i) (hw _ (as_fill (by rw [nI_clamp (by omega)]; omega) hs (by rw [nI_clamp (by omega)]))))⟩))
  have hk2 := key (upd s (t.length + 1) (nI (k + 1))) (as_snoc (w := x :: t) (as_cpy hr hs) rfl)
  rw [List.length_append, List.length_singleton] at hk2
  rw [nI_clamp (show t.length + 1 < 2 ^ 31 by omega)]
  exact hk2
theorem as_cont {post : Int32 → St2 → Prop} {a b d e f x : Nat} {sx px X : Bool} {t : List Nat} (hf : as_fix a b d e f sx px X ru st a4 a5 a6 a7 a8 a9 a10 a11 a12) (hw : as_let (x :: t)) (hr : as_rep a1 (x :: t)) (hn : t.length ≤ 10)
    (h : ∀ wl' il' cl' fo' A13 A14 A15 A16, post (nI (as_cn a b d e f sx px X (x :: t) 8)) (nI (t.length + 1), ru, st, no, wl', il', cl', fo', a1, a2, a3, a4, a5, a6, a7, a8, a9, a10, a11, a12, A13, A14, A15, A16)) : wpX_continuations post (nI (t.length + 1), ru, st, no, wl, il, cl, fo, a1, a2, a3, a4, a5, a6, a7, a8, a9, a10, a11, a12, a13, a14, a15, a16) := by
  unfold wpX_continuations
  refine as_anyNo (n := t.length + 1) (by omega) (as_ne9 hr hw) (br_t rfl (pk_lt (t.length + 1) 12 (fun _ => ?_) (fun z => absurd z (by omega))))
  exact pk_loop (σ := Int32 × Int32 × Int32 × Int32 × (Nat → Int32) × (Nat → Int32) × (Nat → Int32) × (Nat → Int32))
    (fun n k s => wX_continuations_24 post n (nI (as_cn a b d e f sx px X (x :: t) k)) (nI (k + 1)) (nI (t.length + 1)) ru st no s.1 s.2.1 s.2.2.1 s.2.2.2.1 a1 a2 a3 a4 a5 a6 a7 a8 a9 a10 a11 a12 s.2.2.2.2.1 s.2.2.2.2.2.1 s.2.2.2.2.2.2.1 s.2.2.2.2.2.2.2) (fun _ _ => True) 8 0 (wl, il, cl, fo, a13, a14, a15, a16) (by omega) trivial
    (fun n s _ => pk_lt 8 9 (fun _ => h _ _ _ _ _ _ _ _) (fun z => absurd z (by omega)))
    (fun n k s hk _ hw2 => pk_lt 8 (k + 1) (fun z => absurd z (by omega)) (fun _ => as_c33 hf hw hr hn hk (Nat.le_trans (as_cnle a b d e f sx px X (x :: t) k) (by omega)) (fun wl' il' cl' fo' A13 A14 A15 A16 => hw2 (wl', il', cl', fo', A13, A14, A15, A16) trivial)))
end
end
section
theorem as_R4 {a b d e f : Nat} {sx px X bo : Bool} (hb : bo = true ↔ (sx = true ∧ px = true ∧ X = true)) : as_res a b d e f sx px X [f, a, d, e] = if bo = true then [13] else [] := by
  have e1 : as_ss a b d e sx px X [f, a, d, e] false = none := by
    unfold as_ss
    rw [if_neg (by simp), if_neg (by simp)]
  unfold as_res
  rw [e1, as_pf_c, if_pos rfl]
  unfold as_ss
  rw [if_neg (by simp)]
  by_cases z : bo = true
  · have z' := hb.mp z
    rw [if_pos ⟨rfl, z'.1, fun _ => z'.2⟩, if_pos z]
    rfl
  · rw [if_neg (fun w => z (hb.mpr ⟨w.2.1, w.2.2 rfl⟩)), if_neg z]
    rfl
theorem as_R3 {a b d e f : Nat} {sx px X ot : Bool} (hb : ot = true ↔ (px = true ∧ f = a ∧ a = d ∧ b = e)) : as_res a b d e f sx px X [a, d, e] = (if ot = true then [2] else []) ++ (if sx = true then [11] else []) := by
  have e1 : as_ss a b d e sx px X [a, d, e] false = if sx = true then some 11 else none := by
    unfold as_ss
    rw [if_neg (by simp)]
    by_cases z : sx = true
    · rw [if_pos ⟨rfl, z, fun w => absurd w (by decide)⟩, if_pos z]
      rfl
    · rw [if_neg (fun w => z w.2.1), if_neg z]
  have e2 : as_pf a b d e f sx px X [a, d, e] = if ot = true then some 2 else none := by
    rw [as_pf_c]
    by_cases z : ot = true
    · have z' := hb.mp z
      rw [if_pos z, if_pos z'.2.1.symm]
      unfold as_ss
      rw [if_pos ⟨by rw [z'.2.2.1, z'.2.2.2], fun _ => z'.1⟩]
      rfl
    · rw [if_neg z]
      by_cases y : a = f
      · rw [if_pos y]
        unfold as_ss
        rw [if_neg, if_neg (by simp)]
        intro w
        have w1 := List.cons.inj w.1
        exact z (hb.mpr ⟨w.2 rfl, y.symm, w1.1.symm, (List.cons.inj w1.2).1.symm⟩)
      · rw [if_neg y]
  unfold as_res
  rw [e1, e2]
  cases sx <;> cases ot <;> rfl
theorem as_R2 {a b d e f : Nat} {sx px X : Bool} : as_res a b d e f sx px X [a, d] = if b = d then [0] else [] := by
  have e1 : as_ss a b d e sx px X [a, d] false = if b = d then some 0 else none := by
    unfold as_ss
    by_cases z : b = d
    · rw [if_pos ⟨by rw [z], fun w => absurd w (by decide)⟩, if_pos z]
      rfl
    · rw [if_neg (fun w => z (List.cons.inj (List.cons.inj w.1).2).1.symm), if_neg (by simp), if_neg z]
  have e2 : as_pf a b d e f sx px X [a, d] = none := by
    rw [as_pf_c]
    by_cases y : a = f
    · rw [if_pos y]
      unfold as_ss
      rw [if_neg (by simp), if_neg (by simp)]
    · rw [if_neg y]
  unfold as_res
  rw [e1, e2]
  by_cases z : b = d
  · rw [if_pos z, if_pos z]; rfl
  · rw [if_neg z, if_neg z]; rfl
theorem as_nilI (l : List Nat) (o : Option Nat) : as_opt l o = [] ↔ l = [] ∧ o = none := by
  cases o with
  | none => exact ⟨fun h => ⟨h, rfl⟩, fun h => h.1⟩
  | some c =>
    constructor
    · intro h
      have := congrArg List.length h
      rw [show (as_opt l (some c)).length = l.length + 1 from as_addlen l c] at this
      exact absurd this (by simp)
    · intro h
      exact absurd h.2 (by simp)
theorem as_Rc {a b d e f k : Nat} {sx px X fr : Bool} (hb : fr = true ↔ (px = true ∧ f = a ∧ a = d)) : as_res a b d e f sx px X [a, d, k] = [] ↔ ¬ ((sx = true ∧ k = e) ∨ (fr = true ∧ k = b)) := by
  have e1 : as_ss a b d e sx px X [a, d, k] false = none ↔ ¬ (sx = true ∧ k = e) := by
    unfold as_ss
    rw [if_neg (by simp)]
    by_cases z : sx = true ∧ k = e
    · rw [if_pos ⟨by rw [z.2], z.1, fun w => absurd w (by decide)⟩]
      simp [z]
    · rw [if_neg (fun w => z ⟨w.2.1, (List.cons.inj (List.cons.inj (List.cons.inj w.1).2).2).1⟩)]
      simp [z]
  have e2 : as_pf a b d e f sx px X [a, d, k] = none ↔ ¬ (fr = true ∧ k = b) := by
    rw [as_pf_c]
    by_cases z : fr = true ∧ k = b
    · have z' := hb.mp z.1
      rw [if_pos z'.2.1.symm]
      unfold as_ss
      rw [if_pos ⟨by rw [z'.2.2, z.2], fun _ => z'.1⟩]
      simp [z]
    · by_cases y : a = f
      · rw [if_pos y]
        unfold as_ss
        rw [if_neg, if_neg (by simp)]
        · simp [z]
        · intro w
          have w1 := List.cons.inj w.1
          exact z ⟨hb.mpr ⟨w.2 rfl, y.symm, w1.1.symm⟩, (List.cons.inj w1.2).1⟩
      · rw [if_neg y]
        simp [z]
  unfold as_res
  rw [as_nilI, as_nilI, e1, e2]
  constructor
  · intro h w
    rcases w with w | w
    · exact h.1.2 w
    · exact h.2 w
  · intro h
    exact ⟨⟨rfl, fun w => h (Or.inl w)⟩, fun w => h (Or.inr w)⟩
def as_C (p q : Bool) (e b : Nat) : Nat → Nat
  | 0 => 0
  | k + 1 => as_C p q e b k + (if (p = true ∧ k + 1 = e) ∨ (q = true ∧ k + 1 = b) then 1 else 0)
theorem as_C8 : ∀ p q : Bool, ∀ e, e < 9 → ∀ b, b < 9 → 1 ≤ e → 1 ≤ b → as_C p q e b 8 = (if p = true then 1 else 0) + (if q = true ∧ ¬ (p = true ∧ b = e) then 1 else 0) := by decide +kernel
theorem as_cnC {a b d e f : Nat} {sx px X fr : Bool} (hb : fr = true ↔ (px = true ∧ f = a ∧ a = d)) (k : Nat) : as_cn a b d e f sx px X [a, d] k = as_C sx fr e b k := by
  induction k with
  | zero => rfl
  | succ k ih =>
    show as_cn a b d e f sx px X [a, d] k + (if as_res a b d e f sx px X [a, d, k + 1] = [] then 0 else 1) = as_C sx fr e b k + (if (sx = true ∧ k + 1 = e) ∨ (fr = true ∧ k + 1 = b) then 1 else 0)
    rw [ih]
    have hc := as_Rc (a := a) (b := b) (d := d) (e := e) (f := f) (k := k + 1) (sx := sx) (px := px) (X := X) hb
    by_cases z : (sx = true ∧ k + 1 = e) ∨ (fr = true ∧ k + 1 = b)
    · rw [if_pos z, if_neg (fun w => hc.mp w z)]
    · rw [if_neg z, if_pos (hc.mpr z)]
theorem as_cn8 {a b d e f : Nat} {sx px X fr : Bool} (hL : as_L a b d e f) (hb : fr = true ↔ (px = true ∧ f = a ∧ a = d)) : as_cn a b d e f sx px X [a, d] 8 = (if sx = true then 1 else 0) + (if fr = true ∧ ¬ (sx = true ∧ b = e) then 1 else 0) := by
  obtain ⟨la, lb, ld, le, lf⟩ := hL
  rw [as_cnC hb]
  exact as_C8 sx fr e (by omega) b (by omega) le.1 lb.1
theorem as_t4 : ∀ m, m < 8 → ((nI m &&& 4 = 0) ↔ m / 4 % 2 = 0) := by decide +kernel
theorem as_t32 : ∀ m, m < 64 → ((nI m &&& 32 = 0) ↔ m / 32 % 2 = 0) := by decide +kernel
theorem as_bit2 (x : Int32) : (((x &&& 255) >>> ((2 : Int32) &&& 31)) &&& 1) = 1 ↔ ¬ (x &&& 4) = 0 := by
  have e4 : x &&& 4 = (x &&& 7) &&& 4 := by
    rw [Int32.and_assoc]
    congr 1
  rw [e4, pk_and x 8 (by decide), pk_and x 3 (by decide), as_t4 _ (Nat.mod_lt _ (by decide)), pk_shrN (by omega) _ 2 (by decide), pk_andN (by omega) 1 (by decide)]
  rw [show (1 : Int32) = nI 1 from rfl, nI_eq (by omega) (by omega)]
  omega
theorem as_bit5 (x : Int32) : (((x &&& 255) >>> ((5 : Int32) &&& 31)) &&& 1) = 1 ↔ ¬ (x &&& 32) = 0 := by
  have e4 : x &&& 32 = (x &&& 63) &&& 32 := by
    rw [Int32.and_assoc]
    congr 1
  rw [e4, pk_and x 8 (by decide), pk_and x 6 (by decide), as_t32 _ (Nat.mod_lt _ (by decide)), pk_shrN (by omega) _ 5 (by decide), pk_andN (by omega) 1 (by decide)]
  rw [show (1 : Int32) = nI 1 from rfl, nI_eq (by omega) (by omega)]
  omega
theorem as_letter (y : Int32) : ∃ n : Nat, (1 ≤ n ∧ n ≤ 8) ∧ 1 + (y &&& 7) = nI n := by
  obtain ⟨j, hj, ej⟩ := pk_andE y (m := 7) 3 (by decide)
  refine ⟨1 + j, by omega, ?_⟩
  rw [ej]
  exact nI_add 1 j
theorem as_nar (t : Bool) : vp_nar .boolean (as_b t) = as_b t := by
  cases t <;> rfl
end
section
section
variable {tl ru st no wl il cl fo : Int32} {a1 a2 a3 a4 a5 a6 a7 a8 a9 a10 a11 a12 a13 a14 a15 a16 : Nat → Int32}
variable {post : Int32 → St0 → Prop} {mc ms kc ks a b d e f : Nat} {sx px X : Bool} {x1 : Int32}
theorem as_549 {x17 z0 z1 : Int32} (hf : as_fix a b d e f sx px X ru st a4 a5 a6 a7 a8 a9 a10 a11 a12) (h9 : a9 0 = x1 &&& 255) (hr : as_rep a1 [a, d]) (hz : z1 = z0) (hx : nI (as_cn a b d e f sx px X [a, d] 8) = x17) (h : post 1 ()) : wL_lawOf_549 post mc ms x1 x17 z0 z1 kc ks (nI 2) ru st no wl il cl fo a1 a2 a3 a4 a5 a6 a7 a8 a9 a10 a11 a12 a13 a14 a15 a16 := by
  have hf' := hf
  obtain ⟨hL, hR, hP, hF, hT, rfl⟩ := hf'
  have hL' := hL
  obtain ⟨la, lb, ld, le, lf⟩ := hL'
  have hw : as_let [a, d] := by
    intro x hx
    simp at hx
    rcases hx with rfl | rfl
    · exact la
    · exact ld
  refine br_t hz (as_cont (t := [d]) hf hw hr (by simp) (fun wl' il' cl' fo' A13 A14 A15 A16 => br_t hx ?_))
  refine as_reflag h9 (br_t rfl ?_)
  refine as_cont (t := [d]) (sx := false) (px := false) ⟨hL, hR, hP, ⟨hF.1, hF.2.1, ?_, ?_⟩, hT, rfl⟩ hw hr (by simp) (fun wl' il' cl' fo' A13 A14 A15 A16 => br_t ?_ (br_t rfl h))
  · rw [pk_us]
    decide
  · rw [pk_us]
    decide
  · rw [as_cn8 (fr := false) hL (by simp)]
    rfl
theorem as_530 {z0 z1 : Int32} (hf : as_fix a b d e f sx px X ru st a4 a5 a6 a7 a8 a9 a10 a11 a12) (h9 : a9 0 = x1 &&& 255) (hr : as_rep a1 [a, d]) (hz : nI (as_cn a b d e f sx px X [a, d] 8) = z1 + z0) (h : post 1 ()) : wL_lawOf_530 post mc ms x1 (nI b) (nI d) z0 z1 kc ks (nI 2) ru st no wl il cl fo a1 a2 a3 a4 a5 a6 a7 a8 a9 a10 a11 a12 a13 a14 a15 a16 := by
  have hL := hf.1
  obtain ⟨la, lb, ld, le, lf⟩ := hL
  have hw : as_let [a, d] := by
    intro x hx
    simp at hx
    rcases hx with rfl | rfl
    · exact la
    · exact ld
  refine nm_e (as_deriv (t := [d]) hf hw hr (by simp) (by simp) (fun wl' il' cl' fo' A13 A14 A15 A16 => ?_))
  refine pk_eq b d (fun z => as_549 hf h9 hr ?_ hz h) (fun z => as_549 hf h9 hr ?_ hz h)
  · rw [as_R2, if_pos z]
    rfl
  · rw [as_R2, if_neg z]
    rfl
theorem as_508 {fr : Bool} {x16 z0 : Int32} (hf : as_fix a b d e f sx px X ru st a4 a5 a6 a7 a8 a9 a10 a11 a12) (h9 : a9 0 = x1 &&& 255) (hr : as_rep a1 [a, d]) (hb : fr = true ↔ (px = true ∧ f = a ∧ a = d)) (hx : x16 = as_b fr) (hz : z0 = as_b sx) (h : post 1 ()) : wL_lawOf_508 post mc ms x1 (nI b) (nI d) (nI e) (as_b sx) x16 z0 kc ks (nI 2) ru st no wl il cl fo a1 a2 a3 a4 a5 a6 a7 a8 a9 a10 a11 a12 a13 a14 a15 a16 := by
  subst hx hz
  have hL := hf.1
  have hL' := hL
  obtain ⟨la, lb, ld, le, lf⟩ := hL'
  have hc := as_cn8 (sx := sx) (X := X) hL hb
  refine ek_if (as_b0 fr) (fun z => ?_) (fun z => ?_)
  · refine as_530 hf h9 hr ?_ h
    rw [hc, if_neg (c := fr = true ∧ ¬ (sx = true ∧ b = e)) (fun w => z w.1)]
    cases sx <;> rfl
  · have z' : fr = true := Decidable.not_not.mp z
    refine ek_if (as_b0 sx) (fun y => ?_) (fun y => ?_)
    · refine as_530 hf h9 hr ?_ h
      rw [hc, if_pos (c := fr = true ∧ ¬ (sx = true ∧ b = e)) ⟨z', fun w => y w.1⟩]
      cases sx <;> rfl
    · have y' : sx = true := Decidable.not_not.mp y
      refine pk_eq b e (fun q => ?_) (fun q => ?_)
      · refine as_530 hf h9 hr ?_ h
        rw [hc, if_neg (c := fr = true ∧ ¬ (sx = true ∧ b = e)) (fun w => w.2 ⟨y', q⟩)]
        cases sx <;> rfl
      · refine as_530 hf h9 hr ?_ h
        rw [hc, if_pos (c := fr = true ∧ ¬ (sx = true ∧ b = e)) ⟨z', fun w => q w.2⟩]
        cases sx <;> rfl
theorem as_496 {fr : Bool} {x16 : Int32} (hf : as_fix a b d e f sx px X ru st a4 a5 a6 a7 a8 a9 a10 a11 a12) (h9 : a9 0 = x1 &&& 255) (hr : as_rep a1 [a, d]) (hb : fr = true ↔ (px = true ∧ f = a ∧ a = d)) (hx : x16 = as_b fr) (h : post 1 ()) : wL_lawOf_496 post mc ms x1 (nI b) (nI d) (nI e) (as_b sx) x16 kc ks (nI 2) ru st no wl il cl fo a1 a2 a3 a4 a5 a6 a7 a8 a9 a10 a11 a12 a13 a14 a15 a16 := by
  refine br_c (fun z => as_508 hf h9 hr hb hx z.symm h) (fun z => as_508 hf h9 hr hb hx ?_ h)
  cases sx
  · exact absurd rfl z
  · rfl
theorem as_457 {z0 z1 : Int32} (hf : as_fix a b d e f sx px X ru st a4 a5 a6 a7 a8 a9 a10 a11 a12) (h9 : a9 0 = x1 &&& 255) (hz : z1 = z0) (h : post 1 ()) : wL_lawOf_457 post mc ms x1 (nI a) (nI b) (nI d) (nI e) (nI f) (as_b sx) (as_b px) z0 z1 kc ks tl ru st no wl il cl fo a1 a2 a3 a4 a5 a6 a7 a8 a9 a10 a11 a12 a13 a14 a15 a16 := by
  have hL := hf.1
  obtain ⟨la, lb, ld, le, lf⟩ := hL
  refine br_t hz (as_word2 la.1 (by omega) ld.1 (by omega) (fun A hA => ?_))
  refine ek_if (as_b0 px) (fun z => ?_) (fun z => ?_)
  · exact as_496 (fr := false) hf h9 hA ⟨fun w => absurd w (by decide), fun w => absurd w.1 z⟩ rfl h
  · have z' : px = true := Decidable.not_not.mp z
    refine pk_eq f a (fun y => ?_) (fun y => ?_)
    · refine pk_eq a d (fun q => ?_) (fun q => ?_)
      · exact as_496 (fr := true) hf h9 hA ⟨fun _ => ⟨z', y, q⟩, fun _ => rfl⟩ rfl h
      · exact as_496 (fr := false) hf h9 hA ⟨fun w => absurd w (by decide), fun w => absurd w.2.2 q⟩ rfl h
    · exact as_496 (fr := false) hf h9 hA ⟨fun w => absurd w (by decide), fun w => absurd w.2.1 y⟩ rfl h
theorem as_let3 (hL : as_L a b d e f) : as_let [a, d, e] := by
  obtain ⟨la, lb, ld, le, lf⟩ := hL
  intro x hx
  simp at hx
  rcases hx with rfl | rfl | rfl
  · exact la
  · exact ld
  · exact le
theorem as_let4 (hL : as_L a b d e f) : as_let [f, a, d, e] := by
  obtain ⟨la, lb, ld, le, lf⟩ := hL
  intro x hx
  simp at hx
  rcases hx with rfl | rfl | rfl | rfl
  · exact lf
  · exact la
  · exact ld
  · exact le
/-- suffixOf(n - 1) of [a, d, e] -/
theorem as_435 {ot : Bool} {x15 z0 z1 : Int32} (hf : as_fix a b d e f sx px X ru st a4 a5 a6 a7 a8 a9 a10 a11 a12) (h9 : a9 0 = x1 &&& 255) (hr : as_rep a1 [a, d, e]) (hb : ot = true ↔ (px = true ∧ f = a ∧ a = d ∧ b = e)) (hx : x15 = as_b sx + as_b ot) (hz : z1 = z0) (h : post 1 ()) : wL_lawOf_435 post mc ms x1 (nI a) (nI b) (nI d) (nI e) (nI f) (as_b sx) (as_b px) x15 z0 z1 kc ks (nI 3) ru st no wl il cl fo a1 a2 a3 a4 a5 a6 a7 a8 a9 a10 a11 a12 a13 a14 a15 a16 := by
  have hw := as_let3 hf.1
  have hR := as_R3 (sx := sx) (X := X) hb
  subst hx
  refine br_t hz ?_
  cases sx with
  | false =>
    cases ot with
    | false =>
      exact as_suffixOfM (t := [d, e]) (by decide) hf hw hr (by simp) (by simp) (fun wl' il' cl' fo' A13 A14 A15 A16 => br_t rfl (as_457 hf h9 rfl h))
    | true =>
      refine as_suffixOf (t := [d, e]) (i := 0) (by decide) (by omega) hf hw hr (by simp) (by simp) (fun wl' il' cl' fo' A13 A14 A15 A16 => br_t rfl (as_457 hf h9 ?_ h))
      rw [hR]
      decide
  | true =>
    cases ot with
    | false =>
      refine as_suffixOf (t := [d, e]) (i := 0) (by decide) (by omega) hf hw hr (by simp) (by simp) (fun wl' il' cl' fo' A13 A14 A15 A16 => br_f (by decide) (as_457 hf h9 ?_ h))
      rw [hR]
      decide
    | true =>
      refine as_suffixOf (t := [d, e]) (i := 1) (by decide) (by omega) hf hw hr (by simp) (by simp) (fun wl' il' cl' fo' A13 A14 A15 A16 => br_f (by decide) (as_457 hf h9 ?_ h))
      rw [hR]
      decide
theorem as_407 {ot : Bool} {x14 z0 z1 : Int32} (hf : as_fix a b d e f sx px X ru st a4 a5 a6 a7 a8 a9 a10 a11 a12) (h9 : a9 0 = x1 &&& 255) (hr : as_rep a1 [a, d, e]) (hb : ot = true ↔ (px = true ∧ f = a ∧ a = d ∧ b = e)) (hx : x14 = as_b ot) (hz0 : z0 = as_b ot) (hz1 : z1 = as_b sx) (h : post 1 ()) : wL_lawOf_407 post mc ms x1 (nI a) (nI b) (nI d) (nI e) (nI f) (as_b sx) (as_b px) x14 z0 z1 kc ks (nI 3) ru st no wl il cl fo a1 a2 a3 a4 a5 a6 a7 a8 a9 a10 a11 a12 a13 a14 a15 a16 := by
  have hw := as_let3 hf.1
  have hR := as_R3 (sx := sx) (X := X) hb
  subst hx hz0 hz1
  refine nm_e (as_deriv (t := [d, e]) hf hw hr (by simp) (by simp) (fun wl' il' cl' fo' A13 A14 A15 A16 => br_t ?_ ?_))
  · rw [hR]
    cases sx <;> cases ot <;> decide
  · refine as_prefixOf (t := [d, e]) hf hw hr (by simp) (by simp) (fun wl' il' cl' fo' A13 A14 A15 A16 => ?_)
    refine ek_if (as_b0 ot) (fun z => as_435 hf h9 hr hb rfl ?_ h) (fun z => as_435 hf h9 hr hb rfl ?_ h)
    · rw [hR]
      cases sx <;> cases ot <;> first | decide | exact absurd rfl z
    · rw [hR]
      cases sx <;> cases ot <;> first | decide | exact absurd (by decide) z
theorem as_385 {ot : Bool} {x14 : Int32} (hf : as_fix a b d e f sx px X ru st a4 a5 a6 a7 a8 a9 a10 a11 a12) (h9 : a9 0 = x1 &&& 255) (hr : as_rep a1 [a, d, e]) (hb : ot = true ↔ (px = true ∧ f = a ∧ a = d ∧ b = e)) (hx : x14 = as_b ot) (h : post 1 ()) : wL_lawOf_385 post mc ms x1 (nI a) (nI b) (nI d) (nI e) (nI f) (as_b sx) (as_b px) x14 kc ks (nI 3) ru st no wl il cl fo a1 a2 a3 a4 a5 a6 a7 a8 a9 a10 a11 a12 a13 a14 a15 a16 := by
  subst hx
  have k0 : ∀ y, y = as_b sx → wL_lawOf_397 post mc ms x1 (nI a) (nI b) (nI d) (nI e) (nI f) (as_b sx) (as_b px) (as_b ot) y kc ks (nI 3) ru st no wl il cl fo a1 a2 a3 a4 a5 a6 a7 a8 a9 a10 a11 a12 a13 a14 a15 a16 := by
    intro y hy
    refine br_c (fun z => as_407 hf h9 hr hb rfl z.symm hy h) (fun z => as_407 hf h9 hr hb rfl ?_ hy h)
    cases ot
    · exact absurd rfl z
    · rfl
  refine br_c (fun z => k0 0 z.symm) (fun z => k0 1 ?_)
  cases sx
  · exact absurd rfl z
  · rfl
theorem as_338 {z0 z1 : Int32} (hf : as_fix a b d e f sx px X ru st a4 a5 a6 a7 a8 a9 a10 a11 a12) (h9 : a9 0 = x1 &&& 255) (hz : z1 = z0) (h : post 1 ()) : wL_lawOf_338 post mc ms x1 (nI a) (nI b) (nI d) (nI e) (nI f) (as_b sx) (as_b px) z0 z1 kc ks tl ru st no wl il cl fo a1 a2 a3 a4 a5 a6 a7 a8 a9 a10 a11 a12 a13 a14 a15 a16 := by
  have hL := hf.1
  obtain ⟨la, lb, ld, le, lf⟩ := hL
  refine br_t hz (as_word3 la.1 (by omega) ld.1 (by omega) le.1 (by omega) (fun A hA => ?_))
  have no : ¬ (px = true ∧ f = a ∧ a = d ∧ b = e) → (false = true ↔ (px = true ∧ f = a ∧ a = d ∧ b = e)) := fun w => ⟨fun v => absurd v (by decide), fun v => absurd v w⟩
  refine ek_if (as_b0 px) (fun z => ?_) (fun z => ?_)
  · exact as_385 (ot := false) hf h9 hA (no (fun w => z w.1)) rfl h
  · have z' : px = true := Decidable.not_not.mp z
    refine pk_eq f a (fun y => ?_) (fun y => as_385 (ot := false) hf h9 hA (no (fun w => y w.2.1)) rfl h)
    refine pk_eq a d (fun q => ?_) (fun q => as_385 (ot := false) hf h9 hA (no (fun w => q w.2.2.1)) rfl h)
    refine pk_eq b e (fun r => ?_) (fun r => as_385 (ot := false) hf h9 hA (no (fun w => r w.2.2.2)) rfl h)
    exact as_385 (ot := true) hf h9 hA ⟨fun _ => ⟨z', y, q, r⟩, fun _ => rfl⟩ rfl h
theorem as_319 {bo : Bool} {z0 z1 : Int32} (hf : as_fix a b d e f sx px X ru st a4 a5 a6 a7 a8 a9 a10 a11 a12) (h9 : a9 0 = x1 &&& 255) (hr : as_rep a1 [f, a, d, e]) (hb : bo = true ↔ (sx = true ∧ px = true ∧ X = true)) (hz : z1 = z0) (h : post 1 ()) : wL_lawOf_319 post mc ms x1 (nI a) (nI b) (nI d) (nI e) (nI f) (as_b sx) (as_b px) (as_b bo) z0 z1 kc ks (nI 4) ru st no wl il cl fo a1 a2 a3 a4 a5 a6 a7 a8 a9 a10 a11 a12 a13 a14 a15 a16 := by
  have hw := as_let4 hf.1
  have hR := as_R4 (a := a) (b := b) (d := d) (e := e) (f := f) hb
  refine br_t hz (as_prefixOf (t := [a, d, e]) hf hw hr (by simp) (by simp) (fun wl' il' cl' fo' A13 A14 A15 A16 => ?_))
  cases bo with
  | false => exact br_t rfl (as_338 hf h9 (by rw [hR]; decide) h)
  | true => exact br_f (by decide) (as_338 hf h9 (by rw [hR]; decide) h)
theorem as_298 {bo : Bool} {z0 z1 : Int32} (hf : as_fix a b d e f sx px X ru st a4 a5 a6 a7 a8 a9 a10 a11 a12) (h9 : a9 0 = x1 &&& 255) (hr : as_rep a1 [f, a, d, e]) (hb : bo = true ↔ (sx = true ∧ px = true ∧ X = true)) (hz : z1 = z0) (h : post 1 ()) : wL_lawOf_298 post mc ms x1 (nI a) (nI b) (nI d) (nI e) (nI f) (as_b sx) (as_b px) (as_b bo) z0 z1 kc ks (nI 4) ru st no wl il cl fo a1 a2 a3 a4 a5 a6 a7 a8 a9 a10 a11 a12 a13 a14 a15 a16 := by
  have hw := as_let4 hf.1
  have hR := as_R4 (a := a) (b := b) (d := d) (e := e) (f := f) hb
  refine br_t hz (as_suffixOf (t := [a, d, e]) (i := 0) rfl (by omega) hf hw hr (by simp) (by simp) (fun wl' il' cl' fo' A13 A14 A15 A16 => ?_))
  cases bo with
  | false => exact br_t rfl (as_319 hf h9 hr hb (by rw [hR]; decide) h)
  | true => exact br_f (by decide) (as_319 hf h9 hr hb (by rw [hR]; decide) h)
theorem as_279 {bo : Bool} {z0 z1 : Int32} (hf : as_fix a b d e f sx px X ru st a4 a5 a6 a7 a8 a9 a10 a11 a12) (h9 : a9 0 = x1 &&& 255) (hr : as_rep a1 [f, a, d, e]) (hb : bo = true ↔ (sx = true ∧ px = true ∧ X = true)) (hz : z1 = z0) (h : post 1 ()) : wL_lawOf_279 post mc ms x1 (nI a) (nI b) (nI d) (nI e) (nI f) (as_b sx) (as_b px) (as_b bo) z0 z1 kc ks (nI 4) ru st no wl il cl fo a1 a2 a3 a4 a5 a6 a7 a8 a9 a10 a11 a12 a13 a14 a15 a16 := by
  have hw := as_let4 hf.1
  have hR := as_R4 (a := a) (b := b) (d := d) (e := e) (f := f) hb
  refine br_t hz (as_stemOf (t := [a, d, e]) hf hw hr (by simp) (by simp) (fun wl' il' cl' fo' A13 A14 A15 A16 => ?_))
  cases bo with
  | false => exact br_t rfl (as_298 hf h9 hr hb (by rw [hR]; decide) h)
  | true => exact br_f (by decide) (as_298 hf h9 hr hb (by rw [hR]; decide) h)
theorem as_251 {bo : Bool} {z0 : Int32} (hf : as_fix a b d e f sx px X ru st a4 a5 a6 a7 a8 a9 a10 a11 a12) (h9 : a9 0 = x1 &&& 255) (hb : bo = true ↔ (sx = true ∧ px = true ∧ X = true)) (hz : z0 = as_b bo) (h : post 1 ()) : wL_lawOf_251 post mc ms x1 (nI a) (nI b) (nI d) (nI e) (nI f) (as_b sx) (as_b px) z0 kc ks tl ru st no wl il cl fo a1 a2 a3 a4 a5 a6 a7 a8 a9 a10 a11 a12 a13 a14 a15 a16 := by
  subst hz
  have hw := as_let4 hf.1
  have hR := as_R4 (a := a) (b := b) (d := d) (e := e) (f := f) hb
  have hL := hf.1
  obtain ⟨la, lb, ld, le, lf⟩ := hL
  refine as_word4 lf.1 (by omega) la.1 (by omega) ld.1 (by omega) le.1 (by omega) (fun A hr => ?_)
  refine as_deriv (t := [a, d, e]) hf hw hr (by simp) (by simp) (fun wl' il' cl' fo' A13 A14 A15 A16 => ?_)
  cases bo with
  | false => exact br_t rfl (as_279 (bo := false) hf h9 hr hb (by rw [hR]; rfl) h)
  | true => exact br_f (by decide) (as_279 (bo := true) hf h9 hr hb (by rw [hR]; rfl) h)
theorem as_224 {o w : Bool} {x11 z0 : Int32} (hf : as_fix a b d e f sx px (o && w) ru st a4 a5 a6 a7 a8 a9 a10 a11 a12) (h9 : a9 0 = x1 &&& 255) (hx : x11 = as_b sx) (hz : z0 = as_b px) (h : post 1 ()) : wL_lawOf_224 post mc ms x1 (nI a) (nI b) (nI d) (nI e) (nI f) (as_b o) (as_b w) x11 z0 kc ks tl ru st no wl il cl fo a1 a2 a3 a4 a5 a6 a7 a8 a9 a10 a11 a12 a13 a14 a15 a16 := by
  subst hx hz
  have no : ¬ (sx = true ∧ px = true ∧ (o && w) = true) → (false = true ↔ (sx = true ∧ px = true ∧ (o && w) = true)) := fun q => ⟨fun v => absurd v (by decide), fun v => absurd v q⟩
  refine ek_if (as_b0 sx) (fun z => as_251 (bo := false) hf h9 (no (fun q => z q.1)) rfl h) (fun z => ?_)
  refine ek_if (as_b0 px) (fun y => as_251 (bo := false) hf h9 (no (fun q => y q.2.1)) rfl h) (fun y => ?_)
  refine ek_if (as_b0 o) (fun r => as_251 (bo := false) hf h9 (no (fun q => r (by have := q.2.2; simp at this; exact this.1))) rfl h) (fun r => ?_)
  refine ek_if (as_b0 w) (fun s => as_251 (bo := false) hf h9 (no (fun q => s (by have := q.2.2; simp at this; exact this.2))) rfl h) (fun s => ?_)
  refine as_251 (bo := true) hf h9 ⟨fun _ => ⟨Decidable.not_not.mp z, Decidable.not_not.mp y, ?_⟩, fun _ => rfl⟩ rfl h
  rw [Decidable.not_not.mp r, Decidable.not_not.mp s]
  rfl
end
end
section
/-- the parts of the two rules, out of what the five keeps and the two rules wrote -/
theorem as_parts {b d e f : Nat} {a2 a3 a7 a8 A2 A3 A4 A5 B1 B2 B3 B4 B5 A7 A8 C7 C8 : Nat → Int32} (r2 : as_rep A2 [b]) (r3 : as_rep A3 [d, e]) (r4 : as_rep A4 [9]) (r5 : as_rep A5 [f])
    (k1 : ∀ j, B1 j = if 0 * 3 ≤ j ∧ j < 0 * 3 + 1 then A2 (j - 0 * 3) else a3 j) (k2 : ∀ j, B2 j = if 1 * 3 ≤ j ∧ j < 1 * 3 + 2 then A3 (j - 1 * 3) else B1 j)
    (k3 : ∀ j, B3 j = if 2 * 3 ≤ j ∧ j < 2 * 3 + 1 then A4 (j - 2 * 3) else B2 j) (k4 : ∀ j, B4 j = if 0 * 3 ≤ j ∧ j < 0 * 3 + 0 then A4 (j - 0 * 3) else B3 j)
    (k5 : ∀ j, B5 j = if 1 * 3 ≤ j ∧ j < 1 * 3 + 1 then A5 (j - 1 * 3) else B4 j)
    (m7 : ∀ j, A7 j = if 0 * 3 ≤ j ∧ j < 0 * 3 + 3 then upd (upd (upd a2 0 (nI 1)) 1 (nI 2)) 2 (nI 1) (j - 0 * 3) else a7 j) (m8 : ∀ j, A8 j = if 0 * 9 ≤ j ∧ j < 0 * 9 + 9 then B3 (j - 0 * 9) else a8 j)
    (n7 : ∀ j, C7 j = if 1 * 3 ≤ j ∧ j < 1 * 3 + 3 then upd (upd (upd (upd (upd a2 0 (nI 1)) 1 (nI 2)) 2 (nI 1)) 0 (nI 0)) 1 (nI 1) (j - 1 * 3) else A7 j) (n8 : ∀ j, C8 j = if 1 * 9 ≤ j ∧ j < 1 * 9 + 9 then B5 (j - 1 * 9) else A8 j) : as_P b d e f C7 C8 := by
  have g2 : A2 0 = nI b := r2 0 (by simp)
  have g3 : A3 0 = nI d := r3 0 (by simp)
  have g3' : A3 1 = nI e := r3 1 (by simp)
  have g4 : A4 0 = nI 9 := r4 0 (by simp)
  have g5 : A5 0 = nI f := r5 0 (by simp)
  refine ⟨⟨?_, ?_, ?_, ?_, ?_, ?_⟩, ?_, ?_, ?_, ?_, ?_, ?_⟩
  · simp [n7, m7, upd]
  · simp [n7, m7, upd]
  · simp [n7, m7, upd]
  · simp [n7, m7, upd]
  · simp [n7, m7, upd]
  · simp [n7, m7, upd]
  · simp [n8, m8, k3, k2, k1, g2]
  · simp [n8, m8, k3, k2, k1, g3]
  · simp [n8, m8, k3, k2, k1, g3']
  · simp [n8, m8, k3, k2, k1, g4]
    rfl
  · simp [n8, m8, k5, k4, k3, k2, k1, g5]
  · simp [n8, m8, k5, k4, k3, k2, k1, g4]
    rfl
theorem as_let1 {x : Nat} (h : 1 ≤ x ∧ x ≤ 8) : as_let [x] := by
  intro y hy
  rw [List.mem_singleton.mp hy]
  exact h
theorem as_let2 {x y : Nat} (h : 1 ≤ x ∧ x ≤ 8) (h' : 1 ≤ y ∧ y ≤ 8) : as_let [x, y] := by
  intro z hz
  simp at hz
  rcases hz with rfl | rfl
  · exact h
  · exact h'
section
variable {tl ru st no wl il cl fo : Int32} {a1 a2 a3 a4 a5 a6 a7 a8 a9 a10 a11 a12 a13 a14 a15 a16 : Nat → Int32}
variable {post : Int32 → St0 → Prop} {mc ms kc ks a b d e f : Nat} {x1 : Int32}
theorem as_210 {sx px o w : Bool} {z0 : Int32} (hf : as_fix a b d e f sx px (o && w) ru st a4 a5 a6 a7 a8 a9 a10 a11 a12) (h9 : a9 0 = x1 &&& 255) (hz : z0 = as_b sx) (hp : px = true ↔ ¬ (x1 &&& 32) = 0) (h : post 1 ()) : wL_lawOf_210 post mc ms x1 (nI a) (nI b) (nI d) (nI e) (nI f) (as_b o) (as_b w) z0 kc ks tl ru st no wl il cl fo a1 a2 a3 a4 a5 a6 a7 a8 a9 a10 a11 a12 a13 a14 a15 a16 := by
  refine br_c (fun z => as_224 hf h9 hz ?_ h) (fun z => as_224 hf h9 hz ?_ h)
  · cases px
    · rfl
    · exact absurd z (hp.mp rfl)
  · rw [hp.mpr z]
    rfl
theorem as_85 {o w : Bool} (hL : as_L a b d e f) (h10 : ∀ k, a10 k = 0) (h11 : a11 0 = -1) (h : post 1 ()) : wL_lawOf_85 post mc ms x1 (nI a) (nI b) (nI d) (nI e) (nI f) (as_b o) (as_b w) kc ks tl (nI 0) 0 (nI 1) wl il cl fo a1 a2 a3 a4 a5 a6 a7 a8 a9 a10 a11 a12 a13 a14 a15 a16 := by
  have hL' := hL
  obtain ⟨la, lb, ld, le, lf⟩ := hL'
  unfold wL_lawOf_85
  refine as_word2 la.1 (by omega) lb.1 (by omega) (fun A1 r1 => ?_)
  refine as_stem la lb r1 h10 h11 (fun A10 A11 t1 t2 t3 t4 => ?_)
  refine as_word1 lb.1 (by omega) (fun A2 r2 => ?_)
  refine as_keepNo (n := 1) (p := 0) (by omega) (by omega) (as_ne9 r2 (as_let1 lb)) (fun B1 k1 => ?_)
  refine as_word2 ld.1 (by omega) le.1 (by omega) (fun A3 r3 => ?_)
  refine as_keepNo (n := 2) (p := 1) (by omega) (by omega) (as_ne9 r3 (as_let2 ld le)) (fun B2 k2 => ?_)
  refine as_word1 (x := 9) (by omega) (by omega) (fun A4 r4 => ?_)
  refine as_keepYes (r4 0 (by simp)) (fun B3 k3 => ?_)
  refine as_rule (r := 0) (q := 2) (by omega) (by omega) (fun A7 A8 m7 m8 => br_t rfl ?_)
  refine as_keepNo (n := 0) (p := 0) (by omega) (by omega) (fun i hi => absurd hi (by omega)) (fun B4 k4 => br_t rfl ?_)
  refine as_word1 lf.1 (by omega) (fun A5 r5 => ?_)
  refine as_keepNo (n := 1) (p := 1) (by omega) (by omega) (as_ne9 r5 (as_let1 lf)) (fun B5 k5 => ?_)
  refine as_rule (r := 1) (q := 5) (by omega) (by omega) (fun C7 C8 n7 n8 => br_t rfl ?_)
  have hP : as_P b d e f C7 C8 := as_parts r2 r3 r4 r5 k1 k2 k3 k4 k5 m7 m8 n7 n8
  have hX : ∀ g : Nat → Int32, ((o && w) = true ↔ (¬ upd (upd g 0 (vp_nar .boolean (as_b o))) 1 (vp_nar .boolean (as_b w)) 0 = 0) ∧ (¬ upd (upd g 0 (vp_nar .boolean (as_b o))) 1 (vp_nar .boolean (as_b w)) 1 = 0)) := by
    intro g
    rw [pk_us, pk_un (by decide), pk_us, as_nar, as_nar, as_b0, as_b0]
    simp
  have hfix : ∀ sx px : Bool, (sx = true ↔ ¬ (x1 &&& 4) = 0) → (px = true ↔ ¬ (x1 &&& 32) = 0) → as_fix a b d e f sx px (o && w) (nI 2) 1 (upd (upd a4 0 (nI 2)) 1 (nI 5)) (upd (upd a5 0 (vp_nar .boolean 1)) 1 (vp_nar .boolean 0)) (upd (upd a6 0 (vp_nar .boolean (as_b o))) 1 (vp_nar .boolean (as_b w))) C7 C8 (upd a9 0 (x1 &&& 255)) A10 A11 (upd a12 0 (-1)) := by
    intro sx px hs hp
    refine ⟨hL, ⟨rfl, ?_, ?_, hX a6⟩, hP, ⟨?_, ?_, ?_, ?_⟩, ⟨t1, t2, t3, t4, pk_us⟩, rfl⟩
    · rw [pk_un (by decide), pk_us]
      decide
    · rw [pk_us]
      decide
    · rw [pk_un (by decide), pk_us]
      rfl
    · rw [pk_us]
      rfl
    · rw [pk_us, as_bit2]
      exact hs
    · rw [pk_us, as_bit5]
      exact hp
  have hp : (decide (¬ (x1 &&& 32) = 0)) = true ↔ ¬ (x1 &&& 32) = 0 := decide_eq_true_iff
  refine br_c (fun z => ?_) (fun z => ?_)
  · exact as_210 (sx := false) (hfix false _ ⟨fun q => absurd q (by decide), fun q => absurd z q⟩ hp) pk_us rfl hp h
  · exact as_210 (sx := true) (hfix true _ ⟨fun _ => z, fun _ => rfl⟩ hp) pk_us rfl hp h
theorem as_71 {o : Bool} {x2 z0 : Int32} (hL : as_L a b d e f) (h10 : ∀ k, a10 k = 0) (h11 : a11 0 = -1) (hz : z0 = as_b o) (h : post 1 ()) : wL_lawOf_71 post mc ms x1 x2 (nI a) (nI b) (nI d) (nI e) (nI f) z0 kc ks tl (nI 0) 0 (nI 1) wl il cl fo a1 a2 a3 a4 a5 a6 a7 a8 a9 a10 a11 a12 a13 a14 a15 a16 := by
  subst hz
  exact br_c (fun z => as_85 (w := true) hL h10 h11 h) (fun z => as_85 (w := false) hL h10 h11 h)
end
theorem as_lawOf {post : Int32 → St0 → Prop} {p0 p1 p2 : Int32} (h : post 1 ()) : wpL_lawOf post 17 2016 () p0 p1 p2 := by
  obtain ⟨a, la, ea⟩ := as_letter p0
  obtain ⟨b, lb, eb⟩ := as_letter (p0 >>> ((3 : Int32) &&& 31))
  obtain ⟨d, ld, ed⟩ := as_letter (p0 >>> ((6 : Int32) &&& 31))
  obtain ⟨e, le, ee⟩ := as_letter (p0 >>> ((9 : Int32) &&& 31))
  obtain ⟨f, lf, ef⟩ := as_letter (p0 >>> ((12 : Int32) &&& 31))
  have hL : as_L a b d e f := ⟨la, lb, ld, le, lf⟩
  refine ⟨by omega, by omega, 16, 1992, by omega, by omega, ?_⟩
  unfold wpX_init
  refine ⟨by omega, by omega, by omega, by omega, by omega, by omega, by omega, by omega, by omega, by omega, by omega, by omega, by omega, by omega, by omega, by omega, by omega, by omega, by omega, by omega, by omega, by omega, by omega, by omega, by omega, by omega, by omega, by omega, by omega, by omega, by omega, by omega, nm_e ?_⟩
  refine nm_r ea (nm_r eb (nm_r ed (nm_r ee (nm_r ef ?_))))
  exact br_c (fun z => as_71 (o := true) hL (fun _ => rfl) pk_us rfl h) (fun z => as_71 (o := false) hL (fun _ => rfl) pk_us rfl h)
theorem as_cell {post : Int32 → Prop} {L i : Nat} {xs : Nat → Int32} {p : Int32} (hL : L ≤ 3) (hi : i ≤ 2) (hp : p = nI i) (h : ∀ r, post r) : wpL_cellAt post L xs () p := by
  subst hp
  exact pk_le L i (fun _ => h 0) (fun z => ⟨pk_in i L z, h _⟩)
theorem i_vc (xs : Nat → Int32) (L : Nat) (hL : L ≤ 3) : wpL_law (fun r => r = 1) L xs := by
  unfold wpL_law
  refine as_cell hL (i := 0) (by omega) rfl (fun r1 => ?_)
  refine as_cell hL (i := 1) (by omega) rfl (fun r2 => ?_)
  refine as_cell hL (i := 2) (by omega) rfl (fun r3 => ?_)
  exact ⟨17, 2016, by omega, by omega, as_lawOf rfl⟩
end
