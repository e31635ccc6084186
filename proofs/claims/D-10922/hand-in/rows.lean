section
/-- the size of a code as the method finds it -/
def wc_szk (x : Int32) : Nat → Int32
  | 0 => 0
  | k + 1 => if x >>> (nI (k + 1) &&& 31) ≤ 0 then wc_szk x k else nI (k + 1)
def wc_sz (x : Int32) : Int32 := wc_szk x 7
def wc_lg (n : Nat) : Nat := if n < 2 then 0 else if n < 4 then 1 else if n < 8 then 2 else if n < 16 then 3 else if n < 32 then 4 else if n < 64 then 5 else 6
theorem wc_sz_lg : ∀ n, n < 128 → wc_sz (nI n) = nI (wc_lg n) := by decide +kernel
theorem wc_lg_le (n : Nat) : wc_lg n ≤ 6 := by
  unfold wc_lg
  repeat' split
  all_goals omega
theorem wc_lg_pos {n : Nat} (h : 2 ≤ n) : 1 ≤ wc_lg n := by
  unfold wc_lg
  repeat' split
  all_goals omega
theorem wc_lg_ge {n : Nat} (h : 1 ≤ n) : 2 ^ wc_lg n ≤ n := by
  unfold wc_lg
  repeat' split
  all_goals omega
theorem wc_lg_lt {n : Nat} (h : n < 128) : n < 2 ^ (wc_lg n + 1) := by
  unfold wc_lg
  repeat' split
  all_goals omega
theorem wc_one : ∀ m, m < 31 → (1 : Int32) <<< (nI m &&& 31) = nI (2 ^ m) := by decide +kernel
theorem wc_cnt31 : ∀ m, m < 32 → ((nI m &&& 31).toBitVec.smod 32).toNat = m := by decide +kernel
/-- sums of Int32 -/
def wc_sum (f : Nat → Int32) : Nat → Int32
  | 0 => 0
  | n + 1 => wc_sum f n + f n
theorem wc_sum_congr {f g : Nat → Int32} : ∀ n, (∀ j, j < n → f j = g j) → wc_sum f n = wc_sum g n
  | 0, _ => rfl
  | n + 1, h => by
    show wc_sum f n + f n = wc_sum g n + g n
    rw [wc_sum_congr n (fun j hj => h j (by omega)), h n (by omega)]
theorem wc_sum_at {f g : Nat → Int32} {i : Nat} {d : Int32} : ∀ n, i < n → (∀ j, j < n → j ≠ i → g j = f j) → g i = f i + d → wc_sum g n = wc_sum f n + d
  | 0, h, _, _ => absurd h (by omega)
  | n + 1, h, hj, hi => by
    show wc_sum g n + g n = wc_sum f n + f n + d
    by_cases e : i = n
    · subst e
      rw [wc_sum_congr (f := g) (g := f) i (fun j h1 => hj j (by omega) (by omega)), hi]
      grind
    · rw [wc_sum_at (f := f) (g := g) n (by omega) (fun j h1 h2 => hj j (by omega) h2) hi, hj n (by omega) (fun z => e z.symm)]
      grind
theorem wc_sum_two {f : Nat → Int32} : ∀ n, wc_sum f (2 * n) = wc_sum (fun k => f (2 * k) + f (2 * k + 1)) n
  | 0 => rfl
  | n + 1 => by
    show wc_sum f (2 * n + 1 + 1) = wc_sum (fun k => f (2 * k) + f (2 * k + 1)) n + (f (2 * n) + f (2 * n + 1))
    rw [← wc_sum_two n]
    show wc_sum f (2 * n) + f (2 * n) + f (2 * n + 1) = _
    grind
/-- all rows of n bits more, by their weights -/
def wc_T (stp : Int32 → Int32 → Int32) (g : Int32 → Int32) : Int32 → Int32 := fun s => g (stp s 0) + g (stp s 1)
def wc_Tn (stp : Int32 → Int32 → Int32) : Nat → (Int32 → Int32) → Int32 → Int32
  | 0, g => g
  | n + 1, g => wc_Tn stp n (wc_T stp g)
def wc_g (t s : Int32) : Int32 := if (s &&& 3) < t then 0 else 1
end
section
theorem wc_sizeOf {post : Int32 → Prop} {cnt len bits fnd ltr : Int32} {a1 a2 a3 a4 a5 a6 a7 a8 a9 a10 a11 : Nat → Int32} (x : Int32) (h : post (wc_sz x)) : wpX_sizeOf post (cnt, len, bits, fnd, ltr, a1, a2, a3, a4, a5, a6, a7, a8, a9, a10, a11) x := by
  refine pk_loop (fun n i s => wX_sizeOf_4 post x cnt len bits fnd ltr a1 a2 a3 a4 a5 a6 a7 a8 a9 a10 a11 n s (nI i)) (fun i s => 1 ≤ i ∧ s = wc_szk x (i - 1)) 8 1 0 (by omega) ⟨by omega, rfl⟩ ?_ ?_
  · intro n s hs
    obtain ⟨_, rfl⟩ := hs
    exact pk_le 8 8 (fun _ => h) (fun z => absurd z (by omega))
  · intro n i s hi hs hw
    obtain ⟨h1, rfl⟩ := hs
    obtain ⟨k, rfl⟩ : ∃ k, i = k + 1 := ⟨i - 1, by omega⟩
    refine pk_le 8 (k + 1) (fun z => absurd z (by omega)) (fun _ => br_c (fun g => nm_r (nI_1 (k + 1)) (hw _ ⟨by omega, ?_⟩)) (fun g => nm_r (nI_1 (k + 1)) (hw _ ⟨by omega, ?_⟩)))
    · show wc_szk x k = wc_szk x (k + 1)
      exact (if_pos g).symm
    · show nI (k + 1) = wc_szk x (k + 1)
      exact (if_neg g).symm
theorem wc_leftOf {post : Int32 → Prop} {cnt len bits fnd ltr : Int32} {a1 a2 a3 a4 a5 a6 a7 a8 a9 a10 a11 : Nat → Int32} {x y : Int32} (h : ∀ r, post r) : wpX_leftOf post (cnt, len, bits, fnd, ltr, a1, a2, a3, a4, a5, a6, a7, a8, a9, a10, a11) x y :=
  wc_sizeOf _ (wc_sizeOf _ (nm_e (br_c (fun _ => h _) (fun _ => br_c (fun _ => h _) (fun _ => h _)))))
theorem wc_word_none {post : Int32 → Prop} {cnt len bits fnd ltr : Int32} {a1 a2 a3 a4 a5 a6 a7 a8 a9 a10 a11 : Nat → Int32} {k : Int32} (hk : k < 0 ∨ ¬ k < cnt) (h : post (-4)) : wpX_word post (cnt, len, bits, fnd, ltr, a1, a2, a3, a4, a5, a6, a7, a8, a9, a10, a11) k :=
  br_c (fun _ => h) (fun z => br_f (hk.resolve_left z) h)
theorem wc_word_at {post : Int32 → Prop} {cnt len bits fnd ltr : Int32} {a1 a2 a3 a4 a5 a6 a7 a8 a9 a10 a11 : Nat → Int32} (j : Nat) (hj : j < 6) (hc : nI j < cnt) (h : post (a1 j)) : wpX_word post (cnt, len, bits, fnd, ltr, a1, a2, a3, a4, a5, a6, a7, a8, a9, a10, a11) (nI j) := by
  refine br_f (nI_pos (by omega)) (br_t hc ⟨pk_in j 6 hj, ?_⟩)
  rw [nI_clamp (by omega)]
  exact h
theorem wc_nearest {post : Int32 → Prop} {cnt len bits fnd ltr : Int32} {a1 a2 a3 a4 a5 a6 a7 a8 a9 a10 a11 : Nat → Int32} (h10 : ∀ j, 1 ≤ j → j < 128 → a10 j = 10000) (h : post 0) : wpX_nearest post (cnt, len, bits, fnd, ltr, a1, a2, a3, a4, a5, a6, a7, a8, a9, a10, a11) := by
  refine pk_loop (fun n i (_ : Unit) => wX_nearest_4 post cnt len bits fnd ltr a1 a2 a3 a4 a5 a6 a7 a8 a9 a10 a11 n 0 (nI i)) (fun i _ => 1 ≤ i) 128 1 () (by omega) (by omega) ?_ ?_
  · intro n s hs
    exact pk_le 128 128 (fun _ => h) (fun z => absurd z (by omega))
  · intro n i s hi h1 hw
    refine pk_le 128 i (fun z => absurd z (by omega)) (fun _ => ⟨pk_in i 128 hi, br_c (fun _ => ⟨pk_in i 128 hi, br_t ?_ (nm_r (nI_1 i) (hw () (by omega)))⟩) (fun _ => nm_r (nI_1 i) (hw () (by omega)))⟩)
    rw [nI_clamp (by omega), h10 i h1 hi]
    decide
theorem wc_fs105 {post : Int32 → St2 → Prop} {cnt len bits fnd ltr : Int32} {a1 a2 a3 a4 a5 a6 a7 a8 a9 a10 a11 : Nat → Int32} (h : post (a10 1) (cnt, len, bits, fnd, ltr, a1, a2, a3, a4, a5, a6, a7, a8, a9, a10, a11)) : ∃ n, wX_findShortest_105 post n 0 cnt len bits fnd ltr a1 a2 a3 a4 a5 a6 a7 a8 a9 a10 a11 :=
  ⟨1, br_t (by decide) h⟩
theorem wc_fs33 {post : Int32 → St2 → Prop} {cnt len bits fnd ltr : Int32} {a1 a2 a3 a4 a5 a6 a7 a8 a9 a10 a11 : Nat → Int32} (hc : cnt = 0 ∨ cnt = 1) (h10 : ∀ j, 1 ≤ j → j < 128 → a10 j = 10000) (h : post 10000 (cnt, len, bits, fnd, ltr, a1, a2, a3, a4, a5, a6, a7, a8, a9, a10, a11)) : ∃ n, wX_findShortest_33 post n 0 cnt len bits fnd ltr a1 a2 a3 a4 a5 a6 a7 a8 a9 a10 a11 := by
  have h' : post (a10 1) (cnt, len, bits, fnd, ltr, a1, a2, a3, a4, a5, a6, a7, a8, a9, a10, a11) := by rw [h10 1 (by omega) (by omega)]; exact h
  rcases hc with rfl | rfl
  · exact ⟨1, br_t (by decide) (wc_nearest h10 (wc_fs105 h'))⟩
  · exact ⟨2, br_f (by decide) ⟨by decide, pk_in 0 6 (by omega), nm_e ⟨by decide, pk_in 0 6 (by omega), nm_e (br_t (congrArg a1 (by decide)) (nm_e (br_t (by decide) (wc_nearest h10 (wc_fs105 h')))))⟩⟩⟩
theorem wc_findShortest {post : Int32 → St2 → Prop} {cnt len bits fnd ltr : Int32} {a1 a2 a3 a4 a5 a6 a7 a8 a9 a10 a11 : Nat → Int32} (hc : cnt = 0 ∨ cnt = 1) (h : ∀ a10 a11, post 10000 (cnt, len, bits, fnd, ltr, a1, a2, a3, a4, a5, a6, a7, a8, a9, a10, a11)) : wpX_findShortest post (cnt, len, bits, fnd, ltr, a1, a2, a3, a4, a5, a6, a7, a8, a9, a10, a11) := by
  refine pk_loop (fun n i (s : (Nat → Int32) × (Nat → Int32)) => wX_findShortest_2 post cnt len bits fnd ltr n (nI i) a1 a2 a3 a4 a5 a6 a7 a8 a9 s.1 s.2) (fun i s => ∀ j, j < i → s.1 j = 10000) 128 0 (a10, a11) (by omega) (fun j hj => absurd hj (by omega)) ?_ ?_
  · intro n s hs
    exact pk_le 128 128 (fun _ => wc_fs33 hc (fun j _ hj => hs j hj) (h _ _)) (fun z => absurd z (by omega))
  · intro n i s hi hs hw
    refine pk_le 128 i (fun z => absurd z (by omega)) (fun _ => ⟨pk_in i 128 hi, nm_e ⟨pk_in i 128 hi, nm_e (nm_r (nI_1 i) (hw (_, _) ?_))⟩⟩)
    intro j hj
    show upd s.1 (nI i).toNatClampNeg 10000 j = 10000
    rw [nI_clamp (by omega)]
    by_cases e : j = i
    · rw [e, pk_us]
    · rw [pk_un e]
      exact hs j (by omega)
theorem wc_isClear {post : Int32 → St2 → Prop} {cnt len bits fnd ltr : Int32} {a1 a2 a3 a4 a5 a6 a7 a8 a9 a10 a11 : Nat → Int32} (hc : cnt = 0 ∨ cnt = 1) (h : ∀ a10 a11, post 1 (cnt, len, bits, fnd, ltr, a1, a2, a3, a4, a5, a6, a7, a8, a9, a10, a11)) : wpX_isClear post (cnt, len, bits, fnd, ltr, a1, a2, a3, a4, a5, a6, a7, a8, a9, a10, a11) :=
  wc_findShortest hc (fun a10 a11 => br_t (by decide) (h a10 a11))
theorem wc_shortest {post : Int32 → St2 → Prop} {cnt len bits fnd ltr : Int32} {a1 a2 a3 a4 a5 a6 a7 a8 a9 a10 a11 : Nat → Int32} (hc : cnt = 0 ∨ cnt = 1) (h : ∀ a10 a11, post (-4) (cnt, len, bits, fnd, ltr, a1, a2, a3, a4, a5, a6, a7, a8, a9, a10, a11)) : wpX_shortest post (cnt, len, bits, fnd, ltr, a1, a2, a3, a4, a5, a6, a7, a8, a9, a10, a11) :=
  wc_findShortest hc (fun a10 a11 => br_t (by decide) (h a10 a11))
theorem wc_free {post : Int32 → Prop} {cnt len bits fnd ltr : Int32} {a1 a2 a3 a4 a5 a6 a7 a8 a9 a10 a11 : Nat → Int32} (hc : cnt = 0 ∨ cnt = 1) (h : post 1) : wpX_free post (cnt, len, bits, fnd, ltr, a1, a2, a3, a4, a5, a6, a7, a8, a9, a10, a11) := by
  rcases hc with rfl | rfl
  · exact ⟨1, br_t (by decide) (br_f (by decide) h)⟩
  · exact ⟨2, br_f (by decide) ⟨by decide, pk_in 0 6 (by omega), nm_e ⟨by decide, pk_in 0 6 (by omega), nm_e (wc_leftOf (fun r => br_f (by decide) (br_t (congrArg a1 (by decide)) (nm_e (br_t (by decide) (br_f (by decide) h))))))⟩⟩⟩
theorem wc_wt : ∀ n, n < 128 → 2 ≤ n → ¬ (64 : Int32) ≤ 0 + ((64 : Int32) >>> (wc_sz (nI n) &&& 31)) := by decide +kernel
theorem wc_weight0 {post : Int32 → Prop} {len bits fnd ltr : Int32} {a1 a2 a3 a4 a5 a6 a7 a8 a9 a10 a11 : Nat → Int32} (h : post (-1)) : wpX_weight post (0, len, bits, fnd, ltr, a1, a2, a3, a4, a5, a6, a7, a8, a9, a10, a11) :=
  ⟨1, br_t (by decide) (br_f (by decide) h)⟩
theorem wc_weight1 {post : Int32 → Prop} {len bits fnd ltr : Int32} {a1 a2 a3 a4 a5 a6 a7 a8 a9 a10 a11 : Nat → Int32} {c : Nat} (hc : 2 ≤ c) (hc' : c < 128) (ha : a1 0 = nI c) (h : post (-1)) : wpX_weight post (1, len, bits, fnd, ltr, a1, a2, a3, a4, a5, a6, a7, a8, a9, a10, a11) := by
  refine ⟨2, br_f (by decide) ⟨pk_in 0 6 (by omega), wc_sizeOf _ (nm_e (nm_e (br_t (by decide) (br_f ?_ h))))⟩⟩
  rw [sb_cl0, ha]
  exact wc_wt c hc' hc
/-- one bit more -/
theorem wc_bit_bad {post : Int32 → St2 → Prop} {cnt len bits fnd ltr : Int32} {a1 a2 a3 a4 a5 a6 a7 a8 a9 a10 a11 : Nat → Int32} {b : Int32} (hb : b < 0 ∨ ¬ b ≤ 1) (h : post (-1) (cnt, len, bits, fnd, ltr, a1, a2, a3, a4, a5, a6, a7, a8, a9, a10, a11)) : wpX_bit post (cnt, len, bits, fnd, ltr, a1, a2, a3, a4, a5, a6, a7, a8, a9, a10, a11) b :=
  br_c (fun _ => h) (fun z => br_f (hb.resolve_left z) h)
theorem wc_bit_ok {post : Int32 → St2 → Prop} {cnt len bits fnd ltr : Int32} {a1 a2 a3 a4 a5 a6 a7 a8 a9 a10 a11 : Nat → Int32} {b : Int32} (h0 : ¬ b < 0) (h1 : b ≤ 1) (hl : ¬ len = 16) (h : post (len + 1) (cnt, len + 1, 2 * bits + b, fnd, ltr, a1, a2, a3, a4, a5, a6, a7, a8, a9, a10, a11)) : wpX_bit post (cnt, len, bits, fnd, ltr, a1, a2, a3, a4, a5, a6, a7, a8, a9, a10, a11) b :=
  br_f h0 (br_t h1 (br_f hl (nm_e (nm_e h))))
theorem wc_bit_full {post : Int32 → St2 → Prop} {cnt len bits fnd ltr : Int32} {a1 a2 a3 a4 a5 a6 a7 a8 a9 a10 a11 : Nat → Int32} {b : Int32} (h0 : ¬ b < 0) (h1 : b ≤ 1) (hl : len = 16) (h : post (-2) (cnt, len, bits, fnd, ltr, a1, a2, a3, a4, a5, a6, a7, a8, a9, a10, a11)) : wpX_bit post (cnt, len, bits, fnd, ltr, a1, a2, a3, a4, a5, a6, a7, a8, a9, a10, a11) b :=
  br_f h0 (br_t h1 (br_t hl h))
/-- append -/
theorem wc_app_none {post : Int32 → St2 → Prop} {cnt len bits fnd ltr : Int32} {a1 a2 a3 a4 a5 a6 a7 a8 a9 a10 a11 : Nat → Int32} {k : Int32} (hk : k < 0 ∨ ¬ k < cnt) (h : post (-4) (cnt, len, bits, fnd, ltr, a1, a2, a3, a4, a5, a6, a7, a8, a9, a10, a11)) : wpX_append post (cnt, len, bits, fnd, ltr, a1, a2, a3, a4, a5, a6, a7, a8, a9, a10, a11) k :=
  br_c (fun _ => h) (fun z => br_f (hk.resolve_left z) h)
/-- the row of j words c -/
def wc_bits (c : Int32) : Nat → Int32
  | 0 => 0
  | j + 1 => (wc_bits c j <<< (wc_sz c &&& 31)) ||| (c ^^^ ((1 : Int32) <<< (wc_sz c &&& 31)))
theorem wc_app_ok {post : Int32 → St2 → Prop} {bits fnd ltr : Int32} {a1 a2 a3 a4 a5 a6 a7 a8 a9 a10 a11 : Nat → Int32} {c l : Nat} (hc' : c < 128) (ha : a1 0 = nI c) (hl : l + wc_lg c ≤ 16)
    (h : post (nI (l + wc_lg c)) (1, nI (l + wc_lg c), (bits <<< (wc_sz (nI c) &&& 31)) ||| (nI c ^^^ ((1 : Int32) <<< (wc_sz (nI c) &&& 31))), fnd, ltr, a1, a2, a3, a4, a5, a6, a7, a8, a9, a10, a11)) : wpX_append post (1, nI l, bits, fnd, ltr, a1, a2, a3, a4, a5, a6, a7, a8, a9, a10, a11) 0 := by
  have e : nI l + wc_sz (nI c) = nI (l + wc_lg c) := by rw [wc_sz_lg c hc', nI_add]
  refine br_f (by decide) (br_t (by decide) ⟨pk_in 0 6 (by omega), wc_sizeOf _ ?_⟩)
  rw [sb_cl0, ha]
  refine br_t (by rw [e]; exact nI_le (b := 16) hl (by omega)) ⟨pk_in 0 6 (by omega), nm_e (nm_r e h)⟩
theorem wc_app_full {post : Int32 → St2 → Prop} {bits fnd ltr : Int32} {a1 a2 a3 a4 a5 a6 a7 a8 a9 a10 a11 : Nat → Int32} {c l : Nat} (hc' : c < 128) (ha : a1 0 = nI c) (hl : 16 < l + wc_lg c) (hl2 : l ≤ 16)
    (h : post (-2) (1, nI l, bits, fnd, ltr, a1, a2, a3, a4, a5, a6, a7, a8, a9, a10, a11)) : wpX_append post (1, nI l, bits, fnd, ltr, a1, a2, a3, a4, a5, a6, a7, a8, a9, a10, a11) 0 := by
  have e : nI l + wc_sz (nI c) = nI (l + wc_lg c) := by rw [wc_sz_lg c hc', nI_add]
  have h6 := wc_lg_le c
  refine br_f (by decide) (br_t (by decide) ⟨pk_in 0 6 (by omega), wc_sizeOf _ ?_⟩)
  rw [sb_cl0, ha]
  exact br_f (by rw [e]; exact nI_ge (b := l + wc_lg c) (a := 16) hl (by omega)) h
end
section
theorem wc_keepNext {post : St2 → Prop} {cnt len bits fnd : Int32} {a1 a2 a3 a4 a5 a6 a7 a8 a9 a10 a11 : Nat → Int32} {l : Nat} (hl : l < 1024) (s number : Int32)
    (h : ∀ (l' : Nat) (a7' a8' : Nat → Int32), l' ≤ l + 1 → (∀ g : Int32 → Int32, wc_sum (fun j => a8' j * g (a7' j)) l' = wc_sum (fun j => a8 j * g (a7 j)) l + number * g s) → post (cnt, len, bits, fnd, nI l', a1, a2, a3, a4, a5, a6, a7', a8', a9, a10, a11)) :
    wpX_keepNext post (cnt, len, bits, fnd, nI l, a1, a2, a3, a4, a5, a6, a7, a8, a9, a10, a11) s number := by
  refine pk_loop (fun n i (_ : Unit) => wX_keepNext_2 post s number cnt len bits fnd (nI l) a1 a2 a3 a4 a5 a6 a7 a8 a9 a10 a11 n (nI i)) (fun _ _ => True) l 0 () (by omega) trivial ?_ ?_
  · intro n _ _
    refine pk_le l l (fun _ => pk_le 1024 l (fun z => absurd z (by omega)) (fun _ => ⟨pk_in l 1024 hl, nm_e ⟨pk_in l 1024 hl, nm_e (nm_r (nI_1 l) ?_)⟩⟩)) (fun z => absurd z (by omega))
    rw [nI_clamp (by omega)]
    refine h (l + 1) _ _ (by omega) (fun g => ?_)
    show wc_sum _ l + upd a8 l number l * g (upd a7 l s l) = _
    rw [pk_us, pk_us, wc_sum_congr (g := fun j => a8 j * g (a7 j)) l]
    intro j hj
    show upd a8 l number j * g (upd a7 l s j) = _
    rw [pk_un (by omega), pk_un (by omega)]
  · intro n i _ hi _ hw
    refine pk_le l i (fun z => absurd z (by omega)) (fun _ => ⟨pk_in i 1024 (by omega), ?_⟩)
    rw [nI_clamp (by omega)]
    refine br_c (fun e => ⟨pk_in i 1024 (by omega), pk_in i 1024 (by omega), nm_e ?_⟩) (fun _ => nm_r (nI_1 i) (hw () trivial))
    refine h l _ _ (by omega) (fun g => ?_)
    refine wc_sum_at (i := i) l hi (fun j _ hj => ?_) ?_
    · show upd a8 i (a8 i + number) j * g (a7 j) = _
      rw [pk_un hj]
    · show upd a8 i (a8 i + number) i * g (a7 i) = a8 i * g (a7 i) + number * g s
      rw [pk_us, e]
      grind
theorem wc_takeNext {post : St2 → Prop} {cnt len bits fnd : Int32} {a1 a2 a3 a4 a5 a6 a7 a8 a9 a10 a11 : Nat → Int32} {l : Nat} (hl : l ≤ 1024)
    (h : ∀ (a5' a6' : Nat → Int32), (∀ j, j < l → a5' j = a7 j ∧ a6' j = a8 j) → post (cnt, len, bits, nI l, nI l, a1, a2, a3, a4, a5', a6', a7, a8, a9, a10, a11)) :
    wpX_takeNext post (cnt, len, bits, fnd, nI l, a1, a2, a3, a4, a5, a6, a7, a8, a9, a10, a11) := by
  refine pk_loop (fun n i (s : (Nat → Int32) × (Nat → Int32)) => wX_takeNext_10 post cnt len bits (nI l) (nI l) n (nI i) a1 a2 a3 a4 s.1 s.2 a7 a8 a9 a10 a11) (fun i s => ∀ j, j < i → s.1 j = a7 j ∧ s.2 j = a8 j) l 0 (a5, a6) (by omega) (fun j hj => absurd hj (by omega)) ?_ ?_
  · intro n s hs
    exact pk_le l l (fun _ => h _ _ hs) (fun z => absurd z (by omega))
  · intro n i s hi hs hw
    refine pk_le l i (fun z => absurd z (by omega)) (fun _ => ⟨pk_in i 1024 (by omega), pk_in i 1024 (by omega), nm_e ⟨pk_in i 1024 (by omega), pk_in i 1024 (by omega), nm_e (nm_r (nI_1 i) (hw (_, _) ?_))⟩⟩)
    intro j hj
    show upd s.1 (nI i).toNatClampNeg (a7 (nI i).toNatClampNeg) j = a7 j ∧ upd s.2 (nI i).toNatClampNeg (a8 (nI i).toNatClampNeg) j = a8 j
    rw [nI_clamp (by omega)]
    by_cases e : j = i
    · rw [e, pk_us, pk_us]
      exact ⟨rfl, rfl⟩
    · rw [pk_un e, pk_un e]
      exact hs j (by omega)
/-- one bit more of a row -/
def wc_all (s b : Int32) : Int32 := if 2 * (s >>> ((12 : Int32) &&& 31)) + b < 128 then 2 * (s >>> ((12 : Int32) &&& 31)) + b else ((2 * (s >>> ((12 : Int32) &&& 31)) + b) &&& 63) ||| 64
def wc_fin (s x z : Int32) : Int32 := ((x <<< ((12 : Int32) &&& 31)) ||| ((s &&& 1023) <<< ((2 : Int32) &&& 31))) ||| (if z ≤ 2 then z else 2)
def wc_sm (c s x : Int32) : Int32 := if wc_sz x < wc_sz c then 0 else if ((x &&& (((1 : Int32) <<< (wc_sz c &&& 31)) - 1)) ||| ((1 : Int32) <<< (wc_sz c &&& 31))) = c then 0 + ((s >>> ((2 * (wc_sz c - 1)) &&& 31)) &&& 3) else 0
def wc_st0 (s b : Int32) : Int32 := wc_fin s (wc_all s b) 0
def wc_st1 (c s b : Int32) : Int32 := wc_fin s (wc_all s b) (wc_sm c s (wc_all s b))
theorem wc_om_end {post : Int32 → Prop} {cnt len bits fnd ltr : Int32} {a1 a2 a3 a4 a5 a6 a7 a8 a9 a10 a11 : Nat → Int32} {s x z : Int32} (h : post (wc_fin s x z)) : (z ≤ 2 → wX_oneMore_160 post s x z cnt len bits fnd ltr a1 a2 a3 a4 a5 a6 a7 a8 a9 a10 a11) ∧ (¬ z ≤ 2 → wX_oneMore_160 post s x 2 cnt len bits fnd ltr a1 a2 a3 a4 a5 a6 a7 a8 a9 a10 a11) := by
  refine br_c (fun g => ?_) (fun g => ?_)
  · unfold wc_fin at h
    rw [if_pos g] at h
    exact h
  · unfold wc_fin at h
    rw [if_neg g] at h
    exact h
theorem wc_om0 {post : Int32 → Prop} {len bits fnd ltr : Int32} {a1 a2 a3 a4 a5 a6 a7 a8 a9 a10 a11 : Nat → Int32} {s x : Int32} (h : post (wc_fin s x 0)) : ∃ n, wX_oneMore_41 post s x 0 len bits fnd ltr a1 a2 a3 a4 a5 a6 a7 a8 a9 a10 a11 n 0 0 :=
  ⟨1, br_t (by decide) (wc_om_end h)⟩
theorem wc_om1 {post : Int32 → Prop} {len bits fnd ltr : Int32} {a1 a2 a3 a4 a5 a6 a7 a8 a9 a10 a11 : Nat → Int32} {s x c : Int32} (ha : a1 0 = c) (h : post (wc_fin s x (wc_sm c s x))) : ∃ n, wX_oneMore_41 post s x 1 len bits fnd ltr a1 a2 a3 a4 a5 a6 a7 a8 a9 a10 a11 n 0 0 := by
  have hE : ∀ z, z = wc_sm c s x → wX_oneMore_41 post s x 1 len bits fnd ltr a1 a2 a3 a4 a5 a6 a7 a8 a9 a10 a11 1 z 1 := by
    intro z hz
    subst hz
    exact br_t (by decide) (wc_om_end h)
  refine ⟨2, br_f (by decide) ⟨pk_in 0 6 (by omega), wc_sizeOf _ (wc_sizeOf _ ?_)⟩⟩
  rw [sb_cl0, ha]
  refine br_c (fun g => ?_) (fun g => ?_)
  · refine br_t rfl ?_
    refine br_t rfl (nm_e (hE 0 ?_))
    unfold wc_sm
    rw [if_pos g]
  · refine br_f (by decide) ⟨pk_in 0 6 (by omega), ?_⟩
    rw [sb_cl0, ha]
    refine br_c (fun e => ?_) (fun e => ?_)
    · refine br_f (by decide) (nm_e (nm_e (hE _ ?_)))
      unfold wc_sm
      rw [if_neg g, if_pos e]
    · refine br_t rfl (nm_e (hE 0 ?_))
      unfold wc_sm
      rw [if_neg g, if_neg e]
theorem wc_oneMore0 {post : Int32 → Prop} {len bits fnd ltr : Int32} {a1 a2 a3 a4 a5 a6 a7 a8 a9 a10 a11 : Nat → Int32} {s b : Int32} (h : post (wc_st0 s b)) : wpX_oneMore post (0, len, bits, fnd, ltr, a1, a2, a3, a4, a5, a6, a7, a8, a9, a10, a11) s b := by
  unfold wc_st0 at h
  refine nm_e (nm_e (br_c (fun g => wc_om0 ?_) (fun g => nm_e (wc_om0 ?_))))
  · unfold wc_all at h
    rw [if_pos g] at h
    exact h
  · unfold wc_all at h
    rw [if_neg g] at h
    exact h
theorem wc_oneMore1 {post : Int32 → Prop} {len bits fnd ltr : Int32} {a1 a2 a3 a4 a5 a6 a7 a8 a9 a10 a11 : Nat → Int32} {s b c : Int32} (ha : a1 0 = c) (h : post (wc_st1 c s b)) : wpX_oneMore post (1, len, bits, fnd, ltr, a1, a2, a3, a4, a5, a6, a7, a8, a9, a10, a11) s b := by
  unfold wc_st1 at h
  refine nm_e (nm_e (br_c (fun g => wc_om1 ha ?_) (fun g => nm_e (wc_om1 ha ?_))))
  · unfold wc_all at h
    rw [if_pos g] at h
    exact h
  · unfold wc_all at h
    rw [if_neg g] at h
    exact h
/-- what a walk over the rows rests on: one step -/
def wc_one_ok (stp : Int32 → Int32 → Int32) (cnt len bits : Int32) (a1 : Nat → Int32) : Prop :=
  ∀ (post : Int32 → Prop) (fnd ltr : Int32) (a2 a3 a4 a5 a6 a7 a8 a9 a10 a11 : Nat → Int32) (s b : Int32), post (stp s b) → wpX_oneMore post (cnt, len, bits, fnd, ltr, a1, a2, a3, a4, a5, a6, a7, a8, a9, a10, a11) s b
theorem wc_gt35 {post : St2 → Prop} {J : Int32 → Int32 → Int32 → Int32 → Int32 → Int32 → (Nat → Int32) → (Nat → Int32) → (Nat → Int32) → (Nat → Int32) → (Nat → Int32) → (Nat → Int32) → (Nat → Int32) → (Nat → Int32) → (Nat → Int32) → (Nat → Int32) → (Nat → Int32) → Prop}
    {cnt len bits : Int32} {a1 a2 a3 a4 a5 a6 a7 a8 a9 a10 a11 : Nat → Int32} {x1 x2 : Int32} {stp : Int32 → Int32 → Int32} (hone : wc_one_ok stp cnt len bits a1) {N : Nat} (hN : 2 * N ≤ 1024)
    (h : ∀ (l : Nat) (a5' a6' a7' a8' : Nat → Int32), l ≤ 2 * N → (∀ g : Int32 → Int32, wc_sum (fun j => a6' j * g (a5' j)) l = wc_sum (fun j => a6 j * wc_T stp g (a5 j)) N) → J (x2 + 1) cnt len bits (nI l) (nI l) a1 a2 a3 a4 a5' a6' a7' a8' a9 a10 a11) :
    ∃ n, wX_goThrough_35 post J x1 x2 n 0 cnt len bits (nI N) 0 a1 a2 a3 a4 a5 a6 a7 a8 a9 a10 a11 := by
  refine pk_loop (fun n k (s : Nat × (Nat → Int32) × (Nat → Int32)) => wX_goThrough_35 post J x1 x2 n (nI k) cnt len bits (nI N) (nI s.1) a1 a2 a3 a4 a5 a6 s.2.1 s.2.2 a9 a10 a11)
    (fun k s => s.1 ≤ k ∧ ∀ g : Int32 → Int32, wc_sum (fun j => s.2.2 j * g (s.2.1 j)) s.1 = wc_sum (fun q => a6 (q / 2) * g (stp (a5 (q / 2)) (nI (q % 2)))) k) (2 * N) 0 (0, a7, a8) (by omega) ⟨by omega, fun g => rfl⟩ ?_ ?_
  · intro n s hs
    obtain ⟨h1, h2⟩ := hs
    refine pk_le (2 * N) (2 * N) (fun _ => wc_takeNext (by omega) (fun a5' a6' hc => nm_e (h s.1 a5' a6' _ _ h1 (fun g => ?_)))) (fun z => absurd z (by omega)) (pk_mul 2 N)
    have e1 : wc_sum (fun j => a6' j * g (a5' j)) s.1 = wc_sum (fun j => s.2.2 j * g (s.2.1 j)) s.1 := wc_sum_congr _ (fun j hj => by rw [(hc j hj).1, (hc j hj).2])
    rw [e1, h2 g, wc_sum_two]
    refine wc_sum_congr _ (fun j _ => ?_)
    show a6 (2 * j / 2) * g (stp (a5 (2 * j / 2)) (nI (2 * j % 2))) + a6 ((2 * j + 1) / 2) * g (stp (a5 ((2 * j + 1) / 2)) (nI ((2 * j + 1) % 2))) = a6 j * (g (stp (a5 j) 0) + g (stp (a5 j) 1))
    rw [show 2 * j / 2 = j by omega, show (2 * j + 1) / 2 = j by omega, show 2 * j % 2 = 0 by omega, show (2 * j + 1) % 2 = 1 by omega]
    show a6 j * g (stp (a5 j) 0) + a6 j * g (stp (a5 j) 1) = a6 j * (g (stp (a5 j) 0) + g (stp (a5 j) 1))
    grind
  · intro n k s hk hs hw
    obtain ⟨h1, h2⟩ := hs
    have es : nI k >>> ((1 : Int32) &&& 31) = nI (k / 2) := pk_shrN (by omega) _ 1 (by decide)
    have ea : nI k &&& 1 = nI (k % 2) := pk_andN (by omega) 1 (by decide)
    refine pk_le (2 * N) k (fun z => absurd z (by omega)) (fun _ => ?_) (pk_mul 2 N)
    rw [es, ea, nI_clamp (show k / 2 < 2 ^ 31 by omega)]
    refine ⟨pk_in (k / 2) 1024 (by omega), hone _ _ _ _ _ _ _ _ _ _ _ _ _ _ _ ⟨pk_in (k / 2) 1024 (by omega), wc_keepNext (by omega) _ _ (fun l' a7' a8' hl' hg => nm_r (nI_1 k) (hw (l', a7', a8') ⟨?_, fun g => ?_⟩))⟩⟩
    · show l' ≤ k + 1
      omega
    · show wc_sum (fun j => a8' j * g (a7' j)) l' = wc_sum (fun q => a6 (q / 2) * g (stp (a5 (q / 2)) (nI (q % 2)))) k + a6 (k / 2) * g (stp (a5 (k / 2)) (nI (k % 2)))
      rw [hg g, h2 g]
theorem wc_goThrough {post : St2 → Prop} {cnt len bits fnd ltr : Int32} {a1 a2 a3 a4 a5 a6 a7 a8 a9 a10 a11 : Nat → Int32} {stp : Int32 → Int32 → Int32} (hone : wc_one_ok stp cnt len bits a1) {N : Nat} (hN : N ≤ 10)
    (h : ∀ (K : Nat) (ltr : Int32) (a5 a6 a7 a8 : Nat → Int32), K ≤ 1024 → (∀ g : Int32 → Int32, wc_sum (fun j => a6 j * g (a5 j)) K = wc_Tn stp N g 4097) → post (cnt, len, bits, nI K, ltr, a1, a2, a3, a4, a5, a6, a7, a8, a9, a10, a11)) :
    wpX_goThrough post (cnt, len, bits, fnd, ltr, a1, a2, a3, a4, a5, a6, a7, a8, a9, a10, a11) (nI N) := by
  refine nm_e (nm_e ?_)
  refine pk_loop (fun n i (s : Nat × Int32 × (Nat → Int32) × (Nat → Int32) × (Nat → Int32) × (Nat → Int32)) => wX_goThrough_23 post (nI N) n (nI i) cnt len bits (nI s.1) s.2.1 a1 a2 a3 a4 s.2.2.1 s.2.2.2.1 s.2.2.2.2.1 s.2.2.2.2.2 a9 a10 a11)
    (fun i s => s.1 ≤ 2 ^ i ∧ ∀ g : Int32 → Int32, wc_sum (fun j => s.2.2.2.1 j * g (s.2.2.1 j)) s.1 = wc_Tn stp i g 4097) N 0 (1, ltr, upd a5 0 4097, upd a6 0 1, a7, a8) (by omega) ⟨Nat.le_refl 1, fun g => ?_⟩ ?_ ?_
  · show (0 : Int32) + upd a6 0 1 0 * g (upd a5 0 4097 0) = g 4097
    rw [pk_us, pk_us]
    grind
  · intro n s hs
    obtain ⟨h1, h2⟩ := hs
    have hp : 2 ^ N ≤ 2 ^ 10 := Nat.pow_le_pow_right (by decide) hN
    exact pk_le N N (fun _ => h s.1 _ _ _ _ _ (by omega) h2) (fun z => absurd z (by omega))
  · intro n i s hi hs hw
    obtain ⟨h1, h2⟩ := hs
    have hp : 2 ^ i ≤ 2 ^ 9 := Nat.pow_le_pow_right (by decide) (by omega)
    have hq : 2 ^ (i + 1) = 2 * 2 ^ i := by rw [Nat.pow_succ, Nat.mul_comm]
    refine pk_le N i (fun z => absurd z (by omega)) (fun _ => wc_gt35 hone (by omega) (fun l a5' a6' a7' a8' hl hg => ?_))
    rw [nI_1 i]
    refine hw (l, nI l, a5', a6', a7', a8') ⟨?_, fun g => ?_⟩
    · show l ≤ 2 ^ (i + 1)
      omega
    · show wc_sum (fun j => a6' j * g (a5' j)) l = wc_Tn stp i (wc_T stp g) 4097
      rw [hg g, ← h2]
theorem wc_countWith {post : Int32 → St2 → Prop} {cnt len bits fnd ltr : Int32} {a1 a2 a3 a4 a5 a6 a7 a8 a9 a10 a11 : Nat → Int32} {stp : Int32 → Int32 → Int32} (hone : wc_one_ok stp cnt len bits a1) {N : Nat} (hN : N ≤ 10) (t : Int32)
    (h : ∀ (fnd ltr : Int32) (a5 a6 a7 a8 : Nat → Int32), post (wc_Tn stp N (wc_g t) 4097) (cnt, len, bits, fnd, ltr, a1, a2, a3, a4, a5, a6, a7, a8, a9, a10, a11)) : wpX_countWith post (cnt, len, bits, fnd, ltr, a1, a2, a3, a4, a5, a6, a7, a8, a9, a10, a11) (nI N) t := by
  refine wc_goThrough (fnd := fnd) hone hN (fun K ltr a5 a6 a7 a8 hK hg => ?_)
  refine pk_loop (fun n i (x : Int32) => wX_countWith_10 post t cnt len bits (nI K) ltr a1 a2 a3 a4 a5 a6 a7 a8 a9 a10 a11 n x (nI i)) (fun i x => x = wc_sum (fun j => a6 j * wc_g t (a5 j)) i) K 0 0 (by omega) rfl ?_ ?_
  · intro n x hx
    subst hx
    refine pk_le K K (fun _ => ?_) (fun z => absurd z (by omega))
    rw [hg (wc_g t)]
    exact h _ _ _ _ _ _
  · intro n i x hi hx hw
    subst hx
    refine pk_le K i (fun z => absurd z (by omega)) (fun _ => ⟨pk_in i 1024 (by omega), ?_⟩)
    rw [nI_clamp (by omega)]
    refine br_c (fun g => nm_r (nI_1 i) (hw _ ?_)) (fun g => ⟨pk_in i 1024 (by omega), nm_e (nm_r (nI_1 i) (hw _ ?_))⟩)
    · show _ = wc_sum _ i + a6 i * wc_g t (a5 i)
      have e : wc_g t (a5 i) = 0 := if_pos g
      rw [e]
      grind
    · show _ = wc_sum _ i + a6 i * wc_g t (a5 i)
      have e : wc_g t (a5 i) = 1 := if_neg g
      rw [e]
      grind
theorem wc_messages {post : Int32 → St2 → Prop} {cnt len bits fnd ltr : Int32} {a1 a2 a3 a4 a5 a6 a7 a8 a9 a10 a11 : Nat → Int32} {stp : Int32 → Int32 → Int32} (hone : wc_one_ok stp cnt len bits a1) {N : Nat} (hN : N ≤ 10)
    (h : ∀ (fnd ltr : Int32) (a5 a6 a7 a8 : Nat → Int32), post (wc_Tn stp N (wc_g 1) 4097) (cnt, len, bits, fnd, ltr, a1, a2, a3, a4, a5, a6, a7, a8, a9, a10, a11)) : wpX_messages post (cnt, len, bits, fnd, ltr, a1, a2, a3, a4, a5, a6, a7, a8, a9, a10, a11) (nI N) :=
  br_f (nI_pos (by omega)) (br_t (nI_le (b := 10) hN (by omega)) (wc_countWith hone hN 1 h))
theorem wc_doubtful {post : Int32 → St2 → Prop} {cnt len bits fnd ltr : Int32} {a1 a2 a3 a4 a5 a6 a7 a8 a9 a10 a11 : Nat → Int32} {stp : Int32 → Int32 → Int32} (hone : wc_one_ok stp cnt len bits a1) {N : Nat} (hN : N ≤ 10)
    (h : ∀ (fnd ltr : Int32) (a5 a6 a7 a8 : Nat → Int32), post (wc_Tn stp N (wc_g 2) 4097) (cnt, len, bits, fnd, ltr, a1, a2, a3, a4, a5, a6, a7, a8, a9, a10, a11)) : wpX_doubtful post (cnt, len, bits, fnd, ltr, a1, a2, a3, a4, a5, a6, a7, a8, a9, a10, a11) (nI N) :=
  br_f (nI_pos (by omega)) (br_t (nI_le (b := 10) hN (by omega)) (wc_countWith hone hN 2 h))
theorem wc_messages_bad {post : Int32 → St2 → Prop} {cnt len bits fnd ltr : Int32} {a1 a2 a3 a4 a5 a6 a7 a8 a9 a10 a11 : Nat → Int32} {n : Int32} (hn : n < 0 ∨ ¬ n ≤ 10) (h : post (-1) (cnt, len, bits, fnd, ltr, a1, a2, a3, a4, a5, a6, a7, a8, a9, a10, a11)) : wpX_messages post (cnt, len, bits, fnd, ltr, a1, a2, a3, a4, a5, a6, a7, a8, a9, a10, a11) n :=
  br_c (fun _ => h) (fun z => br_f (hn.resolve_left z) h)
theorem wc_doubtful_bad {post : Int32 → St2 → Prop} {cnt len bits fnd ltr : Int32} {a1 a2 a3 a4 a5 a6 a7 a8 a9 a10 a11 : Nat → Int32} {n : Int32} (hn : n < 0 ∨ ¬ n ≤ 10) (h : post (-1) (cnt, len, bits, fnd, ltr, a1, a2, a3, a4, a5, a6, a7, a8, a9, a10, a11)) : wpX_doubtful post (cnt, len, bits, fnd, ltr, a1, a2, a3, a4, a5, a6, a7, a8, a9, a10, a11) n :=
  br_c (fun _ => h) (fun z => br_f (hn.resolve_left z) h)
end
section
theorem wc_or {a b : Nat} (ha : a < 2 ^ 32) (hb : b < 2 ^ 32) : nI a ||| nI b = nI (a ||| b) := by
  apply Int32.toBitVec_inj.mp
  apply BitVec.eq_of_toNat_eq
  rw [Int32.toBitVec_or, BitVec.toNat_or, pk_tn ha, pk_tn hb, pk_tn (Nat.or_lt_two_pow ha hb)]
theorem wc_orAdd {a b k : Nat} (hb : b < 2 ^ k) (h : 2 ^ k * a + b < 2 ^ 32) : nI (2 ^ k * a) ||| nI b = nI (2 ^ k * a + b) := by
  rw [wc_or (by omega) (by omega), ← Nat.two_pow_add_eq_or_of_lt hb a]
theorem wc_or64 : ∀ a, a < 64 → nI a ||| 64 = nI (a + 64) := by decide +kernel
theorem wc_mk : ∀ m, m < 7 → ∀ a, a < 128 → ((nI a &&& (((1 : Int32) <<< (nI m &&& 31)) - 1)) ||| ((1 : Int32) <<< (nI m &&& 31))) = nI (a % 2 ^ m + 2 ^ m) := by decide +kernel
theorem wc_lg_iff : ∀ a, a < 128 → 1 ≤ a → ∀ m, m < 7 → (wc_lg a < m ↔ a < 2 ^ m) := by decide +kernel
/-- states by their code and their readings -/
def wc_E (A w : Nat) : Int32 := nI (A * 4096 + w)
def wc_A (A b : Nat) : Nat := if 2 * A + b < 128 then 2 * A + b else (2 * A + b) % 64 + 64
def wc_X (c A w : Nat) : Nat := if 2 ^ wc_lg c ≤ A ∧ A % 2 ^ wc_lg c + 2 ^ wc_lg c = c then w / 4 ^ (wc_lg c - 1) % 4 else 0
def wc_cap (x : Nat) : Nat := if x ≤ 2 then x else 2
def wc_w (c A w b : Nat) : Nat := w % 1024 * 4 + wc_cap (wc_X c (wc_A A b) w)
theorem wc_A_in {A b : Nat} (h1 : 1 ≤ A) (hA : A < 128) (hb : b < 2) : 1 ≤ wc_A A b ∧ wc_A A b < 128 := by
  unfold wc_A
  split <;> omega
theorem wc_cap_lt (x : Nat) : wc_cap x < 4 := by
  unfold wc_cap
  split <;> omega
theorem wc_e12 {A w : Nat} (hA : A < 128) (hw : w < 4096) : wc_E A w >>> ((12 : Int32) &&& 31) = nI A := by
  unfold wc_E
  rw [pk_shrN (by omega) _ 12 (by decide), show (A * 4096 + w) / 2 ^ 12 = A by omega]
theorem wc_eall {A w b : Nat} (hA : A < 128) (hw : w < 4096) (hb : b < 2) : wc_all (wc_E A w) (nI b) = nI (wc_A A b) := by
  have e : (2 : Int32) * nI A + nI b = nI (2 * A + b) := by
    rw [← nI_add, ← pk_mul]
    rfl
  unfold wc_all wc_A
  rw [wc_e12 hA hw, e]
  by_cases h : 2 * A + b < 128
  · rw [if_pos h, if_pos (show nI (2 * A + b) < 128 from nI_lt (b := 128) h (by omega))]
  · rw [if_neg h, if_neg (show ¬ nI (2 * A + b) < 128 from nI_nlt (b := 128) (by omega) (by omega)), pk_andN (by omega) 6 (by decide), wc_or64 _ (by omega)]
theorem wc_wdiv {A w : Nat} (m : Nat) (h1 : 1 ≤ m) (h6 : m ≤ 6) : (A * 4096 + w) / 2 ^ (2 * (m - 1)) % 2 ^ 2 = w / 4 ^ (m - 1) % 4 := by
  have : m = 1 ∨ m = 2 ∨ m = 3 ∨ m = 4 ∨ m = 5 ∨ m = 6 := by omega
  rcases this with rfl | rfl | rfl | rfl | rfl | rfl <;> simp only [Nat.reduceSub, Nat.reduceMul, Nat.reducePow] <;> omega
theorem wc_esm {c A w x : Nat} (hc2 : 2 ≤ c) (hc : c < 128) (hA : A < 128) (hw : w < 4096) (hx1 : 1 ≤ x) (hx : x < 128) : wc_sm (nI c) (wc_E A w) (nI x) = nI (wc_X c x w) := by
  have m1 := wc_lg_pos hc2
  have m6 := wc_lg_le c
  have em : (2 * (nI (wc_lg c) - 1)) = nI (2 * (wc_lg c - 1)) := by
    rw [← pk_mul, ← pk_sub m1]
    rfl
  unfold wc_sm wc_X
  rw [wc_sz_lg c hc, wc_sz_lg x hx, wc_mk _ (by omega) x hx, em]
  by_cases h : x < 2 ^ wc_lg c
  · have h' := (wc_lg_iff x hx hx1 _ (by omega)).mpr h
    rw [if_pos (nI_lt h' (by omega)), if_neg (fun z => absurd z.1 (by omega))]
    rfl
  · have h' : ¬ wc_lg x < wc_lg c := fun z => h ((wc_lg_iff x hx hx1 _ (by omega)).mp z)
    have hx6 := wc_lg_le x
    have h2 : 2 ^ wc_lg c ≤ c := wc_lg_ge (by omega)
    rw [if_neg (nI_nlt (by omega) (by omega))]
    by_cases g : x % 2 ^ wc_lg c + 2 ^ wc_lg c = c
    · rw [if_pos (show nI (x % 2 ^ wc_lg c + 2 ^ wc_lg c) = nI c by rw [g]), if_pos ⟨by omega, g⟩]
      unfold wc_E
      rw [pk_shrN (by omega) _ _ (wc_cnt31 _ (by omega)), pk_andN (Nat.lt_of_le_of_lt (Nat.div_le_self _ _) (by omega)) 2 (by decide), wc_wdiv _ m1 m6]
      show nI 0 + _ = _
      rw [nI_add, Nat.zero_add]
    · have hlt : x % 2 ^ wc_lg c ≤ x := Nat.mod_le _ _
      rw [if_neg (show ¬ nI (x % 2 ^ wc_lg c + 2 ^ wc_lg c) = nI c from fun z => g ((nI_eq (by omega) (by omega)).mp z)), if_neg (fun z => g z.2)]
      rfl
theorem wc_efin {A w x z : Nat} (hA : A < 128) (hw : w < 4096) (hx : x < 128) (hz : z < 4) : wc_fin (wc_E A w) (nI x) (nI z) = wc_E x (w % 1024 * 4 + wc_cap z) := by
  have hc := wc_cap_lt z
  have e1 : nI x <<< ((12 : Int32) &&& 31) = nI (2 ^ 12 * x) := by
    rw [pk_shlN _ 12 (by decide) (by omega), Nat.mul_comm]
  have e2 : (wc_E A w &&& 1023) <<< ((2 : Int32) &&& 31) = nI (w % 1024 * 4) := by
    unfold wc_E
    rw [pk_andN (by omega) 10 (by decide), pk_shlN _ 2 (by decide) (by omega), show (A * 4096 + w) % 2 ^ 10 * 2 ^ 2 = w % 1024 * 4 by omega]
  have e3 : (if nI z ≤ 2 then nI z else 2) = nI (wc_cap z) := by
    unfold wc_cap
    by_cases h : z ≤ 2
    · rw [if_pos h, if_pos (show nI z ≤ 2 from nI_le (b := 2) h (by omega))]
    · rw [if_neg h, if_neg (show ¬ nI z ≤ 2 from nI_ge (a := 2) (by omega) (by omega))]
      rfl
  unfold wc_fin
  rw [e1, e2, e3, wc_orAdd (by omega) (by omega), show 2 ^ 12 * x + w % 1024 * 4 = 2 ^ 2 * (1024 * x + w % 1024) by omega, wc_orAdd (by omega) (by omega)]
  unfold wc_E
  rw [show 2 ^ 2 * (1024 * x + w % 1024) + wc_cap z = x * 4096 + (w % 1024 * 4 + wc_cap z) by omega]
theorem wc_X_lt (c x w : Nat) : wc_X c x w < 4 := by
  unfold wc_X
  split <;> omega
theorem wc_estep {c A w b : Nat} (hc2 : 2 ≤ c) (hc : c < 128) (h1 : 1 ≤ A) (hA : A < 128) (hw : w < 4096) (hb : b < 2) : wc_st1 (nI c) (wc_E A w) (nI b) = wc_E (wc_A A b) (wc_w c A w b) := by
  have ha := wc_A_in h1 hA hb
  unfold wc_st1
  rw [wc_eall hA hw hb, wc_esm hc2 hc hA hw ha.1 ha.2, wc_efin hA hw ha.2 (wc_X_lt _ _ _)]
  rfl
def wc_ok (A w : Nat) : Prop := 1 ≤ A ∧ A < 128 ∧ w < 4096
theorem wc_ok_step {c A w b : Nat} (h : wc_ok A w) (hb : b < 2) : wc_ok (wc_A A b) (wc_w c A w b) := by
  have ha := wc_A_in h.1 h.2.1 hb
  have hc := wc_cap_lt (wc_X c (wc_A A b) w)
  refine ⟨ha.1, ha.2, ?_⟩
  unfold wc_w
  omega
def wc_TN (c : Nat) (g : Nat → Nat → Int32) : Nat → Nat → Int32 := fun A w => g (wc_A A 0) (wc_w c A w 0) + g (wc_A A 1) (wc_w c A w 1)
def wc_TnN (c : Nat) : Nat → (Nat → Nat → Int32) → Nat → Nat → Int32
  | 0, g => g
  | n + 1, g => wc_TnN c n (wc_TN c g)
theorem wc_Tn_N {c : Nat} (hc2 : 2 ≤ c) (hc : c < 128) : ∀ (n : Nat) (g : Int32 → Int32) (gN : Nat → Nat → Int32), (∀ A w, wc_ok A w → g (wc_E A w) = gN A w) → ∀ A w, wc_ok A w → wc_Tn (wc_st1 (nI c)) n g (wc_E A w) = wc_TnN c n gN A w := by
  intro n
  induction n with
  | zero => exact fun g gN h A w hok => h A w hok
  | succ n ih =>
    intro g gN h A w hok
    refine ih (wc_T (wc_st1 (nI c)) g) (wc_TN c gN) (fun A w hok => ?_) A w hok
    show g (wc_st1 (nI c) (wc_E A w) (nI 0)) + g (wc_st1 (nI c) (wc_E A w) (nI 1)) = gN (wc_A A 0) (wc_w c A w 0) + gN (wc_A A 1) (wc_w c A w 1)
    rw [wc_estep hc2 hc hok.1 hok.2.1 hok.2.2 (by omega), wc_estep hc2 hc hok.1 hok.2.1 hok.2.2 (by omega), h _ _ (wc_ok_step hok (by omega)), h _ _ (wc_ok_step hok (by omega))]
theorem wc_TnN_congr {c : Nat} : ∀ (n : Nat) (g g' : Nat → Nat → Int32), (∀ A w, wc_ok A w → g A w = g' A w) → ∀ A w, wc_ok A w → wc_TnN c n g A w = wc_TnN c n g' A w := by
  intro n
  induction n with
  | zero => exact fun g g' h A w hok => h A w hok
  | succ n ih =>
    intro g g' h A w hok
    refine ih _ _ (fun A w hok => ?_) A w hok
    show g (wc_A A 0) (wc_w c A w 0) + g (wc_A A 1) (wc_w c A w 1) = g' (wc_A A 0) (wc_w c A w 0) + g' (wc_A A 1) (wc_w c A w 1)
    rw [h _ _ (wc_ok_step hok (by omega)), h _ _ (wc_ok_step hok (by omega))]
theorem wc_TnN_add {c : Nat} (a : Nat) : ∀ (b : Nat) (g : Nat → Nat → Int32), wc_TnN c (a + b) g = wc_TnN c a (wc_TnN c b g) := by
  intro b
  induction b with
  | zero => exact fun g => rfl
  | succ b ih => exact fun g => ih (wc_TN c g)
/-- the readings j places back, if the last j bits begin the word -/
def wc_U (t c j A w : Nat) : Int32 := if t ≤ w / 4 ^ j % 4 ∧ (2 ^ j ≤ A ∧ A % 2 ^ j + 2 ^ j = c / 2 ^ (wc_lg c - j)) then 1 else 0
def wc_gN (t _A w : Nat) : Int32 := if t ≤ w % 4 then 1 else 0
theorem wc_ifadd {P Q0 Q1 Q : Prop} [Decidable P] [Decidable Q0] [Decidable Q1] [Decidable Q] (h : Q ↔ Q0 ∨ Q1) (hx : ¬ (Q0 ∧ Q1)) :
    (if P ∧ Q0 then (1 : Int32) else 0) + (if P ∧ Q1 then 1 else 0) = if P ∧ Q then 1 else 0 := by
  by_cases hP : P <;> by_cases h0 : Q0 <;> by_cases h1 : Q1
  · exact absurd ⟨h0, h1⟩ hx
  · rw [if_pos ⟨hP, h0⟩, if_neg (fun z => h1 z.2), if_pos ⟨hP, h.mpr (Or.inl h0)⟩]; rfl
  · rw [if_neg (fun z => h0 z.2), if_pos ⟨hP, h1⟩, if_pos ⟨hP, h.mpr (Or.inr h1)⟩]; rfl
  · rw [if_neg (fun z => h0 z.2), if_neg (fun z => h1 z.2), if_neg (fun z => (h.mp z.2).elim h0 h1)]; rfl
  all_goals rw [if_neg (fun z => hP z.1), if_neg (fun z => hP z.1), if_neg (fun z => hP z.1)]; rfl
theorem wc_D_or {p A y : Nat} (hp : p = 1 ∨ p = 2 ∨ p = 4 ∨ p = 8 ∨ p = 16 ∨ p = 32) (hA : A < 128) :
    (p ≤ A ∧ A % p + p = y / 2) ↔ (p * 2 ≤ wc_A A 0 ∧ wc_A A 0 % (p * 2) + p * 2 = y) ∨ (p * 2 ≤ wc_A A 1 ∧ wc_A A 1 % (p * 2) + p * 2 = y) := by
  unfold wc_A
  rcases hp with rfl | rfl | rfl | rfl | rfl | rfl <;> by_cases h : A < 64
  all_goals first
    | (rw [if_pos (by omega), if_pos (by omega)]; omega)
    | (rw [if_neg (by omega), if_neg (by omega)]; omega)
theorem wc_D_ex {p A y : Nat} (hp : p = 1 ∨ p = 2 ∨ p = 4 ∨ p = 8 ∨ p = 16 ∨ p = 32) (hA : A < 128) :
    ¬ ((p * 2 ≤ wc_A A 0 ∧ wc_A A 0 % (p * 2) + p * 2 = y) ∧ (p * 2 ≤ wc_A A 1 ∧ wc_A A 1 % (p * 2) + p * 2 = y)) := by
  unfold wc_A
  rcases hp with rfl | rfl | rfl | rfl | rfl | rfl <;> by_cases h : A < 64
  all_goals first
    | (rw [if_pos (by omega), if_pos (by omega)]; omega)
    | (rw [if_neg (by omega), if_neg (by omega)]; omega)
theorem wc_p2 {j : Nat} (h : j ≤ 5) : 2 ^ j = 1 ∨ 2 ^ j = 2 ∨ 2 ^ j = 4 ∨ 2 ^ j = 8 ∨ 2 ^ j = 16 ∨ 2 ^ j = 32 := by
  have : j = 0 ∨ j = 1 ∨ j = 2 ∨ j = 3 ∨ j = 4 ∨ j = 5 := by omega
  rcases this with rfl | rfl | rfl | rfl | rfl | rfl <;> decide
theorem wc_wsh {w x : Nat} (hx : x < 4) (j : Nat) (h : j ≤ 4) : (w % 1024 * 4 + x) / 4 ^ (j + 1) % 4 = w / 4 ^ j % 4 := by
  have : j = 0 ∨ j = 1 ∨ j = 2 ∨ j = 3 ∨ j = 4 := by omega
  rcases this with rfl | rfl | rfl | rfl | rfl <;> simp only [Nat.reduceAdd, Nat.reducePow] <;> omega
theorem wc_halve {c j m : Nat} (h : j + 1 ≤ m) : c / 2 ^ (m - j) = c / 2 ^ (m - (j + 1)) / 2 := by
  rw [Nat.div_div_eq_div_mul, ← Nat.pow_succ, show (m - (j + 1)).succ = m - j by omega]
theorem wc_TU {t c j A w : Nat} (hj : j + 1 ≤ wc_lg c - 1) (hok : wc_ok A w) : wc_TN c (wc_U t c (j + 1)) A w = wc_U t c j A w := by
  have m6 := wc_lg_le c
  show wc_U t c (j + 1) (wc_A A 0) (wc_w c A w 0) + wc_U t c (j + 1) (wc_A A 1) (wc_w c A w 1) = wc_U t c j A w
  unfold wc_U wc_w
  rw [wc_wsh (wc_cap_lt _) j (by omega), wc_wsh (wc_cap_lt _) j (by omega), wc_halve (c := c) (j := j) (m := wc_lg c) (by omega), Nat.pow_succ 2 j]
  exact wc_ifadd (wc_D_or (wc_p2 (by omega)) hok.2.1) (wc_D_ex (wc_p2 (by omega)) hok.2.1)
theorem wc_capX {t v : Nat} {D : Prop} [Decidable D] (x r : Nat) (ht : t = 1 ∨ t = 2) (hx : x = if D then v else 0) : (if t ≤ (r * 4 + wc_cap x) % 4 then (1 : Int32) else 0) = if t ≤ v ∧ D then 1 else 0 := by
  have hc := wc_cap_lt x
  have e : (r * 4 + wc_cap x) % 4 = wc_cap x := by omega
  rw [e]
  have k : t ≤ wc_cap x ↔ t ≤ v ∧ D := by
    unfold wc_cap
    by_cases d : D
    · rw [if_pos d] at hx
      subst hx
      split <;> constructor
      · exact fun z => ⟨z, d⟩
      · exact fun z => z.1
      · exact fun z => ⟨by omega, d⟩
      · exact fun z => by omega
    · rw [if_neg d] at hx
      subst hx
      constructor
      · intro z
        rw [if_pos (by omega)] at z
        omega
      · exact fun z => absurd z.2 d
  by_cases z : t ≤ wc_cap x
  · rw [if_pos z, if_pos (k.mp z)]
  · rw [if_neg z, if_neg (fun y => z (k.mpr y))]
theorem wc_Tg {t c A w : Nat} (hc2 : 2 ≤ c) (ht : t = 1 ∨ t = 2) (hok : wc_ok A w) : wc_TN c (wc_gN t) A w = wc_U t c (wc_lg c - 1) A w := by
  have m1 := wc_lg_pos hc2
  have m6 := wc_lg_le c
  show (if t ≤ (w % 1024 * 4 + wc_cap (wc_X c (wc_A A 0) w)) % 4 then (1 : Int32) else 0) + (if t ≤ (w % 1024 * 4 + wc_cap (wc_X c (wc_A A 1) w)) % 4 then 1 else 0) = wc_U t c (wc_lg c - 1) A w
  have ep : 2 ^ wc_lg c = 2 ^ (wc_lg c - 1) * 2 := by rw [← Nat.pow_succ, show (wc_lg c - 1).succ = wc_lg c by omega]
  rw [wc_capX _ _ ht (rfl : wc_X c (wc_A A 0) w = _), wc_capX _ _ ht (rfl : wc_X c (wc_A A 1) w = _)]
  unfold wc_U
  rw [show wc_lg c - (wc_lg c - 1) = 1 by omega, ep]
  exact wc_ifadd (wc_D_or (wc_p2 (by omega)) hok.2.1) (wc_D_ex (wc_p2 (by omega)) hok.2.1)
theorem wc_TnU {t c : Nat} : ∀ (i j : Nat), i ≤ j → j ≤ wc_lg c - 1 → ∀ A w, wc_ok A w → wc_TnN c i (wc_U t c j) A w = wc_U t c (j - i) A w := by
  intro i
  induction i with
  | zero => exact fun j _ _ A w _ => rfl
  | succ i ih =>
    intro j hij hj A w hok
    obtain ⟨q, rfl⟩ : ∃ q, j = q + 1 := ⟨j - 1, by omega⟩
    show wc_TnN c i (wc_TN c (wc_U t c (q + 1))) A w = _
    rw [wc_TnN_congr i _ (wc_U t c q) (fun A w hok => wc_TU (by omega) hok) A w hok, ih q (by omega) (by omega) A w hok, show q + 1 - (i + 1) = q - i by omega]
theorem wc_TnG {t c : Nat} (hc2 : 2 ≤ c) (ht : t = 1 ∨ t = 2) (i : Nat) (hi : i + 1 ≤ wc_lg c) {A w : Nat} (hok : wc_ok A w) : wc_TnN c (i + 1) (wc_gN t) A w = wc_U t c (wc_lg c - 1 - i) A w := by
  show wc_TnN c i (wc_TN c (wc_gN t)) A w = _
  rw [wc_TnN_congr i _ (wc_U t c (wc_lg c - 1)) (fun A w hok => wc_Tg hc2 ht hok) A w hok, wc_TnU i _ (by omega) (by omega) A w hok]
theorem wc_c1 : ∀ c, c < 128 → 2 ≤ c → c / 2 ^ wc_lg c = 1 := by decide +kernel
theorem wc_U0 {t c A w : Nat} (hc2 : 2 ≤ c) (hc : c < 128) (hok : wc_ok A w) : wc_U t c 0 A w = wc_gN t A w := by
  have h1 := hok.1
  unfold wc_U wc_gN
  rw [Nat.sub_zero, wc_c1 c hc hc2, Nat.pow_zero, Nat.div_one, Nat.mod_one]
  by_cases z : t ≤ w % 4
  · rw [if_pos z, if_pos ⟨z, by omega, by omega⟩]
  · rw [if_neg z, if_neg (fun y => z y.1)]
theorem wc_per {t c : Nat} (hc2 : 2 ≤ c) (hc : c < 128) (ht : t = 1 ∨ t = 2) (r : Nat) : ∀ (q A w : Nat), wc_ok A w → wc_TnN c (r + q * wc_lg c) (wc_gN t) A w = wc_TnN c r (wc_gN t) A w := by
  have m1 := wc_lg_pos hc2
  intro q
  induction q with
  | zero => intro A w _; rw [Nat.zero_mul, Nat.add_zero]
  | succ q ih =>
    intro A w hok
    rw [Nat.succ_mul, ← Nat.add_assoc, wc_TnN_add, wc_TnN_congr _ _ (wc_gN t) (fun A w hok => ?_) A w hok, ih A w hok]
    have e := wc_TnG hc2 ht (wc_lg c - 1) (by omega) hok
    rw [show wc_lg c - 1 + 1 = wc_lg c by omega, Nat.sub_self, wc_U0 hc2 hc hok] at e
    exact e
theorem wc_q1 : ∀ k, k < 6 → 1 / 4 ^ (k + 1) % 4 = 0 := by decide
theorem wc_main1 {c t : Nat} (hc2 : 2 ≤ c) (hc : c < 128) (ht : t = 1 ∨ t = 2) (n : Nat) :
    wc_Tn (wc_st1 (nI c)) n (wc_g (nI t)) 4097 = if n % wc_lg c = 0 then (if t ≤ 1 then 1 else 0) else 0 := by
  have m1 := wc_lg_pos hc2
  have m6 := wc_lg_le c
  have hok : wc_ok 1 1 := ⟨by omega, by omega, by omega⟩
  have hg : ∀ A w, wc_ok A w → wc_g (nI t) (wc_E A w) = wc_gN t A w := by
    intro A w h
    have h1 := h.2.1
    have h2 := h.2.2
    unfold wc_g wc_gN wc_E
    rw [pk_andN (by omega) 2 (by decide), show (A * 4096 + w) % 2 ^ 2 = w % 4 by omega]
    by_cases z : t ≤ w % 4
    · rw [if_pos z, if_neg (nI_nlt z (by omega))]
    · rw [if_neg z, if_pos (nI_lt (by omega) (by omega))]
  have e := wc_Tn_N hc2 hc n (wc_g (nI t)) (wc_gN t) hg 1 1 hok
  have ed : n = n % wc_lg c + n / wc_lg c * wc_lg c := by
    rw [Nat.mul_comm]
    exact (Nat.mod_add_div n (wc_lg c)).symm
  have hlt : n % wc_lg c < wc_lg c := Nat.mod_lt _ (by omega)
  have e2 : wc_TnN c n (wc_gN t) 1 1 = wc_TnN c (n % wc_lg c) (wc_gN t) 1 1 := by
    have e3 := wc_per hc2 hc ht (n % wc_lg c) (n / wc_lg c) 1 1 hok
    rw [← ed] at e3
    exact e3
  have e0 : (4097 : Int32) = wc_E 1 1 := by decide
  rw [e0, e, e2]
  by_cases z : n % wc_lg c = 0
  · rw [if_pos z, z]
    rfl
  · rw [if_neg z]
    obtain ⟨i, hi⟩ : ∃ i, n % wc_lg c = i + 1 := ⟨n % wc_lg c - 1, by omega⟩
    rw [hi, wc_TnG hc2 ht i (by omega) hok]
    unfold wc_U
    obtain ⟨k, hk⟩ : ∃ k, wc_lg c - 1 - i = k + 1 := ⟨wc_lg c - 1 - i - 1, by omega⟩
    rw [hk, wc_q1 k (by omega), if_neg (fun z => by omega)]
theorem wc_st0_low (s b : Int32) : wc_st0 s b &&& 3 = 0 := by
  unfold wc_st0 wc_fin
  rw [pk_and _ 2 (by decide), if_pos (by decide), Int32.toBitVec_or, Int32.toBitVec_or, BitVec.toNat_or, BitVec.toNat_or, Nat.or_mod_two_pow, Nat.or_mod_two_pow, pk_shl _ _ 12 (by decide), pk_shl _ _ 2 (by decide)]
  have e1 : ∀ x : Nat, x * 2 ^ 12 % 2 ^ 32 % 2 ^ 2 = 0 := fun x => by omega
  have e2 : ∀ x : Nat, x * 2 ^ 2 % 2 ^ 32 % 2 ^ 2 = 0 := fun x => by omega
  rw [e1, e2]
  rfl
theorem wc_Tn_0 (stp : Int32 → Int32 → Int32) : ∀ n s, wc_Tn stp n (fun _ => 0) s = 0 := by
  intro n
  induction n with
  | zero => exact fun s => rfl
  | succ n ih => exact ih
theorem wc_main0 {t : Nat} (ht : t = 1 ∨ t = 2) (n : Nat) : wc_Tn wc_st0 n (wc_g (nI t)) 4097 = if n = 0 then (if t ≤ 1 then 1 else 0) else 0 := by
  cases n with
  | zero =>
    rw [if_pos rfl]
    rcases ht with rfl | rfl <;> decide
  | succ n =>
    have e : wc_T wc_st0 (wc_g (nI t)) = fun _ => 0 := by
      funext s
      show wc_g (nI t) (wc_st0 s 0) + wc_g (nI t) (wc_st0 s 1) = 0
      unfold wc_g
      rw [wc_st0_low, wc_st0_low]
      rcases ht with rfl | rfl <;> decide
    show wc_Tn wc_st0 n (wc_T wc_st0 (wc_g (nI t))) 4097 = _
    rw [e, wc_Tn_0, if_neg (by omega)]
end
section
/-- total: the sums v, each from those below it -/
theorem wc_total {post : Int32 → St2 → Prop} {cnt len bits fnd ltr : Int32} {a1 a2 a3 a4 a5 a6 a7 a8 a9 a10 a11 : Nat → Int32} (v : Nat → Int32) (hv : v 0 = 1)
    (hs : ∀ (J : Int32 → (Nat → Int32) → (Nat → Int32) → (Nat → Int32) → (Nat → Int32) → (Nat → Int32) → (Nat → Int32) → (Nat → Int32) → (Nat → Int32) → (Nat → Int32) → (Nat → Int32) → (Nat → Int32) → Prop) (x1 : Int32) (i : Nat) (a9 : Nat → Int32), 1 ≤ i → i ≤ 16 → (∀ j, j < i → a9 j = v j) → J (nI i + 1) a1 a2 a3 a4 a5 a6 a7 a8 (upd a9 i (v i)) a10 a11 → ∃ n, wX_total_31 post J x1 (nI i) cnt len bits fnd ltr a1 a2 a3 a4 a5 a6 a7 a8 a9 a10 a11 n 0 0)
    {N : Nat} (hN : N ≤ 16) (h : ∀ a9, post (v N) (cnt, len, bits, fnd, ltr, a1, a2, a3, a4, a5, a6, a7, a8, a9, a10, a11)) : wpX_total post (cnt, len, bits, fnd, ltr, a1, a2, a3, a4, a5, a6, a7, a8, a9, a10, a11) (nI N) := by
  refine br_f (nI_pos (by omega)) (br_t (nI_le (b := 16) hN (by omega)) (nm_e ?_))
  refine pk_loop (fun n i s => wX_total_21 post (nI N) cnt len bits fnd ltr n (nI i) a1 a2 a3 a4 a5 a6 a7 a8 s a10 a11) (fun i s => 1 ≤ i ∧ ∀ j, j < i → s j = v j) (N + 1) 1 (upd a9 0 1) (by omega) ⟨by omega, fun j hj => ?_⟩ ?_ ?_
  · rw [show j = 0 by omega, pk_us, hv]
  · intro n s hI
    refine pk_lt N (N + 1) (fun _ => ⟨pk_in N 17 (by omega), ?_⟩) (fun z => absurd z (by omega))
    rw [nI_clamp (by omega), hI.2 N (by omega)]
    exact h s
  · intro n i s hi hI hw
    refine pk_lt N i (fun z => absurd z (by omega)) (fun _ => hs _ _ i s hI.1 (by omega) hI.2 ?_)
    rw [nI_1 i]
    refine hw _ ⟨by omega, fun j hj => ?_⟩
    by_cases e : j = i
    · rw [e, pk_us]
    · rw [pk_un e]
      exact hI.2 j (by omega)
theorem wc_total_bad {post : Int32 → St2 → Prop} {cnt len bits fnd ltr : Int32} {a1 a2 a3 a4 a5 a6 a7 a8 a9 a10 a11 : Nat → Int32} {n : Int32} (hn : n < 0 ∨ ¬ n ≤ 16) (h : post (-1) (cnt, len, bits, fnd, ltr, a1, a2, a3, a4, a5, a6, a7, a8, a9, a10, a11)) : wpX_total post (cnt, len, bits, fnd, ltr, a1, a2, a3, a4, a5, a6, a7, a8, a9, a10, a11) n :=
  br_c (fun _ => h) (fun z => br_f (hn.resolve_left z) h)
theorem wc_total0 {post : Int32 → St2 → Prop} {len bits fnd ltr : Int32} {a1 a2 a3 a4 a5 a6 a7 a8 a9 a10 a11 : Nat → Int32} {N : Nat} (hN : N ≤ 16) (h : ∀ a9, post (if N = 0 then 1 else 0) (0, len, bits, fnd, ltr, a1, a2, a3, a4, a5, a6, a7, a8, a9, a10, a11)) : wpX_total post (0, len, bits, fnd, ltr, a1, a2, a3, a4, a5, a6, a7, a8, a9, a10, a11) (nI N) := by
  refine wc_total (fun i => if i = 0 then 1 else 0) rfl ?_ hN h
  intro J x1 i a9 h1 h16 hj hJ
  refine ⟨1, br_t (by decide) ⟨pk_in i 17 (by omega), nm_e (nm_e ?_)⟩⟩
  rw [nI_clamp (by omega)]
  rw [if_neg (show ¬ i = 0 by omega)] at hJ
  exact hJ
theorem wc_total1 {post : Int32 → St2 → Prop} {len bits fnd ltr : Int32} {a1 a2 a3 a4 a5 a6 a7 a8 a9 a10 a11 : Nat → Int32} {c : Nat} (hc2 : 2 ≤ c) (hc : c < 128) (ha : a1 0 = nI c) {N : Nat} (hN : N ≤ 16) (h : ∀ a9, post (if N % wc_lg c = 0 then 1 else 0) (1, len, bits, fnd, ltr, a1, a2, a3, a4, a5, a6, a7, a8, a9, a10, a11)) : wpX_total post (1, len, bits, fnd, ltr, a1, a2, a3, a4, a5, a6, a7, a8, a9, a10, a11) (nI N) := by
  have m1 := wc_lg_pos hc2
  have m6 := wc_lg_le c
  refine wc_total (fun i => if i % wc_lg c = 0 then 1 else 0) (if_pos (Nat.zero_mod _)) ?_ hN h
  intro J x1 i a9 h1 h16 hj hJ
  have hE : ∀ z : Int32, z = (if i % wc_lg c = 0 then 1 else 0) → wX_total_31 post J x1 (nI i) 1 len bits fnd ltr a1 a2 a3 a4 a5 a6 a7 a8 a9 a10 a11 1 z 1 := by
    intro z hz
    refine br_t (by decide) ⟨pk_in i 17 (by omega), nm_e (nm_e ?_)⟩
    rw [nI_clamp (by omega), hz]
    exact hJ
  refine ⟨2, br_f (by decide) ⟨pk_in 0 6 (by omega), wc_sizeOf _ ?_⟩⟩
  rw [sb_cl0, ha, wc_sz_lg c hc]
  refine pk_lt i (wc_lg c) (fun z => nm_e (hE 0 ?_)) (fun z => ?_)
  · rw [Nat.mod_eq_of_lt z, if_neg (by omega)]
  · rw [pk_sub z, nI_clamp (by omega)]
    refine ⟨pk_in (i - wc_lg c) 17 (by omega), nm_e (nm_e (hE _ ?_))⟩
    rw [hj _ (by omega), Nat.mod_eq_sub_mod z]
    grind
/-- where a word stands -/
theorem wc_num0 {post : Int32 → Prop} {len bits fnd ltr : Int32} {a1 a2 a3 a4 a5 a6 a7 a8 a9 a10 a11 : Nat → Int32} {x : Int32} (h : post 0) : wpX_numberOf post (0, len, bits, fnd, ltr, a1, a2, a3, a4, a5, a6, a7, a8, a9, a10, a11) x :=
  ⟨1, br_t (by decide) h⟩
theorem wc_num1 {post : Int32 → Prop} {len bits fnd ltr : Int32} {a1 a2 a3 a4 a5 a6 a7 a8 a9 a10 a11 : Nat → Int32} {x : Int32} (h0 : x ≤ a1 0 → post 0) (h1 : ¬ x ≤ a1 0 → post 1) : wpX_numberOf post (1, len, bits, fnd, ltr, a1, a2, a3, a4, a5, a6, a7, a8, a9, a10, a11) x :=
  ⟨2, br_f (by decide) ⟨pk_in 0 6 (by omega), br_c h0 (fun z => nm_e (br_t (by decide) (h1 z)))⟩⟩
theorem wc_num2 {post : Int32 → Prop} {len bits fnd ltr : Int32} {a1 a2 a3 a4 a5 a6 a7 a8 a9 a10 a11 : Nat → Int32} {x : Int32} (h : (x ≤ a1 0 ∧ post 0) ∨ (¬ x ≤ a1 0 ∧ x ≤ a1 1 ∧ post 1)) : wpX_numberOf post (2, len, bits, fnd, ltr, a1, a2, a3, a4, a5, a6, a7, a8, a9, a10, a11) x := by
  rcases h with h | h
  · exact ⟨2, br_f (by decide) ⟨pk_in 0 6 (by omega), br_t h.1 h.2⟩⟩
  · exact ⟨2, br_f (by decide) ⟨pk_in 0 6 (by omega), br_f h.1 (nm_e (br_f (by decide) ⟨pk_in 1 6 (by omega), br_t h.2.1 h.2.2⟩))⟩⟩
theorem wc_sh : ∀ n, n < 128 → (nI n).toInt16.toInt32 = nI n := by decide +kernel
theorem wc_shv {n : Nat} (h : n < 128) : vp_nar .short (nI n) = nI n := by rw [vp_nar_short, wc_sh n h]
theorem wc_add_bad {post : Int32 → St2 → Prop} {cnt len bits fnd ltr : Int32} {a1 a2 a3 a4 a5 a6 a7 a8 a9 a10 a11 : Nat → Int32} {x : Int32} (hx : x < 2 ∨ ¬ x < 128) (h : post (-1) (cnt, len, bits, fnd, ltr, a1, a2, a3, a4, a5, a6, a7, a8, a9, a10, a11)) : wpX_add post (cnt, len, bits, fnd, ltr, a1, a2, a3, a4, a5, a6, a7, a8, a9, a10, a11) x :=
  br_c (fun _ => h) (fun z => br_f (hx.resolve_left z) h)
theorem wc_add0 {post : Int32 → St2 → Prop} {len bits fnd ltr : Int32} {a1 a2 a3 a4 a5 a6 a7 a8 a9 a10 a11 : Nat → Int32} {c : Nat} (hc2 : 2 ≤ c) (hc : c < 128) (h : ∀ a1, a1 0 = nI c → post 0 (1, len, bits, fnd, ltr, a1, a2, a3, a4, a5, a6, a7, a8, a9, a10, a11)) : wpX_add post (0, len, bits, fnd, ltr, a1, a2, a3, a4, a5, a6, a7, a8, a9, a10, a11) (nI c) := by
  refine br_f (nI_nlt (b := 2) hc2 (by omega)) (br_t (nI_lt (b := 128) hc (by omega)) (wc_num0 (br_t (by decide) ?_)))
  refine br_f (by decide) ⟨1, br_t (by decide) ⟨pk_in 0 6 (by omega), nm_e (nm_e ?_)⟩⟩
  refine h _ ?_
  show upd a1 (0 : Int32).toNatClampNeg (nI c).toInt16.toInt32 0 = nI c
  rw [sb_cl0, pk_us, wc_sh c hc]
theorem wc_add_same {post : Int32 → St2 → Prop} {len bits fnd ltr : Int32} {a1 a2 a3 a4 a5 a6 a7 a8 a9 a10 a11 : Nat → Int32} {c : Nat} (hc2 : 2 ≤ c) (hc : c < 128) (ha : a1 0 = nI c) (h : post 0 (1, len, bits, fnd, ltr, a1, a2, a3, a4, a5, a6, a7, a8, a9, a10, a11)) : wpX_add post (1, len, bits, fnd, ltr, a1, a2, a3, a4, a5, a6, a7, a8, a9, a10, a11) (nI c) := by
  refine br_f (nI_nlt (b := 2) hc2 (by omega)) (br_t (nI_lt (b := 128) hc (by omega)) (wc_num1 (fun _ => ?_) (fun z => absurd (by rw [ha]; exact nI_le (Nat.le_refl c) (by omega)) z)))
  exact br_f (by decide) ⟨pk_in 0 6 (by omega), br_t ha h⟩
theorem wc_add_lo {post : Int32 → St2 → Prop} {len bits fnd ltr : Int32} {a1 a2 a3 a4 a5 a6 a7 a8 a9 a10 a11 : Nat → Int32} {c x : Nat} (hc : c < 128) (hx2 : 2 ≤ x) (hx : x < c) (ha : a1 0 = nI c) (h : ∀ a1, a1 0 = nI x → a1 1 = nI c → post 0 (2, len, bits, fnd, ltr, a1, a2, a3, a4, a5, a6, a7, a8, a9, a10, a11)) : wpX_add post (1, len, bits, fnd, ltr, a1, a2, a3, a4, a5, a6, a7, a8, a9, a10, a11) (nI x) := by
  refine br_f (nI_nlt (b := 2) hx2 (by omega)) (br_t (nI_lt (b := 128) (by omega) (by omega)) (wc_num1 (fun _ => ?_) (fun z => absurd (by rw [ha]; exact nI_le (by omega) (by omega)) z)))
  refine br_f (by decide) ⟨pk_in 0 6 (by omega), br_f (fun z => ?_) ?_⟩
  · rw [sb_cl0, ha] at z
    have := (nI_eq (by omega) (by omega)).mp z
    omega
  · refine br_f (by decide) ⟨2, br_f (by decide) ⟨pk_in 0 6 (by omega), pk_in 1 6 (by omega), nm_e (nm_r (e' := 0) (by decide) (br_t (by decide) ⟨pk_in 0 6 (by omega), nm_e (nm_e (h _ ?_ ?_))⟩))⟩⟩
    · show upd _ (0 : Int32).toNatClampNeg (nI x).toInt16.toInt32 0 = nI x
      rw [sb_cl0, pk_us, wc_sh x (by omega)]
    · show upd (upd a1 (1 : Int32).toNatClampNeg (vp_nar .short (a1 ((1 : Int32) - 1).toNatClampNeg))) (0 : Int32).toNatClampNeg (nI x).toInt16.toInt32 1 = nI c
      rw [sb_cl0, pk_un (by omega), show (1 : Int32).toNatClampNeg = 1 by decide, pk_us, show ((1 : Int32) - 1).toNatClampNeg = 0 by decide, ha, wc_shv hc]
theorem wc_add_hi {post : Int32 → St2 → Prop} {len bits fnd ltr : Int32} {a1 a2 a3 a4 a5 a6 a7 a8 a9 a10 a11 : Nat → Int32} {c x : Nat} (hx2 : 2 ≤ x) (hx : x < 128) (hcx : c < x) (ha : a1 0 = nI c) (h : ∀ a1, a1 0 = nI c → a1 1 = nI x → post 1 (2, len, bits, fnd, ltr, a1, a2, a3, a4, a5, a6, a7, a8, a9, a10, a11)) : wpX_add post (1, len, bits, fnd, ltr, a1, a2, a3, a4, a5, a6, a7, a8, a9, a10, a11) (nI x) := by
  refine br_f (nI_nlt (b := 2) hx2 (by omega)) (br_t (nI_lt (b := 128) (by omega) (by omega)) (wc_num1 (fun z => absurd z (by rw [ha]; exact nI_ge hcx (by omega))) (fun _ => br_t (by decide) ?_)))
  refine br_f (by decide) ⟨1, br_t (by decide) ⟨pk_in 1 6 (by omega), nm_e (nm_e (h _ ?_ ?_))⟩⟩
  · show upd a1 (1 : Int32).toNatClampNeg (nI x).toInt16.toInt32 0 = nI c
    rw [show (1 : Int32).toNatClampNeg = 1 by decide, pk_un (by omega), ha]
  · show upd a1 (1 : Int32).toNatClampNeg (nI x).toInt16.toInt32 1 = nI x
    rw [show (1 : Int32).toNatClampNeg = 1 by decide, pk_us, wc_sh x hx]
theorem wc_rem0 {post : Int32 → St2 → Prop} {len bits fnd ltr : Int32} {a1 a2 a3 a4 a5 a6 a7 a8 a9 a10 a11 : Nat → Int32} {x : Int32} (h : post (-4) (0, len, bits, fnd, ltr, a1, a2, a3, a4, a5, a6, a7, a8, a9, a10, a11)) : wpX_remove post (0, len, bits, fnd, ltr, a1, a2, a3, a4, a5, a6, a7, a8, a9, a10, a11) x :=
  wc_num0 (br_t rfl h)
theorem wc_rem1 {post : Int32 → St2 → Prop} {len bits fnd ltr : Int32} {a1 a2 a3 a4 a5 a6 a7 a8 a9 a10 a11 : Nat → Int32} {x : Int32} (ha : a1 0 = x) (h : post 0 (0, len, bits, fnd, ltr, a1, a2, a3, a4, a5, a6, a7, a8, a9, a10, a11)) : wpX_remove post (1, len, bits, fnd, ltr, a1, a2, a3, a4, a5, a6, a7, a8, a9, a10, a11) x :=
  wc_num1 (fun _ => br_f (by decide) ⟨pk_in 0 6 (by omega), br_t ha (nm_r (e' := 0) (by decide) ⟨1, br_t (by decide) h⟩)⟩) (fun z => absurd (by rw [ha]; exact Int32.le_refl x) z)
theorem wc_rem1_no {post : Int32 → St2 → Prop} {len bits fnd ltr : Int32} {a1 a2 a3 a4 a5 a6 a7 a8 a9 a10 a11 : Nat → Int32} {x : Int32} (ha : ¬ a1 0 = x) (h : post (-4) (1, len, bits, fnd, ltr, a1, a2, a3, a4, a5, a6, a7, a8, a9, a10, a11)) : wpX_remove post (1, len, bits, fnd, ltr, a1, a2, a3, a4, a5, a6, a7, a8, a9, a10, a11) x :=
  wc_num1 (fun _ => br_f (by decide) ⟨pk_in 0 6 (by omega), br_f ha h⟩) (fun _ => br_t rfl h)
theorem wc_rem2_lo {post : Int32 → St2 → Prop} {len bits fnd ltr : Int32} {a1 a2 a3 a4 a5 a6 a7 a8 a9 a10 a11 : Nat → Int32} {c x : Nat} (hc : c < 128) (h0 : a1 0 = nI x) (h1 : a1 1 = nI c) (h : ∀ a1, a1 0 = nI c → post 1 (1, len, bits, fnd, ltr, a1, a2, a3, a4, a5, a6, a7, a8, a9, a10, a11)) : wpX_remove post (2, len, bits, fnd, ltr, a1, a2, a3, a4, a5, a6, a7, a8, a9, a10, a11) (nI x) := by
  refine wc_num2 (Or.inl ⟨by rw [h0]; exact Int32.le_refl _, br_f (by decide) ⟨pk_in 0 6 (by omega), br_t h0 (nm_r (e' := 1) (by decide) ⟨2, br_f (by decide) ⟨pk_in 1 6 (by omega), pk_in 0 6 (by omega), nm_e (nm_r (e' := 1) (by decide) (br_t (by decide) (h _ ?_)))⟩⟩)⟩⟩)
  show upd a1 (0 : Int32).toNatClampNeg (vp_nar .short (a1 ((0 : Int32) + 1).toNatClampNeg)) 0 = nI c
  rw [sb_cl0, pk_us, show ((0 : Int32) + 1).toNatClampNeg = 1 by decide, h1, wc_shv hc]
theorem wc_rem2_hi {post : Int32 → St2 → Prop} {len bits fnd ltr : Int32} {a1 a2 a3 a4 a5 a6 a7 a8 a9 a10 a11 : Nat → Int32} {c x : Nat} (hx : x < 128) (hcx : c < x) (h0 : a1 0 = nI c) (h1 : a1 1 = nI x) (h : post 1 (1, len, bits, fnd, ltr, a1, a2, a3, a4, a5, a6, a7, a8, a9, a10, a11)) : wpX_remove post (2, len, bits, fnd, ltr, a1, a2, a3, a4, a5, a6, a7, a8, a9, a10, a11) (nI x) := by
  refine wc_num2 (Or.inr ⟨by rw [h0]; exact nI_ge hcx (by omega), by rw [h1]; exact Int32.le_refl _, br_f (by decide) ⟨pk_in 1 6 (by omega), br_t h1 (nm_r (e' := 1) (by decide) ⟨1, br_t (by decide) h⟩)⟩⟩)
/-- a word turned round -/
def wc_rv : Nat → Nat → Nat → Nat
  | 0, _, o => o
  | k + 1, r, o => if r ≤ 1 then o else wc_rv k (r / 2) (2 * o + r % 2)
def wc_turned (n : Nat) : Nat := wc_rv 6 n 1
theorem wc_turned_in : ∀ n, n < 128 → 2 ≤ n → 2 ≤ wc_turned n ∧ wc_turned n < 128 := by decide +kernel
theorem wc_turnstep (o r : Nat) (hr : r < 128) : (2 * nI o) + (nI r &&& 1) = nI (2 * o + r % 2) ∧ nI r >>> ((1 : Int32) &&& 31) = nI (r / 2) := by
  constructor
  · rw [pk_andN (by omega) 1 (by decide), ← nI_add, ← pk_mul]
    rfl
  · exact pk_shrN (by omega) _ 1 (by decide)
theorem wc_turn7 {post : Int32 → Prop} {cnt len bits fnd ltr : Int32} {a1 a2 a3 a4 a5 a6 a7 a8 a9 a10 a11 : Nat → Int32} : ∀ (k i r o : Nat), i + k = 6 → r < 128 → post (nI (wc_rv k r o)) → wX_turn_7 post cnt len bits fnd ltr a1 a2 a3 a4 a5 a6 a7 a8 a9 a10 a11 (k + 1) (nI r) (nI o) (nI i) := by
  intro k
  induction k with
  | zero =>
    intro i r o hi hr h
    exact pk_le 6 i (fun _ => h) (fun z => absurd z (by omega))
  | succ k ih =>
    intro i r o hi hr h
    refine pk_le 6 i (fun z => absurd z (by omega)) (fun _ => pk_le r 1 (fun z => ?_) (fun z => ?_))
    · have e : wc_rv (k + 1) r o = o := if_pos z
      rw [e] at h
      exact h
    · have e : wc_rv (k + 1) r o = wc_rv k (r / 2) (2 * o + r % 2) := if_neg (by omega)
      rw [e] at h
      exact nm_r (wc_turnstep o r hr).1 (nm_r (wc_turnstep o r hr).2 (nm_r (nI_1 i) (ih (i + 1) (r / 2) _ (by omega) (by omega) h)))
theorem wc_turn {post : Int32 → Prop} {cnt len bits fnd ltr : Int32} {a1 a2 a3 a4 a5 a6 a7 a8 a9 a10 a11 : Nat → Int32} {c : Nat} (hc : c < 128) (h : post (nI (wc_turned c))) : wpX_turn post (cnt, len, bits, fnd, ltr, a1, a2, a3, a4, a5, a6, a7, a8, a9, a10, a11) (nI c) :=
  ⟨7, wc_turn7 6 0 c 1 (by omega) hc h⟩
theorem wc_rev0 {post : Int32 → St2 → Prop} {len bits fnd ltr : Int32} {a1 a2 a3 a4 a5 a6 a7 a8 a9 a10 a11 : Nat → Int32} (h : post 0 (0, len, bits, fnd, ltr, a1, a2, a3, a4, a5, a6, a7, a8, a9, a10, a11)) : wpX_reverse post (0, len, bits, fnd, ltr, a1, a2, a3, a4, a5, a6, a7, a8, a9, a10, a11) :=
  ⟨1, br_t (by decide) ⟨1, br_t (by decide) h⟩⟩
theorem wc_rev1 {post : Int32 → St2 → Prop} {len bits fnd ltr : Int32} {a1 a2 a3 a4 a5 a6 a7 a8 a9 a10 a11 : Nat → Int32} {c : Nat} (hc2 : 2 ≤ c) (hc : c < 128) (ha : a1 0 = nI c) (h : ∀ a1 a2, a1 0 = nI (wc_turned c) → post 1 (1, len, bits, fnd, ltr, a1, a2, a3, a4, a5, a6, a7, a8, a9, a10, a11)) : wpX_reverse post (1, len, bits, fnd, ltr, a1, a2, a3, a4, a5, a6, a7, a8, a9, a10, a11) := by
  have ht := wc_turned_in c hc hc2
  refine ⟨2, br_f (by decide) ⟨pk_in 0 6 (by omega), ?_⟩⟩
  rw [sb_cl0, ha]
  refine wc_turn hc ⟨pk_in 0 6 (by omega), nm_e (nm_r (e' := 1) (by decide) (br_t (by decide) ⟨2, br_f (by decide) ⟨pk_in 0 6 (by omega), ?_⟩⟩))⟩
  rw [sb_cl0, pk_us, wc_sh _ ht.2]
  exact wc_add0 ht.1 ht.2 (fun a1 ha1 => nm_r (e' := 1) (by decide) (br_t (by decide) (h a1 _ ha1)))
end
section
/-- the row holds j words c: each stands where it should -/
def wc_here (n j p : Nat) : Int32 := (((wc_bits (nI n) j >>> ((nI (j * wc_lg n) - nI (p * wc_lg n + wc_lg n)) &&& 31)) &&& (((1 : Int32) <<< (nI (wc_lg n) &&& 31)) - 1)) ||| ((1 : Int32) <<< (nI (wc_lg n) &&& 31)))
theorem wc_stand_at : ∀ n, n < 128 → 2 ≤ n → ∀ j, j < 17 → j * wc_lg n ≤ 16 → ∀ p, p < j → wc_here n j p = nI n := by decide +kernel
theorem wc_stands_yes {post : Int32 → Prop} {fnd ltr : Int32} {a1 a2 a3 a4 a5 a6 a7 a8 a9 a10 a11 : Nat → Int32} {c j p : Nat} (hc2 : 2 ≤ c) (hc : c < 128) (ha : a1 0 = nI c) (hj : j * wc_lg c ≤ 16) (hp : p < j) (h : post 1) :
    wpX_stands post (1, nI (j * wc_lg c), wc_bits (nI c) j, fnd, ltr, a1, a2, a3, a4, a5, a6, a7, a8, a9, a10, a11) 0 (nI (p * wc_lg c)) := by
  have m1 := wc_lg_pos hc2
  have hj16 : j ≤ j * wc_lg c := Nat.le_mul_of_pos_right j m1
  have hpm : p * wc_lg c + wc_lg c ≤ j * wc_lg c := by
    rw [← Nat.succ_mul]
    exact Nat.mul_le_mul_right _ hp
  refine ⟨pk_in 0 6 (by omega), wc_sizeOf _ ?_⟩
  rw [sb_cl0, ha, wc_sz_lg c hc]
  refine nm_r (nI_add _ _) (br_t (nI_le hpm (by omega)) (nm_e ⟨pk_in 0 6 (by omega), br_t ?_ h⟩))
  exact wc_stand_at c hc hc2 j (by omega) hj p hp
theorem wc_stands_any {post : Int32 → Prop} {bits fnd ltr : Int32} {a1 a2 a3 a4 a5 a6 a7 a8 a9 a10 a11 : Nat → Int32} {c L i : Nat} (hc : c < 128) (ha : a1 0 = nI c) (hL : L ≤ 16) (hi : i ≤ 16) (h0 : post 0) (h1 : i + wc_lg c ≤ L → post 1) :
    wpX_stands post (1, nI L, bits, fnd, ltr, a1, a2, a3, a4, a5, a6, a7, a8, a9, a10, a11) 0 (nI i) := by
  have m6 := wc_lg_le c
  refine ⟨pk_in 0 6 (by omega), wc_sizeOf _ ?_⟩
  rw [sb_cl0, ha, wc_sz_lg c hc]
  refine nm_r (nI_add _ _) (pk_le (i + wc_lg c) L (fun z => nm_e ⟨pk_in 0 6 (by omega), br_c (fun _ => h1 z) (fun _ => h0)⟩) (fun _ => h0))
/-- readings and fewest words from each place of a row of L bits on -/
def wc_wy (m L p : Nat) : Int32 := if (L - p) % m = 0 then 1 else 0
def wc_fw (m L p : Nat) : Int32 := if (L - p) % m = 0 then nI ((L - p) / m) else 10000
theorem wc_fw40 {post : St2 → Prop} {J : Int32 → (Nat → Int32) → (Nat → Int32) → (Nat → Int32) → (Nat → Int32) → (Nat → Int32) → (Nat → Int32) → (Nat → Int32) → (Nat → Int32) → (Nat → Int32) → (Nat → Int32) → (Nat → Int32) → Prop}
    {fnd ltr : Int32} {a1 a2 a3 a4 a5 a6 a7 a8 a9 a10 a11 : Nat → Int32} {c j i : Nat} (hc2 : 2 ≤ c) (hc : c < 128) (ha : a1 0 = nI c) (hj : j * wc_lg c ≤ 16) (hi : i < j * wc_lg c)
    (hI : ∀ p, i < p → p ≤ j * wc_lg c → a3 p = wc_wy (wc_lg c) (j * wc_lg c) p ∧ a4 p = wc_fw (wc_lg c) (j * wc_lg c) p)
    (h : J (nI i + (-1)) a1 a2 (upd a3 i (wc_wy (wc_lg c) (j * wc_lg c) i)) (upd a4 i (wc_fw (wc_lg c) (j * wc_lg c) i)) a5 a6 a7 a8 a9 a10 a11) :
    ∃ n, wX_findWays_40 post J (nI i) 1 (nI (j * wc_lg c)) (wc_bits (nI c) j) fnd ltr a1 a2 a3 a4 a5 a6 a7 a8 a9 a10 a11 n 0 10000 0 := by
  have m1 := wc_lg_pos hc2
  have m6 := wc_lg_le c
  have hE : ∀ x y : Int32, x = wc_wy (wc_lg c) (j * wc_lg c) i → y = wc_fw (wc_lg c) (j * wc_lg c) i → wX_findWays_40 post J (nI i) 1 (nI (j * wc_lg c)) (wc_bits (nI c) j) fnd ltr a1 a2 a3 a4 a5 a6 a7 a8 a9 a10 a11 1 x y 1 := by
    intro x y hx hy
    refine br_t (by decide) ⟨pk_in i 17 (by omega), nm_e ⟨pk_in i 17 (by omega), nm_e (nm_e ?_)⟩⟩
    rw [nI_clamp (by omega), hx, hy]
    exact h
  refine ⟨2, br_f (by decide) ?_⟩
  by_cases z : (j * wc_lg c - i) % wc_lg c = 0
  · obtain ⟨q, hq⟩ : ∃ q, j * wc_lg c - i = q * wc_lg c := ⟨(j * wc_lg c - i) / wc_lg c, (Nat.div_mul_cancel (Nat.dvd_of_mod_eq_zero z)).symm⟩
    have hqj : q ≤ j := by
      rcases Nat.lt_or_ge j q with g | g
      · have : j * wc_lg c < q * wc_lg c := Nat.mul_lt_mul_of_pos_right g (by omega)
        omega
      · exact g
    have hq0 : 1 ≤ q := by
      rcases Nat.eq_zero_or_pos q with g | g
      · rw [g, Nat.zero_mul] at hq
        omega
      · exact g
    have hip : i = (j - q) * wc_lg c := by
      rw [Nat.sub_mul]
      omega
    have hqm : q * wc_lg c = (q - 1) * wc_lg c + wc_lg c := by
      rw [← Nat.succ_mul, show (q - 1).succ = q by omega]
    have hnx : j * wc_lg c - (i + wc_lg c) = (q - 1) * wc_lg c := by omega
    have hle : i + wc_lg c ≤ j * wc_lg c := by omega
    have hq16 : q ≤ q * wc_lg c := Nat.le_mul_of_pos_right q m1
    have h3 : a3 (i + wc_lg c) = 1 := by
      rw [(hI _ (by omega) hle).1]
      unfold wc_wy
      rw [hnx, Nat.mul_mod_left, if_pos rfl]
    have h4 : a4 (i + wc_lg c) = nI (q - 1) := by
      rw [(hI _ (by omega) hle).2]
      unfold wc_fw
      rw [hnx, Nat.mul_mod_left, if_pos rfl, Nat.mul_div_cancel _ (by omega)]
    have e3 : wc_wy (wc_lg c) (j * wc_lg c) i = 1 := if_pos z
    have e4 : wc_fw (wc_lg c) (j * wc_lg c) i = nI q := by
      unfold wc_fw
      rw [if_pos z, hq, Nat.mul_div_cancel _ (by omega)]
    have hst : ∀ P : Int32 → Prop, P 1 → wpX_stands P (1, nI (j * wc_lg c), wc_bits (nI c) j, fnd, ltr, a1, a2, a3, a4, a5, a6, a7, a8, a9, a10, a11) 0 (nI i) := by
      intro P hP
      rw [hip]
      exact wc_stands_yes hc2 hc ha hj (by omega) hP
    refine hst _ (br_f (by decide) ⟨pk_in 0 6 (by omega), wc_sizeOf _ ?_⟩)
    rw [sb_cl0, ha, wc_sz_lg c hc]
    refine nm_r (nI_add _ _) ?_
    rw [nI_clamp (by omega), h3, h4, nI_1, show q - 1 + 1 = q by omega]
    refine ⟨vp_in_nI (by omega) (by omega), nm_e ⟨vp_in_nI (by omega) (by omega), br_f (nI_ge (b := 10000) (by omega) (by omega)) ⟨vp_in_nI (by omega) (by omega), nm_e (nm_e (hE _ _ ?_ e4.symm))⟩⟩⟩
    rw [e3]
    rfl
  · have e3 : wc_wy (wc_lg c) (j * wc_lg c) i = 0 := if_neg z
    have e4 : wc_fw (wc_lg c) (j * wc_lg c) i = 10000 := if_neg z
    refine wc_stands_any hc ha hj (by omega) (br_t rfl (nm_e (hE _ _ e3.symm e4.symm))) (fun hle => br_f (by decide) ⟨pk_in 0 6 (by omega), wc_sizeOf _ ?_⟩)
    have z' : ¬ (j * wc_lg c - (i + wc_lg c)) % wc_lg c = 0 := by
      rw [show j * wc_lg c - (i + wc_lg c) = j * wc_lg c - i - wc_lg c by omega, ← Nat.mod_eq_sub_mod (by omega)]
      exact z
    have h3 : a3 (i + wc_lg c) = 0 := by
      rw [(hI _ (by omega) hle).1]
      exact if_neg z'
    have h4 : a4 (i + wc_lg c) = 10000 := by
      rw [(hI _ (by omega) hle).2]
      exact if_neg z'
    rw [sb_cl0, ha, wc_sz_lg c hc]
    refine nm_r (nI_add _ _) ?_
    rw [nI_clamp (by omega), h3, h4]
    refine ⟨vp_in_nI (by omega) (by omega), nm_e ⟨vp_in_nI (by omega) (by omega), br_t (by decide) (nm_e (hE _ _ ?_ e4.symm))⟩⟩
    rw [e3]
    rfl
theorem wc_findWays {post : St2 → Prop} {fnd ltr : Int32} {a1 a2 a3 a4 a5 a6 a7 a8 a9 a10 a11 : Nat → Int32} {c j : Nat} (hc2 : 2 ≤ c) (hc : c < 128) (ha : a1 0 = nI c) (hj : j * wc_lg c ≤ 16)
    (h : ∀ a3 a4, (∀ p, p ≤ j * wc_lg c → a3 p = wc_wy (wc_lg c) (j * wc_lg c) p ∧ a4 p = wc_fw (wc_lg c) (j * wc_lg c) p) → post (1, nI (j * wc_lg c), wc_bits (nI c) j, fnd, ltr, a1, a2, a3, a4, a5, a6, a7, a8, a9, a10, a11)) :
    wpX_findWays post (1, nI (j * wc_lg c), wc_bits (nI c) j, fnd, ltr, a1, a2, a3, a4, a5, a6, a7, a8, a9, a10, a11) := by
  have m1 := wc_lg_pos hc2
  refine ⟨vp_in_nI (by omega) (by omega), nm_e ⟨vp_in_nI (by omega) (by omega), nm_e (nm_e ⟨j * wc_lg c + 1, ?_⟩)⟩⟩
  rw [nI_clamp (by omega)]
  refine pk_loopD (fun n i (s : (Nat → Int32) × (Nat → Int32)) => wX_findWays_27 post 1 (nI (j * wc_lg c)) (wc_bits (nI c) j) fnd ltr n (nI i - 1) a1 a2 s.1 s.2 a5 a6 a7 a8 a9 a10 a11)
    (fun i s => i ≤ j * wc_lg c ∧ ∀ p, i ≤ p → p ≤ j * wc_lg c → s.1 p = wc_wy (wc_lg c) (j * wc_lg c) p ∧ s.2 p = wc_fw (wc_lg c) (j * wc_lg c) p) ?_ ?_ (j * wc_lg c) (upd a3 (j * wc_lg c) 1, upd a4 (j * wc_lg c) 0) ⟨Nat.le_refl _, ?_⟩
  · intro n s hs
    exact br_t (by decide) (h _ _ (fun p hp => hs.2 p (by omega) hp))
  · intro n i s hs hw
    obtain ⟨h1, h2⟩ := hs
    show wX_findWays_27 post 1 (nI (j * wc_lg c)) (wc_bits (nI c) j) fnd ltr (n + 1) (nI (i + 1) - 1) a1 a2 s.1 s.2 a5 a6 a7 a8 a9 a10 a11
    rw [nI_pred]
    refine br_f (nI_pos (by omega)) (wc_fw40 hc2 hc ha hj (by omega) (fun p hp hp2 => h2 p (by omega) hp2) ?_)
    rw [← Int32.sub_eq_add_neg]
    refine hw (_, _) ⟨by omega, fun p hp hp2 => ?_⟩
    show upd s.1 i _ p = _ ∧ upd s.2 i _ p = _
    by_cases e : p = i
    · rw [e, pk_us, pk_us]
      exact ⟨rfl, rfl⟩
    · rw [pk_un e, pk_un e]
      exact h2 p (by omega) hp2
  · intro p hp hp2
    have e : p = j * wc_lg c := by omega
    show upd a3 (j * wc_lg c) 1 p = _ ∧ upd a4 (j * wc_lg c) 0 p = _
    unfold wc_wy wc_fw
    rw [e, pk_us, pk_us, Nat.sub_self, Nat.zero_mod, if_pos rfl, if_pos rfl, Nat.zero_div]
    exact ⟨rfl, rfl⟩
theorem wc_findWays0 {post : St2 → Prop} {cnt bits fnd ltr : Int32} {a1 a2 a3 a4 a5 a6 a7 a8 a9 a10 a11 : Nat → Int32} (h : ∀ a3 a4, a3 0 = 1 → a4 0 = 0 → post (cnt, 0, bits, fnd, ltr, a1, a2, a3, a4, a5, a6, a7, a8, a9, a10, a11)) : wpX_findWays post (cnt, 0, bits, fnd, ltr, a1, a2, a3, a4, a5, a6, a7, a8, a9, a10, a11) := by
  refine ⟨pk_in 0 17 (by omega), nm_e ⟨pk_in 0 17 (by omega), nm_e (nm_e ⟨1, br_t (by decide) (h _ _ ?_ ?_)⟩)⟩⟩
  · show upd a3 (0 : Int32).toNatClampNeg 1 0 = 1
    rw [sb_cl0, pk_us]
  · show upd a4 (0 : Int32).toNatClampNeg 0 0 = 0
    rw [sb_cl0, pk_us]
theorem wc_w0 {c j : Nat} : wc_wy (wc_lg c) (j * wc_lg c) 0 = 1 := by
  unfold wc_wy
  rw [Nat.sub_zero, Nat.mul_mod_left, if_pos rfl]
theorem wc_f0 {c j : Nat} (hc2 : 2 ≤ c) : wc_fw (wc_lg c) (j * wc_lg c) 0 = nI j := by
  have m1 := wc_lg_pos hc2
  unfold wc_fw
  rw [Nat.sub_zero, Nat.mul_mod_left, if_pos rfl, Nat.mul_div_cancel _ (by omega)]
theorem wc_readings0 {post : Int32 → St2 → Prop} {cnt bits fnd ltr : Int32} {a1 a2 a3 a4 a5 a6 a7 a8 a9 a10 a11 : Nat → Int32} (h : ∀ a3 a4, post 1 (cnt, 0, bits, fnd, ltr, a1, a2, a3, a4, a5, a6, a7, a8, a9, a10, a11)) : wpX_readings post (cnt, 0, bits, fnd, ltr, a1, a2, a3, a4, a5, a6, a7, a8, a9, a10, a11) := by
  refine wc_findWays0 (fun a3 a4 h3 h4 => ?_)
  show post (a3 0) (cnt, 0, bits, fnd, ltr, a1, a2, a3, a4, a5, a6, a7, a8, a9, a10, a11)
  rw [h3]
  exact h a3 a4
theorem wc_fewest0 {post : Int32 → St2 → Prop} {cnt bits fnd ltr : Int32} {a1 a2 a3 a4 a5 a6 a7 a8 a9 a10 a11 : Nat → Int32} (h : ∀ a3 a4, post 0 (cnt, 0, bits, fnd, ltr, a1, a2, a3, a4, a5, a6, a7, a8, a9, a10, a11)) : wpX_fewest post (cnt, 0, bits, fnd, ltr, a1, a2, a3, a4, a5, a6, a7, a8, a9, a10, a11) := by
  refine wc_findWays0 (fun a3 a4 h3 h4 => ?_)
  refine br_f (by rw [h4]; decide) ?_
  rw [h4]
  exact h a3 a4
theorem wc_read0 {post : Int32 → St2 → Prop} {cnt bits fnd ltr : Int32} {a1 a2 a3 a4 a5 a6 a7 a8 a9 a10 a11 : Nat → Int32} (h : ∀ a3 a4, post (-4) (cnt, 0, bits, fnd, ltr, a1, a2, a3, a4, a5, a6, a7, a8, a9, a10, a11)) : wpX_read post (cnt, 0, bits, fnd, ltr, a1, a2, a3, a4, a5, a6, a7, a8, a9, a10, a11) 0 0 := by
  refine wc_findWays0 (fun a3 a4 h3 h4 => ?_)
  exact br_f (by decide) (br_f (by rw [h3]; decide) (br_t (by decide) ⟨1, br_t (by decide) (h a3 a4)⟩))
theorem wc_readings1 {post : Int32 → St2 → Prop} {fnd ltr : Int32} {a1 a2 a3 a4 a5 a6 a7 a8 a9 a10 a11 : Nat → Int32} {c j : Nat} (hc2 : 2 ≤ c) (hc : c < 128) (ha : a1 0 = nI c) (hj : j * wc_lg c ≤ 16)
    (h : ∀ a3 a4, post 1 (1, nI (j * wc_lg c), wc_bits (nI c) j, fnd, ltr, a1, a2, a3, a4, a5, a6, a7, a8, a9, a10, a11)) : wpX_readings post (1, nI (j * wc_lg c), wc_bits (nI c) j, fnd, ltr, a1, a2, a3, a4, a5, a6, a7, a8, a9, a10, a11) := by
  refine wc_findWays hc2 hc ha hj (fun a3 a4 hI => ?_)
  show post (a3 0) (1, nI (j * wc_lg c), wc_bits (nI c) j, fnd, ltr, a1, a2, a3, a4, a5, a6, a7, a8, a9, a10, a11)
  rw [(hI 0 (by omega)).1, wc_w0]
  exact h a3 a4
theorem wc_fewest1 {post : Int32 → St2 → Prop} {fnd ltr : Int32} {a1 a2 a3 a4 a5 a6 a7 a8 a9 a10 a11 : Nat → Int32} {c j : Nat} (hc2 : 2 ≤ c) (hc : c < 128) (ha : a1 0 = nI c) (hj : j * wc_lg c ≤ 16)
    (h : ∀ a3 a4, post (nI j) (1, nI (j * wc_lg c), wc_bits (nI c) j, fnd, ltr, a1, a2, a3, a4, a5, a6, a7, a8, a9, a10, a11)) : wpX_fewest post (1, nI (j * wc_lg c), wc_bits (nI c) j, fnd, ltr, a1, a2, a3, a4, a5, a6, a7, a8, a9, a10, a11) := by
  have hj16 : j ≤ j * wc_lg c := Nat.le_mul_of_pos_right j (wc_lg_pos hc2)
  refine wc_findWays hc2 hc ha hj (fun a3 a4 hI => ?_)
  have e : a4 0 = nI j := by rw [(hI 0 (by omega)).2, wc_f0 hc2]
  refine br_f (by rw [e]; exact nI_ge (b := 10000) (by omega) (by omega)) ?_
  rw [e]
  exact h a3 a4
/-- read out of a row that can't be read so -/
theorem wc_read_bad {post : Int32 → St2 → Prop} {fnd ltr : Int32} {a1 a2 a3 a4 a5 a6 a7 a8 a9 a10 a11 : Nat → Int32} {c j : Nat} {n i : Int32} (hc2 : 2 ≤ c) (hc : c < 128) (ha : a1 0 = nI c) (hj : j * wc_lg c ≤ 16) (hn : n < 0 ∨ 1 ≤ n ∨ ¬ 0 ≤ i)
    (h : ∀ a3 a4, post (-4) (1, nI (j * wc_lg c), wc_bits (nI c) j, fnd, ltr, a1, a2, a3, a4, a5, a6, a7, a8, a9, a10, a11)) : wpX_read post (1, nI (j * wc_lg c), wc_bits (nI c) j, fnd, ltr, a1, a2, a3, a4, a5, a6, a7, a8, a9, a10, a11) n i := by
  refine wc_findWays hc2 hc ha hj (fun a3 a4 hI => ?_)
  have e : a3 0 = 1 := by rw [(hI 0 (by omega)).1, wc_w0]
  refine br_c (fun _ => h a3 a4) (fun z => br_c (fun _ => h a3 a4) (fun z2 => br_f ?_ (h a3 a4)))
  rw [e] at z2
  exact (hn.resolve_left z).resolve_left z2
theorem wc_wordFrom {post : Int32 → Prop} {fnd ltr : Int32} {a1 a2 a3 a4 a5 a6 a7 a8 a9 a10 a11 : Nat → Int32} {c j p : Nat} (hc2 : 2 ≤ c) (hc : c < 128) (ha : a1 0 = nI c) (hj : j * wc_lg c ≤ 16) (hp : p < j)
    (hI : ∀ p, p ≤ j * wc_lg c → a3 p = wc_wy (wc_lg c) (j * wc_lg c) p) (h : post 0) :
    wpX_wordFrom post (1, nI (j * wc_lg c), wc_bits (nI c) j, fnd, ltr, a1, a2, a3, a4, a5, a6, a7, a8, a9, a10, a11) (nI (p * wc_lg c)) 0 := by
  have hpm : p * wc_lg c + wc_lg c ≤ j * wc_lg c := by
    rw [← Nat.succ_mul]
    exact Nat.mul_le_mul_right _ hp
  refine ⟨1, br_f (by decide) (wc_stands_yes hc2 hc ha hj hp (br_f (by decide) ⟨pk_in 0 6 (by omega), wc_sizeOf _ ?_⟩))⟩
  rw [sb_cl0, ha, wc_sz_lg c hc, nI_add, nI_clamp (by omega)]
  have e : a3 (p * wc_lg c + wc_lg c) = 1 := by
    rw [hI _ hpm]
    unfold wc_wy
    rw [← Nat.succ_mul, ← Nat.sub_mul, Nat.mul_mod_left, if_pos rfl]
  rw [e]
  exact ⟨vp_in_nI (by omega) (by omega), nm_e (br_f (by decide) h)⟩
theorem wc_read1 {post : Int32 → St2 → Prop} {fnd ltr : Int32} {a1 a2 a3 a4 a5 a6 a7 a8 a9 a10 a11 : Nat → Int32} {c j q : Nat} (hc2 : 2 ≤ c) (hc : c < 128) (ha : a1 0 = nI c) (hj : j * wc_lg c ≤ 16) (hq : q ≤ 16)
    (h : ∀ a3 a4, post (if q < j then 0 else -4) (1, nI (j * wc_lg c), wc_bits (nI c) j, fnd, ltr, a1, a2, a3, a4, a5, a6, a7, a8, a9, a10, a11)) : wpX_read post (1, nI (j * wc_lg c), wc_bits (nI c) j, fnd, ltr, a1, a2, a3, a4, a5, a6, a7, a8, a9, a10, a11) 0 (nI q) := by
  have m1 := wc_lg_pos hc2
  have hj16 : j ≤ j * wc_lg c := Nat.le_mul_of_pos_right j m1
  refine wc_findWays hc2 hc ha hj (fun a3 a4 hI => ?_)
  have e : a3 0 = 1 := by rw [(hI 0 (by omega)).1, wc_w0]
  refine br_f (by decide) (br_f (by rw [e]; decide) (br_t (nI_pos' (by omega)) ?_))
  have key : ∃ n, wX_read_33 post (nI q) 1 (nI (j * wc_lg c)) (wc_bits (nI c) j) fnd ltr a1 a2 a3 a4 a5 a6 a7 a8 a9 a10 a11 n (nI (0 * wc_lg c)) 0 (nI 0) := by
    refine pk_loop (fun n p (_ : Unit) => wX_read_33 post (nI q) 1 (nI (j * wc_lg c)) (wc_bits (nI c) j) fnd ltr a1 a2 a3 a4 a5 a6 a7 a8 a9 a10 a11 n (nI (p * wc_lg c)) 0 (nI p)) (fun _ _ => True) (min q j) 0 () (by omega) trivial ?_ ?_
    · intro n _ _
      by_cases z : q < j
      · rw [show min q j = q by omega]
        have hpm : q * wc_lg c < j * wc_lg c := Nat.mul_lt_mul_of_pos_right z (by omega)
        refine pk_le (j * wc_lg c) (q * wc_lg c) (fun z => absurd z (by omega)) (fun _ => wc_wordFrom hc2 hc ha hj z (fun p hp => (hI p hp).1) (br_f (by decide) (br_t rfl ?_)))
        have h' := h a3 a4
        rw [if_pos z] at h'
        exact h'
      · rw [show min q j = j by omega]
        refine pk_le (j * wc_lg c) (j * wc_lg c) (fun _ => ?_) (fun z => absurd z (by omega))
        have h' := h a3 a4
        rw [if_neg z] at h'
        exact h'
    · intro n p _ hp _ hw
      have hpm : p * wc_lg c < j * wc_lg c := Nat.mul_lt_mul_of_pos_right (by omega) (by omega)
      refine pk_le (j * wc_lg c) (p * wc_lg c) (fun z => absurd z (by omega)) (fun _ => wc_wordFrom hc2 hc ha hj (by omega) (fun p hp => (hI p hp).1) (br_f (by decide) (br_f (fun z => ?_) ?_)))
      · have := (nI_eq (by omega) (by omega)).mp z
        omega
      · refine ⟨1, br_t (by decide) (nm_r (e' := 0) (by decide) ⟨pk_in 0 6 (by omega), wc_sizeOf _ ?_⟩)⟩
        rw [sb_cl0, ha, wc_sz_lg c hc]
        refine nm_r (e' := nI ((p + 1) * wc_lg c)) ?_ (nm_r (nI_1 p) (hw () trivial))
        rw [nI_add, Nat.succ_mul]
  rw [Nat.zero_mul] at key
  exact key
end
section
def wc_bb : Nat → Int32
  | 0 => 0
  | y + 1 => 2 * wc_bb y + (nI y &&& 1)
theorem wc_1032 {post : Int32 → St0 → Prop} {mc ms kc ks : Nat} {cnt fnd ltr : Int32} {a1 a2 a3 a4 a5 a6 a7 a8 a9 a10 a11 : Nat → Int32} (hp : post 1 ()) : ∃ n, wL_lawOf_1032 post mc ms kc ks n 0 cnt 0 0 fnd ltr a1 a2 a3 a4 a5 a6 a7 a8 a9 a10 a11 := by
  refine pk_loop (fun n y (_ : Unit) => wL_lawOf_1032 post mc ms kc ks n (nI y) cnt (nI y) (wc_bb y) fnd ltr a1 a2 a3 a4 a5 a6 a7 a8 a9 a10 a11) (fun _ _ => True) 16 0 () (by omega) trivial ?_ ?_
  · intro n _ _
    refine pk_le 16 16 (fun _ => wc_bit_full (by decide) (by decide) rfl (br_t rfl (wc_bit_bad (Or.inr (by decide)) (br_t rfl ?_)))) (fun z => absurd z (by omega))
    refine br_t (by decide) ?_
    refine br_t rfl ?_
    exact br_t (by decide) hp
  · intro n y _ hy _ hw
    have ea : nI y &&& 1 = nI (y % 2) := pk_andN (by omega) 1 (by decide)
    refine pk_le 16 y (fun z => absurd z (by omega)) (fun _ => wc_bit_ok ?_ ?_ ?_ (br_t rfl ?_))
    · rw [ea]
      exact nI_pos (by omega)
    · rw [ea]
      exact nI_le (b := 1) (by omega) (by omega)
    · intro z
      have := (nI_eq (b := 16) (by omega) (by omega)).mp z
      omega
    · rw [nI_1 y]
      exact nm_e (hw () trivial)
theorem wc_999 {post : Int32 → St0 → Prop} {mc ms kc ks : Nat} {cnt fnd ltr : Int32} {a1 a2 a3 a4 a5 a6 a7 a8 a9 a10 a11 : Nat → Int32} {x5 x13 z0 z1 : Int32} (hp : post 1 ()) (hz : z1 = z0) (hc : 0 ≤ cnt)
    (hr : ∀ P : Int32 → St2 → Prop, P (-4) (cnt, 0, 0, fnd, ltr, a1, a2, a3, a4, a5, a6, a7, a8, a9, a10, a11) → wpX_remove P (cnt, 0, 0, fnd, ltr, a1, a2, a3, a4, a5, a6, a7, a8, a9, a10, a11) x13) : wL_lawOf_999 post mc ms x5 x13 z0 z1 kc ks cnt 0 0 fnd ltr a1 a2 a3 a4 a5 a6 a7 a8 a9 a10 a11 :=
  br_t hz (hr _ (br_t rfl (br_c (fun _ => br_t hc (wc_1032 hp)) (fun _ => wc_1032 hp))))
theorem wc_934_eq {post : Int32 → St0 → Prop} {mc ms kc ks : Nat} {fnd ltr : Int32} {a1 a2 a3 a4 a5 a6 a7 a8 a9 a10 a11 : Nat → Int32} {x5 : Int32} {t : Nat} (hp : post 1 ()) (ht2 : 2 ≤ t) (ht : t < 128) (ha : a1 0 = nI t) :
    wL_lawOf_934 post mc ms x5 (nI t) (nI t) 0 kc ks 1 0 0 fnd ltr a1 a2 a3 a4 a5 a6 a7 a8 a9 a10 a11 := by
  refine wc_add_same ht2 ht ha (br_t rfl (br_t rfl ?_))
  refine br_t rfl (wc_word_at 0 (by omega) (by decide) (br_t ha (wc_rem1 ha (br_t rfl ?_))))
  exact wc_999 hp rfl (by decide) (fun P h => wc_rem0 h)
theorem wc_934_lo {post : Int32 → St0 → Prop} {mc ms kc ks : Nat} {fnd ltr : Int32} {a1 a2 a3 a4 a5 a6 a7 a8 a9 a10 a11 : Nat → Int32} {x5 : Int32} {t x : Nat} (hp : post 1 ()) (hx2 : 2 ≤ x) (ht : t < 128) (hx : x < t) (ha : a1 0 = nI t) :
    wL_lawOf_934 post mc ms x5 (nI t) (nI x) 0 kc ks 1 0 0 fnd ltr a1 a2 a3 a4 a5 a6 a7 a8 a9 a10 a11 := by
  have hne : ¬ nI x = nI t := fun z => by
    have := (nI_eq (by omega) (by omega)).mp z
    omega
  refine wc_add_lo ht hx2 hx ha (fun a1 h0 h1 => br_t rfl (br_f hne ?_))
  refine br_t rfl (wc_word_at 0 (by omega) (by decide) (br_t h0 (wc_rem2_lo ht h0 h1 (fun a1 h0 => br_f hne ?_))))
  exact wc_999 hp rfl (by decide) (fun P h => wc_rem1_no (fun z => hne (z.symm.trans h0)) h)
theorem wc_934_hi {post : Int32 → St0 → Prop} {mc ms kc ks : Nat} {fnd ltr : Int32} {a1 a2 a3 a4 a5 a6 a7 a8 a9 a10 a11 : Nat → Int32} {x5 : Int32} {t x : Nat} (hp : post 1 ()) (hx2 : 2 ≤ x) (hx : x < 128) (htx : t < x) (ha : a1 0 = nI t) :
    wL_lawOf_934 post mc ms x5 (nI t) (nI x) 1 kc ks 1 0 0 fnd ltr a1 a2 a3 a4 a5 a6 a7 a8 a9 a10 a11 := by
  have hne : ¬ nI x = nI t := fun z => by
    have := (nI_eq (by omega) (by omega)).mp z
    omega
  refine wc_add_hi hx2 hx htx ha (fun a1 h0 h1 => br_t rfl (br_f hne ?_))
  refine br_t rfl (wc_word_at 1 (by omega) (by decide) (br_t h1 (wc_rem2_hi hx htx h0 h1 (br_f hne ?_))))
  exact wc_999 hp rfl (by decide) (fun P h => wc_rem1_no (fun z => hne (z.symm.trans h0)) h)
theorem wc_app1 {post : Int32 → St2 → Prop} {len bits fnd ltr : Int32} {a1 a2 a3 a4 a5 a6 a7 a8 a9 a10 a11 : Nat → Int32} {c : Nat} (j : Nat) (hc : c < 128) (ha : a1 0 = nI c) (hl : len = nI (j * wc_lg c)) (hb : bits = wc_bits (nI c) j) (hj : (j + 1) * wc_lg c ≤ 16)
    (h : post (nI ((j + 1) * wc_lg c)) (1, nI ((j + 1) * wc_lg c), wc_bits (nI c) (j + 1), fnd, ltr, a1, a2, a3, a4, a5, a6, a7, a8, a9, a10, a11)) : wpX_append post (1, len, bits, fnd, ltr, a1, a2, a3, a4, a5, a6, a7, a8, a9, a10, a11) 0 := by
  subst hl hb
  rw [Nat.succ_mul] at h hj
  exact wc_app_ok hc ha hj h
theorem wc_xx (x : Int32) : ∃ k : Nat, 2 ≤ k ∧ k < 128 ∧ 2 + ((x &&& 127) - (x &&& 127) / 126 * 126) = nI k := by
  obtain ⟨j, hj, e⟩ := pk_andE x (m := 127) 7 (by decide)
  refine ⟨2 + j % 126, by omega, by omega, ?_⟩
  have hr : nI j - nI j / 126 * 126 = nI (j % 126) := pk_rem (d := 126) (by omega) (by omega) (by omega)
  rw [e, hr, ← nI_add]
  rfl
theorem wc_794 {post : Int32 → St0 → Prop} {mc ms kc ks : Nat} {fnd ltr : Int32} {a1 a2 a3 a4 a5 a6 a7 a8 a9 a10 a11 : Nat → Int32} {x1 x5 : Int32} {c : Nat} (hp : post 1 ()) (hc2 : 2 ≤ c) (hc : c < 128) (ha : a1 0 = nI c) :
    ∃ n, wL_lawOf_794 post mc ms x1 x5 (nI (wc_lg c)) (nI (wc_turned c)) kc ks n 2 1 (nI (2 * wc_lg c)) (wc_bits (nI c) 2) fnd ltr a1 a2 a3 a4 a5 a6 a7 a8 a9 a10 a11 := by
  have m1 := wc_lg_pos hc2
  have m6 := wc_lg_le c
  have ht := wc_turned_in c hc hc2
  have hJ : 16 / wc_lg c * wc_lg c ≤ 16 := Nat.div_mul_le_self 16 _
  have hJ2 : 2 ≤ 16 / wc_lg c := (Nat.le_div_iff_mul_le (by omega)).mpr (by omega)
  have hJ16 : 16 / wc_lg c ≤ 16 := Nat.div_le_self _ _
  have hJf : 16 < 16 / wc_lg c * wc_lg c + wc_lg c := by
    have e := Nat.div_add_mod 16 (wc_lg c)
    have l := Nat.mod_lt 16 (show wc_lg c > 0 by omega)
    rw [Nat.mul_comm] at e
    omega
  have ed : (16 : Int32) / nI (wc_lg c) = nI (16 / wc_lg c) := pk_div (a := 16) (by omega) (by omega) (by omega)
  refine pk_loop (fun n j (_ : Unit) => wL_lawOf_794 post mc ms x1 x5 (nI (wc_lg c)) (nI (wc_turned c)) kc ks n (nI j) 1 (nI (j * wc_lg c)) (wc_bits (nI c) j) fnd ltr a1 a2 a3 a4 a5 a6 a7 a8 a9 a10 a11) (fun _ _ => True) (16 / wc_lg c) 2 () hJ2 trivial ?_ ?_
  · intro n _ _
    have em : nI (16 / wc_lg c) - 1 = nI (16 / wc_lg c - 1) := pk_sub (b := 1) (by omega)
    unfold wL_lawOf_794
    refine wc_app_full hc ha hJf hJ (br_t (by decide) ⟨nI_ne0 (by omega) (by omega), br_t ed.symm ?_⟩)
    refine wc_app_full hc ha hJf hJ (br_t rfl (wc_readings1 hc2 hc ha hJ (fun a3 a4 => br_t rfl ?_)))
    rw [em]
    refine wc_read1 hc2 hc ha hJ (by omega) (fun a3 a4 => br_t (if_pos (by omega)) (wc_read1 hc2 hc ha hJ (by omega) (fun a3 a4 => br_t (if_neg (by omega)) ?_)))
    refine br_t (pk_mul _ _).symm (wc_rev1 hc2 hc ha (fun a1 a2 ha => br_t rfl (wc_word_at 0 (by omega) (by decide) (br_t ha ⟨by decide, ?_⟩))))
    obtain ⟨x, hx2, hx, ex⟩ := wc_xx x1
    refine nm_r ex (pk_eq x (wc_turned c) (fun z => ?_) (fun z => pk_le (wc_turned c) x (fun z2 => ?_) (fun z2 => ?_)))
    · rw [z]
      exact wc_934_eq hp ht.1 ht.2 ha
    · exact wc_934_hi hp hx2 hx (by omega) ha
    · exact wc_934_lo hp hx2 ht.2 z2 ha
  · intro n j _ hj _ hw
    have hle : (j + 1) * wc_lg c ≤ 16 := Nat.le_trans (Nat.mul_le_mul_right _ hj) hJ
    have hpos : 0 < (j + 1) * wc_lg c := Nat.mul_pos (by omega) (by omega)
    unfold wL_lawOf_794
    exact wc_app1 j hc ha rfl rfl hle (br_f (nI_nle hpos (by omega)) (nm_r (nI_1 j) (hw () trivial)))
theorem wc_row1 : ∀ n, n < 128 → 2 ≤ n → (((1 : Int32) <<< (nI (1 * wc_lg n) &&& 31)) ||| wc_bits (nI n) 1) = nI n := by decide +kernel
theorem wc_row2 : ∀ n, n < 128 → 2 ≤ n → (((1 : Int32) <<< (nI (2 * wc_lg n) &&& 31)) ||| wc_bits (nI n) 2) = ((nI n <<< (nI (wc_lg n) &&& 31)) + nI n) - ((1 : Int32) <<< (nI (wc_lg n) &&& 31)) := by decide +kernel
theorem wc_648 {post : Int32 → St0 → Prop} {mc ms kc ks : Nat} {fnd ltr : Int32} {a1 a2 a3 a4 a5 a6 a7 a8 a9 a10 a11 : Nat → Int32} {x1 x5 z0 z1 : Int32} {c : Nat} (hp : post 1 ()) (hz : z1 = z0) (hc2 : 2 ≤ c) (hc : c < 128) (ha : a1 0 = nI c) :
    wL_lawOf_648 post mc ms (nI c) x1 x5 (nI (wc_lg c)) (nI (wc_turned c)) z0 z1 kc ks 1 0 0 fnd ltr a1 a2 a3 a4 a5 a6 a7 a8 a9 a10 a11 := by
  have m1 := wc_lg_pos hc2
  have m6 := wc_lg_le c
  have h1 : (0 + 1) * wc_lg c ≤ 16 := by omega
  have h2 : (1 + 1) * wc_lg c ≤ 16 := by omega
  refine br_t hz (wc_app_none (Or.inr (by decide)) (br_t rfl ?_))
  refine wc_app1 0 hc ha (by rw [Nat.zero_mul]; rfl) rfl h1 (br_t (by rw [show (0 + 1) * wc_lg c = wc_lg c by omega]) ?_)
  refine br_t (wc_row1 c hc hc2) ?_
  refine wc_readings1 hc2 hc ha h1 (fun a3 a4 => br_t rfl ?_)
  refine wc_read1 (q := 0) hc2 hc ha h1 (by omega) (fun a3 a4 => br_t (if_pos (by omega)) ?_)
  refine wc_read1 (q := 1) hc2 hc ha h1 (by omega) (fun a3 a4 => br_t (if_neg (by omega)) ?_)
  refine wc_read_bad hc2 hc ha h1 (Or.inr (Or.inl (by decide))) (fun a3 a4 => br_t rfl ?_)
  refine wc_read_bad hc2 hc ha h1 (Or.inr (Or.inr (by decide))) (fun a3 a4 => br_t rfl ?_)
  refine wc_fewest1 hc2 hc ha h1 (fun a3 a4 => br_t rfl ?_)
  refine wc_app1 1 hc ha rfl rfl h2 (br_t (pk_mul 2 _).symm ?_)
  refine br_t (wc_row2 c hc hc2) ?_
  refine wc_fewest1 hc2 hc ha h2 (fun a3 a4 => br_t rfl ?_)
  exact wc_794 hp hc2 hc ha
end
section
/-- a flag: the number lies in 0..K, or not -/
def wc_fl (K : Nat) (n x : Int32) : Prop := (x = 0 ∧ (n < 0 ∨ ¬ n ≤ nI K)) ∨ (∃ N : Nat, N ≤ K ∧ n = nI N ∧ ¬ x = 0)
theorem wc_one0 {len bits : Int32} {a1 : Nat → Int32} : wc_one_ok wc_st0 0 len bits a1 :=
  fun _ _ _ _ _ _ _ _ _ _ _ _ _ _ _ h => wc_oneMore0 h
theorem wc_one1 {len bits c : Int32} {a1 : Nat → Int32} (ha : a1 0 = c) : wc_one_ok (wc_st1 c) 1 len bits a1 :=
  fun _ _ _ _ _ _ _ _ _ _ _ _ _ _ _ h => wc_oneMore1 ha h
theorem wc_618 {post : Int32 → St0 → Prop} {mc ms kc ks : Nat} {fnd ltr : Int32} {a1 a2 a3 a4 a5 a6 a7 a8 a9 a10 a11 : Nat → Int32} {x1 x3 x5 x9 z0 z1 : Int32} {c : Nat} (hp : post 1 ()) (hz : z1 = z0) (hc2 : 2 ≤ c) (hc : c < 128) (ha : a1 0 = nI c) (h9 : wc_fl 16 x3 x9) :
    wL_lawOf_618 post mc ms (nI c) x1 x3 x5 x9 (nI (wc_lg c)) (nI (wc_turned c)) z0 z1 kc ks 1 0 0 fnd ltr a1 a2 a3 a4 a5 a6 a7 a8 a9 a10 a11 := by
  have m1 := wc_lg_pos hc2
  have m6 := wc_lg_le c
  refine br_t hz ?_
  rcases h9 with ⟨h9, hb⟩ | ⟨N, hN, rfl, h9⟩
  · exact wc_total_bad hb (br_t h9 (wc_648 hp rfl hc2 hc ha))
  · refine wc_total1 hc2 hc ha hN (fun a9 => br_f h9 ⟨nI_ne0 (by omega) (by omega), ?_⟩)
    rw [pk_rem (by omega) (by omega) (by omega)]
    refine pk_eq (N % wc_lg c) 0 (fun z => wc_648 hp (if_pos z) hc2 hc ha) (fun z => wc_648 hp (if_neg z) hc2 hc ha) rfl rfl (Nat.lt_of_le_of_lt (Nat.mod_le _ _) (by omega))
theorem wc_586 {post : Int32 → St0 → Prop} {mc ms kc ks : Nat} {fnd ltr : Int32} {a1 a2 a3 a4 a5 a6 a7 a8 a9 a10 a11 : Nat → Int32} {x1 x3 x5 x8 x9 z0 z1 : Int32} {c : Nat} (hp : post 1 ()) (hz : z1 = z0) (hc2 : 2 ≤ c) (hc : c < 128) (ha : a1 0 = nI c) (h8 : wc_fl 10 x3 x8) (h9 : wc_fl 16 x3 x9) :
    wL_lawOf_586 post mc ms (nI c) x1 x3 x5 x8 x9 (nI (wc_lg c)) (nI (wc_turned c)) z0 z1 kc ks 1 0 0 fnd ltr a1 a2 a3 a4 a5 a6 a7 a8 a9 a10 a11 := by
  have m1 := wc_lg_pos hc2
  have m6 := wc_lg_le c
  refine br_t hz ?_
  rcases h8 with ⟨h8, hb⟩ | ⟨N, hN, rfl, h8⟩
  · exact wc_messages_bad hb (br_t h8 (wc_618 hp rfl hc2 hc ha h9))
  · refine wc_messages (wc_one1 ha) hN (fun fnd ltr a5 a6 a7 a8 => br_f h8 ⟨nI_ne0 (by omega) (by omega), ?_⟩)
    have e := wc_main1 (t := 1) hc2 hc (Or.inl rfl) N
    rw [pk_rem (by omega) (by omega) (by omega)]
    refine pk_eq (N % wc_lg c) 0 (fun z => wc_618 hp ?_ hc2 hc ha h9) (fun z => wc_618 hp ?_ hc2 hc ha h9) rfl rfl (Nat.lt_of_le_of_lt (Nat.mod_le _ _) (by omega))
    · rw [if_pos z] at e
      exact e
    · rw [if_neg z] at e
      exact e
theorem wc_472_end {post : Int32 → St0 → Prop} {mc ms kc ks : Nat} {fnd ltr : Int32} {a1 a2 a3 a4 a5 a6 a7 a8 a9 a10 a11 : Nat → Int32} {x1 x3 x5 x8 x9 : Int32} {c : Nat} (hp : post 1 ()) (hc2 : 2 ≤ c) (hc : c < 128) (ha : a1 0 = nI c) (h8 : wc_fl 10 x3 x8) (h9 : wc_fl 16 x3 x9) (n r : Nat) (hr : r ≤ 1) :
    wL_lawOf_472 post mc ms (nI c) x1 x3 x5 x8 x9 kc ks 1 0 0 fnd ltr a1 a2 a3 a4 a5 a6 a7 a8 a9 a10 a11 (n + 1) (nI (wc_lg c)) (nI (wc_turned c)) (nI r) := by
  refine pk_le r 1 (fun _ => ?_) (fun z => absurd z (by omega))
  refine wc_word_at 0 (by omega) (by decide) (br_t ha ?_)
  refine wc_word_none (Or.inr (by decide)) (br_t rfl ?_)
  refine wc_word_none (Or.inl (by decide)) (br_t rfl ?_)
  refine wc_isClear (Or.inr rfl) (fun a10 a11 => br_t rfl ?_)
  refine wc_shortest (Or.inr rfl) (fun a10 a11 => br_t rfl ?_)
  refine wc_free (Or.inr rfl) (br_t rfl ?_)
  refine wc_weight1 hc2 hc ha (br_t rfl ?_)
  have h8' := h8
  rcases h8' with ⟨e8, hb⟩ | ⟨N, hN, rfl, e8⟩
  · exact wc_doubtful_bad hb (br_t e8 (wc_586 hp rfl hc2 hc ha h8 h9))
  · refine wc_doubtful (wc_one1 ha) hN (fun fnd ltr a5 a6 a7 a8 => br_f e8 (wc_586 hp ?_ hc2 hc ha h8 h9))
    have e := wc_main1 (t := 2) hc2 hc (Or.inr rfl) N
    rw [if_neg (show ¬ 2 ≤ 1 by omega), ite_self] at e
    exact e
def wc_rc : Nat → Nat → Nat → Nat
  | 0, _, m => m
  | k + 1, r, m => if r ≤ 1 then m else wc_rc k (r / 2) (m + 1)
theorem wc_rc_lg : ∀ n, n < 128 → wc_rc 6 n 0 = wc_lg n := by decide +kernel
theorem wc_472_loop {post : Int32 → St0 → Prop} {mc ms kc ks : Nat} {cnt len bits fnd ltr : Int32} {a1 a2 a3 a4 a5 a6 a7 a8 a9 a10 a11 : Nat → Int32} {x0 x1 x3 x5 x8 x9 : Int32} : ∀ (k m r o : Nat), r < 2 ^ (k + 1) → r < 128 →
    (∀ n r', r' ≤ 1 → wL_lawOf_472 post mc ms x0 x1 x3 x5 x8 x9 kc ks cnt len bits fnd ltr a1 a2 a3 a4 a5 a6 a7 a8 a9 a10 a11 (n + 1) (nI (wc_rc k r m)) (nI (wc_rv k r o)) (nI r')) →
    wL_lawOf_472 post mc ms x0 x1 x3 x5 x8 x9 kc ks cnt len bits fnd ltr a1 a2 a3 a4 a5 a6 a7 a8 a9 a10 a11 (k + 1) (nI m) (nI o) (nI r) := by
  intro k
  induction k with
  | zero => exact fun m r o hr _ h => h 0 r (by omega)
  | succ k ih =>
    intro m r o hr hr2 h
    by_cases z : r ≤ 1
    · have e1 : wc_rc (k + 1) r m = m := if_pos z
      have e2 : wc_rv (k + 1) r o = o := if_pos z
      rw [e1, e2] at h
      exact h (k + 1) r z
    · have e1 : wc_rc (k + 1) r m = wc_rc k (r / 2) (m + 1) := if_neg z
      have e2 : wc_rv (k + 1) r o = wc_rv k (r / 2) (2 * o + r % 2) := if_neg z
      rw [e1, e2] at h
      have hr' : r / 2 < 2 ^ (k + 1) := by
        rw [Nat.pow_succ] at hr
        omega
      exact pk_le r 1 (fun z2 => absurd z2 z) (fun _ => nm_r (wc_turnstep o r hr2).1 (nm_r (nI_1 m) (nm_r (wc_turnstep o r hr2).2 (ih (m + 1) (r / 2) _ hr' (by omega) h))))
theorem wc_472 {post : Int32 → St0 → Prop} {mc ms kc ks : Nat} {fnd ltr : Int32} {a1 a2 a3 a4 a5 a6 a7 a8 a9 a10 a11 : Nat → Int32} {x1 x3 x5 x8 x9 : Int32} {c : Nat} (hp : post 1 ()) (hc2 : 2 ≤ c) (hc : c < 128) (ha : a1 0 = nI c) (h8 : wc_fl 10 x3 x8) (h9 : wc_fl 16 x3 x9) :
    ∃ n, wL_lawOf_472 post mc ms (nI c) x1 x3 x5 x8 x9 kc ks 1 0 0 fnd ltr a1 a2 a3 a4 a5 a6 a7 a8 a9 a10 a11 n 0 1 (nI c) := by
  refine ⟨7, wc_472_loop 6 0 c 1 (by omega) hc (fun n r' hr' => ?_)⟩
  rw [wc_rc_lg c hc]
  exact wc_472_end hp hc2 hc ha h8 h9 n r' hr'
/-- the words after add(code): none, or the one code -/
def wc_W (x0 x7 cnt : Int32) (a1 : Nat → Int32) : Prop := (x7 = 0 ∧ cnt = 0 ∧ (x0 < 2 ∨ ¬ x0 < 128)) ∨ (∃ c : Nat, 2 ≤ c ∧ c < 128 ∧ x0 = nI c ∧ ¬ x7 = 0 ∧ cnt = 1 ∧ a1 0 = nI c)
theorem wc_407 {post : Int32 → St0 → Prop} {mc ms kc ks : Nat} {cnt fnd ltr : Int32} {a1 a2 a3 a4 a5 a6 a7 a8 a9 a10 a11 : Nat → Int32} {x0 x1 x3 x5 x7 x8 x9 z0 z1 : Int32} (hp : post 1 ()) (hz : z1 = z0) (hW : wc_W x0 x7 cnt a1) (h8 : wc_fl 10 x3 x8) (h9 : wc_fl 16 x3 x9) :
    wL_lawOf_407 post mc ms x0 x1 x3 x5 x7 x8 x9 z0 z1 kc ks cnt 0 0 fnd ltr a1 a2 a3 a4 a5 a6 a7 a8 a9 a10 a11 := by
  refine br_t hz ?_
  rcases hW with ⟨e7, rfl, _⟩ | ⟨c, hc2, hc, rfl, e7, rfl, ha⟩
  · refine br_t e7 (wc_add_bad (Or.inl (by decide)) (br_t rfl (wc_add_bad (Or.inr (by decide)) (br_t rfl (br_t rfl ?_)))))
    exact wc_total0 (N := 0) (by omega) (fun a9 => br_t rfl hp)
  · exact br_f e7 (wc_472 hp hc2 hc ha h8 h9)
theorem wc_375 {post : Int32 → St0 → Prop} {mc ms kc ks : Nat} {cnt len bits fnd ltr : Int32} {a1 a2 a3 a4 a5 a6 a7 a8 a9 a10 a11 : Nat → Int32} {x0 x1 x2 x3 x5 x7 x8 x9 z0 z1 : Int32} (hp : post 1 ()) (hz : z1 = z0) (hb : ((x2 = 0 ∨ x2 = 1) ∧ len = 1) ∨ (¬ x2 = 0 ∧ ¬ x2 = 1 ∧ len = 0)) (hW : wc_W x0 x7 cnt a1) (h8 : wc_fl 10 x3 x8) (h9 : wc_fl 16 x3 x9) :
    wL_lawOf_375 post mc ms x0 x1 x2 x3 x5 x7 x8 x9 z0 z1 kc ks cnt len bits fnd ltr a1 a2 a3 a4 a5 a6 a7 a8 a9 a10 a11 := by
  refine br_t hz (wc_bit_bad (Or.inr (by decide)) (br_t rfl ?_))
  rcases hb with ⟨h2 | h2, rfl⟩ | ⟨h2, h3, rfl⟩
  · exact br_t h2 (wc_407 hp rfl hW h8 h9)
  · exact br_f (by rw [h2]; decide) (br_t h2 (wc_407 hp rfl hW h8 h9))
  · exact br_f h2 (br_f h3 (wc_407 hp rfl hW h8 h9))
theorem wc_326 {post : Int32 → St0 → Prop} {mc ms kc ks : Nat} {cnt fnd ltr : Int32} {a1 a2 a3 a4 a5 a6 a7 a8 a9 a10 a11 : Nat → Int32} {x0 x1 x2 x3 x5 x7 x8 x9 z0 z1 : Int32} (hp : post 1 ()) (hz : z1 = z0) (hW : wc_W x0 x7 cnt a1) (h8 : wc_fl 10 x3 x8) (h9 : wc_fl 16 x3 x9) :
    wL_lawOf_326 post mc ms x0 x1 x2 x3 x5 x7 x8 x9 z0 z1 kc ks cnt 0 0 fnd ltr a1 a2 a3 a4 a5 a6 a7 a8 a9 a10 a11 := by
  refine br_t hz ?_
  by_cases e0 : x2 = 0
  · subst e0
    refine wc_bit_ok (by decide) (by decide) (by decide) (br_t rfl ?_)
    refine br_t (by decide) (br_t rfl ?_)
    exact wc_375 hp (by decide) (Or.inl ⟨Or.inl rfl, by decide⟩) hW h8 h9
  · by_cases e1 : x2 = 1
    · subst e1
      refine wc_bit_ok (by decide) (by decide) (by decide) (br_f (by decide) (br_t rfl ?_))
      refine br_t (by decide) (br_f (by decide) (br_t rfl ?_))
      exact wc_375 hp (by decide) (Or.inl ⟨Or.inr rfl, by decide⟩) hW h8 h9
    · refine wc_bit_bad ?_ (br_f e0 (br_f e1 (br_t rfl (br_f e0 (br_f e1 ?_)))))
      · by_cases hn : x2 < 0
        · exact Or.inl hn
        · refine Or.inr (fun h1 => ?_)
          obtain ⟨j, hj, rfl⟩ := nI_of2 (n := 1) (by decide) hn h1
          have : j = 0 ∨ j = 1 := by omega
          rcases this with rfl | rfl
          · exact e0 rfl
          · exact e1 rfl
      · exact wc_375 hp (by decide) (Or.inr ⟨e0, e1, rfl⟩) hW h8 h9
theorem wc_229 {post : Int32 → St0 → Prop} {mc ms kc ks : Nat} {fnd ltr : Int32} {a1 a2 a3 a4 a5 a6 a7 a8 a9 a10 a11 : Nat → Int32} {x0 x1 x2 x3 x4 x5 x7 x8 x9 z0 z1 : Int32} (hp : post 1 ()) (hz : z1 = z0)
    (h7 : (x7 = 0 ∧ (x0 < 2 ∨ ¬ x0 < 128)) ∨ (∃ c : Nat, 2 ≤ c ∧ c < 128 ∧ x0 = nI c ∧ ¬ x7 = 0)) (h8 : wc_fl 10 x3 x8) (h9 : wc_fl 16 x3 x9) :
    wL_lawOf_229 post mc ms x0 x1 x2 x3 x4 x5 x7 x8 x9 z0 z1 kc ks 0 0 0 fnd ltr a1 a2 a3 a4 a5 a6 a7 a8 a9 a10 a11 := by
  have h4 : x4 < 0 ∨ ¬ x4 < 0 := Decidable.em _
  refine br_t hz (wc_app_none h4 (br_t rfl (wc_rem0 (br_t rfl (wc_rev0 (br_t rfl (br_t rfl ?_)))))))
  rcases h7 with ⟨e7, hb⟩ | ⟨c, hc2, hc, rfl, e7⟩
  · refine wc_add_bad hb (br_t e7 (br_t rfl (wc_add_bad hb (br_t e7 (br_t rfl (br_t e7 ?_))))))
    exact wc_326 hp rfl (Or.inl ⟨e7, rfl, hb⟩) h8 h9
  · refine wc_add0 hc2 hc (fun a1 ha => br_f e7 (br_t rfl (wc_add_same hc2 hc ha (br_f e7 (br_t rfl (br_f e7 ?_))))))
    exact wc_326 hp rfl (Or.inr ⟨c, hc2, hc, rfl, e7, rfl, ha⟩) h8 h9
theorem wc_202 {post : Int32 → St0 → Prop} {mc ms kc ks : Nat} {fnd ltr : Int32} {a1 a2 a3 a4 a5 a6 a7 a8 a9 a10 a11 : Nat → Int32} {x0 x1 x2 x3 x4 x5 x7 x8 x9 z0 z1 : Int32} (hp : post 1 ()) (hz : z1 = z0)
    (h7 : (x7 = 0 ∧ (x0 < 2 ∨ ¬ x0 < 128)) ∨ (∃ c : Nat, 2 ≤ c ∧ c < 128 ∧ x0 = nI c ∧ ¬ x7 = 0)) (h8 : wc_fl 10 x3 x8) (h9 : wc_fl 16 x3 x9) :
    wL_lawOf_202 post mc ms x0 x1 x2 x3 x4 x5 x7 x8 x9 z0 z1 kc ks 0 0 0 fnd ltr a1 a2 a3 a4 a5 a6 a7 a8 a9 a10 a11 := by
  refine br_t hz ?_
  have h9' := h9
  rcases h9' with ⟨e9, hb⟩ | ⟨N, hN, rfl, e9⟩
  · exact wc_total_bad hb (br_t e9 (wc_229 hp rfl h7 h8 h9))
  · refine wc_total0 hN (fun a9 => br_f e9 ?_)
    exact pk_eq N 0 (fun z => wc_229 hp (if_pos z) h7 h8 h9) (fun z => wc_229 hp (if_neg z) h7 h8 h9)
theorem wc_183 {post : Int32 → St0 → Prop} {mc ms kc ks : Nat} {fnd ltr : Int32} {a1 a2 a3 a4 a5 a6 a7 a8 a9 a10 a11 : Nat → Int32} {x0 x1 x2 x3 x4 x5 x7 x8 x9 z0 z1 : Int32} (hp : post 1 ()) (hz : z1 = z0)
    (h7 : (x7 = 0 ∧ (x0 < 2 ∨ ¬ x0 < 128)) ∨ (∃ c : Nat, 2 ≤ c ∧ c < 128 ∧ x0 = nI c ∧ ¬ x7 = 0)) (h8 : wc_fl 10 x3 x8) (h9 : wc_fl 16 x3 x9) :
    wL_lawOf_183 post mc ms x0 x1 x2 x3 x4 x5 x7 x8 x9 z0 z1 kc ks 0 0 0 fnd ltr a1 a2 a3 a4 a5 a6 a7 a8 a9 a10 a11 := by
  refine br_t hz ?_
  have h8' := h8
  rcases h8' with ⟨e8, hb⟩ | ⟨N, hN, rfl, e8⟩
  · exact wc_doubtful_bad hb (br_t e8 (wc_202 hp rfl h7 h8 h9))
  · refine wc_doubtful wc_one0 hN (fun fnd ltr a5 a6 a7 a8 => br_f e8 (wc_202 hp ?_ h7 h8 h9))
    have e := wc_main0 (t := 2) (Or.inr rfl) N
    rw [if_neg (show ¬ 2 ≤ 1 by omega), ite_self] at e
    exact e
theorem wc_60 {post : Int32 → St0 → Prop} {mc ms kc ks : Nat} {fnd ltr : Int32} {a1 a2 a3 a4 a5 a6 a7 a8 a9 a10 a11 : Nat → Int32} {x0 x1 x2 x3 x4 x5 x7 x8 x9 : Int32} (hp : post 1 ())
    (h7 : (x7 = 0 ∧ (x0 < 2 ∨ ¬ x0 < 128)) ∨ (∃ c : Nat, 2 ≤ c ∧ c < 128 ∧ x0 = nI c ∧ ¬ x7 = 0)) (h8 : wc_fl 10 x3 x8) (h9 : wc_fl 16 x3 x9) :
    wL_lawOf_60 post mc ms x0 x1 x2 x3 x4 x5 x7 x8 x9 kc ks 0 0 0 fnd ltr a1 a2 a3 a4 a5 a6 a7 a8 a9 a10 a11 := by
  have h4 : x4 < 0 ∨ ¬ x4 < 0 := Decidable.em _
  refine br_t rfl (wc_word_none h4 (br_t rfl (br_t (by decide) ?_)))
  refine wc_readings0 (fun a3 a4 => br_t rfl ?_)
  refine wc_read0 (fun a3 a4 => br_t rfl ?_)
  refine wc_fewest0 (fun a3 a4 => br_t rfl ?_)
  refine wc_isClear (Or.inl rfl) (fun a10 a11 => br_t rfl ?_)
  refine wc_shortest (Or.inl rfl) (fun a10 a11 => br_t rfl ?_)
  refine wc_free (Or.inl rfl) (br_t rfl ?_)
  refine wc_weight0 (br_t rfl ?_)
  have h8' := h8
  rcases h8' with ⟨e8, hb⟩ | ⟨N, hN, rfl, e8⟩
  · exact wc_messages_bad hb (br_t e8 (wc_183 hp rfl h7 h8 h9))
  · refine wc_messages wc_one0 hN (fun fnd ltr a5 a6 a7 a8 => br_f e8 ?_)
    have e := wc_main0 (t := 1) (Or.inl rfl) N
    refine pk_eq N 0 (fun z => wc_183 hp ?_ h7 h8 h9) (fun z => wc_183 hp ?_ h7 h8 h9)
    · rw [if_pos z] at e
      exact e
    · rw [if_neg z] at e
      exact e
theorem wc_26 {post : Int32 → St0 → Prop} {mc ms kc ks : Nat} {fnd ltr : Int32} {a1 a2 a3 a4 a5 a6 a7 a8 a9 a10 a11 : Nat → Int32} {x0 x1 x2 x3 x4 x5 x7 : Int32} (hp : post 1 ())
    (h7 : (x7 = 0 ∧ (x0 < 2 ∨ ¬ x0 < 128)) ∨ (∃ c : Nat, 2 ≤ c ∧ c < 128 ∧ x0 = nI c ∧ ¬ x7 = 0)) :
    wL_lawOf_26 post mc ms x0 x1 x2 x3 x4 x5 x7 kc ks 0 0 0 fnd ltr a1 a2 a3 a4 a5 a6 a7 a8 a9 a10 a11 := by
  have k43 : ∀ x8, wc_fl 10 x3 x8 → wL_lawOf_43 post mc ms x0 x1 x2 x3 x4 x5 x7 x8 kc ks 0 0 0 fnd ltr a1 a2 a3 a4 a5 a6 a7 a8 a9 a10 a11 := by
    intro x8 h8
    refine br_c (fun z => wc_60 hp h7 h8 (Or.inl ⟨rfl, Or.inl z⟩)) (fun z => br_c (fun z2 => wc_60 hp h7 h8 (Or.inl ⟨rfl, Or.inr (Int32.not_le.mpr z2)⟩)) (fun z2 => ?_))
    obtain ⟨j, hj, e⟩ := nI_of2 (n := 16) (by decide) z (Int32.not_lt.mp z2)
    exact wc_60 hp h7 h8 (Or.inr ⟨j, hj, e, by decide⟩)
  refine br_c (fun z => k43 0 (Or.inl ⟨rfl, Or.inl z⟩)) (fun z => br_c (fun z2 => k43 0 (Or.inl ⟨rfl, Or.inr (Int32.not_le.mpr z2)⟩)) (fun z2 => ?_))
  obtain ⟨j, hj, e⟩ := nI_of2 (n := 10) (by decide) z (Int32.not_lt.mp z2)
  exact k43 1 (Or.inr ⟨j, hj, e, by decide⟩)
theorem wc_lawOf {post : Int32 → St0 → Prop} {p0 p1 p2 p3 p4 p5 : Int32} (hp : post 1 ()) : wpL_lawOf post 12 4431 () p0 p1 p2 p3 p4 p5 := by
  refine ⟨by decide, by decide, 11, 4415, by decide, by decide, ?_⟩
  refine ⟨by decide, by decide, by decide, by decide, by decide, by decide, by decide, by decide, by decide, by decide, by decide, by decide, by decide, by decide, by decide, by decide, by decide, by decide, by decide, by decide, by decide, by decide, ?_⟩
  refine br_c (fun z => wc_26 hp (Or.inl ⟨rfl, Or.inl z⟩)) (fun z => br_c (fun z2 => wc_26 hp (Or.inl ⟨rfl, Or.inr (Int32.not_lt.mpr z2)⟩)) (fun z2 => ?_))
  obtain ⟨j, hj, rfl⟩ := nI_of (x := p0) (fun h => z (Int32.lt_trans h (by decide)))
  refine wc_26 hp (Or.inr ⟨j, ?_, ?_, rfl, by decide⟩)
  · rcases Nat.lt_or_ge j 2 with g | g
    · exact absurd (nI_lt (b := 2) g (by omega)) z
    · exact g
  · rcases Nat.lt_or_ge j 128 with g | g
    · exact g
    · exact absurd (nI_le (a := 128) g hj) z2
end
section
theorem wc_cell {post : Int32 → Prop} {L : Nat} {xs : Nat → Int32} (hL : L ≤ 6) (k : Nat) (hk : k < 6) (h : ∀ r, post r) : wpL_cellAt post L xs () (nI k) :=
  pk_le L k (fun _ => h _) (fun z => ⟨vp_in_nI z (by omega), h _⟩)
theorem i_vc (xs : Nat → Int32) (L : Nat) (hL : L ≤ 6) : wpL_law (fun r => r = 1) L xs :=
  wc_cell hL 0 (by omega) fun _ => wc_cell hL 1 (by omega) fun _ => wc_cell hL 2 (by omega) fun _ => wc_cell hL 3 (by omega) fun _ => wc_cell hL 4 (by omega) fun _ => wc_cell hL 5 (by omega) fun _ =>
    ⟨12, 4431, by decide, by decide, wc_lawOf rfl⟩
end
