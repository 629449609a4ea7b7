section
/-- the state behind the letters s, from state q, by the table d -/
def lz_run (d : Nat → Nat → Nat) : Nat → List Nat → Nat
  | q, [] => q
  | q, l :: s => lz_run d (d q l) s
/-- how many of the states on that way are m -/
def lz_hit (d : Nat → Nat → Nat) (m : Nat) : Nat → List Nat → Nat
  | _, [] => 0
  | q, l :: s => (if d q l = m then 1 else 0) + lz_hit d m (d q l) s
theorem lz_run_app (d : Nat → Nat → Nat) (s r : List Nat) : ∀ q, lz_run d q (s ++ r) = lz_run d (lz_run d q s) r := by
  induction s with
  | nil => intro q; rfl
  | cons x s ih => intro q; exact ih (d q x)
theorem lz_hit_app (d : Nat → Nat → Nat) (m : Nat) (s r : List Nat) : ∀ q, lz_hit d m q (s ++ r) = lz_hit d m q s + lz_hit d m (lz_run d q s) r := by
  induction s with
  | nil =>
    intro q
    exact (Nat.zero_add (lz_hit d m q r)).symm
  | cons x s ih =>
    intro q
    have h := ih (d q x)
    show (if d q x = m then 1 else 0) + lz_hit d m (d q x) (s ++ r) = ((if d q x = m then 1 else 0) + lz_hit d m (d q x) s) + lz_hit d m (lz_run d (d q x) s) r
    rw [h, Nat.add_assoc]
theorem lz_run_s (d : Nat → Nat → Nat) (q : Nat) (s : List Nat) (x : Nat) : lz_run d q (s ++ [x]) = d (lz_run d q s) x := lz_run_app d s [x] q
theorem lz_hit_s (d : Nat → Nat → Nat) (m q : Nat) (s : List Nat) (x : Nat) : lz_hit d m q (s ++ [x]) = lz_hit d m q s + (if d (lz_run d q s) x = m then 1 else 0) := lz_hit_app d m s [x] q
theorem lz_hit_le (d : Nat → Nat → Nat) (m : Nat) (s : List Nat) : ∀ q, lz_hit d m q s ≤ s.length := by
  induction s with
  | nil => intro q; exact Nat.le_refl 0
  | cons x s ih =>
    intro q
    have h := ih (d q x)
    show (if d q x = m then 1 else 0) + lz_hit d m (d q x) s ≤ s.length + 1
    by_cases e : d q x = m
    · rw [if_pos e]; omega
    · rw [if_neg e]; omega
theorem lz_hit_mono (d : Nat → Nat → Nat) (m : Nat) (tx : List Nat) {a b : Nat} (h : a ≤ b) : lz_hit d m 0 (tx.take a) ≤ lz_hit d m 0 (tx.take b) := by
  obtain ⟨j, rfl⟩ : ∃ j, b = a + j := ⟨b - a, by omega⟩
  rw [List.take_add, lz_hit_app]
  omega
/-- the table is sound for the pattern W: a state is so many letters of W that the text ends with -/
def lz_ok (W : List Nat) (d : Nat → Nat → Nat) : Prop := ∀ q, q ≤ W.length → ∀ l, l < 4 → d q l ≤ W.length ∧ W.take (d q l) <:+ W.take q ++ [l]
theorem lz_run_ok {W : List Nat} {d : Nat → Nat → Nat} (h : lz_ok W d) (s : List Nat) : ∀ (q : Nat) (s0 : List Nat), (∀ x, x ∈ s → x < 4) → q ≤ W.length → W.take q <:+ s0 → lz_run d q s ≤ W.length ∧ W.take (lz_run d q s) <:+ s0 ++ s := by
  induction s with
  | nil =>
    intro q s0 _ hq h0
    exact ⟨hq, by rw [List.append_nil]; exact h0⟩
  | cons x s ih =>
    intro q s0 hs hq h0
    have hx := h q hq x (hs x (by simp))
    have h1 : W.take (d q x) <:+ s0 ++ [x] := hx.2.trans (List.suffix_append_self_iff.mpr h0)
    have h2 := ih (d q x) (s0 ++ [x]) (fun y hy => hs y (List.mem_cons_of_mem _ hy)) hx.1 h1
    rw [List.append_assoc] at h2
    exact h2
theorem lz_run_le {W : List Nat} {d : Nat → Nat → Nat} (h : lz_ok W d) {s : List Nat} (hs : ∀ x, x ∈ s → x < 4) {q : Nat} (hq : q ≤ W.length) : lz_run d q s ≤ W.length :=
  (lz_run_ok h s q (W.take q) hs hq ⟨[], rfl⟩).1
/-- where the state is the whole pattern the text ends with it -/
theorem lz_end {W tx : List Nat} {d : Nat → Nat → Nat} {e : Nat} (h : lz_ok W d) (ht : ∀ x, x ∈ tx → x < 4) (he : e ≤ tx.length) (hr : lz_run d 0 (tx.take e) = W.length) : W.length ≤ e ∧ ∀ k, k < W.length → tx.getD (e - W.length + k) 0 = W.getD k 0 := by
  have h1 := (lz_run_ok h (tx.take e) 0 [] (fun x hx => ht x (List.mem_of_mem_take hx)) (Nat.zero_le _) ⟨[], rfl⟩).2
  rw [hr, List.take_length, List.nil_append] at h1
  obtain ⟨t, ht'⟩ := h1
  have hl : t.length + W.length = e := by
    have h3 := congrArg List.length ht'
    rw [List.length_append, List.length_take_of_le he] at h3
    exact h3
  refine ⟨by omega, fun k hk => ?_⟩
  have h4 : e - W.length = t.length := by omega
  have h3 : tx[t.length + k]? = (tx.take e)[t.length + k]? := (List.getElem?_take_of_lt (by omega)).symm
  rw [h4, List.getD_eq_getElem?_getD, List.getD_eq_getElem?_getD, h3, ← ht', List.getElem?_append_right (by omega), Nat.add_sub_cancel_left]
theorem lz_cnt (s : List Nat) (h : ∀ x, x ∈ s → x < 4) : s.count 0 + s.count 1 + s.count 2 + s.count 3 = s.length := by
  induction s with
  | nil => rfl
  | cons x s ih =>
    have h1 := ih (fun y hy => h y (List.mem_cons_of_mem _ hy))
    have h2 : x < 4 := h x (by simp)
    have h3 : x = 0 ∨ x = 1 ∨ x = 2 ∨ x = 3 := by omega
    rcases h3 with e | e | e | e <;> subst e <;> simp [List.count_cons] <;> omega
/-- a function with one place written -/
def lz_up {α : Type} (f : Nat → α) (k : Nat) (v : α) : Nat → α := fun j => if j = k then v else f j
theorem lz_up_s {α : Type} {f : Nat → α} {k : Nat} {v : α} : lz_up f k v k = v := if_pos rfl
theorem lz_up_n {α : Type} {f : Nat → α} {k j : Nat} {v : α} (h : j ≠ k) : lz_up f k v j = f j := if_neg h
theorem lz_ix4 (p l : Nat) : nI p * 4 + nI l = nI (p * 4 + l) := by
  rw [show (4 : Int32) = nI 4 from rfl, pk_mul, nI_add]
theorem lz_ix11 (p l : Nat) : nI p * 11 + nI l = nI (p * 11 + l) := by
  rw [show (11 : Int32) = nI 11 from rfl, pk_mul, nI_add]
theorem lz_byte : ∀ n, n < 128 → (nI n).toInt8.toInt32 = nI n := by decide +kernel
end
section
/-- phrase p of the dictionary is the word S p -/
def lz_Dp (S : Nat → List Nat) (N : Nat) (a1 a2 a3 a4 a5 : Nat → Int32) (p : Nat) : Prop :=
  (1 ≤ (S p).length ∧ (S p).length ≤ 120 ∧ ∀ x, x ∈ S p → x < 4) ∧ a3 p = nI (S p).length ∧
  (∃ x, x < 4 ∧ a2 p = nI x ∧ ((a1 p = -1 ∧ S p = [x]) ∨ ∃ r, r < p ∧ a1 p = nI r ∧ S p = S r ++ [x])) ∧
  (∀ l, l < 4 → a5 (p * 4 + l) = nI ((S p).count l)) ∧
  (∀ l, l < 4 → a4 (p * 4 + l) = -1 ∨ ∃ r, r < N ∧ a4 (p * 4 + l) = nI r ∧ S r = S p ++ [l])
/-- the dictionary: N phrases -/
def lz_D (S : Nat → List Nat) (N : Nat) (a1 a2 a3 a4 a5 : Nat → Int32) : Prop := ∀ p, p < N → lz_Dp S N a1 a2 a3 a4 a5 p
/-- a text that isn't empty is cut into the phrases F 0 .. F c, which begin at st 0 .. st c -/
def lz_G (S : Nat → List Nat) (N : Nat) (F st : Nat → Nat) (c : Nat) (tx : List Nat) : Prop :=
  st 0 = 0 ∧ st (c + 1) = tx.length ∧ ∀ i, i ≤ c → F i < N ∧ 0 < (S (F i)).length ∧ st (i + 1) = st i + (S (F i)).length ∧ tx.drop (st i) = S (F i) ++ tx.drop (st (i + 1))
/-- the text of a state -/
def lz_T (S : Nat → List Nat) (N : Nat) (F st : Nat → Nat) (c : Nat) (tx : List Nat) (op : Int32) (a6 a7 : Nat → Int32) : Prop :=
  (4 ≤ N ∧ N ≤ c + 4 ∧ ∀ l, l < 4 → S l = [l]) ∧ (tx.length ≤ 120 ∧ ∀ x, x ∈ tx → x < 4) ∧ (st 0 = 0 ∧ ∀ i, i ≤ c → a7 i = nI (st i)) ∧
  ((tx = [] ∧ c = 0 ∧ op = -1) ∨ (lz_G S N F st c tx ∧ op = nI (F c) ∧ ∀ i, i < c → a6 i = nI (F i)))
/-- the rows below Q of the automaton's table are sound -/
def lz_au (W : List Nat) (a9 : Nat → Int32) (Q : Nat) : Prop := ∀ q, q < Q → ∀ l, l < 4 → ∃ r, r ≤ W.length ∧ a9 (q * 4 + l) = nI r ∧ W.take r <:+ W.take q ++ [l]
/-- the pattern of a state and its automaton -/
def lz_A (W : List Nat) (a8 a9 : Nat → Int32) : Prop :=
  (W.length ≤ 10 ∧ ∀ x, x ∈ W → x < 4) ∧ (∀ k, k < W.length → a8 k = nI (W.getD k 0)) ∧ (W ≠ [] → lz_au W a9 (W.length + 1))
/-- the automaton that a table is -/
def lz_dl (a9 : Nat → Int32) (q l : Nat) : Nat := (a9 (q * 4 + l)).toNatClampNeg
/-- one place of the two tables of a phrase -/
def lz_tb (S : Nat → List Nat) (W : List Nat) (a9 a10 a11 : Nat → Int32) (p q : Nat) : Prop :=
  a10 (p * 11 + q) = nI (lz_run (lz_dl a9) q (S p)) ∧ a11 (p * 11 + q) = nI (lz_hit (lz_dl a9) W.length q (S p))
/-- the tables, where they are ready -/
def lz_R (S : Nat → List Nat) (N : Nat) (W : List Nat) (a9 : Nat → Int32) (rd : Int32) (a10 a11 : Nat → Int32) : Prop :=
  rd = 0 ∨ (rd = 1 ∧ ∀ p, p < N → ∀ q, q ≤ W.length → lz_tb S W a9 a10 a11 p q)
/-- a state: its words, its cut, its text, its pattern -/
def lz_K (S : Nat → List Nat) (N : Nat) (F st : Nat → Nat) (c : Nat) (tx W : List Nat) (op rd : Int32) (a1 a2 a3 a4 a5 a6 a7 a8 a9 a10 a11 : Nat → Int32) : Prop :=
  lz_D S N a1 a2 a3 a4 a5 ∧ lz_T S N F st c tx op a6 a7 ∧ lz_A W a8 a9 ∧ lz_R S N W a9 rd a10 a11
/-- a state with its text and pattern, the rest hidden -/
def lz_Q (N c : Nat) (tx W : List Nat) (op rd : Int32) (a1 a2 a3 a4 a5 a6 a7 a8 a9 a10 a11 : Nat → Int32) : Prop :=
  ∃ (S : Nat → List Nat) (F st : Nat → Nat), lz_K S N F st c tx W op rd a1 a2 a3 a4 a5 a6 a7 a8 a9 a10 a11
/-- how many occurrences end within the first n letters -/
def lz_cn (W : List Nat) (a9 : Nat → Int32) (tx : List Nat) (n : Nat) : Nat := if W = [] then 0 else lz_hit (lz_dl a9) W.length 0 (tx.take n)
section
variable {S : Nat → List Nat} {N c : Nat} {F st : Nat → Nat} {tx W : List Nat} {op rd : Int32} {a1 a2 a3 a4 a5 a6 a7 a8 a9 a10 a11 : Nat → Int32}
theorem lz_D_add {b1 b2 b3 b4 b5 : Nat → Int32} {s : List Nat} (hD : lz_D S N a1 a2 a3 a4 a5)
    (h1 : ∀ p, p < N → b1 p = a1 p) (h2 : ∀ p, p < N → b2 p = a2 p) (h3 : ∀ p, p < N → b3 p = a3 p)
    (h4 : ∀ p, p < N → ∀ l, l < 4 → b4 (p * 4 + l) = a4 (p * 4 + l) ∨ (b4 (p * 4 + l) = nI N ∧ s = S p ++ [l]))
    (h5 : ∀ p, p < N → ∀ l, l < 4 → b5 (p * 4 + l) = a5 (p * 4 + l))
    (g0 : 1 ≤ s.length ∧ s.length ≤ 120 ∧ ∀ x, x ∈ s → x < 4) (g3 : b3 N = nI s.length)
    (g1 : ∃ x, x < 4 ∧ b2 N = nI x ∧ ((b1 N = -1 ∧ s = [x]) ∨ ∃ r, r < N ∧ b1 N = nI r ∧ s = S r ++ [x]))
    (g5 : ∀ l, l < 4 → b5 (N * 4 + l) = nI (s.count l)) (g4 : ∀ l, l < 4 → b4 (N * 4 + l) = -1) :
    lz_D (lz_up S N s) (N + 1) b1 b2 b3 b4 b5 := by
  intro p hp
  by_cases e : p = N
  · rw [e]
    unfold lz_Dp
    rw [lz_up_s]
    refine ⟨g0, g3, ?_, g5, fun l hl => Or.inl (g4 l hl)⟩
    obtain ⟨x, hx, e2, h⟩ := g1
    refine ⟨x, hx, e2, ?_⟩
    rcases h with h | ⟨r, hr, e1, es⟩
    · exact Or.inl h
    · exact Or.inr ⟨r, hr, e1, by rw [lz_up_n (by omega)]; exact es⟩
  · have hp' : p < N := by omega
    obtain ⟨q0, q3, ⟨x, hx, e2, hh⟩, q5, q4⟩ := hD p hp'
    unfold lz_Dp
    rw [lz_up_n e, h3 p hp', h2 p hp', h1 p hp']
    refine ⟨q0, q3, ⟨x, hx, e2, ?_⟩, fun l hl => by rw [h5 p hp' l hl]; exact q5 l hl, fun l hl => ?_⟩
    · rcases hh with h | ⟨r, hr, e1, es⟩
      · exact Or.inl h
      · exact Or.inr ⟨r, hr, e1, by rw [lz_up_n (by omega)]; exact es⟩
    · rcases h4 p hp' l hl with e4 | ⟨e4, es⟩
      · rcases q4 l hl with k | ⟨r, hr, k1, k2⟩
        · exact Or.inl (e4.trans k)
        · exact Or.inr ⟨r, by omega, e4.trans k1, by rw [lz_up_n (by omega)]; exact k2⟩
      · exact Or.inr ⟨N, by omega, e4, by rw [lz_up_s]; exact es⟩
/-- the last letter of a phrase -/
theorem lz_last (hD : lz_D S N a1 a2 a3 a4 a5) {r : Nat} (hr : r < N) {s : List Nat} {y : Nat} (h : S r = s ++ [y]) : a2 r = nI y := by
  obtain ⟨_, _, ⟨x, hx, e2, hh⟩, _, _⟩ := hD r hr
  have h1 : ∃ s', S r = s' ++ [x] := by
    rcases hh with ⟨_, h1⟩ | ⟨r', _, _, h1⟩
    · exact ⟨[], h1⟩
    · exact ⟨S r', h1⟩
  obtain ⟨s', h1⟩ := h1
  have h2 : [x] = [y] := List.append_inj_right' (h1.symm.trans h) rfl
  have h3 : x = y := by injection h2
  rw [e2, h3]
theorem lz_st_le {c : Nat} {st : Nat → Nat} (h : ∀ i, i ≤ c → st i < st (i + 1)) : ∀ j, j ≤ c + 1 → ∀ i, i ≤ j → st i + (j - i) ≤ st j := by
  intro j
  induction j with
  | zero =>
    intro _ i hi
    have e : i = 0 := by omega
    rw [e]
    exact Nat.le_refl _
  | succ j ih =>
    intro hj i hi
    by_cases e : i = j + 1
    · rw [e]; omega
    · have h1 := ih (by omega) i (by omega)
      have h2 := h j (by omega)
      omega
theorem lz_G_lt (hG : lz_G S N F st c tx) : ∀ i, i ≤ c → st i < st (i + 1) := by
  intro i hi
  obtain ⟨_, g2, g3, _⟩ := hG.2.2 i hi
  omega
theorem lz_G_st (hG : lz_G S N F st c tx) {i : Nat} (hi : i ≤ c + 1) : i ≤ st i ∧ st i + (c + 1 - i) ≤ tx.length := by
  have h1 := lz_st_le (lz_G_lt hG) i hi 0 (Nat.zero_le i)
  have h2 := lz_st_le (lz_G_lt hG) (c + 1) (Nat.le_refl _) i hi
  have h3 := hG.1
  have h4 := hG.2.1
  omega
theorem lz_G_cut (hG : lz_G S N F st c tx) {i k : Nat} (hi : i ≤ c) (h1 : st i < k) : tx.take (min k (st (i + 1))) = tx.take (st i) ++ (S (F i)).take (k - st i) := by
  obtain ⟨_, hpos, hst, hd⟩ := hG.2.2 i hi
  by_cases h : k ≤ st (i + 1)
  · obtain ⟨j, rfl⟩ : ∃ j, k = st i + j := ⟨k - st i, by omega⟩
    rw [Nat.min_eq_left h, List.take_add, hd, List.take_append_of_le_length (by omega), Nat.add_sub_cancel_left]
  · rw [Nat.min_eq_right (by omega), hst, List.take_add, hd, List.take_append_of_le_length (Nat.le_refl _), List.take_length, List.take_of_length_le (show (S (F i)).length ≤ k - st i by omega)]
theorem lz_G_at (hG : lz_G S N F st c tx) {i j : Nat} (hi : i ≤ c) (hj : j < (S (F i)).length) : tx.getD (st i + j) 0 = (S (F i)).getD j 0 := by
  obtain ⟨_, hpos, hst, hd⟩ := hG.2.2 i hi
  rw [List.getD_eq_getElem?_getD, List.getD_eq_getElem?_getD, ← List.getElem?_drop, hd, List.getElem?_append_left hj]
theorem lz_G_grow (hG : lz_G S N F st c tx) {r l : Nat} (hr : r < N) (hS : S r = S (F c) ++ [l]) : lz_G S N (lz_up F c r) (lz_up st (c + 1) (tx.length + 1)) c (tx ++ [l]) := by
  refine ⟨by rw [lz_up_n (by omega)]; exact hG.1, by rw [lz_up_s, List.length_append]; rfl, fun i hi => ?_⟩
  rcases Nat.lt_or_eq_of_le hi with e | e
  · obtain ⟨g1, g2, g3, g4⟩ := hG.2.2 i hi
    have b := lz_G_st hG (show i ≤ c + 1 by omega)
    have b' := lz_G_st hG (show i + 1 ≤ c + 1 by omega)
    rw [lz_up_n (show i ≠ c by omega), lz_up_n (show i + 1 ≠ c + 1 by omega), lz_up_n (show i ≠ c + 1 by omega)]
    refine ⟨g1, g2, g3, ?_⟩
    rw [List.drop_append_of_le_length (by omega), List.drop_append_of_le_length (by omega), g4, List.append_assoc]
  · obtain ⟨g1, g2, g3, g4⟩ := hG.2.2 c (Nat.le_refl c)
    have b := lz_G_st hG (show c ≤ c + 1 by omega)
    have b' := hG.2.1
    have hlen : (S r).length = (S (F c)).length + 1 := by rw [hS, List.length_append]; rfl
    have hnil : (tx ++ [l]).drop (tx.length + 1) = [] := List.drop_eq_nil_of_le (by rw [List.length_append]; exact Nat.le_refl _)
    rw [e, lz_up_s, lz_up_s, lz_up_n (show c ≠ c + 1 by omega)]
    refine ⟨hr, by omega, by omega, ?_⟩
    rw [List.drop_append_of_le_length (by omega), g4, b', List.drop_length, hnil, hS, List.append_nil, List.append_nil]
theorem lz_G_new (hG : lz_G S N F st c tx) {l : Nat} {s : List Nat} (hl : l < N) (hS : S l = [l]) : lz_G (lz_up S N s) (N + 1) (lz_up F (c + 1) l) (lz_up st (c + 1 + 1) (tx.length + 1)) (c + 1) (tx ++ [l]) := by
  refine ⟨by rw [lz_up_n (by omega)]; exact hG.1, by rw [lz_up_s, List.length_append]; rfl, fun i hi => ?_⟩
  rcases Nat.lt_or_eq_of_le hi with e | e
  · obtain ⟨g1, g2, g3, g4⟩ := hG.2.2 i (by omega)
    have b := lz_G_st hG (show i ≤ c + 1 by omega)
    have b' := lz_G_st hG (show i + 1 ≤ c + 1 by omega)
    rw [lz_up_n (show i ≠ c + 1 by omega), lz_up_n (show i + 1 ≠ c + 1 + 1 by omega), lz_up_n (show i ≠ c + 1 + 1 by omega), lz_up_n (show F i ≠ N by omega)]
    refine ⟨by omega, g2, g3, ?_⟩
    rw [List.drop_append_of_le_length (by omega), List.drop_append_of_le_length (by omega), g4, List.append_assoc]
  · have b' := hG.2.1
    have hnil : (tx ++ [l]).drop (tx.length + 1) = [] := List.drop_eq_nil_of_le (by rw [List.length_append]; exact Nat.le_refl _)
    rw [e, lz_up_s, lz_up_s, lz_up_n (show c + 1 ≠ c + 1 + 1 by omega), lz_up_n (show l ≠ N by omega), hS, b']
    refine ⟨by omega, Nat.zero_lt_one, rfl, ?_⟩
    rw [List.drop_append_of_le_length (Nat.le_refl _), List.drop_length, hnil]
    rfl
theorem lz_G_one {l : Nat} (hl : l < N) (hS : S l = [l]) : lz_G S N (fun _ => l) (fun i => i) 0 [l] := by
  refine ⟨rfl, rfl, fun i hi => ?_⟩
  have e : i = 0 := by omega
  rw [e]
  show l < N ∧ 0 < (S l).length ∧ 0 + 1 = 0 + (S l).length ∧ [l].drop 0 = S l ++ [l].drop (0 + 1)
  rw [hS]
  exact ⟨hl, Nat.zero_lt_one, rfl, rfl⟩
/-- the automaton of a state is sound -/
theorem lz_A_dl (hA : lz_A W a8 a9) (hW : W ≠ []) {q l : Nat} (hq : q ≤ W.length) (hl : l < 4) : a9 (q * 4 + l) = nI (lz_dl a9 q l) ∧ lz_dl a9 q l ≤ W.length ∧ W.take (lz_dl a9 q l) <:+ W.take q ++ [l] := by
  obtain ⟨r, h1, h2, h3⟩ := hA.2.2 hW q (by omega) l hl
  have hm := hA.1.1
  have e : lz_dl a9 q l = r := by
    unfold lz_dl
    rw [h2, nI_clamp (by omega)]
  rw [e]
  exact ⟨h2, h1, h3⟩
theorem lz_A_ok (hA : lz_A W a8 a9) (hW : W ≠ []) : lz_ok W (lz_dl a9) := fun q hq l hl => (lz_A_dl hA hW hq hl).2
theorem lz_cn_0 : lz_cn W a9 tx 0 = 0 := by
  unfold lz_cn
  by_cases e : W = []
  · rw [if_pos e]
  · rw [if_neg e]; rfl
theorem lz_cn_mono {a b : Nat} (h : a ≤ b) : lz_cn W a9 tx a ≤ lz_cn W a9 tx b := by
  unfold lz_cn
  by_cases e : W = []
  · rw [if_pos e, if_pos e]; exact Nat.le_refl 0
  · rw [if_neg e, if_neg e]; exact lz_hit_mono _ _ _ h
theorem lz_cn_le (n : Nat) : lz_cn W a9 tx n ≤ tx.length := by
  unfold lz_cn
  by_cases e : W = []
  · rw [if_pos e]; exact Nat.zero_le _
  · rw [if_neg e]
    exact Nat.le_trans (lz_hit_le _ _ _ _) (List.length_take_le' _ _)
theorem lz_cn_app (s : List Nat) : lz_cn W a9 tx tx.length ≤ lz_cn W a9 (tx ++ s) (tx ++ s).length := by
  unfold lz_cn
  by_cases e : W = []
  · rw [if_pos e, if_pos e]; exact Nat.le_refl 0
  · rw [if_neg e, if_neg e, List.take_length, List.take_length, lz_hit_app]; omega
end
end
section
section
variable {S : Nat → List Nat} {N c : Nat} {F st : Nat → Nat} {tx W : List Nat} {op rd : Int32} {f1 f2 f3 f4 f5 f6 : Int32} {a1 a2 a3 a4 a5 a6 a7 a8 a9 a10 a11 : Nat → Int32}
theorem lz_mk39 {post : St1 → Prop} {up : Int32} {l : Nat} {v : Nat → Int32} (hN : N < 128) (hl : l < 4)
    (hv : (¬ 0 ≤ up ∧ ∀ k, k < 4 → v k = 0) ∨ ∃ r, r < N ∧ up = nI r ∧ ∀ k, k < 4 → v k = a5 (r * 4 + k))
    (H : ∀ c4 c5 : Nat → Int32, (∀ j, j < N * 4 → c4 j = a4 j ∧ c5 j = a5 j) → (∀ k, k < 4 → c4 (N * 4 + k) = -1 ∧ c5 (N * 4 + k) = if k = l then v k + 1 else v k) → post (f1, f2, f3, f4, f5, f6, a1, a2, a3, c4, c5, a6, a7, a8, a9, a10, a11)) :
    ∀ (f i : Nat) (b4 b5 : Nat → Int32), i ≤ 4 → 4 - i < f → (∀ j, j < N * 4 → b4 j = a4 j ∧ b5 j = a5 j) → (∀ k, k < i → b4 (N * 4 + k) = -1 ∧ b5 (N * 4 + k) = v k) →
    wX_makePhrase_39 post (nI N) up (nI l) f1 f2 f3 f4 f5 f6 f (nI i) a1 a2 a3 b4 b5 a6 a7 a8 a9 a10 a11 := by
  intro f
  induction f with
  | zero => intro i b4 b5 hi hf; omega
  | succ n ih =>
    intro i b4 b5 hi hf h1 h2
    refine pk_le 4 i (fun z => ?_) (fun z => ?_)
    · have e : i = 4 := by omega
      rw [e] at h2
      rw [lz_ix4 N l, nI_clamp (show N * 4 + l < 2 ^ 31 by omega)]
      refine ⟨pk_in (N * 4 + l) 512 (by omega), pk_in (N * 4 + l) 512 (by omega), nm_e ?_⟩
      refine H _ _ (fun j hj => ⟨(h1 j hj).1, ?_⟩) (fun k hk => ⟨(h2 k hk).1, ?_⟩)
      · rw [pk_un (by omega)]; exact (h1 j hj).2
      · by_cases e : k = l
        · rw [e, pk_us, if_pos rfl, (h2 l hl).2]
        · rw [pk_un (by omega), if_neg e]; exact (h2 k hk).2
    · rw [lz_ix4 N i, nI_clamp (show N * 4 + i < 2 ^ 31 by omega)]
      refine ⟨pk_in (N * 4 + i) 512 (by omega), nm_e ?_⟩
      have nx : ∀ w : Int32, w = v i → ∀ k, k < i + 1 → upd b4 (N * 4 + i) (-1) (N * 4 + k) = -1 ∧ upd b5 (N * 4 + i) w (N * 4 + k) = v k := by
        intro w hw k hk
        by_cases e : k = i
        · rw [e, pk_us, pk_us]; exact ⟨rfl, hw⟩
        · rw [pk_un (by omega), pk_un (by omega)]; exact h2 k (by omega)
      have nb : ∀ w : Int32, ∀ j, j < N * 4 → upd b4 (N * 4 + i) (-1) j = a4 j ∧ upd b5 (N * 4 + i) w j = a5 j := by
        intro w j hj
        rw [pk_un (by omega), pk_un (by omega)]; exact h1 j hj
      rcases hv with ⟨hu, hv⟩ | ⟨r, hr, rfl, hv⟩
      · refine br_f hu ⟨pk_in (N * 4 + i) 512 (by omega), nm_e (nm_r (nI_1 i) ?_)⟩
        exact ih (i + 1) _ _ (by omega) (by omega) (nb 0) (nx 0 (hv i (by omega)).symm)
      · refine br_t (nI_pos' (by omega)) ?_
        rw [lz_ix4 r i, nI_clamp (show r * 4 + i < 2 ^ 31 by omega)]
        refine ⟨pk_in (r * 4 + i) 512 (by omega), pk_in (N * 4 + i) 512 (by omega), nm_e (nm_r (nI_1 i) ?_)⟩
        exact ih (i + 1) _ _ (by omega) (by omega) (nb _) (nx _ ((h1 (r * 4 + i) (by omega)).2.trans (hv i (by omega)).symm))
theorem lz_cnt1 (s : List Nat) (k l : Nat) : nI ((s ++ [l]).count k) = if k = l then nI (s.count k) + 1 else nI (s.count k) := by
  rw [List.count_append, List.count_singleton]
  by_cases e : k = l
  · rw [if_pos e, e, nI_1]; simp
  · have e' : ¬ l = k := fun z => e z.symm
    rw [if_neg e]; simp [e']
theorem lz_mk {post : St1 → Prop} {up : Int32} {l : Nat} {b4 : Nat → Int32} {s : List Nat} (hN : N < 128) (hl : l < 4)
    (hD : lz_D S N a1 a2 a3 a4 a5) (h4 : ∀ p, p < N → ∀ k, k < 4 → b4 (p * 4 + k) = a4 (p * 4 + k) ∨ (b4 (p * 4 + k) = nI N ∧ s = S p ++ [k]))
    (hup : (up = -1 ∧ s = [l]) ∨ ∃ r, r < N ∧ up = nI r ∧ s = S r ++ [l]) (hs : s.length ≤ 120)
    (H : ∀ c1 c2 c3 c4 c5 : Nat → Int32, lz_D (lz_up S N s) (N + 1) c1 c2 c3 c4 c5 → post (f1, f2, f3, f4, f5, f6, c1, c2, c3, c4, c5, a6, a7, a8, a9, a10, a11)) :
    wpX_makePhrase post (f1, f2, f3, f4, f5, f6, a1, a2, a3, b4, a5, a6, a7, a8, a9, a10, a11) (nI N) up (nI l) := by
  have key : ∀ (w : Int32) (v : Nat → Int32), w = nI s.length → (∀ k, k < 4 → nI (s.count k) = if k = l then v k + 1 else v k) →
      ∀ c4 c5 : Nat → Int32, (∀ j, j < N * 4 → c4 j = b4 j ∧ c5 j = a5 j) → (∀ k, k < 4 → c4 (N * 4 + k) = -1 ∧ c5 (N * 4 + k) = if k = l then v k + 1 else v k) →
      post (f1, f2, f3, f4, f5, f6, upd a1 N up, upd a2 N (nI l), upd a3 N w, c4, c5, a6, a7, a8, a9, a10, a11) := by
    intro w v hw hv c4 c5 k1 k2
    refine H _ _ _ _ _ (lz_D_add (a4 := a4) (a5 := a5) hD (fun p hp => pk_un (by omega)) (fun p hp => pk_un (by omega)) (fun p hp => pk_un (by omega)) (fun p hp k hk => ?_) (fun p hp k hk => ?_) ?_ ?_ ?_ (fun k hk => ?_) (fun k hk => (k2 k hk).1))
    · rw [(k1 (p * 4 + k) (by omega)).1]; exact h4 p hp k hk
    · exact (k1 (p * 4 + k) (by omega)).2
    · rcases hup with ⟨_, es⟩ | ⟨r, hr, _, es⟩
      · refine ⟨by rw [es]; exact Nat.le_refl 1, hs, fun x hx => ?_⟩
        rw [es] at hx
        have e : x = l := by simpa using hx
        omega
      · refine ⟨by rw [es, List.length_append]; exact Nat.le_add_left 1 _, hs, fun x hx => ?_⟩
        rw [es] at hx
        rcases List.mem_append.mp hx with h | h
        · exact (hD r hr).1.2.2 x h
        · have e : x = l := by simpa using h
          omega
    · rw [pk_us]; exact hw
    · refine ⟨l, hl, pk_us, ?_⟩
      rw [pk_us]
      exact hup
    · rw [(k2 k hk).2]; exact (hv k hk).symm
  refine ⟨pk_in N 128 hN, nm_e ⟨pk_in N 128 hN, nm_e ?_⟩⟩
  rw [nI_clamp (show N < 2 ^ 31 by omega)]
  rcases hup with ⟨eu, es⟩ | ⟨r, hr, eu, es⟩
  · have hu : ¬ (0 : Int32) ≤ up := by rw [eu]; decide
    refine br_f hu ⟨pk_in N 128 hN, nm_e ⟨5, ?_⟩⟩
    refine lz_mk39 (v := fun _ => 0) hN hl (Or.inl ⟨hu, fun _ _ => rfl⟩) (key 1 (fun _ => 0) (by rw [es]; rfl) (fun k hk => ?_)) 5 0 _ _ (by omega) (by omega) (fun j hj => ⟨rfl, rfl⟩) (fun k hk => absurd hk (by omega))
    rw [es]
    exact lz_cnt1 [] k l
  · refine br_t (by rw [eu]; exact nI_pos' (by omega)) ?_
    obtain ⟨_, d3, _, d5, _⟩ := hD r hr
    have e3 : a3 up.toNatClampNeg = nI (S r).length := by rw [eu, nI_clamp (show r < 2 ^ 31 by omega)]; exact d3
    rw [e3]
    refine ⟨pk_in r 128 (by omega) eu, pk_in N 128 hN, nm_e ⟨5, ?_⟩⟩
    refine lz_mk39 (v := fun k => a5 (r * 4 + k)) hN hl (Or.inr ⟨r, hr, eu, fun _ _ => rfl⟩) (key (nI (S r).length + 1) (fun k => a5 (r * 4 + k)) (by rw [es, nI_1, List.length_append]; rfl) (fun k hk => ?_)) 5 0 _ _ (by omega) (by omega) (fun j hj => ⟨rfl, rfl⟩) (fun k hk => absurd hk (by omega))
    show _ = if k = l then a5 (r * 4 + k) + 1 else a5 (r * 4 + k)
    rw [es, d5 k hk]
    exact lz_cnt1 (S r) k l
theorem lz_st27 {post : St1 → Prop}
    (H : ∀ (S : Nat → List Nat) (c1 c2 c3 c4 c5 : Nat → Int32), lz_D S 4 c1 c2 c3 c4 c5 → (∀ l, l < 4 → S l = [l]) → post (f1, f2, f3, f4, f5, f6, c1, c2, c3, c4, c5, a6, a7, a8, a9, a10, a11)) :
    ∀ (f i : Nat) (S : Nat → List Nat) (c1 c2 c3 c4 c5 : Nat → Int32), i ≤ 4 → 4 - i < f → lz_D S i c1 c2 c3 c4 c5 → (∀ l, l < i → S l = [l]) →
    wX_start_27 post f (nI i) f1 f2 f3 f4 f5 f6 c1 c2 c3 c4 c5 a6 a7 a8 a9 a10 a11 := by
  intro f
  induction f with
  | zero => intro i S c1 c2 c3 c4 c5 hi hf; omega
  | succ n ih =>
    intro i S c1 c2 c3 c4 c5 hi hf hD hS
    refine pk_le 4 i (fun z => ?_) (fun z => ?_)
    · have e : i = 4 := by omega
      rw [e] at hD hS
      exact H S _ _ _ _ _ hD hS
    · refine lz_mk (N := i) (l := i) (s := [i]) (a4 := c4) (by omega) (by omega) hD (fun p hp k hk => Or.inl rfl) (Or.inl ⟨rfl, rfl⟩) (by show 1 ≤ 120; omega) (fun d1 d2 d3 d4 d5 hD' => nm_r (nI_1 i) ?_)
      refine ih (i + 1) _ _ _ _ _ _ (by omega) (by omega) hD' (fun l hl => ?_)
      by_cases e : l = i
      · rw [e, lz_up_s]
      · rw [lz_up_n e]; exact hS l (by omega)
/-- start: the empty text -/
theorem lz_start {post : St1 → Prop} (h7 : a7 0 = 0) (hA : lz_A W a8 a9)
    (H : ∀ c1 c2 c3 c4 c5 : Nat → Int32, lz_Q 4 0 [] W (-1) 0 c1 c2 c3 c4 c5 a6 a7 a8 a9 a10 a11 → post (nI 4, nI 0, nI 0, -1, nI W.length, 0, c1, c2, c3, c4, c5, a6, a7, a8, a9, a10, a11)) :
    wpX_start post (f1, f2, f3, f4, nI W.length, f6, a1, a2, a3, a4, a5, a6, a7, a8, a9, a10, a11) := by
  refine ⟨5, lz_st27 (fun S c1 c2 c3 c4 c5 hD hS => H c1 c2 c3 c4 c5 ⟨S, fun _ => 0, fun _ => 0, hD, ?_, hA, Or.inl rfl⟩) 5 0 (fun _ => []) _ _ _ _ _ (by omega) (by omega) (fun p hp => absurd hp (by omega)) (fun l hl => absurd hl (by omega))⟩
  refine ⟨⟨Nat.le_refl 4, Nat.le_refl 4, hS⟩, ⟨Nat.zero_le _, fun x hx => absurd hx (by simp)⟩, ⟨rfl, fun i hi => ?_⟩, Or.inl ⟨rfl, rfl, rfl⟩⟩
  have e : i = 0 := by omega
  rw [e, h7]
  rfl
theorem lz_init {post : St1 → Prop} {mc ms : Nat} (hc : 11 ≤ mc) (hs : 4519 ≤ ms)
    (H : ∀ c1 c2 c3 c4 c5 c6 c7 c8 c9 c10 c11 : Nat → Int32, lz_Q 4 0 [] [] (-1) 0 c1 c2 c3 c4 c5 c6 c7 c8 c9 c10 c11 → post (nI 4, nI 0, nI 0, -1, nI 0, 0, c1, c2, c3, c4, c5, c6, c7, c8, c9, c10, c11)) :
    wpX_init post mc ms (0, 0, 0, 0, 0, 0) := by
  unfold wpX_init
  refine ⟨by omega, by omega, by omega, by omega, by omega, by omega, by omega, by omega, by omega, by omega, by omega, by omega, by omega, by omega, by omega, by omega, by omega, by omega, by omega, by omega, by omega, by omega, ?_⟩
  refine lz_start (W := []) rfl ⟨⟨Nat.zero_le _, fun x hx => absurd hx (by simp)⟩, fun k hk => absurd hk (Nat.not_lt_zero k), fun h => absurd rfl h⟩ ?_
  intro c1 c2 c3 c4 c5 hQ
  exact H _ _ _ _ _ _ _ _ _ _ _ hQ
theorem lz_clear {post : St1 → Prop} (h : lz_Q N c tx W op rd a1 a2 a3 a4 a5 a6 a7 a8 a9 a10 a11)
    (H : ∀ c1 c2 c3 c4 c5 : Nat → Int32, lz_Q 4 0 [] W (-1) 0 c1 c2 c3 c4 c5 a6 a7 a8 a9 a10 a11 → post (nI 4, nI 0, nI 0, -1, nI W.length, 0, c1, c2, c3, c4, c5, a6, a7, a8, a9, a10, a11)) :
    wpX_clear post (nI N, nI tx.length, nI c, op, nI W.length, rd, a1, a2, a3, a4, a5, a6, a7, a8, a9, a10, a11) := by
  obtain ⟨S, F, st, hD, hT, hA, hR⟩ := h
  have h7 : a7 0 = 0 := by
    rw [hT.2.2.1.2 0 (Nat.zero_le _), hT.2.2.1.1]; rfl
  refine lz_start (f1 := nI N) (f2 := nI tx.length) (f3 := nI c) (f4 := op) (f6 := rd) h7 hA ?_
  intro c1 c2 c3 c4 c5 hQ
  exact H _ _ _ _ _ hQ
theorem lz_clearPat {post : St1 → Prop} (h : lz_Q N c tx W op rd a1 a2 a3 a4 a5 a6 a7 a8 a9 a10 a11)
    (H : lz_Q N c tx [] op 0 a1 a2 a3 a4 a5 a6 a7 a8 a9 a10 a11 → post (nI N, nI tx.length, nI c, op, nI 0, 0, a1, a2, a3, a4, a5, a6, a7, a8, a9, a10, a11)) :
    wpX_clearPattern post (nI N, nI tx.length, nI c, op, nI W.length, rd, a1, a2, a3, a4, a5, a6, a7, a8, a9, a10, a11) := by
  obtain ⟨S, F, st, hD, hT, hA, hR⟩ := h
  exact H ⟨S, F, st, hD, hT, ⟨⟨Nat.zero_le _, fun x hx => absurd hx (by simp)⟩, fun k hk => absurd hk (Nat.not_lt_zero k), fun h => absurd rfl h⟩, Or.inl rfl⟩
/-- append: the text grows by a letter, or there is no room -/
theorem lz_append {post : Int32 → St1 → Prop} {l : Nat} (h : lz_Q N c tx W op rd a1 a2 a3 a4 a5 a6 a7 a8 a9 a10 a11) (hl : l < 4)
    (H0 : ¬ tx.length < 120 → post (-2) (nI N, nI tx.length, nI c, op, nI W.length, rd, a1, a2, a3, a4, a5, a6, a7, a8, a9, a10, a11))
    (H1 : tx.length < 120 → ∀ (N' c' : Nat) (op' : Int32) (b1 b2 b3 b4 b5 b6 b7 : Nat → Int32), lz_Q N' c' (tx ++ [l]) W op' 0 b1 b2 b3 b4 b5 b6 b7 a8 a9 a10 a11 →
      post (nI (tx.length + 1)) (nI N', nI (tx.length + 1), nI c', op', nI W.length, 0, b1, b2, b3, b4, b5, b6, b7, a8, a9, a10, a11)) :
    wpX_append post (nI N, nI tx.length, nI c, op, nI W.length, rd, a1, a2, a3, a4, a5, a6, a7, a8, a9, a10, a11) (nI l) := by
  obtain ⟨S, F, st, hD, hT, hA, hR⟩ := h
  obtain ⟨⟨t1, t2, t3⟩, ⟨t4, t5⟩, ⟨t6, t7⟩, t8⟩ := hT
  have hx : ∀ x, x ∈ tx ++ [l] → x < 4 := by
    intro x hx
    rcases List.mem_append.mp hx with h | h
    · exact t5 x h
    · have e : x = l := by simpa using h
      omega
  refine br_f (nI_pos (by omega)) (pk_le l 3 (fun _ => ?_) (fun z => absurd z (by omega)))
  refine pk_lt tx.length 120 (fun hlt => ?_) (fun hge => H0 (by omega))
  have hlen : (tx ++ [l]).length = tx.length + 1 := by rw [List.length_append]; rfl
  have hlen' : (tx ++ [l]).length ≤ 120 := by omega
  rcases t8 with ⟨ex, ec, eo⟩ | ⟨hG, eo, h6⟩
  · refine br_f (by rw [eo]; decide) ?_
    refine ⟨pk_in c 121 (by omega), nm_e (nm_r (nI_1 _) ?_)⟩
    rw [nI_clamp (show c < 2 ^ 31 by omega)]
    refine H1 hlt N c (nI l) a1 a2 a3 a4 a5 a6 _ ⟨S, fun _ => l, fun i => i, hD, ⟨⟨t1, t2, t3⟩, ⟨hlen', hx⟩, ⟨rfl, fun i hi => ?_⟩, Or.inr ⟨?_, rfl, fun i hi => absurd hi (by omega)⟩⟩, hA, Or.inl rfl⟩
    · have e : i = c := by omega
      rw [e, pk_us, ec]
      rfl
    · rw [ex, ec]
      exact lz_G_one (by omega) (t3 l hl)
  · have hc := lz_G_st hG (Nat.zero_le (c + 1))
    obtain ⟨g1, g2, g3, g4⟩ := hG.2.2 c (Nat.le_refl c)
    have b' := hG.2.1
    refine br_t (by rw [eo]; exact nI_pos' (by omega)) ?_
    rw [eo, lz_ix4 (F c) l, nI_clamp (show F c * 4 + l < 2 ^ 31 by omega)]
    refine ⟨pk_in (F c * 4 + l) 512 (by omega), ?_⟩
    obtain ⟨_, _, _, _, q4⟩ := hD (F c) g1
    rcases q4 l hl with e4 | ⟨r, hr, e4, es⟩
    · refine br_t (by rw [e4]; decide) ⟨pk_in (F c * 4 + l) 512 (by omega), nm_e ?_⟩
      refine lz_mk (N := N) (l := l) (s := S (F c) ++ [l]) (a4 := a4) (by omega) hl hD (fun p hp k hk => ?_) (Or.inr ⟨F c, g1, rfl, rfl⟩) ?_ (fun d1 d2 d3 d4 d5 hD' => ?_)
      · by_cases e : p * 4 + k = F c * 4 + l
        · have e1 : p = F c := by omega
          have e2 : k = l := by omega
          rw [e, pk_us, e1, e2]
          exact Or.inr ⟨rfl, rfl⟩
        · exact Or.inl (pk_un e)
      · rw [List.length_append]
        show (S (F c)).length + 1 ≤ 120
        omega
      · refine nm_r (nI_1 N) ⟨pk_in c 120 (by omega), nm_e (nm_r (nI_1 c) ⟨pk_in (c + 1) 121 (by omega), nm_e (nm_r (nI_1 _) ?_)⟩)⟩
        rw [nI_clamp (show c < 2 ^ 31 by omega), nI_clamp (show c + 1 < 2 ^ 31 by omega)]
        refine H1 hlt (N + 1) (c + 1) (nI l) d1 d2 d3 d4 d5 _ _ ⟨lz_up S N (S (F c) ++ [l]), lz_up F (c + 1) l, lz_up st (c + 1 + 1) (tx.length + 1), hD', ⟨⟨by omega, by omega, fun k hk => by rw [lz_up_n (by omega)]; exact t3 k hk⟩, ⟨hlen', hx⟩, ⟨by rw [lz_up_n (by omega)]; exact t6, fun i hi => ?_⟩, Or.inr ⟨lz_G_new hG (by omega) (t3 l hl), by rw [lz_up_s], fun i hi => ?_⟩⟩, hA, Or.inl rfl⟩
        · rw [lz_up_n (by omega)]
          by_cases e : i = c + 1
          · rw [e, pk_us, b']
          · rw [pk_un e]; exact t7 i (by omega)
        · rw [lz_up_n (by omega)]
          by_cases e : i = c
          · rw [e, pk_us]
          · rw [pk_un e]; exact h6 i (by omega)
    · refine br_f (by rw [e4]; exact nI_pos (by omega)) ⟨pk_in (F c * 4 + l) 512 (by omega), nm_r e4 (nm_r (nI_1 _) ?_)⟩
      refine H1 hlt N c (nI r) a1 a2 a3 a4 a5 a6 a7 ⟨S, lz_up F c r, lz_up st (c + 1) (tx.length + 1), hD, ⟨⟨t1, t2, t3⟩, ⟨hlen', hx⟩, ⟨by rw [lz_up_n (by omega)]; exact t6, fun i hi => ?_⟩, Or.inr ⟨lz_G_grow hG hr es, by rw [lz_up_s], fun i hi => ?_⟩⟩, hA, Or.inl rfl⟩
      · rw [lz_up_n (by omega)]; exact t7 i hi
      · rw [lz_up_n (by omega)]; exact h6 i hi
end
end
section
section
variable {S : Nat → List Nat} {N c : Nat} {F st : Nat → Nat} {tx W : List Nat} {op rd : Int32} {f1 f2 f3 f4 f5 f6 : Int32} {a1 a2 a3 a4 a5 a6 a7 a8 a9 a10 a11 : Nat → Int32}
theorem lz_clamp {post : Int32 → Prop} {n : Nat} (hn : n ≤ tx.length) (ht : tx.length ≤ 120) (H : post (nI n)) : wpX_clampLength post (f1, nI tx.length, f3, f4, f5, f6, a1, a2, a3, a4, a5, a6, a7, a8, a9, a10, a11) (nI n) :=
  br_t (nI_pos' (by omega)) (br_t (nI_le hn (by omega)) H)
theorem lz_pa {post : Int32 → Prop} {i : Nat} (hi : i ≤ c) (hc : c ≤ 119) (ho : op = nI (F c)) (h6 : ∀ i, i < c → a6 i = nI (F i)) (H : post (nI (F i))) :
    wpX_phraseAt post (f1, f2, nI c, op, f5, f6, a1, a2, a3, a4, a5, a6, a7, a8, a9, a10, a11) (nI i) := by
  refine pk_le c i (fun z => ?_) (fun z => ⟨pk_in i 120 (by omega), ?_⟩)
  · have e : i = c := by omega
    rw [ho, ← e]; exact H
  · rw [nI_clamp (show i < 2 ^ 31 by omega), h6 i z]; exact H
theorem lz_beg2 {post : Int32 → Prop} {k : Nat} {G : List Nat} (hD : lz_D S N a1 a2 a3 a4 a5) (hN : N ≤ 128) (hk : 1 ≤ k) (hk2 : k < 2 ^ 31) (H : ∀ r, r < N → S r = G → post (nI r)) :
    ∀ (f p : Nat), p < N → p < f → (S p).take k = G → wX_beginning_2 post (nI k) f1 f2 f3 f4 f5 f6 a1 a2 a3 a4 a5 a6 a7 a8 a9 a10 a11 f (nI p) := by
  intro f
  induction f with
  | zero => intro p hp hf; omega
  | succ n ih =>
    intro p hp hf hG
    obtain ⟨⟨d0, d0', _⟩, d3, ⟨x, hx, e2, hh⟩, _, _⟩ := hD p hp
    refine ⟨pk_in p 128 (by omega), ?_⟩
    rw [nI_clamp (show p < 2 ^ 31 by omega), d3]
    refine pk_le (S p).length k (fun z => ?_) (fun z => ⟨pk_in p 128 (by omega), ?_⟩)
    · exact H p hp (by rw [← hG, List.take_of_length_le z])
    · rcases hh with ⟨_, e⟩ | ⟨r, hr, e1, e⟩
      · rw [e] at z
        have z' : k < 1 := z
        omega
      · have z' : k < (S r).length + 1 := by
          rw [e, List.length_append] at z
          exact z
        refine nm_r e1 (ih r (by omega) (by omega) ?_)
        rw [← hG, e, List.take_append_of_le_length (by omega)]
/-- beginning: the phrase that is the first k letters -/
theorem lz_beg {post : Int32 → Prop} {p k : Nat} (hD : lz_D S N a1 a2 a3 a4 a5) (hN : N ≤ 128) (hp : p < N) (hk : 1 ≤ k) (hk2 : k < 2 ^ 31) (H : ∀ r, r < N → S r = (S p).take k → post (nI r)) :
    wpX_beginning post (f1, f2, f3, f4, f5, f6, a1, a2, a3, a4, a5, a6, a7, a8, a9, a10, a11) (nI p) (nI k) :=
  ⟨p + 1, lz_beg2 hD hN hk hk2 H (p + 1) p hp (by omega) rfl⟩
theorem lz_mid {lo hi : Nat} (h1 : lo < 2 ^ 20) (h2 : hi < 2 ^ 20) : (nI lo + nI hi + 1) / 2 = nI ((lo + hi + 1) / 2) := by
  rw [nI_add, nI_1, show (2 : Int32) = nI 2 from rfl, pk_div (by omega) (by omega) (by omega)]
theorem lz_ph7 {post : Int32 → Prop} {x : Nat} (hx : x < 2 ^ 31) (hc : c ≤ 119) (hs : ∀ i, i ≤ c → st i < 2 ^ 31) (h7 : ∀ i, i ≤ c → a7 i = nI (st i))
    (H : ∀ i, i ≤ c → st i ≤ x → x < st (i + 1) → post (nI i)) :
    ∀ (f lo hi : Nat), lo ≤ hi → hi ≤ c → hi - lo < f → st lo ≤ x → x < st (hi + 1) → wX_phraseHolding_7 post (nI x) f1 f2 f3 f4 f5 f6 a1 a2 a3 a4 a5 a6 a7 a8 a9 a10 a11 f (nI lo) (nI hi) := by
  intro f
  induction f with
  | zero => intro lo hi h1 h2 h3; omega
  | succ n ih =>
    intro lo hi h1 h2 h3 h4 h5
    refine pk_le hi lo (fun z => ?_) (fun z => ⟨by decide, ?_⟩)
    · have e : hi = lo := by omega
      rw [e] at h5
      exact H lo (by omega) h4 h5
    · obtain ⟨m, hm⟩ : ∃ m, m = (lo + hi + 1) / 2 := ⟨_, rfl⟩
      have hm1 : lo < m := by omega
      have hm2 : m ≤ hi := by omega
      rw [lz_mid (by omega) (by omega), ← hm]
      refine nm_e ⟨pk_in m 121 (by omega), ?_⟩
      rw [nI_clamp (show m < 2 ^ 31 by omega), h7 m (by omega)]
      have hsm := hs m (by omega)
      refine pk_lt x (st m) (fun y => ?_) (fun y => ?_)
      · refine nm_r (e' := nI (m - 1)) ?_ (ih lo (m - 1) (by omega) (by omega) (by omega) h4 ?_)
        · rw [show (1 : Int32) = nI 1 from rfl, pk_sub (by omega)]
        · rw [show m - 1 + 1 = m by omega]; exact y
      · exact ih m hi hm2 h2 (by omega) y h5
theorem lz_K_G (h : lz_K S N F st c tx W op rd a1 a2 a3 a4 a5 a6 a7 a8 a9 a10 a11) (ht : 0 < tx.length) : lz_G S N F st c tx ∧ op = nI (F c) ∧ (∀ i, i < c → a6 i = nI (F i)) ∧ c + 1 ≤ tx.length ∧ tx.length ≤ 120 ∧ N ≤ 123 := by
  obtain ⟨hD, ⟨⟨t1, t2, t3⟩, ⟨t4, t5⟩, ⟨t6, t7⟩, t8⟩, hA, hR⟩ := h
  rcases t8 with ⟨ex, ec, eo⟩ | ⟨hG, eo, h6⟩
  · rw [ex] at ht
    exact absurd ht (Nat.lt_irrefl 0)
  · have hc := lz_G_st hG (Nat.zero_le (c + 1))
    have h1 := hG.1
    exact ⟨hG, eo, h6, by omega, t4, by omega⟩
theorem lz_K_N (h : lz_K S N F st c tx W op rd a1 a2 a3 a4 a5 a6 a7 a8 a9 a10 a11) : N ≤ 123 ∧ c ≤ 119 ∧ tx.length ≤ 120 := by
  obtain ⟨hD, ⟨⟨t1, t2, t3⟩, ⟨t4, t5⟩, ⟨t6, t7⟩, t8⟩, hA, hR⟩ := h
  rcases t8 with ⟨ex, ec, eo⟩ | ⟨hG, eo, h6⟩
  · omega
  · have hc := lz_G_st hG (Nat.zero_le (c + 1))
    have h1 := hG.1
    omega
/-- letterAt: the letter of the text -/
theorem lz_letter {post : Int32 → Prop} {x : Nat} (h : lz_K S N F st c tx W op rd a1 a2 a3 a4 a5 a6 a7 a8 a9 a10 a11) (hx : x < tx.length) (H : post (nI (tx.getD x 0))) : wpX_letterAt post (nI N, nI tx.length, nI c, op, nI W.length, rd, a1, a2, a3, a4, a5, a6, a7, a8, a9, a10, a11) (nI x) := by
  obtain ⟨hG, eo, h6, hc, ht, hN⟩ := lz_K_G h (by omega)
  have h7 := h.2.1.2.2.1.2
  have hs : ∀ i, i ≤ c → st i < 2 ^ 31 := fun i hi => by
    have b := lz_G_st hG (show i ≤ c + 1 by omega)
    omega
  refine br_f (nI_pos (by omega)) (pk_lt x tx.length (fun _ => ?_) (fun z => absurd z (by omega)))
  refine ⟨c + 1, lz_ph7 (st := st) (c := c) (by omega) (by omega) hs h7 (fun i hi h1 h2 => ?_) (c + 1) 0 c (by omega) (by omega) (by omega) (by rw [hG.1]; omega) (by rw [hG.2.1]; exact hx)⟩
  obtain ⟨g1, g2, g3, g4⟩ := hG.2.2 i hi
  refine lz_pa (F := F) hi (by omega) eo h6 ⟨pk_in i 121 (by omega), ?_⟩
  rw [nI_clamp (show i < 2 ^ 31 by omega), h7 i hi, pk_sub h1, nI_1]
  refine lz_beg (k := x - st i + 1) h.1 (by omega) g1 (by omega) (by omega) (fun r hr e => ⟨pk_in r 128 (by omega), ?_⟩)
  have hj : x - st i < (S (F i)).length := by omega
  have e' : S r = (S (F i)).take (x - st i) ++ [(S (F i)).getD (x - st i) 0] := by
    rw [e, List.take_succ_eq_append_getElem hj, List.getD_eq_getElem?_getD, List.getElem?_eq_getElem hj]
    rfl
  rw [nI_clamp (show r < 2 ^ 31 by omega), lz_last h.1 hr e', ← lz_G_at hG hi hj, show st i + (x - st i) = x by omega]
  exact H
theorem lz_fr23 {post : Int32 → Prop} {k l : Nat} (hD : lz_D S N a1 a2 a3 a4 a5) (hN : N ≤ 128) (hG : lz_G S N F st c tx) (ho : op = nI (F c)) (h6 : ∀ i, i < c → a6 i = nI (F i)) (h7 : ∀ i, i ≤ c → a7 i = nI (st i))
    (hc : c ≤ 119) (ht : tx.length ≤ 120) (hl : l < 4) (hk : k ≤ tx.length) (H : post (nI ((tx.take k).count l))) :
    ∀ (f i : Nat), i ≤ c + 1 → c + 1 - i < f → wX_frequency_23 post (nI l) (nI k) f1 f2 (nI c) op f5 f6 a1 a2 a3 a4 a5 a6 a7 a8 a9 a10 a11 f (nI ((tx.take (min k (st i))).count l)) (nI i) := by
  intro f
  induction f with
  | zero => intro i hi hf; omega
  | succ n ih =>
    intro i hi hf
    have b := lz_G_st hG hi
    refine pk_lt c i (fun z => ?_) (fun z => ⟨pk_in i 121 (by omega), ?_⟩)
    · have e : i = c + 1 := by omega
      rw [e, hG.2.1, Nat.min_eq_left hk]
      exact H
    · rw [nI_clamp (show i < 2 ^ 31 by omega), h7 i z]
      refine pk_le k (st i) (fun y => ?_) (fun y => ?_)
      · rw [Nat.min_eq_left y]; exact H
      · refine lz_pa (F := F) z hc ho h6 ⟨pk_in i 121 (by omega), ?_⟩
        rw [pk_sub (show st i ≤ k by omega)]
        refine lz_beg hD hN (hG.2.2 i z).1 (by omega) (by omega) (fun r hr e => ?_)
        rw [lz_ix4 r l, nI_clamp (show r * 4 + l < 2 ^ 31 by omega)]
        obtain ⟨_, _, _, d5, _⟩ := hD r hr
        refine ⟨pk_in (r * 4 + l) 512 (by omega), nm_r ?_ (nm_r (nI_1 i) (ih (i + 1) (by omega) (by omega)))⟩
        rw [d5 l hl, nI_add, lz_G_cut hG z y, Nat.min_eq_right (show st i ≤ k by omega), List.count_append, e]
/-- frequency: how often a letter stands among the first n -/
theorem lz_freq {post : Int32 → Prop} {l n : Nat} (h : lz_K S N F st c tx W op rd a1 a2 a3 a4 a5 a6 a7 a8 a9 a10 a11) (hl : l < 4) (hn : n ≤ tx.length) (H : post (nI ((tx.take n).count l))) : wpX_frequency post (nI N, nI tx.length, nI c, op, nI W.length, rd, a1, a2, a3, a4, a5, a6, a7, a8, a9, a10, a11) (nI l) (nI n) := by
  obtain ⟨b1, b2, b3⟩ := lz_K_N h
  refine br_f (nI_pos (by omega)) (pk_le l 3 (fun _ => ?_) (fun z => absurd z (by omega)))
  refine lz_clamp hn b3 ?_
  by_cases e : 0 < tx.length
  · obtain ⟨hG, eo, h6, hc, ht, hN⟩ := lz_K_G h e
    have h1 := lz_fr23 (post := post) (f1 := nI N) (f2 := nI tx.length) (f5 := nI W.length) (f6 := rd) (a8 := a8) (a9 := a9) (a10 := a10) (a11 := a11) h.1 (by omega) hG eo h6 h.2.1.2.2.1.2 b2 b3 hl hn H (c + 2) 0 (by omega) (by omega)
    rw [hG.1, Nat.min_zero, List.take_zero] at h1
    exact ⟨c + 2, h1⟩
  · have e0 : n = 0 := by omega
    rw [e0, List.take_zero] at H
    rw [e0]
    obtain ⟨t6, t7⟩ := h.2.1.2.2.1
    have e7 : a7 0 = nI 0 := by rw [t7 0 (Nat.zero_le _), t6]
    refine ⟨1, pk_lt c 0 (fun z => absurd z (by omega)) (fun z => ⟨pk_in 0 121 (by omega), ?_⟩)⟩
    refine br_t ?_ H
    show nI 0 ≤ a7 0
    rw [e7]
    exact nI_le (Nat.le_refl 0) (by omega)
end
end
section
section
variable {S : Nat → List Nat} {N c : Nat} {F st : Nat → Nat} {tx W : List Nat} {op rd : Int32} {f1 f2 f3 f4 f5 f6 : Int32} {a1 a2 a3 a4 a5 a6 a7 a8 a9 a10 a11 : Nat → Int32}
theorem lz_f67 {post : St1 → Prop} {p q s h x : Nat} (hp : p < 128) (hq : q ≤ 10) (hA : lz_A W a8 a9) (hW : W ≠ []) (hx : x < 4) (e2 : a2 p = nI x) (hs : s ≤ W.length) (hh : h < 127)
    (H : post (f1, f2, f3, f4, nI W.length, f6, a1, a2, a3, a4, a5, a6, a7, a8, a9, upd a10 (p * 11 + q) (nI (lz_dl a9 s x)), upd a11 (p * 11 + q) (nI (h + if lz_dl a9 s x = W.length then 1 else 0)))) :
    wX_fill_67 post (nI p) (nI (p * 11 + q)) (nI s) (nI h) f1 f2 f3 f4 (nI W.length) f6 a1 a2 a3 a4 a5 a6 a7 a8 a9 a10 a11 := by
  obtain ⟨k1, k2, _⟩ := lz_A_dl hA hW hs hx
  have hm := hA.1.1
  unfold wX_fill_67
  rw [nI_clamp (show p < 2 ^ 31 by omega), e2, lz_ix4 s x, nI_clamp (show s * 4 + x < 2 ^ 31 by omega), nI_clamp (show p * 11 + q < 2 ^ 31 by omega)]
  refine ⟨pk_in p 128 hp, pk_in (s * 4 + x) 44 (by omega), nm_r k1 ⟨pk_in (p * 11 + q) 1408 (by omega), nm_r (by rw [lz_byte _ (by omega)]) ?_⟩⟩
  refine pk_eq (lz_dl a9 s x) W.length (fun z => ⟨pk_in (p * 11 + q) 1408 (by omega), nm_r (by rw [nI_1, lz_byte _ (by omega)]) ?_⟩) (fun z => ⟨pk_in (p * 11 + q) 1408 (by omega), nm_r (by rw [lz_byte _ (by omega)]) ?_⟩)
  · rw [if_pos z] at H; exact H
  · rw [if_neg z] at H; exact H
/-- fill: one place of the tables, out of the parent's -/
theorem lz_fill {post : St1 → Prop} {p q : Nat} (hD : lz_D S N a1 a2 a3 a4 a5) (hN : N ≤ 128) (hA : lz_A W a8 a9) (hW : W ≠ []) (hp : p < N) (hq : q ≤ W.length)
    (htb : ∀ r, r < p → lz_tb S W a9 a10 a11 r q)
    (H : post (f1, f2, f3, f4, nI W.length, f6, a1, a2, a3, a4, a5, a6, a7, a8, a9, upd a10 (p * 11 + q) (nI (lz_run (lz_dl a9) q (S p))), upd a11 (p * 11 + q) (nI (lz_hit (lz_dl a9) W.length q (S p))))) :
    wpX_fill post (f1, f2, f3, f4, nI W.length, f6, a1, a2, a3, a4, a5, a6, a7, a8, a9, a10, a11) (nI p) (nI q) := by
  obtain ⟨⟨d0, d0', d0''⟩, d3, ⟨x, hx, e2, hh⟩, _, _⟩ := hD p hp
  have hm := hA.1.1
  refine nm_r (lz_ix11 p q) ⟨pk_in p 128 (by omega), ?_⟩
  rw [nI_clamp (show p < 2 ^ 31 by omega)]
  rcases hh with ⟨e1, e⟩ | ⟨r, hr, e1, e⟩
  · refine br_f (by rw [e1]; decide) ⟨pk_in p 128 (by omega), ?_⟩
    rw [nI_clamp (show p < 2 ^ 31 by omega)]
    refine br_f (by rw [e1]; decide) (lz_f67 (h := 0) (by omega) (by omega) hA hW hx e2 hq (by omega) ?_)
    rw [e] at H
    rw [Nat.zero_add]
    exact H
  · obtain ⟨u1, u2⟩ := htb r hr
    obtain ⟨⟨_, v1, v2⟩, _⟩ := hD r (by omega)
    have hl := lz_hit_le (lz_dl a9) W.length (S r) q
    have hrun := lz_run_le (lz_A_ok hA hW) v2 hq
    refine br_t (by rw [e1]; exact nI_pos' (by omega)) ?_
    rw [e1, lz_ix11 r q, nI_clamp (show r * 11 + q < 2 ^ 31 by omega), u1]
    refine ⟨pk_in p 128 (by omega), pk_in (r * 11 + q) 1408 (by omega), ⟨pk_in p 128 (by omega), ?_⟩⟩
    rw [nI_clamp (show p < 2 ^ 31 by omega)]
    refine br_t (by rw [e1]; exact nI_pos' (by omega)) ?_
    rw [e1, lz_ix11 r q, nI_clamp (show r * 11 + q < 2 ^ 31 by omega), u2]
    refine ⟨pk_in p 128 (by omega), pk_in (r * 11 + q) 1408 (by omega), lz_f67 (by omega) (by omega) hA hW hx e2 hrun (by omega) ?_⟩
    rw [e, lz_run_s, lz_hit_s] at H
    exact H
theorem lz_pr25 {post : St1 → Prop} {J : Int32 → Int32 → Int32 → Int32 → Int32 → Int32 → Int32 → (Nat → Int32) → (Nat → Int32) → (Nat → Int32) → (Nat → Int32) → (Nat → Int32) → (Nat → Int32) → (Nat → Int32) → (Nat → Int32) → (Nat → Int32) → (Nat → Int32) → (Nat → Int32) → Prop} {p : Nat}
    (hD : lz_D S N a1 a2 a3 a4 a5) (hN : N ≤ 128) (hA : lz_A W a8 a9) (hW : W ≠ []) (hp : p < N)
    (H : ∀ b10 b11 : Nat → Int32, (∀ r, r < p + 1 → ∀ q, q ≤ W.length → lz_tb S W a9 b10 b11 r q) → J (nI (p + 1)) f1 f2 f3 f4 (nI W.length) f6 a1 a2 a3 a4 a5 a6 a7 a8 a9 b10 b11) :
    ∀ (f q : Nat) (b10 b11 : Nat → Int32), q ≤ W.length + 1 → W.length + 1 - q < f → (∀ r, r < p → ∀ q, q ≤ W.length → lz_tb S W a9 b10 b11 r q) → (∀ k, k < q → lz_tb S W a9 b10 b11 p k) →
    wX_prepare_25 post J (nI p) f (nI q) f1 f2 f3 f4 (nI W.length) f6 a1 a2 a3 a4 a5 a6 a7 a8 a9 b10 b11 := by
  have hm := hA.1.1
  intro f
  induction f with
  | zero => intro q b10 b11 h1 h2; omega
  | succ n ih =>
    intro q b10 b11 h1 h2 h3 h4
    refine pk_lt W.length q (fun z => nm_r (nI_1 p) (H b10 b11 (fun r hr k hk => ?_))) (fun z => ?_)
    · by_cases e : r = p
      · rw [e]; exact h4 k (by omega)
      · exact h3 r (by omega) k hk
    · refine lz_fill hD hN hA hW hp z (fun r hr => h3 r hr q z) (nm_r (nI_1 q) (ih (q + 1) _ _ (by omega) (by omega) (fun r hr k hk => ?_) (fun k hk => ?_)))
      · unfold lz_tb
        rw [pk_un (by omega), pk_un (by omega)]
        exact h3 r hr k hk
      · unfold lz_tb
        by_cases e : k = q
        · rw [e, pk_us, pk_us]; exact ⟨rfl, rfl⟩
        · rw [pk_un (by omega), pk_un (by omega)]
          exact h4 k (by omega)
theorem lz_pr15 {post : St1 → Prop} (hD : lz_D S N a1 a2 a3 a4 a5) (hN : N ≤ 128) (hA : lz_A W a8 a9) (hW : W ≠ [])
    (H : ∀ b10 b11 : Nat → Int32, (∀ r, r < N → ∀ q, q ≤ W.length → lz_tb S W a9 b10 b11 r q) → post (nI N, f2, f3, f4, nI W.length, f6, a1, a2, a3, a4, a5, a6, a7, a8, a9, b10, b11)) :
    ∀ (f p : Nat) (b10 b11 : Nat → Int32), p ≤ N → N - p < f → (∀ r, r < p → ∀ q, q ≤ W.length → lz_tb S W a9 b10 b11 r q) →
    wX_prepare_15 post f (nI p) (nI N) f2 f3 f4 (nI W.length) f6 a1 a2 a3 a4 a5 a6 a7 a8 a9 b10 b11 := by
  intro f
  induction f with
  | zero => intro p b10 b11 h1 h2; omega
  | succ n ih =>
    intro p b10 b11 h1 h2 h3
    refine pk_le N p (fun z => ?_) (fun z => ?_)
    · have e : p = N := by omega
      rw [e] at h3
      exact H b10 b11 h3
    · exact ⟨W.length + 2, lz_pr25 hD hN hA hW z (fun c10 c11 h => ih (p + 1) c10 c11 (by omega) (by omega) h) (W.length + 2) 0 b10 b11 (by omega) (by omega) h3 (fun k hk => absurd hk (by omega))⟩
/-- prepare: the tables stand -/
theorem lz_prep {post : St1 → Prop} (hD : lz_D S N a1 a2 a3 a4 a5) (hN : N ≤ 128) (hA : lz_A W a8 a9) (hW : W ≠ []) (hR : lz_R S N W a9 rd a10 a11)
    (H : ∀ b10 b11 : Nat → Int32, (∀ r, r < N → ∀ q, q ≤ W.length → lz_tb S W a9 b10 b11 r q) → post (nI N, f2, f3, f4, nI W.length, 1, a1, a2, a3, a4, a5, a6, a7, a8, a9, b10, b11)) :
    wpX_prepare post (nI N, f2, f3, f4, nI W.length, rd, a1, a2, a3, a4, a5, a6, a7, a8, a9, a10, a11) := by
  rcases hR with e | ⟨e, htb⟩
  · exact br_t e ⟨N + 1, lz_pr15 hD hN hA hW H (N + 1) 0 a10 a11 (by omega) (by omega) (fun r hr => absurd hr (by omega))⟩
  · refine br_f (by rw [e]; decide) ?_
    rw [e]
    exact H a10 a11 htb
theorem lz_G_nx (hG : lz_G S N F st c tx) {i : Nat} (hi : i ≤ c) : tx.take (st (i + 1)) = tx.take (st i) ++ S (F i) := by
  obtain ⟨_, hpos, hst, hd⟩ := hG.2.2 i hi
  rw [hst, List.take_add, hd, List.take_append_of_le_length (Nat.le_refl _), List.take_length]
theorem lz_tk4 (ht : ∀ x, x ∈ tx → x < 4) (k : Nat) : ∀ x, x ∈ tx.take k → x < 4 := fun x hx => ht x (List.mem_of_mem_take hx)
theorem lz_cw31 {post : Int32 → St1 → Prop} {k : Nat} (hD : lz_D S N a1 a2 a3 a4 a5) (hN : N ≤ 128) (hA : lz_A W a8 a9) (hW : W ≠ []) (hG : lz_G S N F st c tx) (ho : op = nI (F c)) (h6 : ∀ i, i < c → a6 i = nI (F i)) (h7 : ∀ i, i ≤ c → a7 i = nI (st i))
    (hc : c ≤ 119) (ht : tx.length ≤ 120) (hx : ∀ x, x ∈ tx → x < 4) (hk : k ≤ tx.length) (htb : ∀ r, r < N → ∀ q, q ≤ W.length → lz_tb S W a9 a10 a11 r q)
    (H : post (nI (lz_hit (lz_dl a9) W.length 0 (tx.take k))) (f1, f2, nI c, op, f5, f6, a1, a2, a3, a4, a5, a6, a7, a8, a9, a10, a11)) :
    ∀ (f i : Nat), i ≤ c + 1 → c + 1 - i < f → wX_countWithin_31 post (nI k) f1 f2 (nI c) op f5 f6 a1 a2 a3 a4 a5 a6 a7 a8 a9 a10 a11 f (nI (lz_run (lz_dl a9) 0 (tx.take (min k (st i))))) (nI (lz_hit (lz_dl a9) W.length 0 (tx.take (min k (st i))))) (nI i) := by
  have hm := hA.1.1
  intro f
  induction f with
  | zero => intro i hi hf; omega
  | succ n ih =>
    intro i hi hf
    have b := lz_G_st hG hi
    refine pk_lt c i (fun z => ?_) (fun z => ⟨pk_in i 121 (by omega), ?_⟩)
    · have e : i = c + 1 := by omega
      rw [e, hG.2.1, Nat.min_eq_left hk]
      exact H
    · rw [nI_clamp (show i < 2 ^ 31 by omega), h7 i z]
      refine pk_le k (st i) (fun y => ?_) (fun y => ?_)
      · rw [Nat.min_eq_left y]; exact H
      · refine lz_pa (F := F) z hc ho h6 ⟨pk_in i 121 (by omega), ?_⟩
        rw [pk_sub (show st i ≤ k by omega)]
        refine lz_beg hD hN (hG.2.2 i z).1 (by omega) (by omega) (fun r hr e => ?_)
        have hrun := lz_run_le (lz_A_ok hA hW) (lz_tk4 hx (min k (st i))) (Nat.zero_le W.length)
        have hcut := lz_G_cut hG z y
        rw [Nat.min_eq_right (show st i ≤ k by omega)] at hrun
        rw [Nat.min_eq_right (show st i ≤ k by omega), lz_ix11, nI_clamp (show r * 11 + lz_run (lz_dl a9) 0 (tx.take (st i)) < 2 ^ 31 by omega)]
        obtain ⟨u1, u2⟩ := htb r hr _ hrun
        refine ⟨vp_in_nI (by omega) (by omega), nm_r ?_ ⟨vp_in_nI (by omega) (by omega), nm_r ?_ (nm_r (nI_1 i) (ih (i + 1) (by omega) (by omega)))⟩⟩
        · rw [u2, nI_add, hcut, lz_hit_app, e]
        · rw [u1, hcut, lz_run_app, e]
/-- countWithin: how many occurrences end within the first n letters -/
theorem lz_cw {post : Int32 → St1 → Prop} {n : Nat} (h : lz_K S N F st c tx W op rd a1 a2 a3 a4 a5 a6 a7 a8 a9 a10 a11) (hn : n ≤ tx.length)
    (H : ∀ (rd' : Int32) (b10 b11 : Nat → Int32), lz_R S N W a9 rd' b10 b11 → post (nI (lz_cn W a9 tx n)) (nI N, nI tx.length, nI c, op, nI W.length, rd', a1, a2, a3, a4, a5, a6, a7, a8, a9, b10, b11)) : wpX_countWithin post (nI N, nI tx.length, nI c, op, nI W.length, rd, a1, a2, a3, a4, a5, a6, a7, a8, a9, a10, a11) (nI n) := by
  obtain ⟨b1, b2, b3⟩ := lz_K_N h
  have hA := h.2.2.1
  have hm := hA.1.1
  have hR := h.2.2.2
  unfold wpX_countWithin
  refine lz_clamp hn b3 ?_
  refine pk_eq W.length 0 (fun z => ?_) (fun z => pk_eq n 0 (fun y => ?_) (fun y => ?_))
  · have e : lz_cn W a9 tx n = 0 := by
      unfold lz_cn
      rw [if_pos (List.eq_nil_of_length_eq_zero z)]
    have H' := H rd a10 a11 hR
    rw [e] at H'
    exact H'
  · have H' := H rd a10 a11 hR
    rw [y, lz_cn_0] at H'
    exact H'
  · have hW : W ≠ [] := fun e => z (by rw [e]; rfl)
    obtain ⟨hG, eo, h6, hc, ht, hN⟩ := lz_K_G h (by omega)
    refine lz_prep h.1 (by omega) hA hW hR (fun b10 b11 htb => ?_)
    have H' := H 1 b10 b11 (Or.inr ⟨rfl, htb⟩)
    have e : lz_cn W a9 tx n = lz_hit (lz_dl a9) W.length 0 (tx.take n) := by
      unfold lz_cn
      rw [if_neg hW]
    rw [e] at H'
    have h1 := lz_cw31 h.1 (by omega) hA hW hG eo h6 h.2.1.2.2.1.2 b2 b3 h.2.1.2.1.2 hn htb H' (c + 2) 0 (by omega) (by omega)
    rw [hG.1, Nat.min_zero, List.take_zero] at h1
    exact ⟨c + 2, h1⟩
theorem lz_count {post : Int32 → St1 → Prop} (h : lz_K S N F st c tx W op rd a1 a2 a3 a4 a5 a6 a7 a8 a9 a10 a11)
    (H : ∀ (rd' : Int32) (b10 b11 : Nat → Int32), lz_R S N W a9 rd' b10 b11 → post (nI (lz_cn W a9 tx tx.length)) (nI N, nI tx.length, nI c, op, nI W.length, rd', a1, a2, a3, a4, a5, a6, a7, a8, a9, b10, b11)) : wpX_count post (nI N, nI tx.length, nI c, op, nI W.length, rd, a1, a2, a3, a4, a5, a6, a7, a8, a9, a10, a11) :=
  lz_cw h (Nat.le_refl _) (fun rd' b10 b11 hR => H rd' b10 b11 hR)
theorem lz_hit_new {d : Nat → Nat → Nat} {m q x left : Nat} {s : List Nat} (h1 : lz_hit d m q s ≤ left) (h2 : left < lz_hit d m q (s ++ [x])) : lz_hit d m q (s ++ [x]) = left + 1 ∧ lz_run d q (s ++ [x]) = m := by
  rw [lz_hit_s] at h2 ⊢
  rw [lz_run_s]
  by_cases e : d (lz_run d q s) x = m
  · rw [if_pos e] at h2 ⊢
    exact ⟨by omega, e⟩
  · rw [if_neg e] at h2
    omega
theorem lz_ei3 {post : Int32 → Prop} {q left : Nat} {P : List Nat} (hD : lz_D S N a1 a2 a3 a4 a5) (hN : N ≤ 128) (hA : lz_A W a8 a9) (hq : q ≤ W.length) (hl : left < 2 ^ 31) (htb : ∀ r, r < N → ∀ q, q ≤ W.length → lz_tb S W a9 a10 a11 r q)
    (H : ∀ r, r < N → S r = P.take (S r).length → lz_hit (lz_dl a9) W.length q (S r) = left + 1 → lz_run (lz_dl a9) q (S r) = W.length → post (nI (S r).length)) :
    ∀ (f p : Nat), p < N → p < f → S p = P.take (S p).length → left < lz_hit (lz_dl a9) W.length q (S p) → wX_endInside_3 post (nI q) (nI left) f1 f2 f3 f4 f5 f6 a1 a2 a3 a4 a5 a6 a7 a8 a9 a10 a11 f (nI p) := by
  have hm := hA.1.1
  intro f
  induction f with
  | zero => intro p hp hf; omega
  | succ n ih =>
    intro p hp hf hP hh'
    obtain ⟨⟨d0, d0', _⟩, d3, ⟨x, hx, e2, hh⟩, _, _⟩ := hD p hp
    refine ⟨pk_in p 128 (by omega), ?_⟩
    rw [nI_clamp (show p < 2 ^ 31 by omega), d3]
    rcases hh with ⟨e1, e⟩ | ⟨r, hr, e1, e⟩
    · refine br_t (by rw [e1]; decide) ⟨pk_in p 128 (by omega), ?_⟩
      have h3 : left < lz_hit (lz_dl a9) W.length q ([] ++ [x]) := by
        rw [e] at hh'; exact hh'
      obtain ⟨k1, k2⟩ := lz_hit_new (s := []) (Nat.zero_le _) h3
      exact H p hp hP (by rw [e]; exact k1) (by rw [e]; exact k2)
    · obtain ⟨u1, u2⟩ := htb r (by omega) q hq
      have hle := lz_hit_le (lz_dl a9) W.length (S r) q
      obtain ⟨⟨_, v1, _⟩, _⟩ := hD r (by omega)
      refine br_f (by rw [e1]; exact nI_pos (by omega)) ?_
      rw [e1, lz_ix11 r q, nI_clamp (show r * 11 + q < 2 ^ 31 by omega), u2]
      refine ⟨pk_in p 128 (by omega), pk_in (r * 11 + q) 1408 (by omega), ?_⟩
      refine pk_le (lz_hit (lz_dl a9) W.length q (S r)) left (fun z => ⟨pk_in p 128 (by omega), ?_⟩) (fun z => ⟨pk_in p 128 (by omega), nm_e (ih r (by omega) (by omega) ?_ z)⟩)
      · have h3 : left < lz_hit (lz_dl a9) W.length q (S r ++ [x]) := by
          rw [e] at hh'; exact hh'
        obtain ⟨k1, k2⟩ := lz_hit_new z h3
        exact H p hp hP (by rw [e]; exact k1) (by rw [e]; exact k2)
      · have hlen : (S p).length = (S r).length + 1 := by rw [e, List.length_append]; rfl
        have h4 : (S p).take (S r).length = S r := by rw [e, List.take_append_of_le_length (Nat.le_refl _), List.take_length]
        rw [hP, List.take_take, Nat.min_eq_left (by omega)] at h4
        exact h4.symm
theorem lz_pos32 {post : Int32 → St1 → Prop} {k : Nat} (hD : lz_D S N a1 a2 a3 a4 a5) (hN : N ≤ 128) (hA : lz_A W a8 a9) (hW : W ≠ []) (hG : lz_G S N F st c tx) (ho : op = nI (F c)) (h6 : ∀ i, i < c → a6 i = nI (F i)) (h7 : ∀ i, i ≤ c → a7 i = nI (st i))
    (hc : c ≤ 119) (ht : tx.length ≤ 120) (hx : ∀ x, x ∈ tx → x < 4) (hk : k < 2 ^ 31) (htb : ∀ r, r < N → ∀ q, q ≤ W.length → lz_tb S W a9 a10 a11 r q)
    (H1 : ∀ e, e ≤ tx.length → lz_hit (lz_dl a9) W.length 0 (tx.take e) = k + 1 → lz_run (lz_dl a9) 0 (tx.take e) = W.length → post (nI (e - W.length)) (f1, f2, nI c, op, nI W.length, f6, a1, a2, a3, a4, a5, a6, a7, a8, a9, a10, a11))
    (H2 : lz_hit (lz_dl a9) W.length 0 tx ≤ k → post (-4) (f1, f2, nI c, op, nI W.length, f6, a1, a2, a3, a4, a5, a6, a7, a8, a9, a10, a11)) :
    ∀ (f i left : Nat), i ≤ c + 1 → c + 1 - i < f → left + lz_hit (lz_dl a9) W.length 0 (tx.take (st i)) = k → wX_position_32 post f1 f2 (nI c) op (nI W.length) f6 a1 a2 a3 a4 a5 a6 a7 a8 a9 a10 a11 f (nI (lz_run (lz_dl a9) 0 (tx.take (st i)))) (nI left) (nI i) := by
  have hm := hA.1.1
  intro f
  induction f with
  | zero => intro i left hi hf; omega
  | succ n ih =>
    intro i left hi hf hl
    have b := lz_G_st hG hi
    refine pk_lt c i (fun z => ?_) (fun z => ?_)
    · have e : i = c + 1 := by omega
      rw [e, hG.2.1, List.take_length] at hl
      exact H2 (by omega)
    · have hrun := lz_run_le (lz_A_ok hA hW) (lz_tk4 hx (st i)) (Nat.zero_le W.length)
      obtain ⟨g1, g2, g3, g4⟩ := hG.2.2 i z
      have hnx := lz_G_nx hG z
      obtain ⟨u1, u2⟩ := htb (F i) g1 _ hrun
      have hle := lz_hit_le (lz_dl a9) W.length (S (F i)) (lz_run (lz_dl a9) 0 (tx.take (st i)))
      obtain ⟨⟨_, v1, _⟩, _⟩ := hD (F i) g1
      refine lz_pa (F := F) z hc ho h6 ?_
      rw [lz_ix11, nI_clamp (show F i * 11 + lz_run (lz_dl a9) 0 (tx.take (st i)) < 2 ^ 31 by omega)]
      refine ⟨vp_in_nI (by omega) (by omega), nm_r u2 (pk_le _ left (fun y => nm_r (pk_sub y) ⟨vp_in_nI (by omega) (by omega), nm_r (e' := nI (lz_run (lz_dl a9) 0 (tx.take (st (i + 1))))) ?_ (nm_r (nI_1 i) (ih (i + 1) _ (by omega) (by omega) ?_))⟩) (fun y => ⟨pk_in i 121 (by omega), ?_⟩))⟩
      · rw [u1, hnx, lz_run_app]
      · rw [hnx, lz_hit_app]; omega
      · rw [nI_clamp (show i < 2 ^ 31 by omega), h7 i z]
        refine ⟨F i + 1, lz_ei3 (P := S (F i)) hD hN hA hrun (by omega) htb (fun r hr e1 e2 e3 => ?_) (F i + 1) (F i) g1 (by omega) (by rw [List.take_length]) y⟩
        have hlr : (S r).length ≤ (S (F i)).length := by
          have h8 := congrArg List.length e1
          rw [List.length_take] at h8
          omega
        have hlt : st i + (S r).length ≤ tx.length := by
          have b2 := lz_G_st hG (show i + 1 ≤ c + 1 by omega)
          omega
        have htk : tx.take (st i + (S r).length) = tx.take (st i) ++ S r := by
          rw [List.take_add, g4, List.take_append_of_le_length hlr, ← e1]
        have r1 : lz_hit (lz_dl a9) W.length 0 (tx.take (st i + (S r).length)) = k + 1 := by
          rw [htk, lz_hit_app, e2]; omega
        have r2 : lz_run (lz_dl a9) 0 (tx.take (st i + (S r).length)) = W.length := by
          rw [htk, lz_run_app, e3]
        have hend := (lz_end (lz_A_ok hA hW) hx hlt r2).1
        rw [nI_add, pk_sub hend]
        exact H1 _ hlt r1 r2
/-- position: the occurrence number k, or none -/
theorem lz_pos {post : Int32 → St1 → Prop} {k : Nat} (h : lz_K S N F st c tx W op rd a1 a2 a3 a4 a5 a6 a7 a8 a9 a10 a11) (hk : k < 2 ^ 31)
    (H1 : ∀ (rd' : Int32) (b10 b11 : Nat → Int32), lz_R S N W a9 rd' b10 b11 → W ≠ [] → ∀ e, e ≤ tx.length → lz_cn W a9 tx e = k + 1 → lz_run (lz_dl a9) 0 (tx.take e) = W.length → post (nI (e - W.length)) (nI N, nI tx.length, nI c, op, nI W.length, rd', a1, a2, a3, a4, a5, a6, a7, a8, a9, b10, b11))
    (H2 : ∀ (rd' : Int32) (b10 b11 : Nat → Int32), lz_R S N W a9 rd' b10 b11 → lz_cn W a9 tx tx.length ≤ k → post (-4) (nI N, nI tx.length, nI c, op, nI W.length, rd', a1, a2, a3, a4, a5, a6, a7, a8, a9, b10, b11)) : wpX_position post (nI N, nI tx.length, nI c, op, nI W.length, rd, a1, a2, a3, a4, a5, a6, a7, a8, a9, a10, a11) (nI k) := by
  obtain ⟨b1, b2, b3⟩ := lz_K_N h
  have hA := h.2.2.1
  have hm := hA.1.1
  have hR := h.2.2.2
  refine br_f (nI_pos hk) (pk_eq W.length 0 (fun z => ?_) (fun z => pk_eq tx.length 0 (fun y => ?_) (fun y => ?_)))
  · refine H2 rd a10 a11 hR ?_
    unfold lz_cn
    rw [if_pos (List.eq_nil_of_length_eq_zero z)]
    exact Nat.zero_le _
  · refine H2 rd a10 a11 hR ?_
    have h1 := lz_cn_le (W := W) (a9 := a9) (tx := tx) tx.length
    omega
  · have hW : W ≠ [] := fun e => z (by rw [e]; rfl)
    have e : ∀ j, lz_cn W a9 tx j = lz_hit (lz_dl a9) W.length 0 (tx.take j) := fun j => by
      unfold lz_cn
      rw [if_neg hW]
    obtain ⟨hG, eo, h6, hc, ht, hN⟩ := lz_K_G h (by omega)
    refine lz_prep h.1 (by omega) hA hW hR (fun b10 b11 htb => ?_)
    have h1 := lz_pos32 (post := post) (k := k) (f1 := nI N) (f2 := nI tx.length) (f6 := 1) h.1 (by omega) hA hW hG eo h6 h.2.1.2.2.1.2 b2 b3 h.2.1.2.1.2 hk htb
      (fun j hj j1 j2 => H1 1 b10 b11 (Or.inr ⟨rfl, htb⟩) hW j hj (by rw [e]; exact j1) j2)
      (fun j1 => H2 1 b10 b11 (Or.inr ⟨rfl, htb⟩) (by rw [e, List.take_length]; exact j1)) (c + 2) 0 k (by omega) (by omega) (by rw [hG.1, List.take_zero]; rfl)
    rw [hG.1, List.take_zero] at h1
    exact ⟨c + 2, h1⟩
theorem lz_posm {post : Int32 → St1 → Prop} (H : post (-4) (nI N, nI tx.length, nI c, op, nI W.length, rd, a1, a2, a3, a4, a5, a6, a7, a8, a9, a10, a11)) : wpX_position post (nI N, nI tx.length, nI c, op, nI W.length, rd, a1, a2, a3, a4, a5, a6, a7, a8, a9, a10, a11) (-1) := br_t (by decide) H
end
end
section
/-! the automaton is built -/
/-- one place of the automaton's table is sound -/
def lz_en (W : List Nat) (b9 : Nat → Int32) (q l : Nat) : Prop := ∃ r, r ≤ W.length ∧ b9 (q * 4 + l) = nI r ∧ W.take r <:+ W.take q ++ [l]
section
variable {N c : Nat} {tx W : List Nat} {op rd : Int32} {f1 f2 f3 f4 f5 f6 : Int32} {a1 a2 a3 a4 a5 a6 a7 a8 a9 a10 a11 : Nat → Int32}
theorem lz_tkS {k : Nat} (hk : k < W.length) : W.take (k + 1) = W.take k ++ [W.getD k 0] := by
  rw [List.take_succ_eq_append_getElem hk, List.getD_eq_getElem?_getD, List.getElem?_eq_getElem hk]
  rfl
theorem lz_gD4 (h4 : ∀ x, x ∈ W → x < 4) {k : Nat} (hk : k < W.length) : W.getD k 0 < 4 := by
  rw [List.getD_eq_getElem?_getD, List.getElem?_eq_getElem hk]
  exact h4 _ (List.getElem_mem hk)
theorem lz_en_put {b9 : Nat → Int32} {v : Int32} {q l r : Nat} (hl : l < 4) (h1 : lz_au W b9 q) (h2 : ∀ k, k < l → lz_en W b9 q k) (hv : v = nI r) (hr : r ≤ W.length) (hs : W.take r <:+ W.take q ++ [l]) :
    lz_au W (upd b9 (q * 4 + l) v) q ∧ ∀ k, k < l + 1 → lz_en W (upd b9 (q * 4 + l) v) q k := by
  constructor
  · intro q' hq' k hk
    rw [pk_un (by omega)]
    exact h1 q' hq' k hk
  · intro k hk
    unfold lz_en
    by_cases e : k = l
    · rw [e, pk_us]
      exact ⟨r, hr, hv, hs⟩
    · rw [pk_un (by omega)]
      exact h2 k (by omega)
theorem lz_ba53 {post : St1 → Prop} {J : Int32 → Int32 → (Nat → Int32) → (Nat → Int32) → (Nat → Int32) → (Nat → Int32) → (Nat → Int32) → (Nat → Int32) → (Nat → Int32) → (Nat → Int32) → (Nat → Int32) → (Nat → Int32) → (Nat → Int32) → Prop} {b q : Nat}
    (hm : W.length ≤ 10) (h4 : ∀ x, x ∈ W → x < 4) (h8 : ∀ k, k < W.length → a8 k = nI (W.getD k 0)) (hq : q ≤ W.length) (hb : b < q) (hbs : W.take b <:+ W.take q)
    (H : ∀ (b' : Nat) (b9 : Nat → Int32), b' < q + 1 → W.take b' <:+ W.take (q + 1) → lz_au W b9 (q + 1) → J (nI b') (nI (q + 1)) a1 a2 a3 a4 a5 a6 a7 a8 b9 a10 a11) :
    ∀ (f l : Nat) (b9 : Nat → Int32), l ≤ 4 → 4 - l < f → lz_au W b9 q → (∀ k, k < l → lz_en W b9 q k) →
    wX_buildAutomaton_53 post J (nI b) (nI q) f1 f2 f3 f4 (nI W.length) f6 f (nI l) a1 a2 a3 a4 a5 a6 a7 a8 b9 a10 a11 := by
  intro f
  induction f with
  | zero => intro l b9 hl hf; omega
  | succ n ih =>
    intro l b9 hl hf h1 h2
    refine pk_le 4 l (fun z => ?_) (fun z => ?_)
    · have e : l = 4 := by omega
      have hau : lz_au W b9 (q + 1) := by
        intro q' hq' k hk
        by_cases e' : q' = q
        · rw [e']; exact h2 k (by omega)
        · exact h1 q' (by omega) k hk
      refine pk_le W.length q (fun y => nm_r (nI_1 q) ?_) (fun y => ⟨pk_in q 10 (by omega), ?_⟩)
      · refine H b b9 (by omega) ?_ hau
        rw [List.take_of_length_le (show W.length ≤ q + 1 by omega)]
        rw [List.take_of_length_le y] at hbs
        exact hbs
      · rw [nI_clamp (show q < 2 ^ 31 by omega), h8 q y, lz_ix4, nI_clamp (show b * 4 + W.getD q 0 < 2 ^ 31 by have := lz_gD4 h4 y; omega)]
        have hg := lz_gD4 h4 y
        obtain ⟨r, hr, e9, hs⟩ := h1 b hb _ hg
        refine ⟨vp_in_nI (by omega) (by omega), nm_r e9 (nm_r (nI_1 q) (H r b9 ?_ ?_ hau))⟩
        · have hlen := hs.length_le
          rw [List.length_append, List.length_take_of_le hr, List.length_take_of_le (by omega)] at hlen
          have hlen' : r ≤ b + 1 := hlen
          omega
        · rw [lz_tkS y]
          exact hs.trans (List.suffix_append_self_iff.mpr hbs)
    · have no : wX_buildAutomaton_80 post J (wX_buildAutomaton_53 post J (nI b) (nI q) f1 f2 f3 f4 (nI W.length) f6 n) (nI b) (nI q) (nI l) f1 f2 f3 f4 (nI W.length) f6 a1 a2 a3 a4 a5 a6 a7 a8 b9 a10 a11 := by
        obtain ⟨r, hr, e9, hs⟩ := h1 b hb l z
        refine br_t rfl ?_
        rw [lz_ix4 b l, lz_ix4 q l, nI_clamp (show b * 4 + l < 2 ^ 31 by omega), nI_clamp (show q * 4 + l < 2 ^ 31 by omega)]
        obtain ⟨k1, k2⟩ := lz_en_put z h1 h2 e9 hr (hs.trans (List.suffix_append_self_iff.mpr hbs))
        exact ⟨pk_in (b * 4 + l) 44 (by omega), pk_in (q * 4 + l) 44 (by omega), nm_e (nm_r (nI_1 l) (ih (l + 1) _ (by omega) (by omega) k1 k2))⟩
      refine pk_le W.length q (fun y => no) (fun y => ⟨pk_in q 10 (by omega), ?_⟩)
      rw [nI_clamp (show q < 2 ^ 31 by omega), h8 q y]
      have hg := lz_gD4 h4 y
      refine pk_eq (W.getD q 0) l (fun x => ?_) (fun x => no)
      refine br_f (by decide) ?_
      rw [lz_ix4 q l, nI_clamp (show q * 4 + l < 2 ^ 31 by omega)]
      obtain ⟨k1, k2⟩ := lz_en_put (v := nI q + 1) (r := q + 1) z h1 h2 (nI_1 q) (by omega) (by rw [lz_tkS y, x]; exact ⟨[], rfl⟩)
      exact ⟨pk_in (q * 4 + l) 44 (by omega), nm_e (nm_r (nI_1 l) (ih (l + 1) _ (by omega) (by omega) k1 k2))⟩
theorem lz_ba43 {post : St1 → Prop} (hm : W.length ≤ 10) (h4 : ∀ x, x ∈ W → x < 4) (h8 : ∀ k, k < W.length → a8 k = nI (W.getD k 0))
    (H : ∀ b9 : Nat → Int32, lz_au W b9 (W.length + 1) → post (f1, f2, f3, f4, nI W.length, f6, a1, a2, a3, a4, a5, a6, a7, a8, b9, a10, a11)) :
    ∀ (f q b : Nat) (b9 : Nat → Int32), q ≤ W.length + 1 → W.length + 1 - q < f → b < q → W.take b <:+ W.take q → lz_au W b9 q →
    wX_buildAutomaton_43 post f1 f2 f3 f4 (nI W.length) f6 f (nI b) (nI q) a1 a2 a3 a4 a5 a6 a7 a8 b9 a10 a11 := by
  intro f
  induction f with
  | zero => intro q b b9 hq hf; omega
  | succ n ih =>
    intro q b b9 hq hf hb hbs h1
    refine pk_lt W.length q (fun z => ?_) (fun z => ?_)
    · have e : q = W.length + 1 := by omega
      rw [e] at h1
      exact H b9 h1
    · exact ⟨5, lz_ba53 hm h4 h8 z hb hbs (fun b' c9 k1 k2 k3 => ih (q + 1) b' c9 (by omega) (by omega) k1 k2 k3) 5 0 b9 (by omega) (by omega) h1 (fun k hk => absurd hk (by omega))⟩
theorem lz_ba7 {post : St1 → Prop} (hW : 0 < W.length) (hm : W.length ≤ 10) (h4 : ∀ x, x ∈ W → x < 4) (h8 : ∀ k, k < W.length → a8 k = nI (W.getD k 0))
    (H : ∀ b9 : Nat → Int32, lz_au W b9 (W.length + 1) → post (f1, f2, f3, f4, nI W.length, f6, a1, a2, a3, a4, a5, a6, a7, a8, b9, a10, a11)) :
    ∀ (f l : Nat) (b9 : Nat → Int32), l ≤ 4 → 4 - l < f → (∀ k, k < l → lz_en W b9 0 k) →
    wX_buildAutomaton_7 post f1 f2 f3 f4 (nI W.length) f6 f (nI l) a1 a2 a3 a4 a5 a6 a7 a8 b9 a10 a11 := by
  intro f
  induction f with
  | zero => intro l b9 hl hf; omega
  | succ n ih =>
    intro l b9 hl hf h2
    have h0 : lz_au W b9 0 := fun q hq => absurd hq (by omega)
    refine pk_le 4 l (fun z => ?_) (fun z => ?_)
    · refine ⟨W.length + 2, lz_ba43 hm h4 h8 H (W.length + 2) 1 0 b9 (by omega) (by omega) (by omega) ⟨W.take 1, by rw [List.take_zero, List.append_nil]⟩ ?_⟩
      intro q hq k hk
      have e : q = 0 := by omega
      rw [e]
      exact h2 k (by omega)
    · have hg := lz_gD4 h4 hW
      rw [h8 0 hW, nI_clamp (show l < 2 ^ 31 by omega)]
      refine pk_eq (W.getD 0 0) l (fun x => ⟨pk_in l 44 (by omega), nm_e (nm_r (nI_1 l) (ih (l + 1) _ (by omega) (by omega) ?_))⟩) (fun x => ⟨pk_in l 44 (by omega), nm_e (nm_r (nI_1 l) (ih (l + 1) _ (by omega) (by omega) ?_))⟩)
      · have k2 := (lz_en_put (v := 1) (r := 1) z h0 h2 rfl hW (by rw [show (1 : Nat) = 0 + 1 from rfl, lz_tkS hW, x]; exact ⟨[], rfl⟩)).2
        rw [Nat.zero_mul, Nat.zero_add] at k2
        exact k2
      · have k2 := (lz_en_put (v := 0) (r := 0) z h0 h2 rfl (Nat.zero_le _) ⟨W.take 0 ++ [l], by rw [List.take_zero, List.append_nil]⟩).2
        rw [Nat.zero_mul, Nat.zero_add] at k2
        exact k2
/-- pattern: the pattern grows by a letter, or there is no room -/
theorem lz_pat {post : Int32 → St1 → Prop} {l : Nat} (h : lz_Q N c tx W op rd a1 a2 a3 a4 a5 a6 a7 a8 a9 a10 a11) (hl : l < 4)
    (H0 : W.length = 10 → post (-2) (nI N, nI tx.length, nI c, op, nI W.length, rd, a1, a2, a3, a4, a5, a6, a7, a8, a9, a10, a11))
    (H1 : W.length < 10 → ∀ (b8 b9 : Nat → Int32), lz_Q N c tx (W ++ [l]) op 0 a1 a2 a3 a4 a5 a6 a7 b8 b9 a10 a11 →
      post (nI (W.length + 1)) (nI N, nI tx.length, nI c, op, nI (W ++ [l]).length, 0, a1, a2, a3, a4, a5, a6, a7, b8, b9, a10, a11)) :
    wpX_pattern post (nI N, nI tx.length, nI c, op, nI W.length, rd, a1, a2, a3, a4, a5, a6, a7, a8, a9, a10, a11) (nI l) := by
  obtain ⟨S, F, st, hD, hT, hA, hR⟩ := h
  obtain ⟨⟨hm, h4⟩, h8, hau⟩ := hA
  refine br_f (nI_pos (by omega)) (pk_le l 3 (fun _ => ?_) (fun z => absurd z (by omega)))
  refine pk_lt W.length 10 (fun z => ⟨pk_in W.length 10 z, ?_⟩) (fun z => H0 (by omega))
  have hlen : (W ++ [l]).length = W.length + 1 := by rw [List.length_append]; rfl
  have g4 : ∀ x, x ∈ W ++ [l] → x < 4 := by
    intro x hx
    rcases List.mem_append.mp hx with h | h
    · exact h4 x h
    · have e : x = l := by simpa using h
      omega
  have g8 : ∀ k, k < (W ++ [l]).length → upd a8 W.length (nI l) k = nI ((W ++ [l]).getD k 0) := by
    intro k hk
    rw [hlen] at hk
    rw [List.getD_eq_getElem?_getD]
    by_cases e : k = W.length
    · rw [e, pk_us, List.getElem?_append_right (Nat.le_refl _), Nat.sub_self]
      rfl
    · rw [pk_un e, List.getElem?_append_left (by omega), ← List.getD_eq_getElem?_getD]
      exact h8 k (by omega)
  rw [nI_clamp (show W.length < 2 ^ 31 by omega)]
  refine nm_e (nm_r (nI_1 _) ?_)
  rw [← hlen]
  refine ⟨5, lz_ba7 (W := W ++ [l]) (by omega) (by omega) g4 g8 (fun b9 hb9 => ?_) 5 0 a9 (by omega) (by omega) (fun k hk => absurd hk (by omega))⟩
  have H1' := H1 z (upd a8 W.length (nI l)) b9 ⟨S, F, st, hD, hT, ⟨⟨by omega, g4⟩, g8, fun _ => hb9⟩, Or.inl rfl⟩
  rw [← hlen] at H1'
  exact H1'
end
/-! the law's own copy of the pattern, two bits a letter -/
def lb_t (x : Int32) (i : Nat) : Bool := x.toBitVec.getLsbD i
theorem lb_ext {x y : Int32} (h : ∀ i, i < 32 → lb_t x i = lb_t y i) : x = y := Int32.toBitVec_inj.mp (BitVec.eq_of_getLsbD_eq (fun i hi => h i hi))
theorem lb_or (x y : Int32) (i : Nat) : lb_t (x ||| y) i = (lb_t x i || lb_t y i) := by unfold lb_t; rw [Int32.toBitVec_or, BitVec.getLsbD_or]
theorem lb_and (x y : Int32) (i : Nat) : lb_t (x &&& y) i = (lb_t x i && lb_t y i) := by unfold lb_t; rw [Int32.toBitVec_and, BitVec.getLsbD_and]
theorem lb_xor (x y : Int32) (i : Nat) : lb_t (x ^^^ y) i = (lb_t x i ^^ lb_t y i) := by unfold lb_t; rw [Int32.toBitVec_xor, BitVec.getLsbD_xor]
theorem lb_m1 : ∀ i, i < 32 → lb_t (-1) i = true := by decide +kernel
theorem lb_3 : ∀ i, i < 32 → lb_t 3 i = decide (i < 2) := by decide +kernel
theorem lb_c : ∀ c, c < 4 → ∀ i, i < 32 → 2 ≤ i → lb_t (nI c) i = false := by decide +kernel
theorem lb_sl : ∀ n, n < 32 → ((nI n &&& 31).toBitVec.smod 32).toNat = n := by decide +kernel
theorem lb_shl (n : Nat) (hn : n < 32) (x : Int32) {i : Nat} (hi : i < 32) : lb_t (x <<< (nI n &&& 31)) i = (decide (n ≤ i) && lb_t x (i - n)) := by
  unfold lb_t
  rw [Int32.toBitVec_shiftLeft]
  show (x.toBitVec <<< ((nI n &&& 31).toBitVec.smod 32).toNat).getLsbD i = _
  rw [lb_sl n hn, BitVec.getLsbD_shiftLeft]
  rcases Nat.lt_or_ge i n with h | h
  · simp [h, Nat.not_le.mpr h]
  · simp [hi, h, Nat.not_lt.mpr h]
theorem lb_sshr (n : Nat) (hn : n < 32) (x : Int32) {i : Nat} (hi : i < 32) : lb_t (x >>> (nI n &&& 31)) i = if n + i < 32 then lb_t x (n + i) else lb_t x 31 := by
  unfold lb_t
  rw [Int32.toBitVec_shiftRight]
  show (x.toBitVec.sshiftRight ((nI n &&& 31).toBitVec.smod 32).toNat).getLsbD i = _
  rw [lb_sl n hn, BitVec.getLsbD_sshiftRight, BitVec.msb_eq_getLsbD_last]
  simp [hi]
/-- the pattern in an int -/
def lz_bp (x : Int32) (W : List Nat) : Prop := ∀ k, k < W.length → (x >>> ((2 * nI k) &&& 31)) &&& 3 = nI (W.getD k 0)
theorem lz_bp_lo {x : Int32} {n k l : Nat} (hn : n < 10) (hk : k < n) : (((x &&& (((3 : Int32) <<< (nI (2 * n) &&& 31)) ^^^ (-1))) ||| (nI l <<< (nI (2 * n) &&& 31))) >>> (nI (2 * k) &&& 31)) &&& 3 = (x >>> (nI (2 * k) &&& 31)) &&& 3 := by
  refine lb_ext (fun i hi => ?_)
  rw [lb_and, lb_and, lb_sshr _ (by omega) _ hi, lb_sshr _ (by omega) _ hi, lb_3 i hi]
  by_cases h : i < 2
  · rw [if_pos (by omega), if_pos (by omega), lb_or, lb_and, lb_xor, lb_shl _ (by omega) _ (by omega), lb_shl _ (by omega) _ (by omega), lb_m1 _ (by omega), decide_eq_false (show ¬ 2 * n ≤ 2 * k + i by omega)]
    simp
  · rw [decide_eq_false h]
    simp
theorem lz_bp_hi {x : Int32} {n l : Nat} (hn : n < 10) (hl : l < 4) : (((x &&& (((3 : Int32) <<< (nI (2 * n) &&& 31)) ^^^ (-1))) ||| (nI l <<< (nI (2 * n) &&& 31))) >>> (nI (2 * n) &&& 31)) &&& 3 = nI l := by
  refine lb_ext (fun i hi => ?_)
  rw [lb_and, lb_sshr _ (by omega) _ hi, lb_3 i hi]
  by_cases h : i < 2
  · rw [if_pos (by omega), lb_or, lb_and, lb_xor, lb_shl _ (by omega) _ (by omega), lb_shl _ (by omega) _ (by omega), lb_m1 _ (by omega), decide_eq_true (show 2 * n ≤ 2 * n + i by omega), Nat.add_sub_cancel_left, lb_3 i hi, decide_eq_true h]
    simp
  · rw [decide_eq_false h, lb_c l hl i hi (by omega)]
    simp
theorem lz_bp_add {x : Int32} {W : List Nat} {l : Nat} (h : lz_bp x W) (hn : W.length < 10) (hl : l < 4) : lz_bp ((x &&& (((3 : Int32) <<< ((2 * nI W.length) &&& 31)) ^^^ (-1))) ||| (nI l <<< ((2 * nI W.length) &&& 31))) (W ++ [l]) := by
  intro k hk
  rw [List.length_append] at hk
  have hk' : k < W.length + 1 := hk
  have e2 : ∀ j, (2 : Int32) * nI j = nI (2 * j) := fun j => pk_mul 2 j
  rw [e2, e2, List.getD_eq_getElem?_getD]
  by_cases e : k = W.length
  · rw [e, List.getElem?_append_right (Nat.le_refl _), Nat.sub_self]
    exact lz_bp_hi hn hl
  · rw [List.getElem?_append_left (by omega), ← List.getD_eq_getElem?_getD, lz_bp_lo hn (by omega)]
    have h1 := h k (by omega)
    rw [e2] at h1
    exact h1
end
section
section
variable {S : Nat → List Nat} {N c : Nat} {F st : Nat → Nat} {tx W : List Nat} {op rd : Int32} {f1 f2 f3 f4 f5 f6 : Int32} {a1 a2 a3 a4 a5 a6 a7 a8 a9 a10 a11 : Nat → Int32}
theorem lz_rep42 {post : Int32 → St1 → Prop} {g k : Nat} {tx0 : List Nat} (hg : g < tx0.length) (hk : tx0.length + k ≤ 120)
    (H : ∀ (N' c' : Nat) (tx' : List Nat) (op' rd' : Int32) (b1 b2 b3 b4 b5 b6 b7 : Nat → Int32), lz_Q N' c' tx' W op' rd' b1 b2 b3 b4 b5 b6 b7 a8 a9 a10 a11 → (∃ s, tx' = tx0 ++ s) → tx'.length = tx0.length + k →
      post (nI tx'.length) (nI N', nI tx'.length, nI c', op', nI W.length, rd', b1, b2, b3, b4, b5, b6, b7, a8, a9, a10, a11)) :
    ∀ (f i N c : Nat) (tx : List Nat) (op rd : Int32) (b1 b2 b3 b4 b5 b6 b7 : Nat → Int32), i ≤ k → k - i < f → lz_Q N c tx W op rd b1 b2 b3 b4 b5 b6 b7 a8 a9 a10 a11 → (∃ s, tx = tx0 ++ s) → tx.length = tx0.length + i →
    wX_repeat_42 post (nI g) (nI k) f (nI i) (nI N) (nI tx.length) (nI c) op (nI W.length) rd b1 b2 b3 b4 b5 b6 b7 a8 a9 a10 a11 := by
  intro f
  induction f with
  | zero => intro i N c tx op rd b1 b2 b3 b4 b5 b6 b7 hi hf; omega
  | succ n ih =>
    intro i N c tx op rd b1 b2 b3 b4 b5 b6 b7 hi hf hQ hs hl
    refine pk_le k i (fun z => ?_) (fun z => ?_)
    · have e : i = k := by omega
      exact H N c tx op rd b1 b2 b3 b4 b5 b6 b7 hQ hs (by omega)
    · rw [nI_add]
      obtain ⟨S, F, st, hK⟩ := hQ
      refine lz_letter hK (by omega) ?_
      have h4 : tx.getD (g + i) 0 < 4 := lz_gD4 hK.2.1.2.1.2 (by omega)
      refine lz_append ⟨S, F, st, hK⟩ h4 (fun y => absurd (show tx.length < 120 by omega) y) (fun _ N' c' op' d1 d2 d3 d4 d5 d6 d7 hQ' => nm_r (nI_1 i) ?_)
      have hlen : (tx ++ [tx.getD (g + i) 0]).length = tx.length + 1 := by rw [List.length_append]; rfl
      obtain ⟨s, hs⟩ := hs
      have h1 := ih (i + 1) N' c' _ op' 0 d1 d2 d3 d4 d5 d6 d7 (by omega) (by omega) hQ' ⟨s ++ [tx.getD (g + i) 0], by rw [← List.append_assoc, ← hs]⟩ (by omega)
      rw [hlen] at h1
      exact h1
/-- repeat: the text grows by k letters, or there is no room -/
theorem lz_rep {post : Int32 → St1 → Prop} {g k : Nat} (h : lz_Q N c tx W op rd a1 a2 a3 a4 a5 a6 a7 a8 a9 a10 a11) (hg : g < tx.length) (hk : k < 2 ^ 31)
    (H0 : 120 < tx.length + k → post (-2) (nI N, nI tx.length, nI c, op, nI W.length, rd, a1, a2, a3, a4, a5, a6, a7, a8, a9, a10, a11))
    (H1 : tx.length + k ≤ 120 → ∀ (N' c' : Nat) (tx' : List Nat) (op' rd' : Int32) (b1 b2 b3 b4 b5 b6 b7 : Nat → Int32), lz_Q N' c' tx' W op' rd' b1 b2 b3 b4 b5 b6 b7 a8 a9 a10 a11 → (∃ s, tx' = tx ++ s) → tx'.length = tx.length + k →
      post (nI tx'.length) (nI N', nI tx'.length, nI c', op', nI W.length, rd', b1, b2, b3, b4, b5, b6, b7, a8, a9, a10, a11)) :
    wpX_repeat post (nI N, nI tx.length, nI c, op, nI W.length, rd, a1, a2, a3, a4, a5, a6, a7, a8, a9, a10, a11) (nI g) (nI k) := by
  have ht : tx.length ≤ 120 := by
    obtain ⟨S, F, st, hK⟩ := h
    exact (lz_K_N hK).2.2
  refine br_t (nI_pos' hk) (br_f (nI_pos (by omega)) (pk_lt g tx.length (fun _ => ?_) (fun z => absurd z (by omega))))
  rw [show (120 : Int32) = nI 120 from rfl, pk_sub ht]
  refine pk_le k (120 - tx.length) (fun z => ?_) (fun z => H0 (by omega))
  exact ⟨k + 1, lz_rep42 hg (by omega) (H1 (by omega)) (k + 1) 0 N c tx op rd a1 a2 a3 a4 a5 a6 a7 (by omega) (by omega) h ⟨[], by rw [List.append_nil]⟩ rfl⟩
/-- how many of the letters below l -/
def lz_sm (s : List Nat) : Nat → Nat
  | 0 => 0
  | l + 1 => lz_sm s l + s.count l
theorem lz_sm4 (s : List Nat) (h : ∀ x, x ∈ s → x < 4) : lz_sm s 4 = s.length := by
  have h1 := lz_cnt s h
  show 0 + s.count 0 + s.count 1 + s.count 2 + s.count 3 = s.length
  omega
theorem lz_pf38 {post : Int32 → St1 → Prop} {J : Int32 → Int32 → Int32 → Int32 → Int32 → Int32 → Int32 → Int32 → (Nat → Int32) → (Nat → Int32) → (Nat → Int32) → (Nat → Int32) → (Nat → Int32) → (Nat → Int32) → (Nat → Int32) → (Nat → Int32) → (Nat → Int32) → (Nat → Int32) → (Nat → Int32) → Prop} {x1 x2 : Int32} {k : Nat}
    (h : lz_K S N F st c tx W op rd a1 a2 a3 a4 a5 a6 a7 a8 a9 a10 a11) (hk : k ≤ tx.length) (H : J x2 (nI (k + 1)) (nI N) (nI tx.length) (nI c) op (nI W.length) rd a1 a2 a3 a4 a5 a6 a7 a8 a9 a10 a11) :
    ∀ (f l : Nat), l ≤ 4 → 4 - l < f → wL_prefixes_38 post J x1 x2 (nI k) (nI N) (nI tx.length) (nI c) op (nI W.length) rd a1 a2 a3 a4 a5 a6 a7 a8 a9 a10 a11 f (nI (lz_sm (tx.take k) l)) (nI l) := by
  obtain ⟨b1, b2, b3⟩ := lz_K_N h
  intro f
  induction f with
  | zero => intro l hl hf; omega
  | succ n ih =>
    intro l hl hf
    refine pk_le 4 l (fun z => ?_) (fun z => ?_)
    · have e : l = 4 := by omega
      have e2 : lz_sm (tx.take k) l = k := by
        rw [e, lz_sm4 _ (lz_tk4 h.2.1.2.1.2 k), List.length_take_of_le hk]
      rw [e2]
      exact br_t rfl (nm_r (nI_1 k) H)
    · exact lz_freq h z hk (nm_r (nI_add _ _) (nm_r (nI_1 l) (ih (l + 1) (by omega) (by omega))))
theorem lz_pf9 {post : Int32 → St1 → Prop} (hD : lz_D S N a1 a2 a3 a4 a5) (hT : lz_T S N F st c tx op a6 a7) (hA : lz_A W a8 a9)
    (H : ∀ (rd' : Int32) (b10 b11 : Nat → Int32), lz_R S N W a9 rd' b10 b11 → post 1 (nI N, nI tx.length, nI c, op, nI W.length, rd', a1, a2, a3, a4, a5, a6, a7, a8, a9, b10, b11)) :
    ∀ (f k : Nat) (rd' : Int32) (b10 b11 : Nat → Int32), k ≤ tx.length + 1 → tx.length + 1 - k < f → lz_R S N W a9 rd' b10 b11 →
    wL_prefixes_9 post (nI tx.length) f (nI (lz_cn W a9 tx (k - 1))) (nI k) (nI N) (nI tx.length) (nI c) op (nI W.length) rd' a1 a2 a3 a4 a5 a6 a7 a8 a9 b10 b11 := by
  have ht := hT.2.1.1
  intro f
  induction f with
  | zero => intro k rd' b10 b11 hk hf; omega
  | succ n ih =>
    intro k rd' b10 b11 hk hf hR
    have hK : lz_K S N F st c tx W op rd' a1 a2 a3 a4 a5 a6 a7 a8 a9 b10 b11 := ⟨hD, hT, hA, hR⟩
    refine pk_lt tx.length k (fun z => ?_) (fun z => ?_)
    · have e : k - 1 = tx.length := by omega
      rw [e]
      exact lz_count hK (fun rd' b10 b11 hR' => br_t rfl (H rd' b10 b11 hR'))
    · refine lz_cw hK z (fun rd' b10 b11 hR' => ?_)
      have hle := lz_cn_le (W := W) (a9 := a9) (tx := tx) k
      refine br_t (nI_le (lz_cn_mono (by omega)) (by omega)) ⟨5, ?_⟩
      have hK' : lz_K S N F st c tx W op rd' a1 a2 a3 a4 a5 a6 a7 a8 a9 b10 b11 := ⟨hD, hT, hA, hR'⟩
      exact lz_pf38 hK' z (ih (k + 1) rd' b10 b11 (by omega) (by omega) hR') 5 0 (by omega) (by omega)
/-- prefixes answers 1 -/
theorem lz_prefixes {post : Int32 → St1 → Prop} (h : lz_K S N F st c tx W op rd a1 a2 a3 a4 a5 a6 a7 a8 a9 a10 a11)
    (H : ∀ (rd' : Int32) (b10 b11 : Nat → Int32), lz_R S N W a9 rd' b10 b11 → post 1 (nI N, nI tx.length, nI c, op, nI W.length, rd', a1, a2, a3, a4, a5, a6, a7, a8, a9, b10, b11)) : wpL_prefixes post (nI N, nI tx.length, nI c, op, nI W.length, rd, a1, a2, a3, a4, a5, a6, a7, a8, a9, a10, a11) := by
  have h1 := lz_pf9 h.1 h.2.1 h.2.2.1 H (tx.length + 2) 0 rd a10 a11 (by omega) (by omega) h.2.2.2
  rw [show lz_cn W a9 tx (0 - 1) = 0 from lz_cn_0] at h1
  exact ⟨tx.length + 2, h1⟩
theorem lz_m1lt {n : Nat} (h : n < 2 ^ 31) : (-1 : Int32) < nI n := by
  rw [Int32.lt_iff_toInt_lt, nI_toInt h]
  have e : (-1 : Int32).toInt = -1 := by decide
  rw [e]
  omega
theorem lz_ps98 {post : Int32 → St1 → Prop} (h : lz_K S N F st c tx W op rd a1 a2 a3 a4 a5 a6 a7 a8 a9 a10 a11)
    (H : ∀ (rd' : Int32) (b10 b11 : Nat → Int32), lz_R S N W a9 rd' b10 b11 → post 1 (nI N, nI tx.length, nI c, op, nI W.length, rd', a1, a2, a3, a4, a5, a6, a7, a8, a9, b10, b11)) : wL_positions_98 post (nI (lz_cn W a9 tx tx.length)) (nI N) (nI tx.length) (nI c) op (nI W.length) rd a1 a2 a3 a4 a5 a6 a7 a8 a9 a10 a11 := by
  obtain ⟨b1, b2, b3⟩ := lz_K_N h
  have hle := lz_cn_le (W := W) (a9 := a9) (tx := tx) tx.length
  refine lz_pos h (by omega) (fun rd' b10 b11 hR hW e he h1 h2 => ?_) (fun rd' b10 b11 hR _ => br_t rfl (br_t (by decide) (br_t rfl (H rd' b10 b11 hR))))
  have h3 := lz_cn_mono (W := W) (a9 := a9) (tx := tx) he
  omega
theorem lz_ps58 {post : Int32 → St1 → Prop} {J : Int32 → Int32 → Int32 → Int32 → Int32 → Int32 → Int32 → Int32 → (Nat → Int32) → (Nat → Int32) → (Nat → Int32) → (Nat → Int32) → (Nat → Int32) → (Nat → Int32) → (Nat → Int32) → (Nat → Int32) → (Nat → Int32) → (Nat → Int32) → (Nat → Int32) → Prop} {x1 x3 x4 : Int32} {e j : Nat}
    (h : lz_K S N F st c tx W op rd a1 a2 a3 a4 a5 a6 a7 a8 a9 a10 a11) (hb : lz_bp x1 W) (he : e ≤ tx.length) (hm : W.length ≤ e) (hw : ∀ k, k < W.length → tx.getD (e - W.length + k) 0 = W.getD k 0) (H : J x4 (nI (j + 1)) (nI N) (nI tx.length) (nI c) op (nI W.length) rd a1 a2 a3 a4 a5 a6 a7 a8 a9 a10 a11) :
    ∀ (f k : Nat), k ≤ W.length → W.length - k < f → wL_positions_58 post J x1 (nI W.length) x3 x4 (nI j) (nI (e - W.length)) (nI N) (nI tx.length) (nI c) op (nI W.length) rd a1 a2 a3 a4 a5 a6 a7 a8 a9 a10 a11 f (nI k) := by
  obtain ⟨b1, b2, b3⟩ := lz_K_N h
  intro f
  induction f with
  | zero => intro k hk hf; omega
  | succ n ih =>
    intro k hk hf
    refine pk_le W.length k (fun z => nm_r (nI_1 j) H) (fun z => ?_)
    rw [nI_add]
    refine lz_letter h (by omega) (br_t ?_ (nm_r (nI_1 k) (ih (k + 1) (by omega) (by omega))))
    rw [hb k z, hw k z]
theorem lz_ps21 {post : Int32 → St1 → Prop} {x1 : Int32} (hD : lz_D S N a1 a2 a3 a4 a5) (hT : lz_T S N F st c tx op a6 a7) (hA : lz_A W a8 a9) (hb : lz_bp x1 W)
    (H : ∀ (rd' : Int32) (b10 b11 : Nat → Int32), lz_R S N W a9 rd' b10 b11 → post 1 (nI N, nI tx.length, nI c, op, nI W.length, rd', a1, a2, a3, a4, a5, a6, a7, a8, a9, b10, b11)) :
    ∀ (f j : Nat) (last rd' : Int32) (b10 b11 : Nat → Int32), j ≤ lz_cn W a9 tx tx.length → lz_cn W a9 tx tx.length - j < f → lz_R S N W a9 rd' b10 b11 →
    ((j = 0 ∧ last = -1) ∨ ∃ e, e ≤ tx.length ∧ W.length ≤ e ∧ lz_cn W a9 tx e = j ∧ last = nI (e - W.length)) →
    wL_positions_21 post x1 (nI W.length) (nI (lz_cn W a9 tx tx.length)) f last (nI j) (nI N) (nI tx.length) (nI c) op (nI W.length) rd' a1 a2 a3 a4 a5 a6 a7 a8 a9 b10 b11 := by
  have ht := hT.2.1.1
  have hle := lz_cn_le (W := W) (a9 := a9) (tx := tx) tx.length
  intro f
  induction f with
  | zero => intro j last rd' b10 b11 hj hf; omega
  | succ n ih =>
    intro j last rd' b10 b11 hj hf hR hlast
    have hK : lz_K S N F st c tx W op rd' a1 a2 a3 a4 a5 a6 a7 a8 a9 b10 b11 := ⟨hD, hT, hA, hR⟩
    refine pk_le 120 j (fun z => lz_ps98 hK H) (fun z => pk_le _ j (fun y => lz_ps98 hK H) (fun y => ?_))
    refine lz_pos hK (by omega) (fun rd' b10 b11 hR' hW e he h1 h2 => ?_) (fun rd' b10 b11 hR' h1 => absurd h1 (by omega))
    have hK' : lz_K S N F st c tx W op rd' a1 a2 a3 a4 a5 a6 a7 a8 a9 b10 b11 := ⟨hD, hT, hA, hR'⟩
    obtain ⟨k1, k2⟩ := lz_end (lz_A_ok hA hW) hT.2.1.2 he h2
    refine br_t ?_ ⟨W.length + 1, lz_ps58 hK' hb he k1 k2 (ih (j + 1) _ rd' b10 b11 (by omega) (by omega) hR' (Or.inr ⟨e, he, k1, h1, rfl⟩)) (W.length + 1) 0 (by omega) (by omega)⟩
    rcases hlast with ⟨_, e0⟩ | ⟨e', he', h3, h4, h5⟩
    · rw [e0]
      exact lz_m1lt (by omega)
    · rw [h5]
      have h6 : e' < e := by
        rcases Nat.lt_or_ge e' e with q | q
        · exact q
        · have h7 := lz_cn_mono (W := W) (a9 := a9) (tx := tx) q
          omega
      exact nI_lt (by omega) (by omega)
/-- positions answers 1 -/
theorem lz_positions {post : Int32 → St1 → Prop} {x1 : Int32} (h : lz_K S N F st c tx W op rd a1 a2 a3 a4 a5 a6 a7 a8 a9 a10 a11) (hb : lz_bp x1 W)
    (H : ∀ (rd' : Int32) (b10 b11 : Nat → Int32), lz_R S N W a9 rd' b10 b11 → post 1 (nI N, nI tx.length, nI c, op, nI W.length, rd', a1, a2, a3, a4, a5, a6, a7, a8, a9, b10, b11)) : wpL_positions post (nI N, nI tx.length, nI c, op, nI W.length, rd, a1, a2, a3, a4, a5, a6, a7, a8, a9, a10, a11) x1 (nI W.length) := by
  have hm := h.2.2.1.1.1
  unfold wpL_positions
  refine lz_count h (fun rd' b10 b11 hR => ?_)
  have h1 := lz_ps21 h.1 h.2.1 h.2.2.1 hb H (lz_cn W a9 tx tx.length + 1) 0 (-1) rd' b10 b11 (by omega) (by omega) hR (Or.inl ⟨rfl, rfl⟩)
  refine pk_eq W.length 0 (fun z => br_t ?_ ⟨_, h1⟩) (fun z => ⟨_, h1⟩)
  unfold lz_cn
  rw [if_pos (List.eq_nil_of_length_eq_zero z)]
  rfl
end
end
section
/-- what the law's loop goes on with -/
abbrev lz_JT : Type := Int32 → Int32 → Int32 → Int32 → Int32 → Int32 → Int32 → Int32 → Int32 → (Nat → Int32) → (Nat → Int32) → (Nat → Int32) → (Nat → Int32) → (Nat → Int32) → (Nat → Int32) → (Nat → Int32) → (Nat → Int32) → (Nat → Int32) → (Nat → Int32) → (Nat → Int32) → Prop
def lz_J (J : lz_JT) (i : Nat) : Prop := ∀ (x : Int32) (N c : Nat) (tx W : List Nat) (op rd : Int32) (a1 a2 a3 a4 a5 a6 a7 a8 a9 a10 a11 : Nat → Int32), lz_Q N c tx W op rd a1 a2 a3 a4 a5 a6 a7 a8 a9 a10 a11 → lz_bp x W → J x (nI W.length) (nI (2 * i + 2)) (nI N) (nI tx.length) (nI c) op (nI W.length) rd a1 a2 a3 a4 a5 a6 a7 a8 a9 a10 a11
theorem lb_2 : ∀ i, i < 32 → lb_t 2 i = decide (i = 1) := by decide +kernel
theorem lb_and2 (y : Int32) : y &&& 2 = nI 0 ∨ y &&& 2 = nI 2 := by
  cases h : lb_t y 1 with
  | false =>
    refine Or.inl (lb_ext (fun i hi => ?_))
    rw [lb_and, lb_2 i hi]
    by_cases e : i = 1
    · rw [e, h]; decide
    · rw [decide_eq_false e, Bool.and_false]
      exact ((by decide +kernel : ∀ i, i < 32 → lb_t (nI 0) i = false) i hi).symm
  | true =>
    refine Or.inr (lb_ext (fun i hi => ?_))
    rw [lb_and, lb_2 i hi, show lb_t (nI 2) i = decide (i = 1) from lb_2 i hi]
    by_cases e : i = 1
    · rw [e, h]; decide
    · rw [decide_eq_false e, Bool.and_false]
theorem lz_let (x : Int32) : ∃ l, l < 4 ∧ (x &&& 1) + ((x >>> ((4 : Int32) &&& 31)) &&& 2) = nI l := by
  obtain ⟨j, hj, ej⟩ := pk_andE x (m := 1) 1 (by decide)
  rcases lb_and2 (x >>> ((4 : Int32) &&& 31)) with e | e
  · exact ⟨j + 0, by omega, by rw [ej, e, nI_add]⟩
  · exact ⟨j + 2, by omega, by rw [ej, e, nI_add]⟩
theorem lz_n2 {n : Nat} (h : n < 2 ^ 31) : ¬ nI n = -2 := fun e => nI_pos h (by rw [e]; decide)
theorem lz_Lt {L i : Nat} (hL : L ≤ 260) (hi : i ≤ 80) : Int32.ofNat L - 2 < nI (2 * i) ↔ L < 2 * i + 2 := by
  rw [Int32.lt_iff_toInt_lt, nI_toInt (show 2 * i < 2 ^ 31 by omega)]
  have e : (Int32.ofNat L - 2).toInt = (L : Int) - (2 : Nat) := pk_sub_toInt (a := L) (b := 2) (by omega) (by omega)
  rw [e]
  omega
section
variable {post : Int32 → Prop} {L kc ks i N c : Nat} {xs : Nat → Int32} {J : lz_JT} {x : Int32} {tx W : List Nat} {op rd : Int32} {a1 a2 a3 a4 a5 a6 a7 a8 a9 a10 a11 : Nat → Int32}
theorem lz_344 (hJ : lz_J J i) (h : lz_Q N c tx W op rd a1 a2 a3 a4 a5 a6 a7 a8 a9 a10 a11) (hb : lz_bp x W) : wL_law_344 post L xs J x (nI W.length) (nI (2 * i)) 1 kc ks (nI N) (nI tx.length) (nI c) op (nI W.length) rd a1 a2 a3 a4 a5 a6 a7 a8 a9 a10 a11 :=
  br_f (by decide) (br_f (by decide) (nm_r (nI_add (2 * i) 2) (hJ x N c tx W op rd a1 a2 a3 a4 a5 a6 a7 a8 a9 a10 a11 h hb)))
theorem lz_321 (hJ : lz_J J i) (h : lz_Q N c tx W op rd a1 a2 a3 a4 a5 a6 a7 a8 a9 a10 a11) (hb : lz_bp x W) : wL_law_321 post L xs J x (nI W.length) (nI (2 * i)) kc ks (nI N) (nI tx.length) (nI c) op (nI W.length) rd a1 a2 a3 a4 a5 a6 a7 a8 a9 a10 a11 := by
  obtain ⟨S, F, st, hK⟩ := h
  refine lz_positions hK hb (fun rd' b10 b11 hR => ?_)
  have hK' : lz_K S N F st c tx W op rd' a1 a2 a3 a4 a5 a6 a7 a8 a9 b10 b11 := ⟨hK.1, hK.2.1, hK.2.2.1, hR⟩
  refine br_c (fun _ => ?_) (fun _ => lz_344 hJ ⟨S, F, st, hK'⟩ hb)
  refine lz_prefixes hK' (fun rd'' c10 c11 hR' => br_f (by decide) (lz_344 hJ ⟨S, F, st, hK.1, hK.2.1, hK.2.2.1, hR'⟩ hb))
theorem lz_302 {x5 x6 : Int32} (hJ : lz_J J i) (h : lz_Q N c tx W op rd a1 a2 a3 a4 a5 a6 a7 a8 a9 a10 a11) (hb : lz_bp x W) : wL_law_302 post L xs J x (nI W.length) (nI (2 * i)) x5 x6 kc ks (nI N) (nI tx.length) (nI c) op (nI W.length) rd a1 a2 a3 a4 a5 a6 a7 a8 a9 a10 a11 :=
  br_c (fun _ => br_c (fun _ => lz_clear h (fun c1 c2 c3 c4 c5 hQ => lz_321 hJ hQ hb)) (fun _ => lz_321 hJ h hb)) (fun _ => lz_321 hJ h hb)
theorem lz_197 {x5 x6 : Int32} (hJ : lz_J J i) (h : lz_Q N c tx W op rd a1 a2 a3 a4 a5 a6 a7 a8 a9 a10 a11) (hb : lz_bp x W) : wL_law_197 post L xs J x (nI W.length) (nI (2 * i)) x5 x6 kc ks (nI N) (nI tx.length) (nI c) op (nI W.length) rd a1 a2 a3 a4 a5 a6 a7 a8 a9 a10 a11 := by
  have hm : W.length ≤ 10 := by
    obtain ⟨S, F, st, hK⟩ := h
    exact hK.2.2.1.1.1
  refine br_c (fun _ => br_c (fun _ => br_c (fun _ => ?_) (fun _ => lz_302 hJ h hb)) (fun _ => lz_302 hJ h hb)) (fun _ => ?_)
  · exact lz_clearPat h (fun hQ => lz_321 (W := []) hJ hQ (fun k hk => absurd hk (Nat.not_lt_zero k)))
  · obtain ⟨l, hl, el⟩ := lz_let x6
    refine nm_r el ?_
    refine lz_pat h hl (fun z => ?_) (fun z b8 b9 hQ => ?_)
    · refine pk_eq W.length 10 (fun _ => ?_) (fun y => absurd z y)
      exact br_t rfl (br_t (by decide) (br_t (by decide) (lz_321 hJ h hb)))
    · have hlen : (W ++ [l]).length = W.length + 1 := by rw [List.length_append]; rfl
      refine pk_eq W.length 10 (fun y => absurd y (by omega)) (fun _ => ?_)
      refine br_t (nI_1 _).symm (br_f (nI_nle (by omega) (by omega)) (nm_e (br_f (nI_nle (by omega) (by omega)) (nm_r (nI_1 _) ?_))))
      have h1 := lz_321 (post := post) (L := L) (xs := xs) (kc := kc) (ks := ks) hJ hQ (lz_bp_add hb z hl)
      rw [hlen] at h1 ⊢
      exact h1
theorem lz_160 {x5 x10 : Int32} {T H : Nat} (hJ : lz_J J i) (h : lz_Q N c tx W op rd a1 a2 a3 a4 a5 a6 a7 a8 a9 a10 a11) (hb : lz_bp x W) (hT : T ≤ 120) (hH : H ≤ 120)
    (hr : ¬ x5 ≤ 7 → (T + H ≤ 120 ∧ x10 = nI (T + H)) ∨ (120 < T + H ∧ x10 = -2)) : wL_law_160 post L xs J x (nI W.length) (nI (2 * i)) x5 (nI T) (nI H) x10 kc ks (nI N) (nI tx.length) (nI c) op (nI W.length) rd a1 a2 a3 a4 a5 a6 a7 a8 a9 a10 a11 := by
  refine br_c (fun _ => lz_321 hJ h hb) (fun z => ?_)
  rw [nI_add]
  rcases hr z with ⟨h1, e⟩ | ⟨h1, e⟩
  · exact pk_le (T + H) 120 (fun _ => br_t e (lz_321 hJ h hb)) (fun y => absurd y (by omega))
  · exact pk_le (T + H) 120 (fun y => absurd y (by omega)) (fun _ => br_t e (lz_321 hJ h hb))
theorem lz_140b {x5 : Int32} {T H C : Nat} (hJ : lz_J J i) (h : lz_Q N c tx W op rd a1 a2 a3 a4 a5 a6 a7 a8 a9 a10 a11) (hb : lz_bp x W) (hT : T ≤ 120) (hH : H ≤ 120) (hC : C ≤ lz_cn W a9 tx tx.length)
    (hr : ¬ x5 ≤ 7 → (T + H ≤ 120 ∧ nI tx.length = nI (T + H)) ∨ (120 < T + H ∧ nI tx.length = -2)) : wL_law_140 post L xs J x (nI W.length) (nI (2 * i)) x5 (nI T) (nI C) (nI H) (nI tx.length) kc ks (nI N) (nI tx.length) (nI c) op (nI W.length) rd a1 a2 a3 a4 a5 a6 a7 a8 a9 a10 a11 := by
  obtain ⟨S, F, st, hK⟩ := h
  obtain ⟨b1, b2, b3⟩ := lz_K_N hK
  have hle := lz_cn_le (W := W) (a9 := a9) (tx := tx) tx.length
  refine br_f (lz_n2 (by omega)) ?_
  exact lz_count hK (fun rd' b10 b11 hR => br_t (nI_le hC (by omega)) (lz_160 hJ ⟨S, F, st, hK.1, hK.2.1, hK.2.2.1, hR⟩ hb hT hH hr))
theorem lz_15 (hL : L ≤ 260) : ∀ (f i : Nat) (x : Int32) (N c : Nat) (tx W : List Nat) (op rd : Int32) (a1 a2 a3 a4 a5 a6 a7 a8 a9 a10 a11 : Nat → Int32), i ≤ 80 → 80 - i < f → lz_Q N c tx W op rd a1 a2 a3 a4 a5 a6 a7 a8 a9 a10 a11 → lz_bp x W →
    wL_law_15 (fun r => r = 1) L xs kc ks f x (nI W.length) (nI (2 * i)) (nI N) (nI tx.length) (nI c) op (nI W.length) rd a1 a2 a3 a4 a5 a6 a7 a8 a9 a10 a11 := by
  intro f
  induction f with
  | zero => intro i x N c tx W op rd a1 a2 a3 a4 a5 a6 a7 a8 a9 a10 a11 hi hf; omega
  | succ n ih =>
    intro i x N c tx W op rd a1 a2 a3 a4 a5 a6 a7 a8 a9 a10 a11 hi hf h hb
    obtain ⟨S, F, st, hK⟩ := h
    obtain ⟨q1, q2, q3⟩ := lz_K_N hK
    have ex : wL_law_369 (fun r => r = 1) L xs kc ks (nI N) (nI tx.length) (nI c) op (nI W.length) rd a1 a2 a3 a4 a5 a6 a7 a8 a9 a10 a11 := lz_prefixes hK (fun _ _ _ _ => rfl)
    refine ek_if (lz_Lt hL hi) (fun _ => ex) (fun d => pk_le 160 (2 * i) (fun _ => ex) (fun d2 => ⟨pk_in (2 * i) L (by omega), ?_⟩))
    have hJ : lz_J (wL_law_15 (fun r => r = 1) L xs kc ks n) i := by
      intro x N c tx W op rd a1 a2 a3 a4 a5 a6 a7 a8 a9 a10 a11 h hb
      have h1 := ih (i + 1) x N c tx W op rd a1 a2 a3 a4 a5 a6 a7 a8 a9 a10 a11 (by omega) (by omega) h hb
      rw [show 2 * (i + 1) = 2 * i + 2 by omega] at h1
      exact h1
    have h : lz_Q N c tx W op rd a1 a2 a3 a4 a5 a6 a7 a8 a9 a10 a11 := ⟨S, F, st, hK⟩
    obtain ⟨o, ho, eo⟩ := pk_andE (xs (nI (2 * i)).toNatClampNeg) (m := 15) 4 (by decide)
    refine nm_r eo ⟨pk_in (2 * i + 1) L (by omega) (nI_1 _), fun x6 _ => ?_⟩
    refine pk_lt 5 o (fun z => pk_lt 9 o (fun _ => lz_197 hJ h hb) (fun _ => pk_le tx.length 0 (fun _ => lz_197 hJ h hb) (fun w => ?_))) (fun z => ?_)
    · refine lz_count hK (fun rd' b10 b11 hR => ⟨by decide, nm_r (pk_div (a := tx.length) (d := 2) (by omega) (by omega) (by omega)) ?_⟩)
      have h' : lz_Q N c tx W op rd' a1 a2 a3 a4 a5 a6 a7 a8 a9 b10 b11 := ⟨S, F, st, hK.1, hK.2.1, hK.2.2.1, hR⟩
      refine pk_lt 7 o (fun v => ?_) (fun v => ⟨nI_ne0 w (by omega), ?_⟩)
      · refine lz_rep (g := 0) h' w (by omega) (fun y => ?_) (fun y N' c' tx' op' rd'' d1 d2 d3 d4 d5 d6 d7 hQ hs hl => ?_)
        · exact br_t rfl (lz_160 hJ h' hb q3 (by omega) (fun _ => Or.inr ⟨y, rfl⟩))
        · obtain ⟨s, rfl⟩ := hs
          exact lz_140b hJ hQ hb q3 (by omega) (lz_cn_app s) (fun _ => Or.inl ⟨y, by rw [hl]⟩)
      · obtain ⟨j, hj, ej⟩ := pk_andE (x6 >>> ((4 : Int32) &&& 31)) (m := 127) 7 (by decide)
        obtain ⟨k, hk, ek⟩ := pk_andE x6 (m := 15) 4 (by decide)
        rw [ej, ek, pk_rem (by omega) w (by omega)]
        have hop : nI o ≤ 7 := nI_le (b := 7) v (by decide)
        refine lz_rep h' (Nat.mod_lt _ w) (by omega) (fun y => ?_) (fun y N' c' tx' op' rd'' d1 d2 d3 d4 d5 d6 d7 hQ hs hl => ?_)
        · exact br_t rfl (lz_160 hJ h' hb q3 (by omega) (fun y => absurd hop y))
        · obtain ⟨s, rfl⟩ := hs
          exact lz_140b hJ hQ hb q3 (by omega) (lz_cn_app s) (fun y => absurd hop y)
    · obtain ⟨l, hl, el⟩ := lz_let x6
      show wpX_append _ _ _
      rw [el]
      refine lz_append h hl (fun _ => lz_321 hJ h hb) (fun _ N' c' op' d1 d2 d3 d4 d5 d6 d7 hQ => ?_)
      have hlen : (tx ++ [l]).length = tx.length + 1 := by rw [List.length_append]; rfl
      have h1 := lz_321 (post := fun r => r = 1) (L := L) (xs := xs) (kc := kc) (ks := ks) hJ hQ hb
      rw [hlen] at h1
      exact h1
end
end
section
theorem i_vc (xs : Nat → Int32) (L : Nat) (hL : L ≤ 260) : wpL_law (fun r => r = 1) L xs := by
  refine ⟨11, 4519, by omega, by omega, lz_init (by omega) (by omega) (fun c1 c2 c3 c4 c5 c6 c7 c8 c9 c10 c11 hQ => ?_)⟩
  exact ⟨81, lz_15 hL 81 0 0 4 0 [] [] (-1) 0 c1 c2 c3 c4 c5 c6 c7 c8 c9 c10 c11 (by omega) (by omega) hQ (fun k hk => absurd hk (Nat.not_lt_zero k))⟩
end
