section
/-! the pure picture: binomials, factorials, the places filled by 'go', the rank, the next one -/
def rk_c : Nat → Nat → Nat
  | _, 0 => 1
  | 0, _ + 1 => 0
  | a + 1, b + 1 => rk_c a b + rk_c a (b + 1)
def rk_f : Nat → Nat
  | 0 => 1
  | n + 1 => (n + 1) * rk_f n
/-- how many go on behind x at place i, of n numbers and k places -/
def rk_v (n k i x : Nat) : Nat := if k - (i + 1) ≤ n - 1 - x then rk_c (n - 1 - x) (k - (i + 1)) else 0
/-- the same, or 0 if x may not stand there behind p -/
def rk_w (n k i p x : Nat) : Nat := if x < n ∧ (i = 0 ∨ p < x) then rk_v n k i x else 0
def rk_W0 (n k : Nat) (l : List Nat) (x : Nat) : Nat := rk_w n k l.length (l.getD (l.length - 1) 0) x
/-- the set of the first j items, as bits -/
def rk_us (l : List Nat) : Nat → Int32
  | 0 => 0
  | j + 1 => rk_us l j ||| ((1 : Int32) <<< (nI (l.getD j 0) &&& 31))
/-- orders of 3 -/
def rk_W1 (l : List Nat) (x : Nat) : Nat := if x < 3 then (if ((rk_us l l.length >>> (nI x &&& 31)) &&& 1) = 0 then rk_f (3 - (l.length + 1)) else 0) else 0
/-- one place of 'go': the rest and the number that is taken -/
def rk_find (w : Nat → Nat) : Nat → Nat → Nat → Option (Nat × Nat)
  | 0, _, _ => none
  | f + 1, r, x => if r < w x then some (r, x) else rk_find w f (r - w x) (x + 1)
def rk_goL (W : List Nat → Nat → Nat) (k : Nat) : Nat → Nat → List Nat → Option (List Nat)
  | 0, _, _ => none
  | f + 1, r, l => if k ≤ l.length then some l else match rk_find (W l) 10 r 0 with
    | none => none
    | some p => rk_goL W k f p.1 (l ++ [p.2])
def rk_go0 (n k m : Nat) : Option (List Nat) := rk_goL (rk_W0 n k) k 15 m []
/-- the object with number m, for k = 1 and k = n - 1 -/
def rk_fm (n k m : Nat) : List Nat := if k = 1 then [m] else (List.range n).filter (fun x => decide (x ≠ n - 1 - m))
/-- places at which two lists differ -/
def rk_df (l l' : List Nat) : Nat → Nat
  | 0 => 0
  | i + 1 => rk_df l l' i + (if l.getD i 0 = l'.getD i 0 then 0 else 1)
def rk_mi (n k : Nat) (l : List Nat) : List Nat := (List.range k).map (fun j => n - 1 - l.getD (k - 1 - j) 0)
def rk_ri (w : Nat → Nat) : Nat → Nat
  | 0 => 0
  | x + 1 => rk_ri w x + w x
def rk_rk (n k : Nat) (l : List Nat) : Nat → Nat
  | 0 => 0
  | j + 1 => rk_rk n k l j + rk_ri (rk_w n k j (l.getD (j - 1) 0)) (l.getD j 0)
/-- the least number from x on that some object has there -/
def rk_sm (w : Nat → Nat) : Nat → Nat → Option Nat
  | 0, _ => none
  | f + 1, x => if w x = 0 then rk_sm w f (x + 1) else some x
def rk_n89 (n k : Nat) : Nat → List Nat → Option (List Nat)
  | 0, _ => none
  | f + 1, l => if k ≤ l.length then some l else match rk_sm (rk_W0 n k l) 10 0 with
    | none => none
    | some x => rk_n89 n k f (l ++ [x])
def rk_n46 (w : Nat → Nat) : Nat → Nat → Option Nat
  | 0, _ => none
  | f + 1, x => if 8 ≤ x then some x else if w x = 0 then rk_n46 w f (x + 1) else some x
def rk_n33 (n k : Nat) (l : List Nat) : Nat → Option (List Nat)
  | 0 => none
  | i + 1 => match rk_n46 (rk_w n k i (l.getD (i - 1) 0)) 10 (l.getD i 0 + 1) with
    | none => none
    | some x => if x = 8 then rk_n33 n k l i else rk_n89 n k 15 (l.take i ++ [x])
/-! what is finite -/
theorem rk_cB : ∀ a, a < 8 → ∀ b, b < 8 → rk_c a b < 1000 := by decide +kernel
theorem rk_fB : ∀ a, a < 8 → rk_f a < 10000 := by decide +kernel
theorem rk_cP : ∀ z, z < 8 → ∀ b, b < 8 → 1 ≤ b → (z = b → rk_c z b = rk_c (z - 1) (b - 1)) ∧ (b < z → rk_c z b = rk_c (z - 1) (b - 1) + rk_c (z - 1) b) := by decide +kernel
theorem rk_F0 : ∀ n, n < 8 → 2 ≤ n → ∀ k, k < 8 → (k = 1 ∨ k = n - 1) → rk_c n k = n := by decide +kernel
def rk_all (P : Nat → Nat → Nat → Bool) : Bool := (List.range 8).all (fun n => (List.range 8).all (fun k => (List.range n).all (fun m => !(decide (2 ≤ n ∧ (k = 1 ∨ k = n - 1))) || P n k m)))
theorem rk_allE {P : Nat → Nat → Nat → Bool} (h : rk_all P = true) : ∀ n, n < 8 → 2 ≤ n → ∀ k, k < 8 → (k = 1 ∨ k = n - 1) → ∀ m, m < n → P n k m = true := by
  intro n hn h2 k hk hkk m hm
  have h1 := List.all_eq_true.mp h n (List.mem_range.mpr hn)
  have h3 := List.all_eq_true.mp h1 k (List.mem_range.mpr hk)
  have h4 := List.all_eq_true.mp h3 m (List.mem_range.mpr hm)
  have h5 : decide (2 ≤ n ∧ (k = 1 ∨ k = n - 1)) = true := decide_eq_true ⟨h2, hkk⟩
  rw [h5] at h4
  exact h4
theorem rk_F1 : ∀ n, n < 8 → 2 ≤ n → ∀ k, k < 8 → (k = 1 ∨ k = n - 1) → ∀ m, m < n → rk_go0 n k m = some (rk_fm n k m) ∧ (rk_fm n k m).length = k :=
  fun n hn h2 k hk hkk m hm => of_decide_eq_true (rk_allE (P := fun n k m => decide (rk_go0 n k m = some (rk_fm n k m) ∧ (rk_fm n k m).length = k)) (by decide +kernel) n hn h2 k hk hkk m hm)
theorem rk_F2 : ∀ n, n < 8 → 2 ≤ n → ∀ k, k < 8 → (k = 1 ∨ k = n - 1) → ∀ m, m < n → ∀ j, j < k → (rk_fm n k m).getD j 0 < n :=
  fun n hn h2 k hk hkk m hm => of_decide_eq_true (rk_allE (P := fun n k m => decide (∀ j, j < k → (rk_fm n k m).getD j 0 < n)) (by decide +kernel) n hn h2 k hk hkk m hm)
theorem rk_F3 : ∀ n, n < 8 → 2 ≤ n → ∀ m, m < n → ∀ q, q < n → rk_df (rk_fm n 1 q) (rk_fm n 1 m) 1 = (if m = q then 0 else 1) := by decide +kernel
theorem rk_F4 : ∀ n, n < 8 → 2 ≤ n → ∀ m, m < n → ∀ q, q < n → rk_df (rk_fm n (n - 1) q) (rk_fm n (n - 1) m) (n - 1) = (if n - 1 - q ≤ n - 1 - m then (n - 1 - m) - (n - 1 - q) else (n - 1 - q) - (n - 1 - m)) := by decide +kernel
theorem rk_F5 : ∀ n, n < 8 → 2 ≤ n → ∀ k, k < 8 → (k = 1 ∨ k = n - 1) → ∀ m, m < n → rk_rk n k (rk_mi n k (rk_fm n k m)) k = n - 1 - m ∧ (rk_mi n k (rk_fm n k m)).length = k :=
  fun n hn h2 k hk hkk m hm => of_decide_eq_true (rk_allE (P := fun n k m => decide (rk_rk n k (rk_mi n k (rk_fm n k m)) k = n - 1 - m ∧ (rk_mi n k (rk_fm n k m)).length = k)) (by decide +kernel) n hn h2 k hk hkk m hm)
theorem rk_F6 : ∀ n, n < 8 → 2 ≤ n → ∀ m, m < n → (rk_fm n (n - 1) m).getD 0 0 = (if n - 1 - m = 0 then 1 else 0) ∧ rk_v n (n - 1) 0 ((rk_fm n (n - 1) m).getD 0 0) = (if n - 1 - m = 0 then 1 else n - 1) := by decide +kernel
theorem rk_F7 : ∀ n, n < 8 → 2 ≤ n → ∀ k, k < 8 → (k = 1 ∨ k = n - 1) → ∀ m, m < n → m + 1 < n → (rk_n33 n k (rk_fm n k m) k).isSome = true :=
  fun n hn h2 k hk hkk m hm => of_decide_eq_true (rk_allE (P := fun n k m => decide (m + 1 < n → (rk_n33 n k (rk_fm n k m) k).isSome = true)) (by decide +kernel) n hn h2 k hk hkk m hm)
theorem rk_F8 : rk_goL rk_W1 3 15 0 [] = some [0, 1, 2] := by decide +kernel
theorem rk_F9 : ∀ n, n < 8 → 2 ≤ n → ∀ m, m < n → (rk_fm n 1 m).getD 0 0 = m ∧ rk_v n 1 0 ((rk_fm n 1 m).getD 0 0) = 1 := by decide +kernel
theorem rk_wB {n k i p x : Nat} (hn : n ≤ 7) (hk : k ≤ 7) : rk_w n k i p x < 1000 := by
  unfold rk_w rk_v
  split
  · split
    · exact rk_cB _ (by omega) _ (by omega)
    · omega
  · omega
theorem rk_W1B (l : List Nat) (x : Nat) : rk_W1 l x < 1000 := by
  have h : ∀ a, a < 3 → rk_f a < 1000 := by decide +kernel
  unfold rk_W1
  split
  · split
    · exact h _ (by omega)
    · omega
  · omega
/-! arrays -/
def rk_By (a : Nat → Int32) : Prop := ∀ j, vp_nar .byte (a j) = a j
def rk_Hd (l : List Nat) (a : Nat → Int32) : Prop := ∀ j, j < l.length → l.getD j 0 < 128 ∧ a j = nI (l.getD j 0)
theorem rk_nb : ∀ x, x < 128 → (nI x).toInt8.toInt32 = nI x := by decide +kernel
theorem rk_byU {a : Nat → Int32} {i x : Nat} (h : rk_By a) (hx : x < 128) : rk_By (upd a i (nI x)) := by
  intro j
  by_cases e : j = i
  · rw [e, pk_us]
    exact rk_nb x hx
  · rw [pk_un e]
    exact h j
theorem rk_back {a : Nat → Int32} {i : Nat} {v : Int32} (h : rk_By a) : upd (upd a i v) i (vp_nar .byte (a i)) = a := by
  funext j
  by_cases e : j = i
  · rw [e, pk_us]
    exact h i
  · rw [pk_un e, pk_un e]
theorem rk_same {a : Nat → Int32} {i : Nat} : upd a i (a i) = a := by
  funext j
  by_cases e : j = i
  · rw [e, pk_us]
  · rw [pk_un e]
theorem rk_hd0 {a : Nat → Int32} : rk_Hd [] a := fun j hj => absurd hj (Nat.not_lt_zero j)
theorem rk_hdU {a : Nat → Int32} {l : List Nat} {x : Nat} (h : rk_Hd l a) (hx : x < 128) : rk_Hd (l ++ [x]) (upd a l.length (nI x)) := by
  intro j hj
  rw [List.length_append] at hj
  have hj' : j < l.length + 1 := hj
  by_cases e : j = l.length
  · subst e
    have e2 : (l ++ [x]).getD l.length 0 = x := by simp [List.getD]
    rw [e2, pk_us]
    exact ⟨hx, rfl⟩
  · have e2 : (l ++ [x]).getD j 0 = l.getD j 0 := by
      simp only [List.getD]
      rw [List.getElem?_append_left (by omega)]
    rw [e2, pk_un e]
    exact h j (by omega)
theorem rk_hdT {a : Nat → Int32} {l : List Nat} (h : rk_Hd l a) (i : Nat) (hi : i ≤ l.length) : rk_Hd (l.take i) a ∧ (l.take i).length = i := by
  have e : (l.take i).length = i := by rw [List.length_take]; omega
  refine ⟨fun j hj => ?_, e⟩
  rw [e] at hj
  have e2 : (l.take i).getD j 0 = l.getD j 0 := by
    simp only [List.getD]
    rw [List.getElem?_take_of_lt hj]
  rw [e2]
  exact h j (by omega)
/-! indices -/
theorem rk_ix (a b : Nat) : (8 : Int32) * nI a + nI b = nI (8 * a + b) := by
  rw [show (8 : Int32) = nI 8 from rfl, pk_mul, nI_add]
theorem rk_p1 {i : Nat} (h : 1 ≤ i) : nI i - 1 = nI (i - 1) := by
  rw [show (1 : Int32) = nI 1 from rfl, pk_sub h]
theorem rk_ix2 {a b : Nat} (h : 1 ≤ a) : ((8 : Int32) * nI a - 8) + nI b = nI (8 * a - 8 + b) := by
  rw [show (8 : Int32) = nI 8 from rfl, pk_mul, pk_sub (by omega), nI_add]
end
section
/-! counting and one item -/
def rk_T (a : Nat → Int32) : Prop := ∀ p b, p < 8 → b ≤ p → a (8 * p + b) = nI (rk_c p b)
section
variable {a1 a2 a3 a4 a5 a6 : Nat → Int32} {c cur : Int32}
theorem rk_gon {post : Int32 → Prop} {n k : Nat} (hT : rk_T a3) (hn : n ≤ 7) (hk : k ≤ n) (h : post (nI (rk_c n k))) : wpX_goingOn post (0, nI n, c, nI k, cur, a1, a2, a3, a4, a5, a6) 0 := by
  refine nm_r (Int32.sub_zero _) (br_f (by decide) (br_f (by decide) (br_t rfl (br_t rfl ?_))))
  refine pk_le k n (fun _ => ⟨pk_in (8 * n + k) 64 (by omega) (rk_ix n k), ?_⟩) (fun z => absurd z (by omega))
  rw [pk_cl (8 * n + k) (rk_ix n k), hT n k (by omega) hk]
  exact h
theorem rk_gon1 {post : Int32 → Prop} {n k i x : Nat} (hT : rk_T a3) (hn : n ≤ 7) (hi : i < k) (hk : k ≤ 7) (hx : x < n) (ha : a1 i = nI x) (h : post (nI (rk_v n k i x))) : wpX_goingOn post (0, nI n, c, nI k, cur, a1, a2, a3, a4, a5, a6) (nI i + 1) := by
  have e1 : nI k - (nI i + 1) = nI (k - (i + 1)) := by rw [nI_1, pk_sub (by omega)]
  have e2 : ¬ nI i + 1 = 0 := by
    rw [nI_1]
    exact nI_ne0 (by omega) (by omega)
  have e3 : nI i + 1 - 1 = nI i := by rw [nI_1, nI_pred]
  have e4 : nI n - 1 - nI x = nI (n - 1 - x) := by rw [rk_p1 (by omega), pk_sub (by omega)]
  refine nm_r e1 (br_f (by decide) (br_f (by decide) (br_t rfl (br_f e2 ⟨pk_in i 14 (by omega) e3, ?_⟩))))
  rw [pk_cl i e3, ha, e4]
  refine pk_le (k - (i + 1)) (n - 1 - x) (fun z => ⟨pk_in (8 * (n - 1 - x) + (k - (i + 1))) 64 (by omega) (rk_ix _ _), ?_⟩) (fun z => ?_)
  · rw [pk_cl (8 * (n - 1 - x) + (k - (i + 1))) (rk_ix _ _), hT (n - 1 - x) (k - (i + 1)) (by omega) z]
    rw [rk_v, if_pos z] at h
    exact h
  · rw [rk_v, if_neg (by omega)] at h
    exact h
theorem rk_may {post : Int32 → Prop} {n i p x : Nat} {k : Int32} (hn : n ≤ 7) (hi : i < 14) (hx : x < 128) (hp : i ≠ 0 → p < 128 ∧ a1 (i - 1) = nI p) (h1 : x < n ∧ (i = 0 ∨ p < x) → post 1) (h0 : ¬ (x < n ∧ (i = 0 ∨ p < x)) → post 0) : wpX_mayCome post (0, nI n, c, k, cur, a1, a2, a3, a4, a5, a6) (nI i) (nI x) := by
  refine br_t rfl (pk_le n x (fun z => h0 (fun t => absurd t.1 (by omega))) (fun z => pk_eq i 0 (fun e => h1 ⟨z, Or.inl e⟩) (fun e => ?_)))
  obtain ⟨h2, h3⟩ := hp e
  have e1 : nI i - 1 = nI (i - 1) := rk_p1 (by omega)
  refine ⟨pk_in (i - 1) 14 (by omega) e1, ?_⟩
  rw [pk_cl (i - 1) e1, h3]
  exact pk_le x p (fun y => h0 (fun t => by omega)) (fun y => h1 ⟨z, Or.inr y⟩)
theorem rk_wi {P : Int32 → St2 → Prop} {n k i p x : Nat} (hT : rk_T a3) (hB : rk_By a1) (hn : n ≤ 7) (hk : k ≤ 7) (hi : i < k) (hx : x < 128) (hp : i ≠ 0 → p < 128 ∧ a1 (i - 1) = nI p) (h : P (nI (rk_w n k i p x)) (0, nI n, c, nI k, cur, a1, a2, a3, a4, a5, a6)) : wpX_withItem P (0, nI n, c, nI k, cur, a1, a2, a3, a4, a5, a6) (nI i) (nI x) := by
  unfold wpX_withItem
  refine rk_may hn (by omega) hx hp (fun g => ?_) (fun g => ?_)
  · rw [rk_w, if_pos g] at h
    refine br_f (by decide) ⟨pk_in i 14 (by omega), nm_e ⟨pk_in i 14 (by omega), ?_⟩⟩
    rw [nI_clamp (show i < 2 ^ 31 by omega), rk_nb x hx]
    refine nm_e (rk_gon1 hT hn hi hk g.1 pk_us ⟨pk_in i 14 (by omega), ?_⟩)
    rw [rk_back hB]
    exact nm_e h
  · rw [rk_w, if_neg g] at h
    exact br_t rfl h
theorem rk_wi2 {P : Int32 → St2 → Prop} {n k i p x : Nat} (hT : rk_T a3) (hB : rk_By a1) (hn : n ≤ 7) (hk : k ≤ 7) (hi : i < k) (hx : x < 128) (hp : i ≠ 0 → p < 128 ∧ a1 (i - 1) = nI p) (h : P (nI (rk_w n k i p x)) (0, nI n, c, nI k, cur, a1, a2, a3, a4, a5, a6)) : wpX_withItem_2 P (0, nI n, c, nI k, cur, a1, a2, a3, a4, a5, a6) (nI i) (nI x) := by
  unfold wpX_withItem_2
  refine rk_may hn (by omega) hx hp (fun g => ?_) (fun g => ?_)
  · rw [rk_w, if_pos g] at h
    refine br_f (by decide) ⟨pk_in i 14 (by omega), nm_e ⟨pk_in i 14 (by omega), ?_⟩⟩
    rw [nI_clamp (show i < 2 ^ 31 by omega), rk_nb x hx]
    refine nm_e (rk_gon1 hT hn hi hk g.1 pk_us ⟨pk_in i 14 (by omega), ?_⟩)
    rw [rk_back hB]
    exact nm_e h
  · rw [rk_w, if_neg g] at h
    exact br_t rfl h
/-! orders: the constructor's own object alone -/
theorem rk_used {post : Int32 → Prop} {s n k : Int32} {l : List Nat} (hl : l.length ≤ 14) (hH : rk_Hd l a1) (h : post (rk_us l l.length)) : wpX_usedBefore post (s, n, c, k, cur, a1, a2, a3, a4, a5, a6) (nI l.length) :=
  pk_loop (σ := Unit) (fun f j _ => wX_usedBefore_4 post (nI l.length) s n c k cur a1 a2 a3 a4 a5 a6 f (rk_us l j) (nI j)) (fun _ _ => True) l.length 0 () (by omega) trivial
    (fun f _ _ => pk_le l.length l.length (fun _ => h) (fun z => absurd z (by omega)))
    (fun f j _ hj _ hw => pk_le l.length j (fun z => absurd z (by omega)) (fun z => ⟨pk_in j 14 (by omega), nm_r (by rw [nI_clamp (by omega), (hH j hj).2]; rfl) (nm_r (nI_1 j) (hw () trivial))⟩))
theorem rk_gonO {post : Int32 → Prop} {n p : Int32} {k i : Nat} (h6 : ∀ j, j < 8 → a6 j = nI (rk_f j)) (hi : i ≤ k) (hk : k ≤ 7) (ep : p = nI i) (h : post (nI (rk_f (k - i)))) : wpX_goingOn post (1, n, c, nI k, cur, a1, a2, a3, a4, a5, a6) p := by
  subst ep
  refine nm_r (pk_sub hi) (br_t rfl ⟨pk_in (k - i) 8 (by omega), ?_⟩)
  rw [nI_clamp (by omega), h6 (k - i) (by omega)]
  exact h
theorem rk_wiO {P : Int32 → St2 → Prop} {l : List Nat} {x : Nat} (h6 : ∀ j, j < 8 → a6 j = nI (rk_f j)) (hB : rk_By a1) (hH : rk_Hd l a1) (hl : l.length < 3) (hx : x < 128) (h : P (nI (rk_W1 l x)) (1, nI 3, c, nI 3, cur, a1, a2, a3, a4, a5, a6)) : wpX_withItem P (1, nI 3, c, nI 3, cur, a1, a2, a3, a4, a5, a6) (nI l.length) (nI x) := by
  refine br_f (by decide) (br_t rfl (pk_le 3 x (fun z => ?_) (fun z => rk_used (by omega) hH (br_c (fun g => ?_) (fun g => ?_)))))
  · rw [rk_W1, if_neg (by omega)] at h
    exact br_t rfl h
  · rw [rk_W1, if_pos z, if_pos g] at h
    refine br_f (by decide) ⟨pk_in l.length 14 (by omega), nm_e ⟨pk_in l.length 14 (by omega), ?_⟩⟩
    rw [nI_clamp (show l.length < 2 ^ 31 by omega), rk_nb x hx]
    refine nm_e (rk_gonO h6 (i := l.length + 1) (by omega) (by omega) (nI_1 _) ⟨pk_in l.length 14 (by omega), ?_⟩)
    rw [rk_back hB]
    exact nm_e h
  · rw [rk_W1, if_pos z, if_neg g] at h
    exact br_t rfl h
end
end
section
section
variable {a1 a2 a3 a4 a5 a6 : Nat → Int32} {s n c cur : Int32}
/-! 'go': one place, all places -/
theorem rk_go44 {post : Int32 → St2 → Prop} {J : Int32 → Int32 → Int32 → Int32 → Int32 → Int32 → Int32 → (Nat → Int32) → (Nat → Int32) → (Nat → Int32) → (Nat → Int32) → (Nat → Int32) → (Nat → Int32) → Prop} {x1 k : Int32} {i : Nat} (w : Nat → Nat) (hi : i < 14) (hb : ∀ x, w x < 1000)
    (hw : ∀ (x : Nat) (P : Int32 → St2 → Prop), x < 128 → P (nI (w x)) (s, n, c, k, cur, a1, a2, a3, a4, a5, a6) → wpX_withItem P (s, n, c, k, cur, a1, a2, a3, a4, a5, a6) (nI i) (nI x)) :
    ∀ (f r x r' x' : Nat), x + f < 128 → r < 1000 → rk_find w f r x = some (r', x') → (r' < 1000 → x' < 128 → J (nI r') (nI (i + 1)) s n c k cur (upd a1 i (nI x')) a2 a3 a4 a5 a6) → wX_go_44 post J x1 (nI i) f (nI r) (nI x) (nI (w x)) s n c k cur a1 a2 a3 a4 a5 a6 := by
  intro f
  induction f with
  | zero =>
    intro r x r' x' _ _ h
    rw [rk_find] at h
    exact absurd h.symm (Option.some_ne_none _)
  | succ f ih =>
    intro r x r' x' hx hr h H
    have hbx := hb x
    rw [rk_find] at h
    refine pk_lt r (w x) (fun z => ?_) (fun z => ?_)
    · rw [if_pos z] at h
      have e := Option.some.inj h
      have e1 : r = r' := congrArg Prod.fst e
      have e2 : x = x' := congrArg Prod.snd e
      subst e1 e2
      refine ⟨pk_in i 14 hi, ?_⟩
      rw [nI_clamp (show i < 2 ^ 31 by omega), rk_nb x (by omega)]
      exact nm_e (nm_r (nI_1 i) (H hr (by omega)))
    · rw [if_neg (by omega)] at h
      exact nm_r (pk_sub z) (nm_r (nI_1 x) (hw (x + 1) _ (by omega) (ih (r - w x) (x + 1) r' x' (by omega) (by omega) h H)))
theorem rk_go22 {post : Int32 → St2 → Prop} {x1 : Int32} {k : Nat} (hk : k ≤ 14) (W : List Nat → Nat → Nat) (hb : ∀ l x, W l x < 1000)
    (hW : ∀ (l : List Nat) (b1 : Nat → Int32) (x : Nat) (P : Int32 → St2 → Prop), l.length < k → rk_By b1 → rk_Hd l b1 → x < 128 → P (nI (W l x)) (s, n, c, nI k, cur, b1, a2, a3, a4, a5, a6) → wpX_withItem P (s, n, c, nI k, cur, b1, a2, a3, a4, a5, a6) (nI l.length) (nI x)) :
    ∀ (f r : Nat) (l l' : List Nat) (b1 : Nat → Int32), l.length ≤ k → rk_By b1 → rk_Hd l b1 → r < 1000 → rk_goL W k f r l = some l' → (∀ b1', rk_By b1' → rk_Hd l' b1' → post x1 (s, n, c, nI k, x1, b1', a2, a3, a4, a5, a6)) → wX_go_22 post x1 f (nI r) (nI l.length) s n c (nI k) cur b1 a2 a3 a4 a5 a6 := by
  intro f
  induction f with
  | zero =>
    intro r l l' b1 _ _ _ _ h
    rw [rk_goL] at h
    exact absurd h.symm (Option.some_ne_none _)
  | succ f ih =>
    intro r l l' b1 hl hB hH hr h H
    rw [rk_goL] at h
    refine pk_le k l.length (fun z => ?_) (fun z => ?_)
    · rw [if_pos z] at h
      have e := Option.some.inj h
      subst e
      exact H b1 hB hH
    · rw [if_neg (by omega)] at h
      refine hW l b1 0 _ z hB hH (by omega) ⟨10, ?_⟩
      cases e : rk_find (W l) 10 r 0 with
      | none =>
        rw [e] at h
        exact absurd h.symm (Option.some_ne_none _)
      | some p =>
        rw [e] at h
        obtain ⟨r', x'⟩ := p
        refine rk_go44 (W l) (by omega) (hb l) (fun x P hx hP => hW l b1 x P z hB hH hx hP) 10 r 0 r' x' (by omega) hr e (fun hr' hx' => ?_)
        have e2 : l.length + 1 = (l ++ [x']).length := by rw [List.length_append]; rfl
        rw [e2]
        exact ih r' (l ++ [x']) l' _ (by omega) (rk_byU hB hx') (rk_hdU hH hx') hr' h H
theorem rk_go {post : Int32 → St2 → Prop} {k g m : Nat} {l : List Nat} (hk : k ≤ 14) (W : List Nat → Nat → Nat) (hb : ∀ l x, W l x < 1000)
    (hW : ∀ (l : List Nat) (b1 : Nat → Int32) (x : Nat) (P : Int32 → St2 → Prop), l.length < k → rk_By b1 → rk_Hd l b1 → x < 128 → P (nI (W l x)) (s, n, c, nI k, cur, b1, a2, a3, a4, a5, a6) → wpX_withItem P (s, n, c, nI k, cur, b1, a2, a3, a4, a5, a6) (nI l.length) (nI x))
    (hg : g < 1000) (hG : ∀ P : Int32 → Prop, P (nI g) → wpX_goingOn P (s, n, c, nI k, cur, a1, a2, a3, a4, a5, a6) 0) (hm : m < g) (hB : rk_By a1) (hL : rk_goL W k 15 m [] = some l)
    (H : ∀ b1, rk_By b1 → rk_Hd l b1 → post (nI m) (s, n, c, nI k, nI m, b1, a2, a3, a4, a5, a6)) : wpX_go post (s, n, c, nI k, cur, a1, a2, a3, a4, a5, a6) (nI m) := by
  unfold wpX_go
  refine hG _ (br_f (nI_pos (by omega)) (br_t (nI_lt hm (by omega)) ⟨15, ?_⟩))
  exact rk_go22 hk W hb hW 15 m [] l a1 (Nat.zero_le k) hB rk_hd0 (by omega) hL H
end
section
variable {a1 a2 a3 a4 a5 a6 : Nat → Int32} {c cur : Int32}
theorem rk_W0i {n k : Nat} (hT : rk_T a3) (hn : n ≤ 7) (hk : k ≤ 7) (l : List Nat) (b1 : Nat → Int32) (x : Nat) (P : Int32 → St2 → Prop) (hl : l.length < k) (hB : rk_By b1) (hH : rk_Hd l b1) (hx : x < 128) (h : P (nI (rk_W0 n k l x)) (0, nI n, c, nI k, cur, b1, a2, a3, a4, a5, a6)) : wpX_withItem P (0, nI n, c, nI k, cur, b1, a2, a3, a4, a5, a6) (nI l.length) (nI x) :=
  rk_wi hT hB hn hk hl hx (fun z => hH (l.length - 1) (by omega)) h
/-- 'go' to a number that is there -/
theorem rk_goC {post : Int32 → St2 → Prop} {n k m : Nat} {l : List Nat} (hT : rk_T a3) (hn : n ≤ 7) (hk : k ≤ n) (hm : m < rk_c n k) (hB : rk_By a1) (hL : rk_go0 n k m = some l)
    (H : ∀ b1, rk_By b1 → rk_Hd l b1 → post (nI m) (0, nI n, c, nI k, nI m, b1, a2, a3, a4, a5, a6)) : wpX_go post (0, nI n, c, nI k, cur, a1, a2, a3, a4, a5, a6) (nI m) :=
  rk_go (g := rk_c n k) (by omega) (rk_W0 n k) (fun l x => rk_wB hn (by omega)) (rk_W0i hT hn (by omega)) (rk_cB n (by omega) k (by omega)) (fun P h => rk_gon hT hn hk h) hm hB hL H
/-- 'go' to a number that isn't there -/
theorem rk_goN {post : Int32 → St2 → Prop} {n k m : Nat} (hT : rk_T a3) (hn : n ≤ 7) (hk : k ≤ n) (hm : rk_c n k ≤ m) (hm2 : m < 1000)
    (H : post (-1) (0, nI n, c, nI k, cur, a1, a2, a3, a4, a5, a6)) : wpX_go post (0, nI n, c, nI k, cur, a1, a2, a3, a4, a5, a6) (nI m) := by
  unfold wpX_go
  exact rk_gon hT hn hk (br_f (nI_pos (by omega)) (br_f (nI_nlt hm (by have := rk_cB n (by omega) k (by omega); omega)) H))
theorem rk_choC {post : Int32 → St2 → Prop} {s0 n0 k0 : Int32} {n k : Nat} {l : List Nat} (hT : rk_T a3) (h1 : 1 ≤ n) (hn : n ≤ 7) (hk : k ≤ n) (hc : 0 < rk_c n k) (hB : rk_By a1) (hL : rk_go0 n k 0 = some l)
    (H : ∀ b1, rk_By b1 → rk_Hd l b1 → post 1 (0, nI n, nI k, nI k, nI 0, b1, a2, a3, a4, a5, a6)) : wpX_choose post (s0, n0, c, k0, cur, a1, a2, a3, a4, a5, a6) 0 (nI n) (nI k) := by
  have hcb := rk_cB n (by omega) k (by omega)
  refine br_f (by decide) (br_f (by decide) (pk_lt n 1 (fun z => absurd z (by omega)) (fun _ => pk_le n 7 (fun _ => br_t rfl ?_) (fun z => absurd z (by omega)))))
  refine br_f (by decide) (br_f (nI_pos (by omega)) (br_t (nI_le hk (by omega)) ?_))
  refine br_f (by decide) (br_f (by decide) ?_)
  unfold wX_choose_100 wpX_count
  refine rk_gon hT hn hk (br_f (nI_nle hc (by omega)) ?_)
  exact rk_goC (m := 0) hT hn hk hc hB hL H
theorem rk_choO {post : Int32 → St2 → Prop} {s0 n0 k0 : Int32} (h6 : ∀ j, j < 8 → a6 j = nI (rk_f j)) (hB : rk_By a1)
    (H : ∀ b1, rk_By b1 → post 1 (1, nI 3, 0, nI 3, nI 0, b1, a2, a3, a4, a5, a6)) : wpX_choose post (s0, n0, c, k0, cur, a1, a2, a3, a4, a5, a6) 1 3 0 := by
  refine br_f (by decide) (br_f (by decide) (br_f (by decide) (br_t (by decide) (br_f (by decide) (br_f (by decide) ?_)))))
  refine br_t rfl (br_t rfl (br_t rfl (br_f (by decide) ?_)))
  unfold wX_choose_100 wpX_count
  refine rk_gonO (k := 3) (i := 0) h6 (by omega) (by omega) rfl (br_f (by decide) ?_)
  exact rk_go (k := 3) (g := 6) (m := 0) (by omega) rk_W1 rk_W1B (fun l b1 x P hl hB' hH hx h => rk_wiO h6 hB' hH hl hx h) (by omega) (fun P h => rk_gonO (k := 3) (i := 0) h6 (by omega) (by omega) rfl h) (by omega) hB rk_F8 (fun b1 hb _ => H b1 hb)
end
end
section
section
variable {a1 a2 a3 a4 a5 a6 : Nat → Int32} {s n c k cur : Int32} {post : St2 → Prop}
/-! the tables: of nestings and groupings only that no index is out of range -/
theorem rk_t285 {J J' : Int32 → (Nat → Int32) → (Nat → Int32) → (Nat → Int32) → (Nat → Int32) → (Nat → Int32) → (Nat → Int32) → Prop} {z i : Nat} {v : Int32} (hz : z < 8) (hi : i ≤ z) (H : ∀ b5, J' (nI (i + 1)) a1 a2 a3 a4 b5 a6) : wX_fillTables_285 post J J' (nI z) (nI i) v s n c k cur a1 a2 a3 a4 a5 a6 :=
  ⟨pk_in (8 * z + i) 64 (by omega) (rk_ix z i), fun b5 _ => nm_r (nI_1 i) (H b5)⟩
theorem rk_t263 {J J' : Int32 → (Nat → Int32) → (Nat → Int32) → (Nat → Int32) → (Nat → Int32) → (Nat → Int32) → (Nat → Int32) → Prop} {z i : Nat} {v : Int32} (hz : z < 8) (hi : i ≤ z) (H : ∀ b5, J' (nI (i + 1)) a1 a2 a3 a4 b5 a6) : wX_fillTables_263 post J J' (nI z) (nI i) v s n c k cur a1 a2 a3 a4 a5 a6 :=
  pk_le z i (fun _ => rk_t285 hz hi H) (fun y => ⟨pk_in (8 * z - 8 + i) 64 (by omega) (rk_ix2 (by omega)), fun _ _ => rk_t285 hz hi H⟩)
theorem rk_t242 {J J' : Int32 → (Nat → Int32) → (Nat → Int32) → (Nat → Int32) → (Nat → Int32) → (Nat → Int32) → (Nat → Int32) → Prop} {z i : Nat} {v : Int32} (hz : z < 8) (hi : i ≤ z) (H : ∀ b5, J' (nI (i + 1)) a1 a2 a3 a4 b5 a6) : wX_fillTables_242 post J J' (nI z) (nI i) v s n c k cur a1 a2 a3 a4 a5 a6 :=
  pk_le i 0 (fun _ => rk_t263 hz hi H) (fun y => ⟨pk_in (8 * z + i - 1) 64 (by omega) (by rw [rk_ix, rk_p1 (by omega)]), fun _ _ => rk_t263 hz hi H⟩)
theorem rk_t228 {J : Int32 → (Nat → Int32) → (Nat → Int32) → (Nat → Int32) → (Nat → Int32) → (Nat → Int32) → (Nat → Int32) → Prop} {z : Nat} (hz : z < 8) (H : ∀ b5, J (nI (z + 1)) a1 a2 a3 a4 b5 a6) : ∃ f, wX_fillTables_228 post J (nI z) s n c k cur f 0 a1 a2 a3 a4 a5 a6 :=
  pk_loop (fun f i b5 => wX_fillTables_228 post J (nI z) s n c k cur f (nI i) a1 a2 a3 a4 b5 a6) (fun _ _ => True) (z + 1) 0 a5 (by omega) trivial
    (fun f b5 _ => pk_lt z (z + 1) (fun _ => nm_r (nI_1 z) (H b5)) (fun y => absurd y (by omega)))
    (fun f i b5 hi _ hw => pk_lt z i (fun y => absurd y (by omega)) (fun _ => br_c (fun _ => rk_t242 hz (by omega) (fun b => hw b trivial)) (fun _ => rk_t242 hz (by omega) (fun b => hw b trivial))))
theorem rk_t220 (H : ∀ b5, post (s, n, c, k, cur, a1, a2, a3, a4, b5, a6)) : ∃ f, wX_fillTables_220 post s n c k cur f 0 a1 a2 a3 a4 a5 a6 :=
  pk_loop (fun f i b5 => wX_fillTables_220 post s n c k cur f (nI i) a1 a2 a3 a4 b5 a6) (fun _ _ => True) 8 0 a5 (by omega) trivial
    (fun f b5 _ => pk_le 8 8 (fun _ => H b5) (fun y => absurd y (by omega)))
    (fun f i b5 hi _ hw => pk_le 8 i (fun y => absurd y (by omega)) (fun _ => rk_t228 hi (fun b => hw b trivial)))
theorem rk_gx {z i : Nat} (h : 1 ≤ z) : ((16 : Int32) * nI z - 16) + nI i = nI (16 * z - 16 + i) ∧ ((16 : Int32) * nI z - 15) + nI i = nI (16 * z - 15 + i) ∧ (16 : Int32) * nI z + nI i = nI (16 * z + i) := by
  rw [show (16 : Int32) = nI 16 from rfl, show (15 : Int32) = nI 15 from rfl, pk_mul, pk_sub (by omega), pk_sub (by omega), nI_add, nI_add, nI_add]
  exact ⟨rfl, rfl, rfl⟩
theorem rk_t156 {J : Int32 → (Nat → Int32) → (Nat → Int32) → (Nat → Int32) → (Nat → Int32) → (Nat → Int32) → (Nat → Int32) → Prop} {z : Nat} (h1 : 1 ≤ z) (hz : z < 8) (H : ∀ b4, J (nI (z + 1)) a1 a2 a3 b4 a5 a6) : ∃ f, wX_fillTables_156 post J (nI z) s n c k cur f 0 a1 a2 a3 a4 a5 a6 :=
  pk_loop (fun f i b4 => wX_fillTables_156 post J (nI z) s n c k cur f (nI i) a1 a2 a3 b4 a5 a6) (fun _ _ => True) (16 - z) 0 a4 (by omega) trivial
    (fun f b4 _ => pk_le 16 (16 - z + z) (fun _ => nm_r (nI_1 z) (H b4)) (fun y => absurd y (by omega)) rfl (nI_add _ _))
    (fun f i b4 hi _ hw => pk_le 16 (i + z) (fun y => absurd y (by omega)) (fun _ => ⟨pk_in (16 * z - 16 + i) 128 (by omega) (rk_gx h1).1, pk_in (16 * z - 15 + i) 128 (by omega) (rk_gx h1).2.1, pk_in (16 * z + i) 128 (by omega) (rk_gx h1).2.2, fun b _ => nm_r (nI_1 i) (hw b trivial)⟩) rfl (nI_add _ _))
theorem rk_t148 (H : ∀ b4 b5, post (s, n, c, k, cur, a1, a2, a3, b4, b5, a6)) : ∃ f, wX_fillTables_148 post s n c k cur f 1 a1 a2 a3 a4 a5 a6 :=
  pk_loop (fun f i b4 => wX_fillTables_148 post s n c k cur f (nI i) a1 a2 a3 b4 a5 a6) (fun i _ => 1 ≤ i) 8 1 a4 (by omega) (by omega)
    (fun f b4 _ => pk_le 8 8 (fun _ => rk_t220 (H b4)) (fun y => absurd y (by omega)))
    (fun f i b4 hi h1 hw => pk_le 8 i (fun y => absurd y (by omega)) (fun _ => rk_t156 h1 hi (fun b => hw b (by omega))))
theorem rk_t127 (H : ∀ b4 b5, post (s, n, c, k, cur, a1, a2, a3, b4, b5, a6)) : ∃ f, wX_fillTables_127 post s n c k cur f 0 a1 a2 a3 a4 a5 a6 :=
  pk_loop (fun f i b4 => wX_fillTables_127 post s n c k cur f (nI i) a1 a2 a3 b4 a5 a6) (fun _ _ => True) 16 0 a4 (by omega) trivial
    (fun f b4 _ => pk_le 16 16 (fun _ => rk_t148 H) (fun y => absurd y (by omega)))
    (fun f i b4 hi _ hw => pk_le 16 i (fun y => absurd y (by omega)) (fun _ => ⟨pk_in i 128 (by omega), fun b _ => nm_r (nI_1 i) (hw b trivial)⟩))
/-! binomials -/
def rk_Tz (z : Nat) (a : Nat → Int32) : Prop := ∀ p b, p < z → b ≤ p → a (8 * p + b) = nI (rk_c p b)
def rk_Ty (z i : Nat) (a : Nat → Int32) : Prop := 1 ≤ i ∧ rk_Tz z a ∧ ∀ b, b < i → a (8 * z + b) = nI (rk_c z b)
theorem rk_tyU {z i : Nat} {a : Nat → Int32} {v : Int32} (hz : z < 8) (hi : i ≤ z) (h : rk_Ty z i a) (hv : v = nI (rk_c z i)) : rk_Ty z (i + 1) (upd a (8 * z + i) v) := by
  obtain ⟨h1, h2, h3⟩ := h
  refine ⟨by omega, fun p b hp hb => ?_, fun b hb => ?_⟩
  · rw [pk_un (by omega)]
    exact h2 p b hp hb
  · by_cases e : b = i
    · rw [e, pk_us, hv]
    · rw [pk_un (by omega)]
      exact h3 b (by omega)
theorem rk_tz1 {z : Nat} {a : Nat → Int32} (h : rk_Ty z (z + 1) a) : rk_Tz (z + 1) a := by
  intro p b hp hb
  by_cases e : p = z
  · subst e
    exact h.2.2 b (by omega)
  · exact h.2.1 p b (by omega) hb
theorem rk_t57 {J : Int32 → (Nat → Int32) → (Nat → Int32) → (Nat → Int32) → (Nat → Int32) → (Nat → Int32) → (Nat → Int32) → Prop} {z : Nat} (hz : z < 8) (h : rk_Ty z 1 a3) (H : ∀ b3, rk_Tz (z + 1) b3 → J (nI (z + 1)) a1 a2 b3 a4 a5 a6) : ∃ f, wX_fillTables_57 post J (nI z) s n c k cur f 1 a1 a2 a3 a4 a5 a6 := by
  refine pk_loop (fun f i b3 => wX_fillTables_57 post J (nI z) s n c k cur f (nI i) a1 a2 b3 a4 a5 a6) (fun i b3 => rk_Ty z i b3) (z + 1) 1 a3 (by omega) h
    (fun f b3 hb => pk_lt z (z + 1) (fun _ => nm_r (nI_1 z) (H b3 (rk_tz1 hb))) (fun y => absurd y (by omega))) ?_
  intro f i b3 hi hb hw
  have h1 := hb.1
  refine pk_lt z i (fun y => absurd y (by omega)) (fun y => ?_)
  have e1 : ((8 : Int32) * nI z - 8) + nI i - 1 = nI (8 * z - 8 + i - 1) := by rw [rk_ix2 (by omega), rk_p1 (by omega)]
  have e2 : ((8 : Int32) * nI z - 8) + nI i = nI (8 * z - 8 + i) := rk_ix2 (by omega)
  have g1 : b3 (8 * z - 8 + i - 1) = nI (rk_c (z - 1) (i - 1)) := by
    rw [show 8 * z - 8 + i - 1 = 8 * (z - 1) + (i - 1) by omega]
    exact hb.2.1 (z - 1) (i - 1) (by omega) (by omega)
  obtain ⟨p1, p2⟩ := rk_cP z hz i (by omega) h1
  refine ⟨pk_in (8 * z - 8 + i - 1) 64 (by omega) e1, ?_⟩
  rw [pk_cl (8 * z - 8 + i - 1) e1, g1, pk_cl (8 * z + i) (rk_ix z i), pk_cl (8 * z - 8 + i) e2]
  refine pk_le z i (fun w => ⟨pk_in (8 * z + i) 64 (by omega) (rk_ix z i), nm_e (nm_r (nI_1 i) (hw _ (rk_tyU hz (by omega) hb ?_)))⟩) (fun w => ⟨pk_in (8 * z - 8 + i) 64 (by omega) e2, pk_in (8 * z + i) 64 (by omega) (rk_ix z i), nm_e (nm_r (nI_1 i) (hw _ (rk_tyU hz (by omega) hb ?_)))⟩)
  · rw [Int32.add_zero, p1 (by omega)]
  · have g2 : b3 (8 * z - 8 + i) = nI (rk_c (z - 1) i) := by
      rw [show 8 * z - 8 + i = 8 * (z - 1) + i by omega]
      exact hb.2.1 (z - 1) i (by omega) (by omega)
    rw [g2, nI_add, p2 w]
theorem rk_t39 (H : ∀ b3 b4 b5, rk_T b3 → post (s, n, c, k, cur, a1, a2, b3, b4, b5, a6)) : ∃ f, wX_fillTables_39 post s n c k cur f 0 a1 a2 a3 a4 a5 a6 := by
  refine pk_loop (fun f i b3 => wX_fillTables_39 post s n c k cur f (nI i) a1 a2 b3 a4 a5 a6) (fun i b3 => rk_Tz i b3) 8 0 a3 (by omega) (fun p b hp => absurd hp (Nat.not_lt_zero p))
    (fun f b3 hb => pk_le 8 8 (fun _ => rk_t127 (fun b4 b5 => H b3 b4 b5 hb)) (fun y => absurd y (by omega))) ?_
  intro f i b3 hi hb hw
  have e : (8 : Int32) * nI i = nI (8 * i) := by rw [show (8 : Int32) = nI 8 from rfl, pk_mul]
  refine pk_le 8 i (fun y => absurd y (by omega)) (fun _ => ⟨pk_in (8 * i) 64 (by omega) e, ?_⟩)
  rw [pk_cl (8 * i) e]
  refine nm_e (rk_t57 hi ⟨by omega, fun p b hp hb' => ?_, fun b hb' => ?_⟩ hw)
  · rw [pk_un (by omega)]
    exact hb p b hp hb'
  · have e0 : b = 0 := by omega
    subst e0
    rw [show 8 * i + 0 = 8 * i from rfl, pk_us, rk_c]
    rfl
/-! factorials -/
theorem rk_t9 (h0 : a6 0 = nI 1) (H : ∀ b3 b4 b5 b6, rk_T b3 → (∀ j, j < 8 → b6 j = nI (rk_f j)) → post (s, n, c, k, cur, a1, a2, b3, b4, b5, b6)) : ∃ f, wX_fillTables_9 post s n c k cur f 1 a1 a2 a3 a4 a5 a6 := by
  refine pk_loop (fun f i b6 => wX_fillTables_9 post s n c k cur f (nI i) a1 a2 a3 a4 a5 b6) (fun i b6 => 1 ≤ i ∧ ∀ j, j < i → b6 j = nI (rk_f j)) 8 1 a6 (by omega) ⟨by omega, fun j hj => ?_⟩
    (fun f b6 hb => pk_le 8 8 (fun _ => rk_t39 (fun b3 b4 b5 hT => H b3 b4 b5 b6 hT hb.2)) (fun y => absurd y (by omega))) ?_
  · have e : j = 0 := by omega
    subst e
    exact h0
  intro f i b6 hi hb hw
  obtain ⟨h1, h2⟩ := hb
  have e : nI i - 1 = nI (i - 1) := rk_p1 h1
  refine pk_le 8 i (fun y => absurd y (by omega)) (fun _ => ⟨pk_in (i - 1) 8 (by omega) e, pk_in i 8 (by omega), ?_⟩)
  rw [pk_cl (i - 1) e, nI_clamp (show i < 2 ^ 31 by omega), h2 (i - 1) (by omega), pk_mul]
  refine nm_e (nm_r (nI_1 i) (hw _ ⟨by omega, fun j hj => ?_⟩))
  by_cases ej : j = i
  · rw [ej, pk_us]
    obtain ⟨p, rfl⟩ : ∃ p, i = p + 1 := ⟨i - 1, by omega⟩
    rfl
  · rw [pk_un ej]
    exact h2 j (by omega)
theorem rk_fill (H : ∀ b3 b4 b5 b6, rk_T b3 → (∀ j, j < 8 → b6 j = nI (rk_f j)) → post (s, n, c, k, cur, a1, a2, b3, b4, b5, b6)) : wpX_fillTables post (s, n, c, k, cur, a1, a2, a3, a4, a5, a6) :=
  nm_e (rk_t9 pk_us H)
theorem rk_by0 : rk_By (fun _ => 0) := fun _ => rk_nb 0 (by omega)
theorem rk_init (H : ∀ b1 b2 b3 b4 b5 b6 s' n' c' k' cur', rk_By b1 → rk_T b3 → post (s', n', c', k', cur', b1, b2, b3, b4, b5, b6)) : wpX_init post 6 292 (s, n, c, k, cur) :=
  ⟨by omega, by omega, by omega, by omega, by omega, by omega, by omega, by omega, by omega, by omega, by omega, by omega, rk_fill (fun b3 b4 b5 b6 hT h6 => rk_choO h6 rk_by0 (fun b1 hB => H b1 _ b3 b4 b5 b6 _ _ _ _ _ hB hT))⟩
end
end
section
section
variable {a1 a2 a3 a4 a5 a6 : Nat → Int32} {c cur : Int32}
/-! the difference of two objects -/
theorem rk_d66 {post : Int32 → St2 → Prop} {n k m : Nat} {l l' : List Nat} (hT : rk_T a3) (hn : n ≤ 7) (hk : k ≤ n) (hm : m < rk_c n k) (hB : rk_By a1) (hL : rk_go0 n k m = some l) (h1 : ∀ j, j < k → l'.getD j 0 < 128 ∧ a1 j = nI (l'.getD j 0)) (h2 : ∀ j, j < k → l.getD j 0 < 128 ∧ a2 j = nI (l.getD j 0))
    (H : ∀ b1, rk_By b1 → rk_Hd l b1 → post (nI (rk_df l' l k)) (0, nI n, c, nI k, nI m, b1, a2, a3, a4, a5, a6)) : ∃ f, wX_difference_66 post (nI m) 0 (nI n) c (nI k) cur a1 a2 a3 a4 a5 a6 f 0 0 := by
  refine pk_loop (σ := Unit) (fun f i _ => wX_difference_66 post (nI m) 0 (nI n) c (nI k) cur a1 a2 a3 a4 a5 a6 f (nI (rk_df l' l i)) (nI i)) (fun _ _ => True) k 0 () (by omega) trivial
    (fun f _ _ => pk_le k k (fun _ => rk_goC hT hn hk hm hB hL H) (fun z => absurd z (by omega))) ?_
  intro f i _ hi _ hw
  obtain ⟨g1, g2⟩ := h1 i hi
  obtain ⟨g3, g4⟩ := h2 i hi
  have hw' : wX_difference_66 post (nI m) 0 (nI n) c (nI k) cur a1 a2 a3 a4 a5 a6 f (nI (rk_df l' l i + (if l'.getD i 0 = l.getD i 0 then 0 else 1))) (nI (i + 1)) := hw () trivial
  refine pk_le k i (fun z => absurd z (by omega)) (fun _ => ⟨pk_in i 14 (by omega), pk_in i 14 (by omega), ?_⟩)
  rw [nI_clamp (show i < 2 ^ 31 by omega), g2, g4]
  refine pk_eq (l'.getD i 0) (l.getD i 0) (fun e => nm_r (nI_1 i) ?_) (fun e => nm_r (nI_1 _) (nm_r (nI_1 i) ?_))
  · rw [if_pos e] at hw'
    exact hw'
  · rw [if_neg e] at hw'
    exact hw'
theorem rk_diff {post : Int32 → St2 → Prop} {n k m q : Nat} {l l' : List Nat} (hT : rk_T a3) (hn : n ≤ 7) (hk : k ≤ n) (hm : m < rk_c n k) (hq : q < rk_c n k) (hB : rk_By a1) (hL : rk_go0 n k m = some l) (hL' : rk_go0 n k q = some l') (hl : l.length = k) (hl' : l'.length = k) (hH : rk_Hd l a1)
    (H : ∀ b1 b2, rk_By b1 → rk_Hd l b1 → post (nI (rk_df l' l k)) (0, nI n, c, nI k, nI m, b1, b2, a3, a4, a5, a6)) : wpX_difference post (0, nI n, c, nI k, nI m, a1, a2, a3, a4, a5, a6) (nI q) := by
  have hcb := rk_cB n (by omega) k (by omega)
  unfold wpX_difference
  refine rk_gon hT hn hk (br_f (nI_pos (by omega)) (br_t (nI_lt hq (by omega)) ?_))
  refine pk_loop (fun f i b2 => wX_difference_25 post (nI q) (nI m) 0 (nI n) c (nI k) (nI m) f (nI i) a1 b2 a3 a4 a5 a6) (fun i b2 => ∀ j, j < i → l.getD j 0 < 128 ∧ b2 j = nI (l.getD j 0)) k 0 a2 (by omega) (fun j hj => absurd hj (Nat.not_lt_zero j))
    (fun f b2 hb => pk_le k k (fun _ => rk_goC hT hn hk hq hB hL' (fun b1 hB1 hH1 => rk_d66 hT hn hk hm hB1 hL (fun j hj => hH1 j (by omega)) hb (fun b hb1 hb2 => H b b2 hb1 hb2))) (fun z => absurd z (by omega))) ?_
  intro f i b2 hi hb hw
  refine pk_le k i (fun z => absurd z (by omega)) (fun _ => ⟨pk_in i 14 (by omega), pk_in i 14 (by omega), ?_⟩)
  rw [nI_clamp (show i < 2 ^ 31 by omega), hB i]
  refine nm_e (nm_r (nI_1 i) (hw _ (fun j hj => ?_)))
  by_cases e : j = i
  · rw [e, pk_us]
    exact hH i (by omega)
  · rw [pk_un e]
    exact hb j (by omega)
/-! the rank -/
theorem rk_rank {P : Int32 → St2 → Prop} {n k : Nat} {l : List Nat} {p : Int32} (hT : rk_T a3) (hn : n ≤ 7) (hk : k ≤ 7) (h1 : 1 ≤ k) (hB : rk_By a1) (hH : rk_Hd l a1) (hl : l.length = k) (ep : p = nI (k - 1)) (H : P (nI (rk_rk n k l k)) (0, nI n, c, nI k, cur, a1, a2, a3, a4, a5, a6)) : wpX_rankUpTo P (0, nI n, c, nI k, cur, a1, a2, a3, a4, a5, a6) p := by
  subst ep
  refine pk_loop (σ := Unit) (fun f j _ => wX_rankUpTo_4 P (nI (k - 1)) f (nI (rk_rk n k l j)) (nI j) 0 (nI n) c (nI k) cur a1 a2 a3 a4 a5 a6) (fun _ _ => True) k 0 () (by omega) trivial
    (fun f _ _ => pk_lt (k - 1) k (fun _ => H) (fun z => absurd z (by omega))) ?_
  intro f j _ hj _ hw
  obtain ⟨g1, g2⟩ := hH j (by omega)
  refine pk_lt (k - 1) j (fun z => absurd z (by omega)) (fun _ => ⟨pk_in j 14 (by omega), nm_r (show a1 (nI j).toNatClampNeg = nI (l.getD j 0) by rw [nI_clamp (show j < 2 ^ 31 by omega), g2]) ?_⟩)
  refine pk_loop (σ := Unit) (fun f' x _ => wX_rankUpTo_20 P (wX_rankUpTo_4 P (nI (k - 1)) f) (nI (k - 1)) (nI j) (nI (l.getD j 0)) f' (nI (rk_rk n k l j + rk_ri (rk_w n k j (l.getD (j - 1) 0)) x)) (nI x) 0 (nI n) c (nI k) cur a1 a2 a3 a4 a5 a6) (fun _ _ => True) (l.getD j 0) 0 () (by omega) trivial
    (fun f' _ _ => pk_le (l.getD j 0) (l.getD j 0) (fun _ => ⟨pk_in j 14 (by omega), ?_⟩) (fun z => absurd z (by omega))) ?_
  · rw [nI_clamp (show j < 2 ^ 31 by omega), rk_nb _ g1, ← g2, rk_same]
    exact nm_e (nm_r (nI_1 j) (hw () trivial))
  · intro f' x _ hx _ hw'
    exact pk_le (l.getD j 0) x (fun z => absurd z (by omega)) (fun _ => rk_wi hT hB hn hk hj (by omega) (fun z => hH (j - 1) (by omega)) (nm_r (by rw [nI_add, Nat.add_assoc]; rfl) (nm_r (nI_1 x) (hw' () trivial))))
/-! the mirrored object -/
theorem rk_miD {n k j : Nat} {l : List Nat} (hj : j < k) : (rk_mi n k l).getD j 0 = n - 1 - l.getD (k - 1 - j) 0 := by
  unfold rk_mi
  simp [List.getD, hj]
theorem rk_m91 {post : Int32 → St2 → Prop} {n k m : Nat} {l r : List Nat} (hT : rk_T a3) (hn : n ≤ 7) (hk : k ≤ n) (h1 : 1 ≤ k) (hm : m < rk_c n k) (hB : rk_By a1) (hL : rk_go0 n k m = some l) (hr : r.length = k) (h2 : ∀ j, j < k → r.getD j 0 < 128 ∧ a2 j = nI (r.getD j 0))
    (H : ∀ b1, rk_By b1 → rk_Hd l b1 → post (nI (rk_rk n k r k)) (0, nI n, c, nI k, nI m, b1, a2, a3, a4, a5, a6)) : ∃ f, wX_mirrored_91 post (nI m) 0 (nI n) c (nI k) cur f 0 a1 a2 a3 a4 a5 a6 := by
  refine pk_loop (fun f i b1 => wX_mirrored_91 post (nI m) 0 (nI n) c (nI k) cur f (nI i) b1 a2 a3 a4 a5 a6) (fun i b1 => rk_By b1 ∧ ∀ j, j < i → r.getD j 0 < 128 ∧ b1 j = nI (r.getD j 0)) k 0 a1 (by omega) ⟨hB, fun j hj => absurd hj (Nat.not_lt_zero j)⟩
    (fun f b1 hb => pk_le k k (fun _ => rk_rank hT hn (by omega) h1 hb.1 (fun j hj => hb.2 j (by omega)) hr (rk_p1 h1) (rk_goC hT hn hk hm hb.1 hL H)) (fun z => absurd z (by omega))) ?_
  intro f i b1 hi hb hw
  obtain ⟨g1, g2⟩ := h2 i hi
  refine pk_le k i (fun z => absurd z (by omega)) (fun _ => ⟨pk_in i 14 (by omega), pk_in i 14 (by omega), ?_⟩)
  rw [nI_clamp (show i < 2 ^ 31 by omega), g2, vp_nar_byte, rk_nb _ g1]
  refine nm_e (nm_r (nI_1 i) (hw _ ⟨rk_byU hb.1 g1, fun j hj => ?_⟩))
  by_cases e : j = i
  · rw [e, pk_us]
    exact ⟨g1, rfl⟩
  · rw [pk_un e]
    exact hb.2 j (by omega)
theorem rk_mirr {post : Int32 → St2 → Prop} {n k m : Nat} {l : List Nat} (hT : rk_T a3) (hn : n ≤ 7) (hk : k ≤ n) (h1 : 1 ≤ k) (hm : m < rk_c n k) (hB : rk_By a1) (hL : rk_go0 n k m = some l) (hl : l.length = k) (hH : rk_Hd l a1) (hlt : ∀ j, j < k → l.getD j 0 < n) (hr : (rk_mi n k l).length = k)
    (H : ∀ b1 b2, rk_By b1 → rk_Hd l b1 → post (nI (rk_rk n k (rk_mi n k l) k)) (0, nI n, c, nI k, nI m, b1, b2, a3, a4, a5, a6)) : wpX_mirrored post (0, nI n, c, nI k, nI m, a1, a2, a3, a4, a5, a6) := by
  have hcb := rk_cB n (by omega) k (by omega)
  refine br_f (nI_pos (by omega)) (br_f (by decide) ?_)
  refine pk_loop (fun f i b2 => wX_mirrored_25 post (nI m) 0 (nI n) c (nI k) (nI m) f (nI i) a1 b2 a3 a4 a5 a6) (fun i b2 => ∀ j, j < i → (rk_mi n k l).getD j 0 < 128 ∧ b2 j = nI ((rk_mi n k l).getD j 0)) k 0 a2 (by omega) (fun j hj => absurd hj (Nat.not_lt_zero j))
    (fun f b2 hb => pk_le k k (fun _ => rk_m91 hT hn hk h1 hm hB hL hr hb (fun b1 g1 g2 => H b1 b2 g1 g2)) (fun z => absurd z (by omega))) ?_
  intro f i b2 hi hb hw
  have e1 : nI k - 1 - nI i = nI (k - 1 - i) := by rw [rk_p1 h1, pk_sub (by omega)]
  have hv := hlt (k - 1 - i) (by omega)
  obtain ⟨_, g2⟩ := hH (k - 1 - i) (by omega)
  have e2 : nI n - 1 - nI (l.getD (k - 1 - i) 0) = nI ((rk_mi n k l).getD i 0) := by rw [rk_p1 (by omega), pk_sub (by omega), rk_miD hi]
  have g3 : (rk_mi n k l).getD i 0 < 128 := by
    rw [rk_miD hi]
    omega
  refine pk_le k i (fun z => absurd z (by omega)) (fun _ => ⟨pk_in (k - 1 - i) 14 (by omega) e1, nm_r (show a1 (nI k - 1 - nI i).toNatClampNeg = nI (l.getD (k - 1 - i) 0) by rw [pk_cl (k - 1 - i) e1, g2]) (br_t rfl (nm_r e2 (br_f (by decide) ⟨pk_in i 14 (by omega), ?_⟩)))⟩)
  rw [nI_clamp (show i < 2 ^ 31 by omega), rk_nb _ g3]
  refine nm_e (nm_r (nI_1 i) (hw _ (fun j hj => ?_)))
  by_cases e : j = i
  · rw [e, pk_us]
    exact ⟨g3, rfl⟩
  · rw [pk_un e]
    exact hb j (by omega)
/-! the first item, and how many are like it -/
theorem rk_item {post : Int32 → Prop} {n k m : Nat} (hk : k ≤ 7) (h1 : 1 ≤ k) (hm : m < 1000) (h : post (a1 0)) : wpX_item post (0, nI n, c, nI k, nI m, a1, a2, a3, a4, a5, a6) 0 := by
  refine br_f (nI_pos (by omega)) (br_f (by decide) (pk_lt 0 k (fun _ => ⟨pk_in 0 14 (by omega), ?_⟩) (fun z => absurd z (by omega))))
  rw [pk_cl 0]
  exact h
theorem rk_like {post : Int32 → Prop} {n k m x : Nat} (hT : rk_T a3) (hn : n ≤ 7) (hk : k ≤ 7) (h1 : 1 ≤ k) (hm : m < 1000) (hx : x < n) (ha : a1 0 = nI x) (h : post (nI (rk_v n k 0 x))) : wpX_like post (0, nI n, c, nI k, nI m, a1, a2, a3, a4, a5, a6) 0 :=
  br_f (nI_pos (by omega)) (br_f (by decide) (pk_lt 0 k (fun _ => rk_gon1 (i := 0) hT hn (by omega) hk hx ha h) (fun z => absurd z (by omega))))
/-! the next one -/
theorem rk_smal {P : Int32 → St2 → Prop} {n k i p : Nat} (hT : rk_T a3) (hB : rk_By a1) (hn : n ≤ 7) (hk : k ≤ 7) (hi : i < k) (hp : i ≠ 0 → p < 128 ∧ a1 (i - 1) = nI p) :
    ∀ (f x x' : Nat), x + f < 128 → rk_sm (rk_w n k i p) f x = some x' → (x' < 128 → P (nI x') (0, nI n, c, nI k, cur, a1, a2, a3, a4, a5, a6)) → wX_smallestAt_2 P (nI i) f (nI x) 0 (nI n) c (nI k) cur a1 a2 a3 a4 a5 a6 := by
  intro f
  induction f with
  | zero =>
    intro x x' _ h
    rw [rk_sm] at h
    exact absurd h.symm (Option.some_ne_none _)
  | succ f ih =>
    intro x x' hx h H
    rw [rk_sm] at h
    have hb : rk_w n k i p x < 1000 := rk_wB hn hk
    unfold wX_smallestAt_2
    refine rk_wi2 (x := x) hT hB hn hk hi (by omega) hp (pk_eq (rk_w n k i p x) 0 (fun e => nm_r (nI_1 x) ?_) (fun e => ?_))
    · rw [if_pos e] at h
      exact ih (x + 1) x' (by omega) h H
    · rw [if_neg e] at h
      have e2 := Option.some.inj h
      subst e2
      exact H (by omega)
theorem rk_n89w {post : Int32 → St2 → Prop} {n k : Nat} (hT : rk_T a3) (hn : n ≤ 7) (hk : k ≤ 7) (H : ∀ b1, post (cur + 1) (0, nI n, c, nI k, cur + 1, b1, a2, a3, a4, a5, a6)) :
    ∀ (f : Nat) (l l' : List Nat) (b1 : Nat → Int32), l.length ≤ k → rk_By b1 → rk_Hd l b1 → rk_n89 n k f l = some l' → wX_next_89 post f (nI l.length) 0 (nI n) c (nI k) cur b1 a2 a3 a4 a5 a6 := by
  intro f
  induction f with
  | zero =>
    intro l l' b1 _ _ _ h
    rw [rk_n89] at h
    exact absurd h.symm (Option.some_ne_none _)
  | succ f ih =>
    intro l l' b1 hl hB hH h
    rw [rk_n89] at h
    refine pk_le k l.length (fun z => nm_e (H b1)) (fun z => ?_)
    rw [if_neg (by omega)] at h
    cases e : rk_sm (rk_W0 n k l) 10 0 with
    | none =>
      rw [e] at h
      exact absurd h.symm (Option.some_ne_none _)
    | some x =>
      rw [e] at h
      refine ⟨10, rk_smal hT hB hn hk z (fun t => hH (l.length - 1) (by omega)) 10 0 x (by omega) e (fun hx => ⟨pk_in l.length 14 (by omega), ?_⟩)⟩
      rw [nI_clamp (show l.length < 2 ^ 31 by omega), rk_nb x hx]
      have e2 : l.length + 1 = (l ++ [x]).length := by rw [List.length_append]; rfl
      refine nm_e (nm_r (nI_1 _) ?_)
      rw [e2]
      exact ih (l ++ [x]) l' _ (by omega) (rk_byU hB hx) (rk_hdU hH hx) h
theorem rk_n46w {post : Int32 → St2 → Prop} {J : Int32 → Int32 → Int32 → Int32 → Int32 → Int32 → (Nat → Int32) → (Nat → Int32) → (Nat → Int32) → (Nat → Int32) → (Nat → Int32) → (Nat → Int32) → Prop} {n k i p : Nat} (hT : rk_T a3) (hB : rk_By a1) (hn : n ≤ 7) (hk : k ≤ 7) (hi : i < k) (hp : i ≠ 0 → p < 128 ∧ a1 (i - 1) = nI p) :
    ∀ (f x x' : Nat), x + f < 128 → rk_n46 (rk_w n k i p) f x = some x' → (x' < 128 → wX_next_67 post J (nI i) (nI x') 0 (nI n) c (nI k) cur a1 a2 a3 a4 a5 a6) → wX_next_46 post J (nI i) f (nI x) 0 (nI n) c (nI k) cur a1 a2 a3 a4 a5 a6 := by
  intro f
  induction f with
  | zero =>
    intro x x' _ h
    rw [rk_n46] at h
    exact absurd h.symm (Option.some_ne_none _)
  | succ f ih =>
    intro x x' hx h H
    rw [rk_n46] at h
    have hb : rk_w n k i p x < 1000 := rk_wB hn hk
    refine pk_le 8 x (fun z => ?_) (fun z => ?_)
    · rw [if_pos z] at h
      have e2 := Option.some.inj h
      subst e2
      exact H (by omega)
    · rw [if_neg (by omega)] at h
      refine rk_wi hT hB hn hk hi (by omega) hp (pk_eq (rk_w n k i p x) 0 (fun e => nm_r (nI_1 x) ?_) (fun e => ?_))
      · rw [if_pos e] at h
        exact ih (x + 1) x' (by omega) h H
      · rw [if_neg e] at h
        have e2 := Option.some.inj h
        subst e2
        exact H (by omega)
theorem rk_n33w {post : Int32 → St2 → Prop} {n k : Nat} {l : List Nat} (hT : rk_T a3) (hB : rk_By a1) (hn : n ≤ 7) (hk : k ≤ 7) (hl : l.length = k) (hH : rk_Hd l a1) (hlt : ∀ j, j < k → l.getD j 0 < n) (H : ∀ b1, post (cur + 1) (0, nI n, c, nI k, cur + 1, b1, a2, a3, a4, a5, a6)) :
    ∀ (i : Nat) (l' : List Nat), i < k → rk_n33 n k l (i + 1) = some l' → wX_next_33 post (i + 1) (nI i) 0 (nI n) c (nI k) cur a1 a2 a3 a4 a5 a6 := by
  intro i
  induction i with
  | zero =>
    intro l' hi h
    rw [rk_n33] at h
    have hv := hlt 0 hi
    obtain ⟨_, g2⟩ := hH 0 (by omega)
    refine br_f (nI_pos (by omega)) ⟨pk_in 0 14 (by omega), nm_r (show a1 (nI 0).toNatClampNeg + 1 = nI (l.getD 0 0 + 1) by rw [nI_clamp (show 0 < 2 ^ 31 by omega), g2, nI_1]) ⟨10, ?_⟩⟩
    cases e : rk_n46 (rk_w n k 0 (l.getD (0 - 1) 0)) 10 (l.getD 0 0 + 1) with
    | none =>
      rw [e] at h
      exact absurd h.symm (Option.some_ne_none _)
    | some x =>
      rw [e] at h
      refine rk_n46w hT hB hn hk hi (fun t => absurd rfl t) 10 _ x (by omega) e (fun hx => pk_eq x 8 (fun t => ?_) (fun t => ⟨pk_in 0 14 (by omega), ?_⟩))
      · have h' : (if x = 8 then rk_n33 n k l 0 else rk_n89 n k 15 (l.take 0 ++ [x])) = some l' := h
        rw [if_pos t, rk_n33] at h'
        exact absurd h'.symm (Option.some_ne_none _)
      · have h' : (if x = 8 then rk_n33 n k l 0 else rk_n89 n k 15 (l.take 0 ++ [x])) = some l' := h
        rw [if_neg t] at h'
        rw [nI_clamp (show 0 < 2 ^ 31 by omega), rk_nb x hx]
        exact nm_e (nm_r (nI_1 0) ⟨15, rk_n89w hT hn hk H 15 [x] l' _ (by show 1 ≤ k; omega) (rk_byU hB hx) (rk_hdU (l := []) rk_hd0 hx) h'⟩)
  | succ i ih =>
    intro l' hi h
    rw [rk_n33] at h
    have hv := hlt (i + 1) hi
    obtain ⟨_, g2⟩ := hH (i + 1) (by omega)
    refine br_f (nI_pos (by omega)) ⟨pk_in (i + 1) 14 (by omega), nm_r (show a1 (nI (i + 1)).toNatClampNeg + 1 = nI (l.getD (i + 1) 0 + 1) by rw [nI_clamp (show i + 1 < 2 ^ 31 by omega), g2, nI_1]) ⟨10, ?_⟩⟩
    cases e : rk_n46 (rk_w n k (i + 1) (l.getD (i + 1 - 1) 0)) 10 (l.getD (i + 1) 0 + 1) with
    | none =>
      rw [e] at h
      exact absurd h.symm (Option.some_ne_none _)
    | some x =>
      rw [e] at h
      refine rk_n46w hT hB hn hk hi (fun t => hH (i + 1 - 1) (by omega)) 10 _ x (by omega) e (fun hx => pk_eq x 8 (fun t => ?_) (fun t => ⟨pk_in (i + 1) 14 (by omega), ?_⟩))
      · have h' : (if x = 8 then rk_n33 n k l (i + 1) else rk_n89 n k 15 (l.take (i + 1) ++ [x])) = some l' := h
        rw [if_pos t] at h'
        exact nm_r (pk_m1 i) (ih l' (by omega) h')
      · have h' : (if x = 8 then rk_n33 n k l (i + 1) else rk_n89 n k 15 (l.take (i + 1) ++ [x])) = some l' := h
        rw [if_neg t] at h'
        obtain ⟨k1, k2⟩ := rk_hdT hH (i + 1) (by omega)
        rw [nI_clamp (show i + 1 < 2 ^ 31 by omega), rk_nb x hx]
        have e2 : (l.take (i + 1) ++ [x]).length = i + 1 + 1 := by rw [List.length_append, k2]; rfl
        have k3 := rk_hdU k1 hx
        rw [k2] at k3
        have k4 := rk_n89w hT hn hk H 15 (l.take (i + 1) ++ [x]) l' _ (by omega) (rk_byU hB hx) k3 h'
        rw [e2] at k4
        exact nm_e (nm_r (nI_1 (i + 1)) ⟨15, k4⟩)
/-- there is a next one -/
theorem rk_nxt {post : Int32 → St2 → Prop} {n k m : Nat} {l : List Nat} (hT : rk_T a3) (hB : rk_By a1) (hn : n ≤ 7) (hk : k ≤ n) (h1 : 1 ≤ k) (hl : l.length = k) (hH : rk_Hd l a1) (hlt : ∀ j, j < k → l.getD j 0 < n) (hm : m + 1 < rk_c n k) (hs : (rk_n33 n k l k).isSome = true)
    (H : ∀ b1, post (nI (m + 1)) (0, nI n, c, nI k, nI (m + 1), b1, a2, a3, a4, a5, a6)) : wpX_next post (0, nI n, c, nI k, nI m, a1, a2, a3, a4, a5, a6) := by
  have hcb := rk_cB n (by omega) k (by omega)
  obtain ⟨l', hl'⟩ := Option.isSome_iff_exists.mp hs
  obtain ⟨i, rfl⟩ : ∃ i, k = i + 1 := ⟨k - 1, by omega⟩
  unfold wpX_next
  refine rk_gon hT hn hk (br_f (nI_pos (by omega)) (pk_lt (m + 1) (rk_c n (i + 1)) (fun _ => nm_r (nI_pred i) ⟨i + 1, ?_⟩) (fun z => absurd z (by omega)) (nI_1 m)))
  rw [← nI_1 m] at H
  exact rk_n33w hT hB hn (by omega) hl hH hlt H i l' (by omega) hl'
/-- there is none -/
theorem rk_nxN {post : Int32 → St2 → Prop} {n k m : Nat} (hT : rk_T a3) (hn : n ≤ 7) (hk : k ≤ n) (hm : rk_c n k ≤ m + 1) (hm2 : m < 1000)
    (H : post (-2) (0, nI n, c, nI k, nI m, a1, a2, a3, a4, a5, a6)) : wpX_next post (0, nI n, c, nI k, nI m, a1, a2, a3, a4, a5, a6) := by
  have hcb := rk_cB n (by omega) k (by omega)
  unfold wpX_next
  exact rk_gon hT hn hk (br_f (nI_pos (by omega)) (pk_lt (m + 1) (rk_c n k) (fun z => absurd z (by omega)) (fun _ => H) (nI_1 m)))
end
end
section
section
variable {a1 a2 a3 a4 a5 a6 : Nat → Int32} {c cur : Int32} {post : Int32 → St0 → Prop} {mc ms kc ks : Nat}
theorem rk_L289 {z0 z1 : Int32} {n k m e : Nat} (hp : post 1 ()) (hz : z1 = z0) (hT : rk_T a3) (h2 : 2 ≤ n) (hn : n ≤ 7) (hk : k ≤ n) (hc : rk_c n k = n) (hm : m < n) (h1 : m = n - 1 → e = m) (h3 : m ≠ n - 1 → e = m + 1) : wL_lawOf_289 post mc ms (nI n) (nI m) z0 z1 kc ks 0 (nI n) c (nI k) (nI e) a1 a2 a3 a4 a5 a6 := by
  have e1 : nI n - 1 = nI (n - 1) := rk_p1 (by omega)
  refine br_t hz (rk_goN hT hn hk (by omega) (by omega) (br_t rfl (pk_eq m (n - 1) (fun t => br_t ?_ hp) (fun t => br_t ?_ hp) rfl e1)))
  · rw [h1 t]
  · rw [h3 t, nI_1]
theorem rk_L261 {z0 z1 : Int32} {n k m : Nat} {l : List Nat} (hp : post 1 ()) (hz : z1 = z0) (hT : rk_T a3) (hB : rk_By a1) (h2 : 2 ≤ n) (hn : n ≤ 7) (hk : k ≤ n) (hk1 : 1 ≤ k) (hc : rk_c n k = n) (hm : m < n) (hl : l.length = k) (hH : rk_Hd l a1) (hlt : ∀ j, j < k → l.getD j 0 < n) (hs : m + 1 < n → (rk_n33 n k l k).isSome = true) : wL_lawOf_261 post mc ms (nI n) (nI m) z0 z1 kc ks 0 (nI n) c (nI k) (nI m) a1 a2 a3 a4 a5 a6 := by
  have e1 : nI n - 1 = nI (n - 1) := rk_p1 (by omega)
  by_cases hh : m = n - 1
  · exact br_t hz (rk_nxN hT hn hk (by omega) (by omega) (pk_eq m (n - 1) (fun t => rk_L289 hp rfl hT h2 hn hk hc hm (fun _ => rfl) (fun z => absurd t z)) (fun t => absurd hh t) rfl e1))
  · exact br_t hz (rk_nxt hT hB hn hk hk1 hl hH hlt (by omega) (hs (by omega)) (fun b1 => pk_eq m (n - 1) (fun t => absurd t hh) (fun t => rk_L289 hp (nI_1 m).symm hT h2 hn hk hc hm (fun z => absurd z t) (fun _ => rfl)) rfl e1))
theorem rk_L210 {x5 z0 z1 : Int32} {n k m first : Nat} {l : List Nat} (hp : post 1 ()) (hz : z1 = z0) (hT : rk_T a3) (hB : rk_By a1) (h2 : 2 ≤ n) (hn : n ≤ 7) (hk : k ≤ n) (hk1 : 1 ≤ k) (hc : rk_c n k = n) (hm : m < n) (hL : rk_go0 n k m = some l) (hl : l.length = k) (hH : rk_Hd l a1) (hlt : ∀ j, j < k → l.getD j 0 < n) (hs : m + 1 < n → (rk_n33 n k l k).isSome = true)
    (hr : (rk_mi n k l).length = k) (hrk : rk_rk n k (rk_mi n k l) k = n - 1 - m) (hf : first < 2 ^ 31)
    (hl1 : x5 = 0 → first = 1 → rk_v n k 0 (l.getD 0 0) = 1) (hl2 : x5 = 0 → first ≠ 1 → rk_v n k 0 (l.getD 0 0) = n - 1) (hl3 : ¬ x5 = 0 → rk_v n k 0 (l.getD 0 0) = 1) : wL_lawOf_210 post mc ms (nI n) x5 (nI m) (nI first) z0 z1 kc ks 0 (nI n) c (nI k) (nI m) a1 a2 a3 a4 a5 a6 := by
  have e1 : nI n - 1 = nI (n - 1) := rk_p1 (by omega)
  have e2 : nI n - 1 - nI m = nI (n - 1 - m) := by rw [e1, pk_sub (by omega)]
  refine br_t hz (rk_mirr hT hn hk hk1 (by omega) hB hL hl hH hlt hr (fun b1 b2 hB1 hH1 => br_t (by rw [hrk, e2]) (rk_like hT hn (by omega) hk1 (by omega) (hlt 0 (by omega)) (hH1 0 (by omega)).2 ?_)))
  refine br_c (fun g => pk_eq first 1 (fun t => ?_) (fun t => ?_)) (fun g => ?_)
  · exact rk_L261 hp (by rw [hl1 g t]; rfl) hT hB1 h2 hn hk hk1 hc hm hl hH1 hlt hs
  · exact rk_L261 hp (by rw [hl2 g t, e1]) hT hB1 h2 hn hk hk1 hc hm hl hH1 hlt hs
  · exact rk_L261 hp (by rw [hl3 g]; rfl) hT hB1 h2 hn hk hk1 hc hm hl hH1 hlt hs
theorem rk_L134 {x5 x11 s0 n0 k0 : Int32} {n k m q first : Nat} (hp : post 1 ()) (hT : rk_T a3) (hB : rk_By a1) (h2 : 2 ≤ n) (hn : n < 8) (hkk : k = 1 ∨ k = n - 1) (hm : m < n) (hq : q < n) (hf : (rk_fm n k m).getD 0 0 = first)
    (hd0 : x5 = 0 → nI (rk_df (rk_fm n k q) (rk_fm n k m) k) = x11) (hd1 : ¬ x5 = 0 → rk_df (rk_fm n k q) (rk_fm n k m) k = (if m = q then 0 else 1))
    (hl1 : x5 = 0 → first = 1 → rk_v n k 0 ((rk_fm n k m).getD 0 0) = 1) (hl2 : x5 = 0 → first ≠ 1 → rk_v n k 0 ((rk_fm n k m).getD 0 0) = n - 1) (hl3 : ¬ x5 = 0 → rk_v n k 0 ((rk_fm n k m).getD 0 0) = 1) :
    wL_lawOf_134 post mc ms (nI n) x5 (nI m) (nI q) (nI first) x11 (nI k) (nI n) 0 kc ks s0 n0 c k0 cur a1 a2 a3 a4 a5 a6 := by
  have hk8 : k < 8 := by omega
  have hk : k ≤ n := by omega
  have hk1 : 1 ≤ k := by omega
  have hn7 : n ≤ 7 := by omega
  have hc := rk_F0 n hn h2 k hk8 hkk
  obtain ⟨hL0, _⟩ := rk_F1 n hn h2 k hk8 hkk 0 (by omega)
  obtain ⟨hL, hl⟩ := rk_F1 n hn h2 k hk8 hkk m hm
  obtain ⟨hL', hl'⟩ := rk_F1 n hn h2 k hk8 hkk q hq
  have hlt := rk_F2 n hn h2 k hk8 hkk m hm
  obtain ⟨hrk, hr⟩ := rk_F5 n hn h2 k hk8 hkk m hm
  have hs := rk_F7 n hn h2 k hk8 hkk m hm
  have hfn : first < 2 ^ 31 := by
    have := hlt 0 (by omega)
    omega
  refine rk_choC hT (by omega) hn7 hk (by omega) hB hL0 (fun b1 hB1 _ => br_f (by decide) (rk_gon hT hn7 hk (br_t (by rw [hc]) ?_)))
  refine rk_goC hT hn7 hk (by omega) hB1 hL (fun b2 hB2 hH2 => br_t rfl (rk_item (by omega) hk1 (by omega) (br_t (by rw [(hH2 0 (by omega)).2, hf]) ?_)))
  refine rk_diff hT hn7 hk (by omega) (by omega) hB2 hL hL' hl hl' hH2 (fun b3 b4 hB3 hH3 => br_c (fun g => ?_) (fun g => pk_eq m q (fun e => ?_) (fun e => ?_)))
  · exact rk_L210 hp (hd0 g) hT hB3 h2 hn7 hk hk1 hc hm hL hl hH3 hlt hs hr hrk hfn hl1 hl2 hl3
  · exact rk_L210 hp (by rw [hd1 g, if_pos e]; rfl) hT hB3 h2 hn7 hk hk1 hc hm hL hl hH3 hlt hs hr hrk hfn hl1 hl2 hl3
  · exact rk_L210 hp (by rw [hd1 g, if_neg e]; rfl) hT hB3 h2 hn7 hk hk1 hc hm hL hl hH3 hlt hs hr hrk hfn hl1 hl2 hl3
/-- one item is chosen -/
theorem rk_L105a {x11 : Int32} {n m q : Nat} (hp : post 1 ()) (h2 : 2 ≤ n) (hn : n < 8) (hm : m < n) (hq : q < n) : wL_lawOf_105 post 156 2480 (nI n) 1 (nI m) (nI q) (nI m) x11 0 0 := by
  obtain ⟨g1, g2⟩ := rk_F9 n hn h2 m hm
  refine ⟨by omega, by omega, 6, 292, by omega, by omega, rk_init (fun b1 b2 b3 b4 b5 b6 s' n' c' k' cur' hB hT => br_f (by decide) ?_)⟩
  exact rk_L134 (k := 1) hp hT hB h2 hn (Or.inl rfl) hm hq g1 (fun z => absurd z (by decide)) (fun _ => rk_F3 n hn h2 m hm q hq) (fun z => absurd z (by decide)) (fun z => absurd z (by decide)) (fun _ => g2)
/-- all but one are chosen -/
theorem rk_L105b {x11 : Int32} {n m q first : Nat} (hp : post 1 ()) (h2 : 2 ≤ n) (hn : n < 8) (hm : m < n) (hq : q < n) (hf : first = if n - 1 - m = 0 then 1 else 0) (hx : x11 = nI (if n - 1 - q ≤ n - 1 - m then (n - 1 - m) - (n - 1 - q) else (n - 1 - q) - (n - 1 - m))) : wL_lawOf_105 post 156 2480 (nI n) 0 (nI m) (nI q) (nI first) x11 0 0 := by
  obtain ⟨g1, g2⟩ := rk_F6 n hn h2 m hm
  refine ⟨by omega, by omega, 6, 292, by omega, by omega, rk_init (fun b1 b2 b3 b4 b5 b6 s' n' c' k' cur' hB hT => br_t rfl ?_)⟩
  rw [rk_p1 (show 1 ≤ n by omega)]
  refine rk_L134 (k := n - 1) hp hT hB h2 hn (Or.inr rfl) hm hq (by rw [g1, hf]) (fun _ => by rw [rk_F4 n hn h2 m hm q hq, hx]) (fun z => absurd rfl z) (fun _ t => ?_) (fun _ t => ?_) (fun z => absurd rfl z)
  · rw [g2]
    split at hf
    · rename_i u
      rw [if_pos u]
    · omega
  · rw [g2]
    split at hf
    · omega
    · rename_i u
      rw [if_neg u]
theorem rk_L83a {n m q : Nat} (hp : post 1 ()) (h2 : 2 ≤ n) (hn : n < 8) (hm : m < n) (hq : q < n) : wL_lawOf_83 post 156 2480 (nI n) 1 (nI m) (nI q) (nI (n - 1 - m)) (nI (n - 1 - q)) (nI m) 0 0 :=
  br_c (fun _ => rk_L105a hp h2 hn hm hq) (fun _ => rk_L105a hp h2 hn hm hq)
theorem rk_L83b {n m q first : Nat} (hp : post 1 ()) (h2 : 2 ≤ n) (hn : n < 8) (hm : m < n) (hq : q < n) (hf : first = if n - 1 - m = 0 then 1 else 0) : wL_lawOf_83 post 156 2480 (nI n) 0 (nI m) (nI q) (nI (n - 1 - m)) (nI (n - 1 - q)) (nI first) 0 0 :=
  pk_le (n - 1 - q) (n - 1 - m) (fun z => rk_L105b hp h2 hn hm hq hf (by rw [if_pos z, pk_sub z])) (fun z => rk_L105b hp h2 hn hm hq hf (by rw [if_neg (by omega), pk_sub (by omega)]))
theorem rk_L23 {x2 x3 z0 : Int32} {n : Nat} (hp : post 1 ()) (h2 : 2 ≤ n) (hn : n < 8) (hz : z0 = 1 ∨ z0 = 0) : wL_lawOf_23 post 156 2480 x2 x3 (nI n) z0 0 0 := by
  obtain ⟨C, hC, eC⟩ := pk_andE x2 (m := 255) 8 (by decide)
  obtain ⟨D, hD, eD⟩ := pk_andE x3 (m := 255) 8 (by decide)
  have hn0 : ¬ nI n = 0 := nI_ne0 (by omega) (by omega)
  have e1 : (x2 &&& 255) - (x2 &&& 255) / nI n * nI n = nI (C % n) := by rw [eC, pk_rem (by omega) (by omega) (by omega)]
  have e2 : (x3 &&& 255) - (x3 &&& 255) / nI n * nI n = nI (D % n) := by rw [eD, pk_rem (by omega) (by omega) (by omega)]
  have hm : C % n < n := Nat.mod_lt _ (by omega)
  have hq : D % n < n := Nat.mod_lt _ (by omega)
  have e3 : nI n - 1 - nI (C % n) = nI (n - 1 - C % n) := by rw [rk_p1 (by omega), pk_sub (by omega)]
  have e4 : nI n - 1 - nI (D % n) = nI (n - 1 - D % n) := by rw [rk_p1 (by omega), pk_sub (by omega)]
  refine ⟨hn0, nm_r e1 ⟨hn0, nm_r e2 (nm_r e3 (nm_r e4 ?_))⟩⟩
  rcases hz with rfl | rfl
  · exact br_f (by decide) (rk_L83a hp h2 hn hm hq)
  · exact br_t rfl (pk_eq (n - 1 - C % n) 0 (fun t => rk_L83b (first := 1) hp h2 hn hm hq (by rw [if_pos t])) (fun t => rk_L83b (first := 0) hp h2 hn hm hq (by rw [if_neg t])))
theorem rk_lawOf (p0 p1 p2 p3 : Int32) (hp : post 1 ()) : wpL_lawOf post 156 2480 () p0 p1 p2 p3 := by
  obtain ⟨A, hA, eA⟩ := pk_andE p0 (m := 255) 8 (by decide)
  have e1 : 2 + ((p0 &&& 255) - (p0 &&& 255) / 6 * 6) = nI (2 + A % 6) := by
    rw [eA, show (6 : Int32) = nI 6 from rfl, pk_rem (by omega) (by omega) (by omega), show (2 : Int32) = nI 2 from rfl, nI_add]
  refine ⟨by decide, nm_r e1 (br_c (fun _ => rk_L23 hp (by omega) (by omega) (Or.inl rfl)) (fun _ => rk_L23 hp (by omega) (by omega) (Or.inr rfl)))⟩
end
theorem rk_cell {post : Int32 → Prop} {L : Nat} {xs : Nat → Int32} {i : Nat} (hL : L ≤ 4) (hi : i < 4) (h : ∀ r, post r) : wpL_cellAt post L xs () (nI i) :=
  pk_le L i (fun _ => h _) (fun z => ⟨pk_in i L z, h _⟩)
theorem i_vc (xs : Nat → Int32) (L : Nat) (hL : L ≤ 4) : wpL_law (fun r => r = 1) L xs :=
  rk_cell (i := 0) hL (by omega) (fun r1 => rk_cell (i := 1) hL (by omega) (fun r2 => rk_cell (i := 2) hL (by omega) (fun r3 => rk_cell (i := 3) hL (by omega) (fun r4 => ⟨156, 2480, by omega, by omega, rk_lawOf r1 r2 r3 r4 rfl⟩))))
end
