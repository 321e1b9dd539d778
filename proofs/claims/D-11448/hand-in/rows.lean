section
/-! pure picture: sorted lists of numbers, who wins, the moves in the program's order -/
def hg_ins (x : Nat) : List Nat → List Nat
  | [] => [x]
  | y :: t => if x < y then x :: y :: t else if x = y then y :: t else y :: hg_ins x t
theorem hg_ins_mem (x y : Nat) : ∀ l : List Nat, y ∈ hg_ins x l ↔ y = x ∨ y ∈ l := by
  intro l
  induction l with
  | nil => simp [hg_ins]
  | cons z t ih =>
    unfold hg_ins
    by_cases h : x < z
    · rw [if_pos h]; simp
    · rw [if_neg h]
      by_cases h2 : x = z
      · rw [if_pos h2]; subst h2; simp
      · rw [if_neg h2, List.mem_cons, ih, List.mem_cons]
        constructor
        · rintro (e | e | e)
          · exact Or.inr (Or.inl e)
          · exact Or.inl e
          · exact Or.inr (Or.inr e)
        · rintro (e | e | e)
          · exact Or.inr (Or.inl e)
          · exact Or.inl e
          · exact Or.inr (Or.inr e)
theorem hg_ins_sorted (x : Nat) : ∀ l : List Nat, l.Pairwise (· < ·) → (hg_ins x l).Pairwise (· < ·) := by
  intro l
  induction l with
  | nil => intro _; simp [hg_ins]
  | cons z t ih =>
    intro h
    have h' := List.pairwise_cons.mp h
    unfold hg_ins
    by_cases h1 : x < z
    · rw [if_pos h1]
      refine List.pairwise_cons.mpr ⟨fun y hy => ?_, h⟩
      rcases List.mem_cons.mp hy with e | e
      · omega
      · have := h'.1 y e
        omega
    · rw [if_neg h1]
      by_cases h2 : x = z
      · rw [if_pos h2]; exact h
      · rw [if_neg h2]
        refine List.pairwise_cons.mpr ⟨fun y hy => ?_, ih h'.2⟩
        rcases (hg_ins_mem x y t).mp hy with e | e
        · omega
        · exact h'.1 y e
theorem hg_ins_len (x : Nat) : ∀ l : List Nat, (hg_ins x l).length ≤ l.length + 1 := by
  intro l
  induction l with
  | nil => simp [hg_ins]
  | cons z t ih =>
    unfold hg_ins
    by_cases h1 : x < z
    · rw [if_pos h1]; simp
    · rw [if_neg h1]
      by_cases h2 : x = z
      · rw [if_pos h2]; simp
      · rw [if_neg h2]
        simp only [List.length_cons]
        omega
theorem hg_ins_in (x : Nat) : ∀ l : List Nat, l.Pairwise (· < ·) → x ∈ l → hg_ins x l = l := by
  intro l
  induction l with
  | nil => intro _ h; exact absurd h (by simp)
  | cons z t ih =>
    intro h hx
    have h' := List.pairwise_cons.mp h
    unfold hg_ins
    rcases List.mem_cons.mp hx with e | e
    · rw [if_neg (by omega), if_pos e]
    · have := h'.1 x e
      rw [if_neg (by omega), if_neg (by omega), ih h'.2 e]
theorem hg_ins_at (x : Nat) : ∀ (l : List Nat) (k : Nat), k ≤ l.length → (∀ i, i < k → l.getD i 0 < x) → (∀ i, k ≤ i → i < l.length → x < l.getD i 0) → hg_ins x l = l.take k ++ x :: l.drop k := by
  intro l
  induction l with
  | nil => intro k _ _ _; simp [hg_ins]
  | cons z t ih =>
    intro k hk h1 h2
    unfold hg_ins
    cases k with
    | zero =>
      have := h2 0 (by omega) (by simp)
      simp only [List.getD_cons_zero] at this
      rw [if_pos this]
      simp
    | succ k =>
      have := h1 0 (by omega)
      simp only [List.getD_cons_zero] at this
      rw [if_neg (by omega), if_neg (by omega), ih k (by simpa using hk) (fun i hi => by simpa using h1 (i + 1) (by omega)) (fun i hi hl => by simpa using h2 (i + 1) (by omega) (by simpa using hl))]
      simp
theorem hg_put_getD (x : Nat) (l : List Nat) (k : Nat) (hk : k ≤ l.length) (j : Nat) : (l.take k ++ x :: l.drop k).getD j 0 = if j < k then l.getD j 0 else if j = k then x else l.getD (j - 1) 0 := by
  have hm : min k l.length = k := by omega
  by_cases h1 : j < k
  · rw [if_pos h1]
    rw [List.getD_eq_getElem?_getD, List.getElem?_append_left (by rw [List.length_take]; omega), List.getElem?_take, if_pos h1, ← List.getD_eq_getElem?_getD]
  · rw [if_neg h1]
    by_cases h2 : j = k
    · rw [if_pos h2]
      subst h2
      simp [List.getD_eq_getElem?_getD, List.getElem?_append, hm]
    · rw [if_neg h2]
      obtain ⟨d, hd⟩ : ∃ d, j = k + (d + 1) := ⟨j - k - 1, by omega⟩
      subst hd
      simp [List.getD_eq_getElem?_getD, List.getElem?_append, hm]
      rw [if_neg h1]
theorem hg_sorted_getD {l : List Nat} (h : l.Pairwise (· < ·)) {i j : Nat} (hij : i < j) (hj : j < l.length) : l.getD i 0 < l.getD j 0 := by
  rw [List.getD_eq_getElem?_getD, List.getD_eq_getElem?_getD, List.getElem?_eq_getElem hj, List.getElem?_eq_getElem (by omega)]
  exact List.pairwise_iff_getElem.mp h i j (by omega) hj hij
theorem hg_mem_getD {l : List Nat} {i : Nat} (h : i < l.length) : l.getD i 0 ∈ l := by
  rw [List.getD_eq_getElem?_getD, List.getElem?_eq_getElem h]
  exact List.getElem_mem h
/-! who wins -/
def hg_root : Nat → Nat → Nat → Nat
  | 0, _, r => r
  | f + 1, n, r => if n < (r + 1) * (r + 1) then r else hg_root f n (r + 1)
def hg_gold (a b : Nat) : Bool :=
  if b ≤ a then !(decide (b = ((a - b) + hg_root 70 (5 * (a - b) * (a - b)) 0) / 2)) else !(decide (a = ((b - a) + hg_root 70 (5 * (b - a) * (b - a)) 0) / 2))
def hg_rat1 (lo hi : Nat) : Bool := decide (0 < lo) && (decide (lo = hi) || decide (hi * lo + lo * lo < hi * hi))
def hg_ratio (a b : Nat) : Bool := if b ≤ a then hg_rat1 b a else hg_rat1 a b
def hg_last (a b c : Nat) : Bool := (decide (a < 2) && (decide (b < 2) && decide (c < 2))) == decide (a ^^^ b ^^^ c = 0)
def hg_won (g a b c : Nat) : Bool :=
  if g = 0 then !(decide (a ^^^ b ^^^ c = 0)) else if g = 1 then hg_last a b c else if g = 2 then !(decide (a = b) && decide (b = c)) else if g = 3 then !(decide (a = c))
  else if g = 4 then hg_gold a b else if g = 5 then hg_ratio a b else !(decide ((a ^^^ b ^^^ c) % 4 = 0))
/-! moves -/
def hg_enc (m : Nat × Nat × Nat) : Nat := m.1 + 32 * m.2.1 + 1024 * m.2.2
def hg_wonm (g : Nat) (m : Nat × Nat × Nat) : Bool := hg_won g m.1 m.2.1 m.2.2
def hg_kp (g al : Nat) (l : List Nat) (m : Nat × Nat × Nat) : List Nat := if al = 0 ∧ hg_wonm g m = true then l else hg_ins (hg_enc m) l
def hg_kL (g al : Nat) (l : List Nat) (ms : List (Nat × Nat × Nat)) : List Nat := ms.foldl (hg_kp g al) l
def hg_one1 (g most a b c k : Nat) : List (Nat × Nat × Nat) :=
  if k % 3 = 0 then (if k / 3 + 1 ≤ a ∧ k / 3 + 1 ≤ most then [(a - (k / 3 + 1), b, c)] else [])
  else if k % 3 = 1 then (if k / 3 + 1 ≤ b ∧ k / 3 + 1 ≤ most then [(a, b - (k / 3 + 1), c)] else [])
  else if g = 4 then [] else (if k / 3 + 1 ≤ c ∧ k / 3 + 1 ≤ most then [(a, b, c - (k / 3 + 1))] else [])
def hg_one (g most a b c : Nat) : List (Nat × Nat × Nat) := (List.range' 0 48).flatMap (hg_one1 g most a b c)
def hg_two1 (w a b c k : Nat) : Nat × Nat × Nat := if w = 0 then (a, k % b, k / b) else if w = 1 then (k % a, b, k / a) else (k % a, k / a, c)
def hg_twoN (w a b c : Nat) : Nat := if w = 0 then b * c else if w = 1 then a * c else a * b
def hg_two (w a b c : Nat) : List (Nat × Nat × Nat) := (List.range' 0 (hg_twoN w a b c)).map (hg_two1 w a b c)
def hg_st1 (a b c t : Nat) : List (Nat × Nat × Nat) := (if t ≤ a then [(a - t, b, c)] else []) ++ ((if t ≤ b then [(a + t, b - t, c)] else []) ++ (if t ≤ c then [(a, b + t, c - t)] else []))
def hg_stair (a b c : Nat) : List (Nat × Nat × Nat) := (List.range' 1 15).flatMap (hg_st1 a b c)
def hg_eqm (a b c : Nat) : List (Nat × Nat × Nat) := (List.range' 1 (min a b)).map (fun t => (a - t, b - t, c))
def hg_mu1 (a b c t : Nat) : List (Nat × Nat × Nat) := (if t * b ≤ a then [(a - t * b, b, c)] else []) ++ (if t * a ≤ b then [(a, b - t * a, c)] else [])
def hg_mul (a b c : Nat) : List (Nat × Nat × Nat) := if 0 < a ∧ 0 < b then (List.range' 1 15).flatMap (hg_mu1 a b c) else []
def hg_mvs (g a b c : Nat) : List (Nat × Nat × Nat) :=
  if g = 3 then hg_stair a b c else if g = 5 then hg_mul a b c else
  hg_one g (if g = 7 then 3 else 15) a b c ++ (if g = 2 then hg_two 0 a b c ++ (hg_two 1 a b c ++ hg_two 2 a b c) else if g = 4 then hg_eqm a b c else [])
def hg_fm (g al a b c : Nat) : List Nat := hg_kL g al [] (hg_mvs g a b c)
theorem hg_kp_mem (g al : Nat) (l : List Nat) (m : Nat × Nat × Nat) (y : Nat) : y ∈ hg_kp g al l m ↔ (y ∈ l ∨ ((al ≠ 0 ∨ hg_wonm g m = false) ∧ y = hg_enc m)) := by
  unfold hg_kp
  by_cases h : al = 0 ∧ hg_wonm g m = true
  · rw [if_pos h]
    constructor
    · exact Or.inl
    · rintro (e | ⟨e, _⟩)
      · exact e
      · rcases e with e | e
        · exact absurd h.1 e
        · rw [h.2] at e; cases e
  · rw [if_neg h, hg_ins_mem]
    have h' : al ≠ 0 ∨ hg_wonm g m = false := by
      by_cases e : al = 0
      · refine Or.inr ?_
        cases e2 : hg_wonm g m with
        | false => rfl
        | true => exact absurd ⟨e, e2⟩ h
      · exact Or.inl e
    constructor
    · rintro (e | e)
      · exact Or.inr ⟨h', e⟩
      · exact Or.inl e
    · rintro (e | e)
      · exact Or.inr e
      · exact Or.inl e.2
theorem hg_kL_mem (g al : Nat) : ∀ (ms : List (Nat × Nat × Nat)) (l : List Nat) (y : Nat), y ∈ hg_kL g al l ms ↔ (y ∈ l ∨ ∃ m, m ∈ ms ∧ (al ≠ 0 ∨ hg_wonm g m = false) ∧ y = hg_enc m) := by
  intro ms
  induction ms with
  | nil => intro l y; simp [hg_kL]
  | cons m t ih =>
    intro l y
    show y ∈ hg_kL g al (hg_kp g al l m) t ↔ _
    rw [ih, hg_kp_mem]
    constructor
    · rintro ((e | e) | ⟨m', h1, h2⟩)
      · exact Or.inl e
      · exact Or.inr ⟨m, by simp, e⟩
      · exact Or.inr ⟨m', by simp [h1], h2⟩
    · rintro (e | ⟨m', h1, h2⟩)
      · exact Or.inl (Or.inl e)
      · rcases List.mem_cons.mp h1 with e | e
        · subst e; exact Or.inl (Or.inr h2)
        · exact Or.inr ⟨m', e, h2⟩
theorem hg_kp_sorted (g al : Nat) (l : List Nat) (m : Nat × Nat × Nat) (h : l.Pairwise (· < ·)) : (hg_kp g al l m).Pairwise (· < ·) := by
  unfold hg_kp
  split
  · exact h
  · exact hg_ins_sorted _ _ h
theorem hg_kL_sorted (g al : Nat) : ∀ (ms : List (Nat × Nat × Nat)) (l : List Nat), l.Pairwise (· < ·) → (hg_kL g al l ms).Pairwise (· < ·) := by
  intro ms
  induction ms with
  | nil => intro l h; exact h
  | cons m t ih => intro l h; exact ih _ (hg_kp_sorted g al l m h)
theorem hg_kp_len (g al : Nat) (l : List Nat) (m : Nat × Nat × Nat) : (hg_kp g al l m).length ≤ l.length + 1 := by
  unfold hg_kp
  split
  · omega
  · exact hg_ins_len _ _
theorem hg_kL_len (g al : Nat) : ∀ (ms : List (Nat × Nat × Nat)) (l : List Nat), (hg_kL g al l ms).length ≤ l.length + ms.length := by
  intro ms
  induction ms with
  | nil => intro l; exact Nat.le_refl _
  | cons m t ih =>
    intro l
    have h1 := ih (hg_kp g al l m)
    have h2 := hg_kp_len g al l m
    show (hg_kL g al (hg_kp g al l m) t).length ≤ l.length + (t.length + 1)
    omega
theorem hg_kL_app (g al : Nat) (l : List Nat) (m1 m2 : List (Nat × Nat × Nat)) : hg_kL g al l (m1 ++ m2) = hg_kL g al (hg_kL g al l m1) m2 := by
  unfold hg_kL
  exact List.foldl_append
theorem hg_kL_one (g al : Nat) (l : List Nat) (m : Nat × Nat × Nat) : hg_kL g al l [m] = hg_kp g al l m := rfl
theorem hg_kL_nil (g al : Nat) (l : List Nat) : hg_kL g al l [] = l := rfl
theorem hg_kL_cons (g al : Nat) (l : List Nat) (m : Nat × Nat × Nat) (t : List (Nat × Nat × Nat)) : hg_kL g al l (m :: t) = hg_kL g al (hg_kp g al l m) t := rfl
end
section
/-! keep: puts a number into the sorted list -/
def hg_pic (l : List Nat) (A : Nat → Int32) : Prop := (∀ i, i < l.length → A i = nI (l.getD i 0)) ∧ l.Pairwise (· < ·) ∧ (∀ y, y ∈ l → y < 2 ^ 20)
theorem hg_pic_nil (A : Nat → Int32) : hg_pic [] A := ⟨fun i h => absurd h (by simp), List.Pairwise.nil, fun y h => absurd h (by simp)⟩
theorem hg_pic_lt {l : List Nat} {A : Nat → Int32} (h : hg_pic l A) {i : Nat} (hi : i < l.length) : l.getD i 0 < 2 ^ 20 := h.2.2 _ (hg_mem_getD hi)
theorem hg_k59 {post : St2 → Prop} {H B : Nat → Int32} {x k n : Nat} (hk : k ≤ n) (hn : n < 800)
    (K : ∀ A : Nat → Int32, (∀ i, i < k → A i = B i) → A k = nI x → (∀ i, k ≤ i → i < n → A (i + 1) = B i) → post (nI (n + 1), H, A)) :
    ∀ (d : Nat) (A : Nat → Int32), k + d ≤ n → (∀ i, i < k + d → A i = B i) → (∀ i, k + d ≤ i → i < n → A (i + 1) = B i) → wX_keep_59 post (nI x) (nI k) (nI n) (d + 1) (nI (k + d)) H A := by
  intro d
  induction d with
  | zero =>
    intro A hd h1 h2
    refine pk_le (k + 0) k (fun _ => ⟨pk_in k 800 (by omega), nm_r (by rw [nI_clamp (by omega)]) (nm_r (nI_1 n) (K _ (fun i hi => ?_) pk_us (fun i hi hin => ?_)))⟩) (fun z => absurd z (by omega))
    · rw [pk_un (by omega)]; exact h1 i (by omega)
    · rw [pk_un (by omega)]; exact h2 i (by omega) hin
  | succ d ih =>
    intro A hd h1 h2
    refine pk_le (k + (d + 1)) k (fun z => absurd z (by omega)) (fun _ => ⟨pk_in (k + d) 800 (by omega) (hx := nI_pred _), pk_in (k + (d + 1)) 800 (by omega), nm_r (e' := upd A (k + d + 1) (B (k + d))) ?_ (nm_r (pk_m1 (k + d)) (ih _ (by omega) (fun i hi => ?_) (fun i hi hin => ?_)))⟩)
    · rw [show nI (k + (d + 1)) - 1 = nI (k + d) from nI_pred _, nI_clamp (by omega), nI_clamp (by omega), h1 (k + d) (by omega)]
      rfl
    · rw [pk_un (by omega)]; exact h1 i (by omega)
    · by_cases e : i = k + d
      · subst e; exact pk_us
      · rw [pk_un (by omega)]; exact h2 i (by omega) hin
theorem hg_k43 {post : St2 → Prop} {H A : Nat → Int32} {l : List Nat} {x k : Nat} (hp : hg_pic l A) (hx : x < 2 ^ 20) (hl : l.length < 800) (hk : k ≤ l.length) (h1 : ∀ i, i < k → l.getD i 0 < x) (h2 : ∀ i, k ≤ i → i < l.length → x < l.getD i 0)
    (K : ∀ A', hg_pic (hg_ins x l) A' → post (nI (hg_ins x l).length, H, A')) : wX_keep_43 post (nI x) (nI k) (nI l.length) H A := by
  have e := hg_ins_at x l k hk h1 h2
  have el : (hg_ins x l).length = l.length + 1 := by
    rw [e]
    simp only [List.length_append, List.length_cons, List.length_take, List.length_drop]
    omega
  refine pk_eq l.length 800 (fun z => absurd z (by omega)) (fun _ => ?_)
  obtain ⟨d, hd⟩ : ∃ d, l.length = k + d := ⟨l.length - k, by omega⟩
  refine ⟨d + 1, ?_⟩
  have main := hg_k59 (post := post) (H := H) (B := A) (x := x) (k := k) (n := l.length) hk hl (fun A' q1 q2 q3 => ?_) d A (by omega) (fun i _ => rfl) (fun i hi hin => absurd hin (by omega))
  · rw [← hd] at main
    exact main
  · rw [← el]
    refine K A' ⟨fun i hi => ?_, hg_ins_sorted x l hp.2.1, fun y hy => ?_⟩
    · rw [e, hg_put_getD x l k hk i]
      by_cases c1 : i < k
      · rw [if_pos c1, q1 i c1, hp.1 i (by omega)]
      · rw [if_neg c1]
        by_cases c2 : i = k
        · rw [if_pos c2, c2, q2]
        · rw [if_neg c2]
          obtain ⟨j, hj⟩ : ∃ j, i = j + 1 := ⟨i - 1, by omega⟩
          subst hj
          rw [q3 j (by omega) (by omega), hp.1 j (by omega), Nat.add_sub_cancel]
    · rcases (hg_ins_mem x y l).mp hy with c | c
      · omega
      · exact hp.2.2 y c
theorem hg_k27 {post : St2 → Prop} {H A : Nat → Int32} {l : List Nat} {x k : Nat} (hp : hg_pic l A) (hx : x < 2 ^ 20) (hl : l.length < 800) (hk : k ≤ l.length) (h1 : 0 < k → l.getD (k - 1) 0 ≤ x) (h2 : ∀ i, k ≤ i → i < l.length → x < l.getD i 0)
    (K : ∀ A', hg_pic (hg_ins x l) A' → post (nI (hg_ins x l).length, H, A')) : wX_keep_27 post (nI x) (nI k) (nI l.length) H A := by
  refine pk_le k 0 (fun z => hg_k43 hp hx hl hk (fun i hi => absurd hi (by omega)) h2 K) (fun z => ?_)
  obtain ⟨j, hj⟩ : ∃ j, k = j + 1 := ⟨k - 1, by omega⟩
  subst hj
  have hj1 := h1 (by omega)
  rw [Nat.add_sub_cancel] at hj1
  have hlt := hg_pic_lt hp (i := j) (by omega)
  refine ⟨pk_in j 800 (by omega) (hx := nI_pred j), pk_eq (l.getD j 0) x (fun q => ?_) (fun q => hg_k43 hp hx hl hk (fun i hi => ?_) h2 K) (hx := ?_)⟩
  · have e := hg_ins_in x l hp.2.1 (by rw [← q]; exact hg_mem_getD (by omega))
    rw [e] at K
    exact K A hp
  · by_cases c : i = j
    · subst c; omega
    · have := hg_sorted_getD hp.2.1 (i := i) (j := j) (by omega) (by omega)
      omega
  · rw [nI_pred, nI_clamp (by omega)]
    exact hp.1 j (by omega)
theorem hg_k5 {post : St2 → Prop} {H A : Nat → Int32} {l : List Nat} {x : Nat} (hp : hg_pic l A) (hx : x < 2 ^ 20) (hl : l.length < 800)
    (K : ∀ A', hg_pic (hg_ins x l) A' → post (nI (hg_ins x l).length, H, A')) : ∀ k, k ≤ l.length → (∀ i, k ≤ i → i < l.length → x < l.getD i 0) → wX_keep_5 post (nI x) (nI l.length) H A (k + 1) (nI k) := by
  intro k
  induction k with
  | zero =>
    intro hk h2
    exact pk_le 0 0 (fun _ => hg_k27 (k := 0) hp hx hl hk (fun z => absurd z (by omega)) h2 K) (fun z => absurd z (by omega))
  | succ k ih =>
    intro hk h2
    have hlt := hg_pic_lt hp (i := k) (by omega)
    refine pk_le (k + 1) 0 (fun z => absurd z (by omega)) (fun _ => ⟨pk_in k 800 (by omega) (hx := nI_pred k), pk_le (l.getD k 0) x (fun q => hg_k27 hp hx hl hk (fun _ => q) h2 K) (fun q => nm_r (pk_m1 k) (ih (by omega) (fun i hi hin => ?_))) (hx := ?_)⟩)
    · by_cases c : i = k
      · subst c; omega
      · exact h2 i (by omega) hin
    · rw [nI_pred, nI_clamp (by omega)]
      exact hp.1 k (by omega)
theorem hg_keep {post : St2 → Prop} {H A : Nat → Int32} {l : List Nat} {x : Nat} (hp : hg_pic l A) (hx : x < 2 ^ 20) (hl : l.length < 800)
    (K : ∀ A', hg_pic (hg_ins x l) A' → post (nI (hg_ins x l).length, H, A')) : wpX_keep post (nI l.length, H, A) (nI x) :=
  ⟨l.length + 1, hg_k5 hp hx hl K l.length (Nat.le_refl _) (fun i hi hin => absurd hin (by omega))⟩
end
section
/-! who wins: the methods that answer 0 or 1 -/
theorem hg_nxor (a b : Nat) : nI a ^^^ nI b = nI (a ^^^ b) := by
  apply Int32.toBitVec_inj.1
  show BitVec.ofNat 32 a ^^^ BitVec.ofNat 32 b = BitVec.ofNat 32 (a ^^^ b)
  apply BitVec.eq_of_getLsbD_eq
  intro i hi
  simp [hi]
theorem hg_x3 (a b c : Nat) : (nI a ^^^ nI b) ^^^ nI c = nI (a ^^^ b ^^^ c) := by rw [hg_nxor, hg_nxor]
theorem hg_x3lt {a b c : Nat} (ha : a < 32) (hb : b < 32) (hc : c < 32) : a ^^^ b ^^^ c < 32 :=
  Nat.xor_lt_two_pow (n := 5) (Nat.xor_lt_two_pow (n := 5) ha hb) hc
theorem hg_root_le : ∀ (f n r : Nat), hg_root f n r ≤ r + f := by
  intro f
  induction f with
  | zero => intro n r; exact Nat.le_refl _
  | succ f ih =>
    intro n r
    unfold hg_root
    split
    · omega
    · have := ih n (r + 1)
      omega
theorem hg_rootW {post : Int32 → Prop} {f0 : Int32} {a1 a2 : Nat → Int32} {n : Nat} (hn : n < 4900) : ∀ (f r : Nat), r + f = 70 → post (nI (hg_root f n r)) → wX_rootOf_2 post (nI n) f0 a1 a2 (f + 1) (nI r) := by
  intro f
  induction f with
  | zero =>
    intro r hr K
    have e : r = 70 := by omega
    subst e
    refine pk_lt n 5041 (fun _ => K) (fun z => absurd z (by omega)) (hy := ?_)
    rw [nI_1, pk_mul]
  | succ f ih =>
    intro r hr K
    have hb : (r + 1) * (r + 1) ≤ 71 * 71 := Nat.mul_le_mul (by omega) (by omega)
    unfold hg_root at K
    refine pk_lt n ((r + 1) * (r + 1)) (fun z => ?_) (fun z => nm_r (nI_1 r) (ih (r + 1) (by omega) ?_)) (hy := by rw [nI_1, pk_mul])
    · rw [if_pos z] at K; exact K
    · rw [if_neg (by omega)] at K; exact K
theorem hg_rootOf {post : Int32 → Prop} {f0 : Int32} {a1 a2 : Nat → Int32} {n : Nat} (hn : n < 4900) (K : post (nI (hg_root 70 n 0))) : wpX_rootOf post (f0, a1, a2) (nI n) :=
  ⟨71, hg_rootW hn 70 0 rfl K⟩
theorem hg_g25 {post : Int32 → Prop} {f0 : Int32} {a1 a2 : Nat → Int32} {lo ap : Nat} {zl za : Int32} (el : zl = nI lo) (ea : za = nI ap) (hlo : lo < 32) (hap : ap < 32)
    (K0 : lo = (ap + hg_root 70 (5 * ap * ap) 0) / 2 → post 0) (K1 : ¬ lo = (ap + hg_root 70 (5 * ap * ap) 0) / 2 → post 1) : wX_wonGolden_25 post zl za f0 a1 a2 := by
  subst el ea
  have hb : 5 * ap * ap ≤ 155 * 31 := Nat.mul_le_mul (by omega) (by omega)
  have hr := hg_root_le 70 (5 * ap * ap) 0
  have e : (5 * nI ap) * nI ap = nI (5 * ap * ap) := by
    rw [show (5 : Int32) = nI 5 from rfl, pk_mul, pk_mul]
  unfold wX_wonGolden_25
  rw [e]
  refine hg_rootOf (by omega) ⟨by decide, pk_eq lo ((ap + hg_root 70 (5 * ap * ap) 0) / 2) K0 K1 (hy := ?_)⟩
  rw [nI_add]
  exact pk_div (by omega) (by decide) (by decide)
theorem hg_golden {post : Int32 → Prop} {f0 : Int32} {a1 a2 : Nat → Int32} {a b : Nat} (ha : a < 32) (hb : b < 32)
    (K0 : hg_gold a b = false → post 0) (K1 : hg_gold a b = true → post 1) : wpX_wonGolden post (f0, a1, a2) (nI a) (nI b) := by
  unfold hg_gold at K0 K1
  refine pk_le b a (fun z => pk_le b a (fun _ => hg_g25 rfl (pk_sub z) (by omega) (by omega) (fun q => K0 ?_) (fun q => K1 ?_)) (fun z2 => absurd z (by omega))) (fun z => pk_le b a (fun z2 => absurd z (by omega)) (fun _ => hg_g25 rfl (pk_sub (by omega)) (by omega) (by omega) (fun q => K0 ?_) (fun q => K1 ?_)))
  · rw [if_pos z, decide_eq_true q]; rfl
  · rw [if_pos z, decide_eq_false q]; rfl
  · rw [if_neg (by omega), decide_eq_true q]; rfl
  · rw [if_neg (by omega), decide_eq_false q]; rfl
theorem hg_r21 {post : Int32 → Prop} {f0 : Int32} {a1 a2 : Nat → Int32} {lo hi : Nat} (hlo : lo < 32) (hhi : hi < 32)
    (K0 : hg_rat1 lo hi = false → post 0) (K1 : hg_rat1 lo hi = true → post 1) : wX_wonRatio_21 post (nI lo) (nI hi) f0 a1 a2 := by
  unfold hg_rat1 at K0 K1
  have b1 : hi * hi ≤ 31 * 31 := Nat.mul_le_mul (by omega) (by omega)
  have b2 : hi * lo ≤ 31 * 31 := Nat.mul_le_mul (by omega) (by omega)
  have b3 : lo * lo ≤ 31 * 31 := Nat.mul_le_mul (by omega) (by omega)
  refine pk_le lo 0 (fun z => K0 ?_) (fun z => pk_eq lo hi (fun q => K1 ?_) (fun q => pk_le (hi * hi) (hi * lo + lo * lo) (fun w => K0 ?_) (fun w => K1 ?_) (hx := pk_mul hi hi) (hy := by rw [pk_mul, pk_mul, nI_add])))
  · rw [decide_eq_false (show ¬ 0 < lo by omega)]; rfl
  · rw [decide_eq_true z, decide_eq_true q]; rfl
  · rw [decide_eq_true z, decide_eq_false q, decide_eq_false (show ¬ hi * lo + lo * lo < hi * hi by omega)]; rfl
  · rw [decide_eq_true z, decide_eq_false q, decide_eq_true w]; rfl
theorem hg_ratioW {post : Int32 → Prop} {f0 : Int32} {a1 a2 : Nat → Int32} {a b : Nat} (ha : a < 32) (hb : b < 32)
    (K0 : hg_ratio a b = false → post 0) (K1 : hg_ratio a b = true → post 1) : wpX_wonRatio post (f0, a1, a2) (nI a) (nI b) := by
  unfold hg_ratio at K0 K1
  refine pk_le b a (fun z => pk_le b a (fun _ => ?_) (fun z2 => absurd z (by omega))) (fun z => pk_le b a (fun z2 => absurd z (by omega)) (fun _ => ?_))
  · rw [if_pos z] at K0 K1
    exact hg_r21 hb ha K0 K1
  · rw [if_neg (by omega)] at K0 K1
    exact hg_r21 ha hb K0 K1
theorem hg_l20 {post : Int32 → Prop} {f0 : Int32} {a1 a2 : Nat → Int32} {a b c : Nat} (ha : a < 32) (hb : b < 32) (hc : c < 32) (s : Bool)
    (K0 : (s == decide (a ^^^ b ^^^ c = 0)) = false → post 0) (K1 : (s == decide (a ^^^ b ^^^ c = 0)) = true → post 1) : wX_wonLast_20 post (nI a) (nI b) (nI c) (if s = true then 1 else 0) f0 a1 a2 := by
  have hx := hg_x3lt ha hb hc
  refine pk_eq (a ^^^ b ^^^ c) 0 (fun z => ?_) (fun z => ?_) (hx := hg_x3 a b c)
  · rw [decide_eq_true z] at K0 K1
    cases s with
    | true => exact br_t (by decide) (K1 rfl)
    | false => exact br_f (by decide) (K0 rfl)
  · rw [decide_eq_false z] at K0 K1
    cases s with
    | true => exact br_f (by decide) (K0 rfl)
    | false => exact br_t (by decide) (K1 rfl)
theorem hg_lastW {post : Int32 → Prop} {f0 : Int32} {a1 a2 : Nat → Int32} {a b c : Nat} (ha : a < 32) (hb : b < 32) (hc : c < 32)
    (K0 : hg_last a b c = false → post 0) (K1 : hg_last a b c = true → post 1) : wpX_wonLast post (f0, a1, a2) (nI a) (nI b) (nI c) := by
  unfold hg_last at K0 K1
  refine pk_le 2 a (fun z => ?_) (fun z => pk_le 2 b (fun z2 => ?_) (fun z2 => pk_le 2 c (fun z3 => ?_) (fun z3 => ?_)))
  · rw [decide_eq_false (show ¬ a < 2 by omega), Bool.false_and] at K0 K1
    exact hg_l20 ha hb hc false K0 K1
  · rw [decide_eq_false (show ¬ b < 2 by omega), Bool.false_and, Bool.and_false] at K0 K1
    exact hg_l20 ha hb hc false K0 K1
  · rw [decide_eq_false (show ¬ c < 2 by omega), Bool.and_false, Bool.and_false] at K0 K1
    exact hg_l20 ha hb hc false K0 K1
  · rw [decide_eq_true z, decide_eq_true z2, decide_eq_true z3] at K0 K1
    exact hg_l20 ha hb hc true K0 K1
theorem hg_nb0 : narrow .boolean (.int (0 : Int32)) = .int 0 := by first | rfl | decide
theorem hg_nb1 : narrow .boolean (.int (1 : Int32)) = .int 1 := by first | rfl | decide
theorem hg_isWon {post : Int32 → Prop} {f0 : Int32} {a1 a2 : Nat → Int32} {g a b c : Nat} (hg : g < 8) (ha : a < 32) (hb : b < 32) (hc : c < 32)
    (K0 : hg_won g a b c = false → post 0) (K1 : hg_won g a b c = true → post 1) : wpX_isWon post (f0, a1, a2) (nI g) (nI a) (nI b) (nI c) := by
  unfold hg_won at K0 K1
  have hx := hg_x3lt ha hb hc
  refine pk_eq g 0 (fun g0 => ?_) (fun g0 => pk_eq g 1 (fun g1 => ?_) (fun g1 => pk_eq g 2 (fun g2 => ?_) (fun g2 => pk_eq g 3 (fun g3 => ?_) (fun g3 => pk_eq g 4 (fun g4 => ?_) (fun g4 => pk_eq g 5 (fun g5 => ?_) (fun g5 => ?_))))))
  · rw [if_pos g0] at K0 K1
    refine pk_eq (a ^^^ b ^^^ c) 0 (fun z => K0 ?_) (fun z => K1 ?_) (hx := hg_x3 a b c)
    · rw [decide_eq_true z]; rfl
    · rw [decide_eq_false z]; rfl
  · rw [if_neg g0, if_pos g1] at K0 K1
    exact hg_lastW ha hb hc (fun q => ⟨hg_nb0, K0 q⟩) (fun q => ⟨hg_nb1, K1 q⟩)
  · rw [if_neg g0, if_neg g1, if_pos g2] at K0 K1
    refine pk_eq a b (fun z => pk_eq b c (fun z2 => K0 ?_) (fun z2 => K1 ?_)) (fun z => K1 ?_)
    · rw [decide_eq_true z, decide_eq_true z2]; rfl
    · rw [decide_eq_false z2, Bool.and_false]; rfl
    · rw [decide_eq_false z]; rfl
  · rw [if_neg g0, if_neg g1, if_neg g2, if_pos g3] at K0 K1
    refine pk_eq a c (fun z => K0 ?_) (fun z => K1 ?_)
    · rw [decide_eq_true z]; rfl
    · rw [decide_eq_false z]; rfl
  · rw [if_neg g0, if_neg g1, if_neg g2, if_neg g3, if_pos g4] at K0 K1
    exact hg_golden ha hb (fun q => ⟨hg_nb0, K0 q⟩) (fun q => ⟨hg_nb1, K1 q⟩)
  · rw [if_neg g0, if_neg g1, if_neg g2, if_neg g3, if_neg g4, if_pos g5] at K0 K1
    exact hg_ratioW ha hb (fun q => ⟨hg_nb0, K0 q⟩) (fun q => ⟨hg_nb1, K1 q⟩)
  · rw [if_neg g0, if_neg g1, if_neg g2, if_neg g3, if_neg g4, if_neg g5] at K0 K1
    refine pk_eq ((a ^^^ b ^^^ c) % 4) 0 (fun z => K0 ?_) (fun z => K1 ?_) (hx := ?_)
    · rw [decide_eq_true z]; rfl
    · rw [decide_eq_false z]; rfl
    · rw [hg_x3]
      exact pk_andN (by omega) 2 (by decide)
/-! leastPart and wonWith: any answer will do -/
theorem hg_lp14 {post : Int32 → Prop} {J : Int32 → Int32 → Prop} {f0 : Int32} {a1 a2 : Nat → Int32} {m : Nat} (hm : m ≤ 60) (K : ∀ o, 1 ≤ o → o ≤ m → J (nI (m - o)) (nI o)) :
    ∀ (d o t : Nat), m + 1 - t ≤ d → 1 ≤ o → o ≤ m → o < t → t ≤ 200 → wX_leastPart_14 post J (nI m) f0 a1 a2 (d + 1) (nI o) (nI t) := by
  intro d
  induction d with
  | zero =>
    intro o t hd h1 h2 h3 h4
    exact pk_lt m t (fun _ => nm_r (pk_sub h2) (K o h1 h2)) (fun z => absurd z (by omega))
  | succ d ih =>
    intro o t hd h1 h2 h3 h4
    exact pk_lt m t (fun _ => nm_r (pk_sub h2) (K o h1 h2)) (fun z => nm_r (nI_add o t) (ih t (o + t) (by omega) (by omega) z (by omega) (by omega)))
theorem hg_lp4 {post : Int32 → Prop} {f0 : Int32} {a1 a2 : Nat → Int32} (K : ∀ r, post r) : ∀ (d m : Nat) (r : Int32), m ≤ d → m ≤ 60 → wX_leastPart_4 post f0 a1 a2 (d + 1) (nI m) r := by
  intro d
  induction d with
  | zero =>
    intro m r hd hm
    exact pk_le m 0 (fun _ => K r) (fun z => absurd z (by omega))
  | succ d ih =>
    intro m r hd hm
    exact pk_le m 0 (fun _ => K r) (fun z => ⟨m + 1, hg_lp14 hm (fun o h1 h2 => ih (m - o) (nI o) (by omega) (by omega)) m 1 2 (by omega) (by omega) (by omega) (by omega) (by omega)⟩)
theorem hg_wonWith {post : Int32 → Prop} {f0 : Int32} {a1 a2 : Nat → Int32} {n : Nat} {q : Int32} (hn : n ≤ 60) (K0 : post 0) (K1 : post 1) : wpX_wonWith post (f0, a1, a2) (nI n) q :=
  ⟨n + 1, hg_lp4 (fun r => br_c (fun _ => K0) (fun _ => br_c (fun _ => K0) (fun _ => K1))) n n 0 (Nat.le_refl _) hn⟩
end
section
/-! consider, and the loops that go through the moves -/
def hg_hp (a b c : Nat) (H : Nat → Int32) : Prop := H 0 = nI a ∧ H 1 = nI b ∧ H 2 = nI c ∧ a < 16 ∧ b < 16 ∧ c < 16
theorem hg_enc_lt {p q r : Nat} (hp : p < 32) (hq : q < 32) (hr : r < 32) : hg_enc (p, q, r) < 2 ^ 20 := by
  show p + 32 * q + 1024 * r < 2 ^ 20
  omega
theorem hg_cons17 {post : St2 → Prop} {H A : Nat → Int32} {l : List Nat} {p q r : Nat} (hp : hg_pic l A) (hl : l.length < 800) (h1 : p < 32) (h2 : q < 32) (h3 : r < 32)
    (K : ∀ A', hg_pic (hg_ins (hg_enc (p, q, r)) l) A' → post (nI (hg_ins (hg_enc (p, q, r)) l).length, H, A')) : wX_consider_17 post (nI p) (nI q) (nI r) (nI l.length) H A := by
  have e : (nI p + (32 * nI q)) + (1024 * nI r) = nI (hg_enc (p, q, r)) := by
    rw [show (32 : Int32) = nI 32 from rfl, show (1024 : Int32) = nI 1024 from rfl, pk_mul, pk_mul, nI_add, nI_add]
    rfl
  unfold wX_consider_17
  rw [e]
  exact hg_keep hp (hg_enc_lt h1 h2 h3) hl K
theorem hg_cons {post : St2 → Prop} {H A : Nat → Int32} {l : List Nat} {g al p q r : Nat} {x1 x2 x3 : Int32} (hg : g < 8) (ha : al < 2) (hp : hg_pic l A) (hl : l.length < 800) (h1 : p < 32) (h2 : q < 32) (h3 : r < 32) (e1 : x1 = nI p) (e2 : x2 = nI q) (e3 : x3 = nI r)
    (K : ∀ A', hg_pic (hg_kp g al l (p, q, r)) A' → post (nI (hg_kp g al l (p, q, r)).length, H, A')) : wpX_consider post (nI l.length, H, A) (nI g) x1 x2 x3 (nI al) := by
  subst e1 e2 e3
  unfold hg_kp at K
  refine pk_eq al 0 (fun z => hg_isWon hg h1 h2 h3 (fun w => ?_) (fun w => ?_)) (fun z => ?_)
  · rw [if_neg (fun t => by rw [show hg_wonm g (p, q, r) = hg_won g p q r from rfl, w] at t; exact absurd t.2 (by decide))] at K
    exact br_t rfl (hg_cons17 hp hl h1 h2 h3 K)
  · rw [if_pos ⟨z, w⟩] at K
    exact br_f (by decide) (K A hp)
  · rw [if_neg (fun t => z t.1)] at K
    exact hg_cons17 hp hl h1 h2 h3 K
/-- fromOne -/
theorem hg_f1_84 {post : St2 → Prop} {J : Int32 → Int32 → (Nat → Int32) → (Nat → Int32) → Prop} {H A : Nat → Int32} {l : List Nat} {g al a b c i t k : Nat} {x2 z0 : Int32} (hh : hg_hp a b c H) (hg : g < 8) (ha : al < 2) (hp : hg_pic l A) (hl : l.length < 800) (hi : i < 3) (p q r : Nat) (ht : t < 2 ^ 31)
    (h1 : p < 32) (h2 : q < 32) (h3 : r < 32) (e1 : H 0 - z0 = nI p) (e2 : H 1 - (if i = 1 then nI t else 0) = nI q) (e3 : H 2 - (if i = 2 then nI t else 0) = nI r)
    (K : ∀ A', hg_pic (hg_kp g al l (p, q, r)) A' → J (nI (k + 1)) (nI (hg_kp g al l (p, q, r)).length) H A') :
    wX_fromOne_84 post J (nI g) x2 (nI al) (nI k) (nI i) (nI t) z0 (H 0) (nI g) (nI l.length) H A := by
  refine pk_eq i 1 (fun z => ?_) (fun z => pk_eq i 2 (fun w => ?_) (fun w => ?_))
  · refine pk_eq i 2 (fun w => absurd w (by omega)) (fun w => ?_)
    rw [if_pos z] at e2
    rw [if_neg w] at e3
    exact hg_cons hg ha hp hl h1 h2 h3 e1 e2 e3 (fun A' hA => nm_r (nI_1 k) (K A' hA))
  · rw [if_neg z] at e2
    rw [if_pos w] at e3
    exact hg_cons hg ha hp hl h1 h2 h3 e1 e2 e3 (fun A' hA => nm_r (nI_1 k) (K A' hA))
  · rw [if_neg z] at e2
    rw [if_neg w] at e3
    exact hg_cons hg ha hp hl h1 h2 h3 e1 e2 e3 (fun A' hA => nm_r (nI_1 k) (K A' hA))
theorem hg_sub0 (n : Nat) : nI n - 0 = nI n := pk_sub (b := 0) (Nat.zero_le n)
theorem hg_f1_35 {post : St2 → Prop} {J : Int32 → Int32 → (Nat → Int32) → (Nat → Int32) → Prop} {H A : Nat → Int32} {l : List Nat} {g most al a b c k : Nat} (hh : hg_hp a b c H) (hg : g < 8) (ha : al < 2) (hm : most < 16) (hp : hg_pic l A) (hl : l.length < 800) (hk : k < 48) (hg4 : k % 3 < 2 ∨ g ≠ 4)
    (K : ∀ l' A', l' = hg_kL g al l (hg_one1 g most a b c k) → hg_pic l' A' → J (nI (k + 1)) (nI l'.length) H A') :
    wX_fromOne_35 post J (nI g) (nI most) (nI al) (nI k) (nI (k % 3)) (nI (k / 3 + 1)) (nI l.length) H A := by
  obtain ⟨hh0, hh1, hh2, la, lb, lc⟩ := hh
  have hh : hg_hp a b c H := ⟨hh0, hh1, hh2, la, lb, lc⟩
  have hi : k % 3 < 3 := Nat.mod_lt _ (by decide)
  have ht : k / 3 + 1 < 17 := by omega
  have S0 : hg_one1 g most a b c k = [] → J (nI (k + 1)) (nI l.length) H A := fun e => K l A (by rw [e]; rfl) hp
  have S1 : ∀ m, hg_one1 g most a b c k = [m] → ∀ A', hg_pic (hg_kp g al l m) A' → J (nI (k + 1)) (nI (hg_kp g al l m).length) H A' := fun m e A' hA => K _ A' (by rw [e]; rfl) hA
  have ecl : (nI (k % 3)).toNatClampNeg = k % 3 := nI_clamp (by omega)
  unfold hg_one1 at S0 S1
  refine br_f (by decide) ⟨pk_in (k % 3) 3 hi, ?_⟩
  rw [ecl]
  rcases (show k % 3 = 0 ∨ k % 3 = 1 ∨ k % 3 = 2 by omega) with e | e | e
  · rw [if_pos e] at S0 S1
    rw [e]
    refine pk_lt a (k / 3 + 1) (fun z => nm_r (nI_1 k) (S0 (if_neg (by omega)))) (fun z => pk_lt most (k / 3 + 1) (fun z2 => nm_r (nI_1 k) (S0 (if_neg (by omega)))) (fun z2 => br_t rfl ?_)) (hx := hh0)
    exact hg_f1_84 (i := 0) hh hg ha hp hl (by decide) (a - (k / 3 + 1)) b c (by omega) (by omega) (by omega) (by omega) (by rw [hh0]; exact pk_sub z) (by rw [if_neg (by decide), hh1]; exact hg_sub0 b) (by rw [if_neg (by decide), hh2]; exact hg_sub0 c) (S1 _ (if_pos ⟨z, z2⟩))
  · rw [if_neg (by omega), if_pos e] at S0 S1
    rw [e]
    refine pk_lt b (k / 3 + 1) (fun z => nm_r (nI_1 k) (S0 (if_neg (by omega)))) (fun z => pk_lt most (k / 3 + 1) (fun z2 => nm_r (nI_1 k) (S0 (if_neg (by omega)))) (fun z2 => br_f (by decide) ?_)) (hx := hh1)
    exact hg_f1_84 (i := 1) hh hg ha hp hl (by decide) a (b - (k / 3 + 1)) c (by omega) (by omega) (by omega) (by omega) (by rw [hh0]; exact hg_sub0 a) (by rw [if_pos rfl, hh1]; exact pk_sub z) (by rw [if_neg (by decide), hh2]; exact hg_sub0 c) (S1 _ (if_pos ⟨z, z2⟩))
  · have g4 : g ≠ 4 := by
      rcases hg4 with q | q
      · omega
      · exact q
    rw [if_neg (by omega), if_neg (by omega), if_neg g4] at S0 S1
    rw [e]
    refine pk_lt c (k / 3 + 1) (fun z => nm_r (nI_1 k) (S0 (if_neg (by omega)))) (fun z => pk_lt most (k / 3 + 1) (fun z2 => nm_r (nI_1 k) (S0 (if_neg (by omega)))) (fun z2 => br_f (by decide) ?_)) (hx := hh2)
    exact hg_f1_84 (i := 2) hh hg ha hp hl (by decide) a b (c - (k / 3 + 1)) (by omega) (by omega) (by omega) (by omega) (by rw [hh0]; exact hg_sub0 a) (by rw [if_neg (by decide), hh1]; exact hg_sub0 b) (by rw [if_pos rfl, hh2]; exact pk_sub z) (S1 _ (if_pos ⟨z, z2⟩))
theorem hg_one1_len (g most a b c k : Nat) : (hg_one1 g most a b c k).length ≤ 1 := by
  unfold hg_one1
  repeat' split
  all_goals simp
theorem hg_f1 {post : St2 → Prop} {H : Nat → Int32} {g most al a b c : Nat} (hh : hg_hp a b c H) (hg : g < 8) (ha : al < 2) (hm : most < 16) :
    ∀ (d k : Nat) (l : List Nat) (A : Nat → Int32), k + d = 48 → hg_pic l A → l.length + d ≤ 800 →
      (∀ A', hg_pic (hg_kL g al l ((List.range' k d).flatMap (hg_one1 g most a b c))) A' → post (nI (hg_kL g al l ((List.range' k d).flatMap (hg_one1 g most a b c))).length, H, A')) →
      wX_fromOne_3 post (nI g) (nI most) (nI al) (d + 1) (nI k) (nI l.length) H A := by
  intro d
  induction d with
  | zero =>
    intro k l A hk hp hl K
    exact pk_le 48 k (fun _ => K A hp) (fun z => absurd z (by omega))
  | succ d ih =>
    intro k l A hk hp hl K
    rw [List.range'_succ, List.flatMap_cons, hg_kL_app] at K
    have N : ∀ l' A', l' = hg_kL g al l (hg_one1 g most a b c k) → hg_pic l' A' → wX_fromOne_3 post (nI g) (nI most) (nI al) (d + 1) (nI (k + 1)) (nI l'.length) H A' := by
      intro l' A' e hA
      subst e
      have b1 := hg_kL_len g al (hg_one1 g most a b c k) l
      have b2 := hg_one1_len g most a b c k
      exact ih (k + 1) _ A' (by omega) hA (by omega) K
    refine pk_le 48 k (fun z => absurd z (by omega)) (fun z => ⟨by decide, nm_r (pk_rem (d := 3) (by omega) (by decide) (by decide)) ⟨by decide, nm_r (e' := nI (k / 3 + 1)) ?_ (pk_lt (k % 3) 2 (fun w => ?_) (fun w => pk_eq g 4 (fun v => ?_) (fun v => ?_)))⟩⟩)
    · rw [show nI k / 3 = nI (k / 3) from pk_div (d := 3) (by omega) (by decide) (by decide), nI_1]
    · exact hg_f1_35 hh hg ha hm hp (by omega) (by omega) (Or.inl w) N
    · refine br_t rfl (nm_r (nI_1 k) (N l A ?_ hp))
      unfold hg_one1
      rw [if_neg (by omega), if_neg (by omega), if_pos v]
      rfl
    · exact hg_f1_35 hh hg ha hm hp (by omega) (by omega) (Or.inr v) N
theorem hg_fromOne {post : St2 → Prop} {H A : Nat → Int32} {l : List Nat} {g most al a b c : Nat} (hh : hg_hp a b c H) (hg : g < 8) (ha : al < 2) (hm : most < 16) (hp : hg_pic l A) (hl : l.length ≤ 700)
    (K : ∀ A', hg_pic (hg_kL g al l (hg_one g most a b c)) A' → post (nI (hg_kL g al l (hg_one g most a b c)).length, H, A')) : wpX_fromOne post (nI l.length, H, A) (nI g) (nI most) (nI al) :=
  ⟨49, hg_f1 hh hg ha hm 48 0 l A rfl hp (by omega) K⟩
/-- fromTwo -/
theorem hg_f2_25 {post : St2 → Prop} {H : Nat → Int32} {al a b c w hi hj : Nat} {x3 x4 : Int32} (hh : hg_hp a b c H) (ha : al < 2) (v3 : vp_in x3 3) (v4 : vp_in x4 3) (e3 : H x3.toNatClampNeg = nI hi) (e4 : H x4.toNatClampNeg = nI hj) (bi : hi < 16) (bj : hj < 16)
    (B : ∀ (J : Int32 → Int32 → (Nat → Int32) → (Nat → Int32) → Prop) (k : Nat) (l : List Nat) (A : Nat → Int32), k < hi * hj → hg_pic l A → l.length < 800 →
      (∀ A', hg_pic (hg_kp 2 al l (hg_two1 w a b c k)) A' → J (nI (k + 1)) (nI (hg_kp 2 al l (hg_two1 w a b c k)).length) H A') →
      ((x3 = 0 → wX_fromTwo_81 post J (nI al) x3 x4 (nI k) (nI (k % hi)) (nI (k / hi)) (nI (k % hi)) (nI l.length) H A) ∧ (¬ x3 = 0 → wX_fromTwo_81 post J (nI al) x3 x4 (nI k) (nI (k % hi)) (nI (k / hi)) (H 0) (nI l.length) H A))) :
    ∀ (d k : Nat) (l : List Nat) (A : Nat → Int32), k + d = hi * hj → hg_pic l A → l.length + d ≤ 800 →
      (∀ A', hg_pic (hg_kL 2 al l ((List.range' k d).map (hg_two1 w a b c))) A' → post (nI (hg_kL 2 al l ((List.range' k d).map (hg_two1 w a b c))).length, H, A')) →
      wX_fromTwo_25 post (nI al) x3 x4 (d + 1) (nI k) (nI l.length) H A := by
  have hb : hi * hj ≤ 15 * 15 := Nat.mul_le_mul (by omega) (by omega)
  have em : H x3.toNatClampNeg * H x4.toNatClampNeg = nI (hi * hj) := by rw [e3, e4, pk_mul]
  intro d
  induction d with
  | zero =>
    intro k l A hk hp hl K
    exact ⟨v3, v4, pk_le (hi * hj) k (fun _ => K A hp) (fun z => absurd z (by omega)) (hx := em)⟩
  | succ d ih =>
    intro k l A hk hp hl K
    rw [List.range'_succ, List.map_cons, hg_kL_cons] at K
    have h0 : 0 < hi := by
      rcases Nat.eq_zero_or_pos hi with z | z
      · subst z; omega
      · exact z
    have hn : ¬ H x3.toNatClampNeg = 0 := by rw [e3]; exact nI_ne0 h0 (by omega)
    refine ⟨v3, v4, pk_le (hi * hj) k (fun z => absurd z (by omega)) (fun z => ⟨v3, hn, nm_r (e' := nI (k % hi)) ?_ ⟨v3, hn, nm_r (e' := nI (k / hi)) ?_ (B _ k l A z hp (by omega) (fun A' hA => ?_))⟩⟩) (hx := em)⟩
    · rw [e3]; exact pk_rem (by omega) h0 (by omega)
    · rw [e3]; exact pk_div (by omega) h0 (by omega)
    · have b1 := hg_kp_len 2 al l (hg_two1 w a b c k)
      exact ih (k + 1) _ A' (by omega) hA (by omega) K
theorem hg_divlt {k x y : Nat} (h : k < x * y) : k / x < y := Nat.div_lt_of_lt_mul h
theorem hg_modlt {k x y : Nat} (h : k < x * y) : k % x < x := by
  rcases Nat.eq_zero_or_pos x with z | z
  · subst z; omega
  · exact Nat.mod_lt _ z
theorem hg_f2_0 {post : St2 → Prop} {H A : Nat → Int32} {l : List Nat} {al a b c : Nat} (hh : hg_hp a b c H) (ha : al < 2) (hp : hg_pic l A) (hl : l.length ≤ 570)
    (K : ∀ A', hg_pic (hg_kL 2 al l (hg_two 0 a b c)) A' → post (nI (hg_kL 2 al l (hg_two 0 a b c)).length, H, A')) : wpX_fromTwo post (nI l.length, H, A) 0 (nI al) := by
  obtain ⟨hh0, hh1, hh2, la, lb, lc⟩ := hh
  have hb : b * c ≤ 15 * 15 := Nat.mul_le_mul (by omega) (by omega)
  refine br_t rfl (br_f (by decide) ⟨b * c + 1, ?_⟩)
  refine hg_f2_25 (w := 0) (hi := b) (hj := c) ⟨hh0, hh1, hh2, la, lb, lc⟩ ha (pk_in 1 3 (by decide)) (pk_in 2 3 (by decide)) (by rw [pk_cl 1]; exact hh1) (by rw [pk_cl 2]; exact hh2) lb lc ?_ (b * c) 0 l A (by omega) hp (by omega) K
  intro J k l A hk hp hl K
  have q1 := hg_modlt hk
  have q2 := hg_divlt hk
  exact br_f (by decide) (br_t rfl (br_t rfl (hg_cons (g := 2) (p := a) (q := k % b) (r := k / b) (by decide) ha hp hl (by omega) (by omega) (by omega) hh0 rfl rfl (fun A' hA => nm_r (nI_1 k) (K A' hA)))))
theorem hg_f2_1 {post : St2 → Prop} {H A : Nat → Int32} {l : List Nat} {al a b c : Nat} (hh : hg_hp a b c H) (ha : al < 2) (hp : hg_pic l A) (hl : l.length ≤ 570)
    (K : ∀ A', hg_pic (hg_kL 2 al l (hg_two 1 a b c)) A' → post (nI (hg_kL 2 al l (hg_two 1 a b c)).length, H, A')) : wpX_fromTwo post (nI l.length, H, A) 1 (nI al) := by
  obtain ⟨hh0, hh1, hh2, la, lb, lc⟩ := hh
  have hb : a * c ≤ 15 * 15 := Nat.mul_le_mul (by omega) (by omega)
  refine br_f (by decide) (br_f (by decide) ⟨a * c + 1, ?_⟩)
  refine hg_f2_25 (w := 1) (hi := a) (hj := c) ⟨hh0, hh1, hh2, la, lb, lc⟩ ha (pk_in 0 3 (by decide)) (pk_in 2 3 (by decide)) (by rw [pk_cl 0]; exact hh0) (by rw [pk_cl 2]; exact hh2) la lc ?_ (a * c) 0 l A (by omega) hp (by omega) K
  intro J k l A hk hp hl K
  have q1 := hg_modlt hk
  have q2 := hg_divlt hk
  exact br_t rfl (br_f (by decide) (br_f (by decide) (br_t rfl (hg_cons (g := 2) (p := k % a) (q := b) (r := k / a) (by decide) ha hp hl (by omega) (by omega) (by omega) rfl hh1 rfl (fun A' hA => nm_r (nI_1 k) (K A' hA))))))
theorem hg_f2_2 {post : St2 → Prop} {H A : Nat → Int32} {l : List Nat} {al a b c : Nat} (hh : hg_hp a b c H) (ha : al < 2) (hp : hg_pic l A) (hl : l.length ≤ 570)
    (K : ∀ A', hg_pic (hg_kL 2 al l (hg_two 2 a b c)) A' → post (nI (hg_kL 2 al l (hg_two 2 a b c)).length, H, A')) : wpX_fromTwo post (nI l.length, H, A) 2 (nI al) := by
  obtain ⟨hh0, hh1, hh2, la, lb, lc⟩ := hh
  have hb : a * b ≤ 15 * 15 := Nat.mul_le_mul (by omega) (by omega)
  refine br_f (by decide) (br_t rfl ⟨a * b + 1, ?_⟩)
  refine hg_f2_25 (w := 2) (hi := a) (hj := b) ⟨hh0, hh1, hh2, la, lb, lc⟩ ha (pk_in 0 3 (by decide)) (pk_in 1 3 (by decide)) (by rw [pk_cl 0]; exact hh0) (by rw [pk_cl 1]; exact hh1) la lb ?_ (a * b) 0 l A (by omega) hp (by omega) K
  intro J k l A hk hp hl K
  have q1 := hg_modlt hk
  have q2 := hg_divlt hk
  exact br_t rfl (br_f (by decide) (br_t rfl (br_f (by decide) (hg_cons (g := 2) (p := k % a) (q := k / a) (r := c) (by decide) ha hp hl (by omega) (by omega) (by omega) rfl rfl hh2 (fun A' hA => nm_r (nI_1 k) (K A' hA))))))
/-- equallyMany -/
theorem hg_eq2 {post : St2 → Prop} {H : Nat → Int32} {al a b c : Nat} (hh : hg_hp a b c H) (ha : al < 2) :
    ∀ (d t : Nat) (l : List Nat) (A : Nat → Int32), t + d = min a b + 1 → hg_pic l A → l.length + d ≤ 800 →
      (∀ A', hg_pic (hg_kL 4 al l ((List.range' t d).map (fun t => (a - t, b - t, c)))) A' → post (nI (hg_kL 4 al l ((List.range' t d).map (fun t => (a - t, b - t, c)))).length, H, A')) →
      wX_equallyMany_2 post (nI al) (d + 1) (nI t) (nI l.length) H A := by
  obtain ⟨hh0, hh1, hh2, la, lb, lc⟩ := hh
  intro d
  induction d with
  | zero =>
    intro t l A ht hp hl K
    exact pk_lt a t (fun _ => K A hp) (fun z => pk_lt b t (fun _ => K A hp) (fun z2 => absurd z (by omega)) (hx := hh1)) (hx := hh0)
  | succ d ih =>
    intro t l A ht hp hl K
    rw [List.range'_succ, List.map_cons, hg_kL_cons] at K
    refine pk_lt a t (fun z => absurd z (by omega)) (fun z => pk_lt b t (fun z2 => absurd z2 (by omega)) (fun z2 => hg_cons (g := 4) (p := a - t) (q := b - t) (r := c) (by decide) ha hp (by omega) (by omega) (by omega) (by omega) (by rw [hh0]; exact pk_sub z) (by rw [hh1]; exact pk_sub z2) hh2 (fun A' hA => nm_r (nI_1 t) ?_)) (hx := hh1)) (hx := hh0)
    have b1 := hg_kp_len 4 al l (a - t, b - t, c)
    exact ih (t + 1) _ A' (by omega) hA (by omega) K
theorem hg_equallyMany {post : St2 → Prop} {H A : Nat → Int32} {l : List Nat} {al a b c : Nat} (hh : hg_hp a b c H) (ha : al < 2) (hp : hg_pic l A) (hl : l.length ≤ 700)
    (K : ∀ A', hg_pic (hg_kL 4 al l (hg_eqm a b c)) A' → post (nI (hg_kL 4 al l (hg_eqm a b c)).length, H, A')) : wpX_equallyMany post (nI l.length, H, A) (nI al) :=
  ⟨min a b + 1, hg_eq2 hh ha (min a b) 1 l A (by omega) hp (by have := hh.2.2.2.1; omega) K⟩
end
section
/-- downStairs -/
theorem hg_st1_len (a b c t : Nat) : (hg_st1 a b c t).length ≤ 3 := by
  unfold hg_st1
  simp only [List.length_append]
  have h1 : (if t ≤ a then [(a - t, b, c)] else []).length ≤ 1 := by split <;> simp
  have h2 : (if t ≤ b then [(a + t, b - t, c)] else []).length ≤ 1 := by split <;> simp
  have h3 : (if t ≤ c then [(a, b + t, c - t)] else []).length ≤ 1 := by split <;> simp
  omega
theorem hg_ds82 {post : St2 → Prop} {J : Int32 → Int32 → (Nat → Int32) → (Nat → Int32) → Prop} {H A : Nat → Int32} {l : List Nat} {al a b c t : Nat} (hh : hg_hp a b c H) (ha : al < 2) (ht : t < 16) (hp : hg_pic l A) (hl : l.length < 800)
    (K : ∀ l' A', l' = hg_kL 3 al l (if t ≤ c then [(a, b + t, c - t)] else []) → hg_pic l' A' → J (nI (t + 1)) (nI l'.length) H A') : wX_downStairs_82 post J (nI al) (nI t) (nI l.length) H A := by
  obtain ⟨hh0, hh1, hh2, la, lb, lc⟩ := hh
  refine pk_lt c t (fun z => nm_r (nI_1 t) (K l A (by rw [if_neg (by omega)]; rfl) hp)) (fun z => ?_) (hx := hh2)
  rw [if_pos z] at K
  exact hg_cons (g := 3) (p := a) (q := b + t) (r := c - t) (by decide) ha hp hl (by omega) (by omega) (by omega) hh0 (by rw [hh1]; exact nI_add b t) (by rw [hh2]; exact pk_sub z) (fun A' hA => nm_r (nI_1 t) (K _ A' rfl hA))
theorem hg_ds44 {post : St2 → Prop} {J : Int32 → Int32 → (Nat → Int32) → (Nat → Int32) → Prop} {H A : Nat → Int32} {l : List Nat} {al a b c t : Nat} (hh : hg_hp a b c H) (ha : al < 2) (ht : t < 16) (hp : hg_pic l A) (hl : l.length < 799)
    (K : ∀ l' A', l' = hg_kL 3 al l ((if t ≤ b then [(a + t, b - t, c)] else []) ++ (if t ≤ c then [(a, b + t, c - t)] else [])) → hg_pic l' A' → J (nI (t + 1)) (nI l'.length) H A') : wX_downStairs_44 post J (nI al) (nI t) (nI l.length) H A := by
  obtain ⟨hh0, hh1, hh2, la, lb, lc⟩ := hh
  rw [hg_kL_app] at K
  refine pk_lt b t (fun z => ?_) (fun z => ?_) (hx := hh1)
  · rw [if_neg (by omega)] at K
    exact hg_ds82 ⟨hh0, hh1, hh2, la, lb, lc⟩ ha ht hp (by omega) K
  · rw [if_pos z] at K
    have b1 := hg_kp_len 3 al l (a + t, b - t, c)
    exact hg_cons (g := 3) (p := a + t) (q := b - t) (r := c) (by decide) ha hp (by omega) (by omega) (by omega) (by omega) (by rw [hh0]; exact nI_add a t) (by rw [hh1]; exact pk_sub z) hh2 (fun A' hA => hg_ds82 ⟨hh0, hh1, hh2, la, lb, lc⟩ ha ht hA (by omega) K)
theorem hg_ds2 {post : St2 → Prop} {H : Nat → Int32} {al a b c : Nat} (hh : hg_hp a b c H) (ha : al < 2) :
    ∀ (d t : Nat) (l : List Nat) (A : Nat → Int32), t + d = 16 → hg_pic l A → l.length + 3 * d ≤ 800 →
      (∀ A', hg_pic (hg_kL 3 al l ((List.range' t d).flatMap (hg_st1 a b c))) A' → post (nI (hg_kL 3 al l ((List.range' t d).flatMap (hg_st1 a b c))).length, H, A')) →
      wX_downStairs_2 post (nI al) (d + 1) (nI t) (nI l.length) H A := by
  obtain ⟨hh0, hh1, hh2, la, lb, lc⟩ := hh
  intro d
  induction d with
  | zero =>
    intro t l A ht hp hl K
    exact pk_lt 15 t (fun _ => K A hp) (fun z => absurd z (by omega))
  | succ d ih =>
    intro t l A ht hp hl K
    rw [List.range'_succ, List.flatMap_cons, hg_kL_app] at K
    have b2 := hg_st1_len a b c t
    have b1 := hg_kL_len 3 al (hg_st1 a b c t) l
    have N : ∀ l' A', l' = hg_kL 3 al l (hg_st1 a b c t) → hg_pic l' A' → wX_downStairs_2 post (nI al) (d + 1) (nI (t + 1)) (nI l'.length) H A' := by
      intro l' A' e hA
      subst e
      exact ih (t + 1) _ A' (by omega) hA (by omega) K
    unfold hg_st1 at N
    rw [hg_kL_app] at N
    refine pk_lt 15 t (fun z => absurd z (by omega)) (fun z => pk_lt a t (fun z => ?_) (fun z => ?_) (hx := hh0))
    · rw [if_neg (show ¬ t ≤ a by omega)] at N
      exact hg_ds44 ⟨hh0, hh1, hh2, la, lb, lc⟩ ha (by omega) hp (by omega) N
    · rw [if_pos z] at N
      have b3 := hg_kp_len 3 al l (a - t, b, c)
      exact hg_cons (g := 3) (p := a - t) (q := b) (r := c) (by decide) ha hp (by omega) (by omega) (by omega) (by omega) (by rw [hh0]; exact pk_sub z) hh1 hh2 (fun A' hA => hg_ds44 ⟨hh0, hh1, hh2, la, lb, lc⟩ ha (by omega) hA (by omega) N)
theorem hg_downStairs {post : St2 → Prop} {H A : Nat → Int32} {l : List Nat} {al a b c : Nat} (hh : hg_hp a b c H) (ha : al < 2) (hp : hg_pic l A) (hl : l.length ≤ 700)
    (K : ∀ A', hg_pic (hg_kL 3 al l (hg_stair a b c)) A' → post (nI (hg_kL 3 al l (hg_stair a b c)).length, H, A')) : wpX_downStairs post (nI l.length, H, A) (nI al) :=
  ⟨16, hg_ds2 hh ha 15 1 l A rfl hp (by omega) K⟩
/-- multiples -/
theorem hg_mu1_len (a b c t : Nat) : (hg_mu1 a b c t).length ≤ 2 := by
  unfold hg_mu1
  simp only [List.length_append]
  have h1 : (if t * b ≤ a then [(a - t * b, b, c)] else []).length ≤ 1 := by split <;> simp
  have h2 : (if t * a ≤ b then [(a, b - t * a, c)] else []).length ≤ 1 := by split <;> simp
  omega
theorem hg_mu59 {post : St2 → Prop} {J : Int32 → Int32 → (Nat → Int32) → (Nat → Int32) → Prop} {H A : Nat → Int32} {l : List Nat} {al a b c t : Nat} (hh : hg_hp a b c H) (ha : al < 2) (ht : t < 16) (hp : hg_pic l A) (hl : l.length < 800)
    (K : ∀ l' A', l' = hg_kL 5 al l (if t * a ≤ b then [(a, b - t * a, c)] else []) → hg_pic l' A' → J (nI (t + 1)) (nI l'.length) H A') : wX_multiples_59 post J (nI al) (nI a) (nI b) (nI t) (nI l.length) H A := by
  obtain ⟨hh0, hh1, hh2, la, lb, lc⟩ := hh
  have hb : t * a ≤ 15 * 15 := Nat.mul_le_mul (by omega) (by omega)
  refine pk_lt b (t * a) (fun z => nm_r (nI_1 t) (K l A (by rw [if_neg (by omega)]; rfl) hp)) (fun z => ?_) (hy := pk_mul t a)
  rw [if_pos z] at K
  exact hg_cons (g := 5) (p := a) (q := b - t * a) (r := c) (by decide) ha hp hl (by omega) (by omega) (by omega) rfl (by rw [pk_mul]; exact pk_sub z) hh2 (fun A' hA => nm_r (nI_1 t) (K _ A' rfl hA))
theorem hg_mu17 {post : St2 → Prop} {H : Nat → Int32} {al a b c : Nat} (hh : hg_hp a b c H) (ha : al < 2) (h0 : 0 < a) (h1 : 0 < b) :
    ∀ (d t : Nat) (l : List Nat) (A : Nat → Int32), t + d = 16 → hg_pic l A → l.length + 2 * d ≤ 800 →
      (∀ A', hg_pic (hg_kL 5 al l ((List.range' t d).flatMap (hg_mu1 a b c))) A' → post (nI (hg_kL 5 al l ((List.range' t d).flatMap (hg_mu1 a b c))).length, H, A')) →
      wX_multiples_17 post (nI al) (nI a) (nI b) (d + 1) (nI t) (nI l.length) H A := by
  obtain ⟨hh0, hh1, hh2, la, lb, lc⟩ := hh
  intro d
  induction d with
  | zero =>
    intro t l A ht hp hl K
    exact pk_lt 15 t (fun _ => K A hp) (fun z => absurd z (by omega))
  | succ d ih =>
    intro t l A ht hp hl K
    rw [List.range'_succ, List.flatMap_cons, hg_kL_app] at K
    have hb : t * b ≤ 15 * 15 := Nat.mul_le_mul (by omega) (by omega)
    have b2 := hg_mu1_len a b c t
    have b1 := hg_kL_len 5 al (hg_mu1 a b c t) l
    have N : ∀ l' A', l' = hg_kL 5 al l (hg_mu1 a b c t) → hg_pic l' A' → wX_multiples_17 post (nI al) (nI a) (nI b) (d + 1) (nI (t + 1)) (nI l'.length) H A' := by
      intro l' A' e hA
      subst e
      exact ih (t + 1) _ A' (by omega) hA (by omega) K
    unfold hg_mu1 at N
    rw [hg_kL_app] at N
    refine pk_lt 15 t (fun z => absurd z (by omega)) (fun z => pk_le a 0 (fun z => absurd z (by omega)) (fun _ => pk_le b 0 (fun z => absurd z (by omega)) (fun _ => pk_lt a (t * b) (fun z => ?_) (fun z => ?_) (hy := pk_mul t b))))
    · rw [if_neg (show ¬ t * b ≤ a by omega)] at N
      exact hg_mu59 ⟨hh0, hh1, hh2, la, lb, lc⟩ ha (by omega) hp (by omega) N
    · rw [if_pos z] at N
      have b3 := hg_kp_len 5 al l (a - t * b, b, c)
      exact hg_cons (g := 5) (p := a - t * b) (q := b) (r := c) (by decide) ha hp (by omega) (by omega) (by omega) (by omega) (by rw [pk_mul]; exact pk_sub z) rfl hh2 (fun A' hA => hg_mu59 ⟨hh0, hh1, hh2, la, lb, lc⟩ ha (by omega) hA (by omega) N)
theorem hg_multiples {post : St2 → Prop} {H A : Nat → Int32} {l : List Nat} {al a b c : Nat} (hh : hg_hp a b c H) (ha : al < 2) (hp : hg_pic l A) (hl : l.length ≤ 700)
    (K : ∀ A', hg_pic (hg_kL 5 al l (hg_mul a b c)) A' → post (nI (hg_kL 5 al l (hg_mul a b c)).length, H, A')) : wpX_multiples post (nI l.length, H, A) (nI al) := by
  unfold hg_mul at K
  refine nm_r hh.1 (nm_r hh.2.1 ⟨16, ?_⟩)
  have la := hh.2.2.2.1
  have lb := hh.2.2.2.2.1
  by_cases h : 0 < a ∧ 0 < b
  · rw [if_pos h] at K
    exact hg_mu17 hh ha h.1 h.2 15 1 l A rfl hp (by omega) K
  · rw [if_neg h] at K
    refine pk_lt 15 1 (fun z => absurd z (by omega)) (fun z => pk_le a 0 (fun _ => K A hp) (fun z1 => pk_le b 0 (fun _ => K A hp) (fun z2 => absurd (And.intro z1 z2) h)))
/-- fromSingle: any list will do -/
theorem hg_fs7 {post : St2 → Prop} {H : Nat → Int32} {al a b c n : Nat} (hh : hg_hp a b c H) (ha : al < 2) (hn : n ≤ 60) (K : ∀ f A', post (f, H, A')) :
    ∀ (d t : Nat) (l : List Nat) (A : Nat → Int32), t + d = 17 → hg_pic l A → l.length + d ≤ 800 → wX_fromSingle_7 post (nI al) (nI n) (d + 1) (nI t) (nI l.length) H A := by
  obtain ⟨hh0, hh1, hh2, la, lb, lc⟩ := hh
  intro d
  induction d with
  | zero =>
    intro t l A ht hp hl
    exact pk_lt n t (fun _ => K _ _) (fun _ => pk_lt c t (fun _ => K _ _) (fun z => absurd z (by omega)) (hx := hh2))
  | succ d ih =>
    intro t l A ht hp hl
    refine pk_lt n t (fun _ => K _ _) (fun z1 => pk_lt c t (fun _ => K _ _) (fun z2 => ?_) (hx := hh2))
    have kk : wX_fromSingle_43 post (wX_fromSingle_7 post (nI al) (nI n) (d + 1)) (nI al) (nI n) (nI t) (nI l.length) H A := by
      refine hg_keep hp (by omega) (by omega) (fun A' hA => nm_r (nI_1 t) ?_)
      have b1 := hg_ins_len t l
      exact ih (t + 1) _ A' (by omega) hA (by omega)
    have nn : wX_fromSingle_7 post (nI al) (nI n) (d + 1) (nI (t + 1)) (nI l.length) H A := ih (t + 1) l A (by omega) hp (by omega)
    rw [pk_sub z1]
    exact hg_wonWith (by omega) (br_c (fun _ => br_t rfl kk) (fun _ => kk)) (br_c (fun _ => br_f (by decide) (nm_r (nI_1 t) nn)) (fun _ => kk))
theorem hg_fromSingle {post : St2 → Prop} {H A : Nat → Int32} {l : List Nat} {al a b c : Nat} (hh : hg_hp a b c H) (ha : al < 2) (hp : hg_pic l A) (hl : l.length ≤ 700) (K : ∀ f A', post (f, H, A')) : wpX_fromSingle post (nI l.length, H, A) (nI al) := by
  have la := hh.2.2.2.1
  have lb := hh.2.2.2.2.1
  have e : H 0 + (16 * H 1) = nI (a + 16 * b) := by
    rw [hh.1, hh.2.1, show (16 : Int32) = nI 16 from rfl, pk_mul, nI_add]
  refine nm_r e (pk_le (a + 16 * b) 60 (fun z => ⟨17, hg_fs7 hh ha z K 16 1 l A rfl hp (by omega)⟩) (fun z => ⟨17, hg_fs7 (n := 60) hh ha (Nat.le_refl _) K 16 1 l A rfl hp (by omega)⟩))
/-- findMoves -/
theorem hg_fm86 {post : St2 → Prop} {H A : Nat → Int32} {l : List Nat} {g al a b c : Nat} (hh : hg_hp a b c H) (hg : g < 8) (ha : al < 2) (hp : hg_pic l A) (h4 : g = 4 → l.length ≤ 700)
    (K : ∀ l' A', l' = hg_kL g al l (if g = 4 then hg_eqm a b c else []) → hg_pic l' A' → post (nI l'.length, H, A')) : wX_findMoves_86 post (nI g) (nI al) (nI l.length) H A := by
  refine pk_eq g 4 (fun z => ?_) (fun z => ?_)
  · subst z
    rw [if_pos rfl] at K
    exact hg_equallyMany hh ha hp (h4 rfl) (fun A' hA => K _ A' rfl hA)
  · rw [if_neg z] at K
    exact K l A rfl hp
theorem hg_two_len (w a b c : Nat) (ha : a < 16) (hb : b < 16) (hc : c < 16) : (hg_two w a b c).length ≤ 225 := by
  unfold hg_two hg_twoN
  rw [List.length_map, List.length_range']
  have h1 : b * c ≤ 15 * 15 := Nat.mul_le_mul (by omega) (by omega)
  have h2 : a * c ≤ 15 * 15 := Nat.mul_le_mul (by omega) (by omega)
  have h3 : a * b ≤ 15 * 15 := Nat.mul_le_mul (by omega) (by omega)
  repeat' split
  all_goals omega
theorem hg_fm63 {post : St2 → Prop} {H A : Nat → Int32} {l : List Nat} {g al a b c : Nat} (hh : hg_hp a b c H) (hg : g < 8) (ha : al < 2) (hp : hg_pic l A) (hl : l.length ≤ 100)
    (K : ∀ l' A', l' = hg_kL g al l (if g = 2 then hg_two 0 a b c ++ (hg_two 1 a b c ++ hg_two 2 a b c) else if g = 4 then hg_eqm a b c else []) → hg_pic l' A' → post (nI l'.length, H, A')) : wX_findMoves_63 post (nI g) (nI al) (nI l.length) H A := by
  have la := hh.2.2.2.1
  have lb := hh.2.2.2.2.1
  have lc := hh.2.2.2.2.2
  refine pk_eq g 2 (fun z => ?_) (fun z => ?_)
  · subst z
    rw [if_pos rfl, hg_kL_app, hg_kL_app] at K
    have n0 := hg_two_len 0 a b c la lb lc
    have n1 := hg_two_len 1 a b c la lb lc
    have m0 := hg_kL_len 2 al (hg_two 0 a b c) l
    have m1 := hg_kL_len 2 al (hg_two 1 a b c) (hg_kL 2 al l (hg_two 0 a b c))
    refine hg_f2_0 hh ha hp (by omega) (fun A1 p1 => hg_f2_1 hh ha p1 (by omega) (fun A2 p2 => hg_f2_2 hh ha p2 (by omega) (fun A3 p3 => ?_)))
    exact hg_fm86 (g := 2) hh (by decide) ha p3 (fun z => absurd z (by decide)) (fun l' A' e hA => K l' A' e hA)
  · rw [if_neg z] at K
    exact hg_fm86 hh hg ha hp (fun _ => by omega) K
theorem hg_one_len (g most a b c : Nat) : (hg_one g most a b c).length ≤ 48 := by
  unfold hg_one
  have : ∀ ks : List Nat, (ks.flatMap (hg_one1 g most a b c)).length ≤ ks.length := by
    intro ks
    induction ks with
    | nil => simp
    | cons k t ih =>
      rw [List.flatMap_cons, List.length_append, List.length_cons]
      have := hg_one1_len g most a b c k
      omega
  have h := this (List.range' 0 48)
  rw [List.length_range'] at h
  exact h
theorem hg_stair_len (a b c : Nat) : (hg_stair a b c).length ≤ 45 := by
  unfold hg_stair
  have : ∀ ks : List Nat, (ks.flatMap (hg_st1 a b c)).length ≤ 3 * ks.length := by
    intro ks
    induction ks with
    | nil => simp
    | cons k t ih =>
      rw [List.flatMap_cons, List.length_append, List.length_cons]
      have := hg_st1_len a b c k
      omega
  have h := this (List.range' 1 15)
  rw [List.length_range'] at h
  exact h
theorem hg_mul_len (a b c : Nat) : (hg_mul a b c).length ≤ 30 := by
  unfold hg_mul
  split
  · have : ∀ ks : List Nat, (ks.flatMap (hg_mu1 a b c)).length ≤ 2 * ks.length := by
      intro ks
      induction ks with
      | nil => simp
      | cons k t ih =>
        rw [List.flatMap_cons, List.length_append, List.length_cons]
        have := hg_mu1_len a b c k
        omega
    have h := this (List.range' 1 15)
    rw [List.length_range'] at h
    exact h
  · simp
theorem hg_findMoves {post : St2 → Prop} {f : Int32} {H A : Nat → Int32} {g al a b c : Nat} (hh : hg_hp a b c H) (hg : g < 8) (h6 : g ≠ 6) (ha : al < 2)
    (K : ∀ A', hg_pic (hg_fm g al a b c) A' → post (nI (hg_fm g al a b c).length, H, A')) : wpX_findMoves post (f, H, A) (nI g) (nI al) := by
  have nil0 : (nI ([] : List Nat).length) = 0 := rfl
  unfold hg_fm hg_mvs at K
  refine pk_eq g 3 (fun g3 => ?_) (fun g3 => pk_eq g 5 (fun g5 => ?_) (fun g5 => pk_eq g 6 (fun z => absurd z h6) (fun _ => pk_eq g 7 (fun g7 => ?_) (fun g7 => ?_))))
  · subst g3
    rw [if_pos rfl] at K
    refine hg_downStairs (l := []) hh ha (hg_pic_nil A) (by simp) (fun A1 p1 => ?_)
    have n1 := hg_kL_len 3 al (hg_stair a b c) []
    have n2 := hg_stair_len a b c
    rw [List.length_nil] at n1
    exact hg_fm63 (g := 3) hh (by decide) ha p1 (by omega) (fun l' A' e hA => by
      rw [if_neg (by decide), if_neg (by decide)] at e
      subst e
      exact K A' hA)
  · subst g5
    rw [if_neg (by decide), if_pos rfl] at K
    refine hg_multiples (l := []) hh ha (hg_pic_nil A) (by simp) (fun A1 p1 => ?_)
    have n1 := hg_kL_len 5 al (hg_mul a b c) []
    have n2 := hg_mul_len a b c
    rw [List.length_nil] at n1
    exact hg_fm63 (g := 5) hh (by decide) ha p1 (by omega) (fun l' A' e hA => by
      rw [if_neg (by decide), if_neg (by decide)] at e
      subst e
      exact K A' hA)
  · rw [if_neg g3, if_neg g5, if_pos g7, hg_kL_app] at K
    refine hg_fromOne (l := []) (most := 3) hh hg ha (by decide) (hg_pic_nil A) (by simp) (fun A1 p1 => ?_)
    have n1 := hg_kL_len g al (hg_one g 3 a b c) []
    have n2 := hg_one_len g 3 a b c
    rw [List.length_nil] at n1
    exact hg_fm63 hh hg ha p1 (by omega) (fun l' A' e hA => by
      subst e
      exact K A' hA)
  · rw [if_neg g3, if_neg g5, if_neg g7, hg_kL_app] at K
    refine hg_fromOne (l := []) (most := 15) hh hg ha (by decide) (hg_pic_nil A) (by simp) (fun A1 p1 => ?_)
    have n1 := hg_kL_len g al (hg_one g 15 a b c) []
    have n2 := hg_one_len g 15 a b c
    rw [List.length_nil] at n1
    exact hg_fm63 hh hg ha p1 (by omega) (fun l' A' e hA => by
      subst e
      exact K A' hA)
theorem hg_findMoves6 {post : St2 → Prop} {f : Int32} {H A : Nat → Int32} {al a b c : Nat} (hh : hg_hp a b c H) (ha : al < 2)
    (K : ∀ f A', post (f, H, A')) : wpX_findMoves post (f, H, A) 6 (nI al) :=
  br_f (by decide) (br_f (by decide) (br_t rfl (hg_fromSingle (l := []) hh ha (hg_pic_nil A) (by simp) (fun f' A' => br_f (by decide) (br_f (by decide) (K f' A'))))))
end
section
/-! the public methods over the picture -/
theorem hg_badGame {post : Int32 → Prop} {f : Int32} {H A : Nat → Int32} {g : Nat} (hg : g < 8) (K : post 0) : wpX_badGame post (f, H, A) (nI g) :=
  pk_lt g 0 (fun z => absurd z (by omega)) (fun _ => pk_le g 7 (fun _ => K) (fun z => absurd z (by omega)))
theorem hg_badHeap {post : Int32 → Prop} {f : Int32} {H A : Nat → Int32} {i : Nat} (hi : i < 3) (K : post 0) : wpX_badHeap post (f, H, A) (nI i) :=
  pk_lt i 0 (fun z => absurd z (by omega)) (fun _ => pk_le i 2 (fun _ => K) (fun z => absurd z (by omega)))
theorem hg_wonM {post : Int32 → Prop} {f : Int32} {H A : Nat → Int32} {g p q r : Nat} (e0 : H 0 = nI p) (e1 : H 1 = nI q) (e2 : H 2 = nI r) (hp : p < 32) (hq : q < 32) (hr : r < 32) (hg : g < 8) (h6 : g ≠ 6)
    (K0 : hg_won g p q r = false → post 0) (K1 : hg_won g p q r = true → post 1) : wpX_won post (f, H, A) (nI g) := by
  unfold wpX_won
  dsimp only
  refine hg_badGame hg (br_t rfl (pk_eq g 6 (fun z => absurd z h6) (fun _ => ?_)))
  rw [e0, e1, e2]
  exact hg_isWon hg hp hq hr (fun w => br_t rfl (K0 w)) (fun w => br_f (by decide) (K1 w))
theorem hg_wonH {post : Int32 → Prop} {f : Int32} {H A : Nat → Int32} {g a b c : Nat} (hh : hg_hp a b c H) (hg : g < 8) (h6 : g ≠ 6)
    (K0 : hg_won g a b c = false → post 0) (K1 : hg_won g a b c = true → post 1) : wpX_won post (f, H, A) (nI g) := by
  obtain ⟨hh0, hh1, hh2, la, lb, lc⟩ := hh
  exact hg_wonM hh0 hh1 hh2 (by omega) (by omega) (by omega) hg h6 K0 K1
theorem hg_winning {post : Int32 → St2 → Prop} {f : Int32} {H A : Nat → Int32} {g a b c : Nat} (hh : hg_hp a b c H) (hg : g < 8) (h6 : g ≠ 6)
    (K : ∀ A', hg_pic (hg_fm g 0 a b c) A' → post (nI (hg_fm g 0 a b c).length) (nI (hg_fm g 0 a b c).length, H, A')) : wpX_winning post (f, H, A) (nI g) := by
  unfold wpX_winning
  dsimp only
  exact hg_badGame hg (br_t rfl (hg_findMoves (al := 0) hh hg h6 (by decide) K))
theorem hg_winning6 {post : Int32 → St2 → Prop} {f : Int32} {H A : Nat → Int32} {a b c : Nat} (hh : hg_hp a b c H) (K : ∀ f A', post f (f, H, A')) : wpX_winning post (f, H, A) (nI 6) := by
  unfold wpX_winning
  dsimp only
  exact hg_badGame (g := 6) (by decide) (br_t rfl (hg_findMoves6 (al := 0) hh (by decide) K))
theorem hg_moves {post : Int32 → St2 → Prop} {f : Int32} {H A : Nat → Int32} {g a b c : Nat} (hh : hg_hp a b c H) (hg : g < 8) (h6 : g ≠ 6)
    (K : ∀ A', post (nI (hg_fm g 1 a b c).length) (nI (hg_fm g 1 a b c).length, H, A')) : wpX_moves post (f, H, A) (nI g) := by
  unfold wpX_moves
  dsimp only
  exact hg_badGame hg (br_t rfl (hg_findMoves (al := 1) hh hg h6 (by decide) (fun A' _ => K A')))
theorem hg_fm_len (g al a b c : Nat) (ha : a < 16) (hb : b < 16) (hc : c < 16) : (hg_fm g al a b c).length < 800 := by
  have h := hg_kL_len g al (hg_mvs g a b c) []
  have h2 : (hg_mvs g a b c).length < 800 := by
    unfold hg_mvs
    have q1 := hg_stair_len a b c
    have q2 := hg_mul_len a b c
    have q3 := hg_one_len g (if g = 7 then 3 else 15) a b c
    have t0 := hg_two_len 0 a b c ha hb hc
    have t1 := hg_two_len 1 a b c ha hb hc
    have t2 := hg_two_len 2 a b c ha hb hc
    have q4 : (hg_eqm a b c).length ≤ 15 := by
      unfold hg_eqm
      rw [List.length_map, List.length_range']
      omega
    generalize (if g = 7 then 3 else 15) = mm at q3 ⊢
    split
    · omega
    · split
      · omega
      · rw [List.length_append]
        split
        · rw [List.length_append, List.length_append]; omega
        · split
          · omega
          · rw [List.length_nil]; omega
  rw [List.length_nil] at h
  unfold hg_fm
  omega
theorem hg_wmIn {post : Int32 → St2 → Prop} {f : Int32} {H A : Nat → Int32} {g a b c i : Nat} (hh : hg_hp a b c H) (hg : g < 8) (h6 : g ≠ 6) (hi : i < (hg_fm g 0 a b c).length)
    (K : ∀ A', post (nI ((hg_fm g 0 a b c).getD i 0)) (nI (hg_fm g 0 a b c).length, H, A')) : wpX_winningMove post (f, H, A) (nI g) (nI i) := by
  have hl := hg_fm_len g 0 a b c hh.2.2.2.1 hh.2.2.2.2.1 hh.2.2.2.2.2
  unfold wpX_winningMove
  dsimp only
  refine hg_badGame hg (br_t rfl (hg_findMoves (al := 0) hh hg h6 (by decide) (fun A' hA => pk_lt i 0 (fun z => absurd z (by omega)) (fun _ => pk_lt i (hg_fm g 0 a b c).length (fun _ => ⟨pk_in i 800 (by omega), ?_⟩) (fun z => absurd z (by omega))))))
  dsimp only
  rw [nI_clamp (by omega), hA.1 i hi]
  exact K A'
theorem hg_wmOut {post : Int32 → St2 → Prop} {f : Int32} {H A : Nat → Int32} {g a b c i : Nat} (hh : hg_hp a b c H) (hg : g < 8) (h6 : g ≠ 6) (hi : (hg_fm g 0 a b c).length ≤ i) (hi2 : i < 2 ^ 31)
    (K : ∀ A', post (-4) (nI (hg_fm g 0 a b c).length, H, A')) : wpX_winningMove post (f, H, A) (nI g) (nI i) := by
  have hl := hg_fm_len g 0 a b c hh.2.2.2.1 hh.2.2.2.2.1 hh.2.2.2.2.2
  unfold wpX_winningMove
  dsimp only
  exact hg_badGame hg (br_t rfl (hg_findMoves (al := 0) hh hg h6 (by decide) (fun A' hA => pk_lt i 0 (fun z => absurd z (by omega)) (fun _ => pk_lt i (hg_fm g 0 a b c).length (fun z => absurd z (by omega)) (fun _ => K A')))))
theorem hg_wmNeg {post : Int32 → St2 → Prop} {f : Int32} {H A : Nat → Int32} {g a b c : Nat} (hh : hg_hp a b c H) (hg : g < 8) (h6 : g ≠ 6)
    (K : ∀ A', post (-4) (nI (hg_fm g 0 a b c).length, H, A')) : wpX_winningMove post (f, H, A) (nI g) (-1) := by
  unfold wpX_winningMove
  dsimp only
  exact hg_badGame hg (br_t rfl (hg_findMoves (al := 0) hh hg h6 (by decide) (fun A' hA => br_t (by decide) (K A'))))
theorem hg_playOut {post : Int32 → St2 → Prop} {f : Int32} {H A : Nat → Int32} {g a b c i : Nat} (hh : hg_hp a b c H) (hg : g < 8) (h3 : g ≠ 3) (h6 : g ≠ 6) (hi : (hg_fm g 0 a b c).length ≤ i) (hi2 : i < 2 ^ 31)
    (K : ∀ A', post (-4) (nI (hg_fm g 0 a b c).length, H, A')) : wpX_play post (f, H, A) (nI g) (nI i) := by
  have hl := hg_fm_len g 0 a b c hh.2.2.2.1 hh.2.2.2.2.1 hh.2.2.2.2.2
  unfold wpX_play
  dsimp only
  exact hg_badGame hg (br_t rfl (pk_eq g 3 (fun z => absurd z h3) (fun _ => pk_eq g 6 (fun z => absurd z h6) (fun _ => hg_findMoves (al := 0) hh hg h6 (by decide) (fun A' hA => pk_lt i 0 (fun z => absurd z (by omega)) (fun _ => pk_lt i (hg_fm g 0 a b c).length (fun z => absurd z (by omega)) (fun _ => K A')))))))
theorem hg_play36 {post : Int32 → St2 → Prop} {f x : Int32} {H A : Nat → Int32} {g : Nat} (hg : g = 3 ∨ g = 6) (K : post (-1) (f, H, A)) : wpX_play post (f, H, A) (nI g) x := by
  unfold wpX_play
  dsimp only
  refine hg_badGame (by omega) (br_t rfl (pk_eq g 3 (fun _ => K) (fun z => pk_eq g 6 (fun _ => K) (fun z2 => ?_) (ha := by omega)) (ha := by omega)))
  rcases hg with q | q
  · exact absurd q z
  · exact absurd q z2
def hg_H' (H : Nat → Int32) (p q r : Nat) : Nat → Int32 := upd (upd (upd H 0 (nI p)) 1 (nI q)) 2 (nI r)
theorem hg_H'0 (H : Nat → Int32) (p q r : Nat) : hg_H' H p q r 0 = nI p := by
  unfold hg_H'
  rw [pk_un (by decide), pk_un (by decide), pk_us]
theorem hg_H'1 (H : Nat → Int32) (p q r : Nat) : hg_H' H p q r 1 = nI q := by
  unfold hg_H'
  rw [pk_un (by decide), pk_us]
theorem hg_H'2 (H : Nat → Int32) (p q r : Nat) : hg_H' H p q r 2 = nI r := by
  unfold hg_H'
  rw [pk_us]
theorem hg_playIn {post : Int32 → St2 → Prop} {f : Int32} {H A : Nat → Int32} {g a b c i p q r : Nat} (hh : hg_hp a b c H) (hg : g < 8) (h3 : g ≠ 3) (h6 : g ≠ 6) (hi : i < (hg_fm g 0 a b c).length)
    (he : (hg_fm g 0 a b c).getD i 0 = hg_enc (p, q, r)) (hp : p < 32) (hq : q < 32) (hr : r < 32) (hw : hg_won g p q r = false)
    (K : ∀ A', post 0 (nI (hg_fm g 0 a b c).length, hg_H' H p q r, A')) : wpX_play post (f, H, A) (nI g) (nI i) := by
  have hl := hg_fm_len g 0 a b c hh.2.2.2.1 hh.2.2.2.2.1 hh.2.2.2.2.2
  have hx : hg_enc (p, q, r) < 2 ^ 20 := hg_enc_lt hp hq hr
  have eN : hg_enc (p, q, r) = p + 32 * q + 1024 * r := rfl
  have d0 : nI (hg_enc (p, q, r)) &&& 31 = nI p := by
    rw [pk_andN (by omega) 5 (by decide)]
    exact congrArg nI (by omega)
  have d1 : (nI (hg_enc (p, q, r)) >>> ((5 : Int32) &&& 31)) &&& 31 = nI q := by
    rw [pk_shrN (by omega) ((5 : Int32) &&& 31) 5 (by decide), pk_andN (by omega) 5 (by decide)]
    exact congrArg nI (by omega)
  have d2 : nI (hg_enc (p, q, r)) >>> ((10 : Int32) &&& 31) = nI r := by
    rw [pk_shrN (by omega) ((10 : Int32) &&& 31) 10 (by decide)]
    exact congrArg nI (by omega)
  unfold wpX_play
  dsimp only
  refine hg_badGame hg (br_t rfl (pk_eq g 3 (fun z => absurd z h3) (fun _ => pk_eq g 6 (fun z => absurd z h6) (fun _ => hg_findMoves (al := 0) hh hg h6 (by decide) (fun A' hA => pk_lt i 0 (fun z => absurd z (by omega)) (fun _ => pk_lt i (hg_fm g 0 a b c).length (fun _ => ⟨pk_in i 800 (by omega), nm_r (e' := nI (hg_enc (p, q, r))) ?_ ?_⟩) (fun z => absurd z (by omega))))))))
  · dsimp only
    rw [nI_clamp (by omega), hA.1 i hi, he]
  · rw [d0, d1, d2]
    refine nm_e (nm_e (nm_e ?_))
    exact hg_wonM (hg_H'0 H p q r) (hg_H'1 H p q r) (hg_H'2 H p q r) hp hq hr hg h6 (fun _ => K A') (fun w => by rw [hw] at w; cases w)
theorem hg_has {post : Int32 → Prop} {f : Int32} {H A : Nat → Int32} {i : Nat} (hi : i < 3) (K : post (H i)) : wpX_has post (f, H, A) (nI i) := by
  unfold wpX_has
  dsimp only
  refine hg_badHeap hi (br_t rfl ⟨pk_in i 3 hi, ?_⟩)
  rw [nI_clamp (by omega)]
  exact K
theorem hg_heap {post : Int32 → St2 → Prop} {f : Int32} {H A : Nat → Int32} {i n : Nat} (hi : i < 3) (hn : n < 16) (K : ∀ x, post x (f, upd H i (nI n), A)) : wpX_heap post (f, H, A) (nI i) (nI n) := by
  unfold wpX_heap
  dsimp only
  refine hg_badHeap hi (br_t rfl (pk_lt n 0 (fun z => absurd z (by omega)) (fun _ => pk_le n 15 (fun _ => ⟨pk_in i 3 hi, fun x _ => ⟨pk_in i 3 hi, ?_⟩⟩) (fun z => absurd z (by omega)))))
  rw [nI_clamp (by omega)]
  exact nm_e (K x)
theorem hg_value0 {post : Int32 → Prop} {f : Int32} {H A : Nat → Int32} {a b c : Nat} (hh : hg_hp a b c H) (K : post (nI (a ^^^ b ^^^ c))) : wpX_value post (f, H, A) 0 := by
  refine br_t rfl (nm_r (e' := nI (a ^^^ b ^^^ c)) ?_ (br_t rfl K))
  rw [hh.1, hh.2.1, hh.2.2.1, hg_x3]
theorem hg_value7 {post : Int32 → Prop} {f : Int32} {H A : Nat → Int32} {a b c : Nat} (hh : hg_hp a b c H) (K : post (nI ((a ^^^ b ^^^ c) % 4))) : wpX_value post (f, H, A) 7 := by
  have hx := hg_x3lt (a := a) (b := b) (c := c) (by have := hh.2.2.2.1; omega) (by have := hh.2.2.2.2.1; omega) (by have := hh.2.2.2.2.2; omega)
  refine br_f (by decide) (br_t rfl (nm_r (e' := nI (a ^^^ b ^^^ c)) ?_ (br_f (by decide) ?_)))
  · rw [hh.1, hh.2.1, hh.2.2.1, hg_x3]
  · rw [show nI (a ^^^ b ^^^ c) &&& 3 = nI ((a ^^^ b ^^^ c) % 4) from pk_andN (by omega) 2 (by decide)]
    exact K
end
section
/-! plain facts: which moves there are, how many, and who wins behind them -/
theorem hg_fm_mem (g al a b c y : Nat) : y ∈ hg_fm g al a b c ↔ ∃ m, m ∈ hg_mvs g a b c ∧ (al ≠ 0 ∨ hg_wonm g m = false) ∧ y = hg_enc m := by
  unfold hg_fm
  rw [hg_kL_mem]
  simp
theorem hg_fm_sorted (g al a b c : Nat) : (hg_fm g al a b c).Pairwise (· < ·) := hg_kL_sorted g al _ [] List.Pairwise.nil
theorem hg_one1_mem {g most a b c k : Nat} {m : Nat × Nat × Nat} (h : m ∈ hg_one1 g most a b c k) :
    (k % 3 = 0 ∧ k / 3 + 1 ≤ a ∧ k / 3 + 1 ≤ most ∧ m = (a - (k / 3 + 1), b, c)) ∨ (k % 3 = 1 ∧ k / 3 + 1 ≤ b ∧ k / 3 + 1 ≤ most ∧ m = (a, b - (k / 3 + 1), c)) ∨ (k % 3 = 2 ∧ g ≠ 4 ∧ k / 3 + 1 ≤ c ∧ k / 3 + 1 ≤ most ∧ m = (a, b, c - (k / 3 + 1))) := by
  unfold hg_one1 at h
  split at h
  · rename_i e
    split at h
    · rename_i q
      exact Or.inl ⟨e, q.1, q.2, by simpa using h⟩
    · exact absurd h (by simp)
  · rename_i e
    split at h
    · rename_i e2
      split at h
      · rename_i q
        exact Or.inr (Or.inl ⟨e2, q.1, q.2, by simpa using h⟩)
      · exact absurd h (by simp)
    · rename_i e2
      split at h
      · exact absurd h (by simp)
      · rename_i e3
        split at h
        · rename_i q
          exact Or.inr (Or.inr ⟨by omega, e3, q.1, q.2, by simpa using h⟩)
        · exact absurd h (by simp)
theorem hg_one_mem {g most a b c : Nat} {m : Nat × Nat × Nat} (h : m ∈ hg_one g most a b c) :
    (∃ x, x < a ∧ a ≤ x + most ∧ m = (x, b, c)) ∨ (∃ x, x < b ∧ b ≤ x + most ∧ m = (a, x, c)) ∨ (g ≠ 4 ∧ ∃ x, x < c ∧ c ≤ x + most ∧ m = (a, b, x)) := by
  unfold hg_one at h
  obtain ⟨k, _, hk⟩ := List.mem_flatMap.mp h
  rcases hg_one1_mem hk with ⟨_, h1, h2, h3⟩ | ⟨_, h1, h2, h3⟩ | ⟨_, h0, h1, h2, h3⟩
  · exact Or.inl ⟨_, by omega, by omega, h3⟩
  · exact Or.inr (Or.inl ⟨_, by omega, by omega, h3⟩)
  · exact Or.inr (Or.inr ⟨h0, _, by omega, by omega, h3⟩)
theorem hg_one_a {g most a b c x : Nat} (ha : a < 16) (h : x < a) (h2 : a ≤ x + most) : (x, b, c) ∈ hg_one g most a b c := by
  unfold hg_one
  refine List.mem_flatMap.mpr ⟨3 * (a - x - 1), List.mem_range'_1.mpr (by omega), ?_⟩
  unfold hg_one1
  rw [if_pos (by omega), if_pos (by omega), show a - (3 * (a - x - 1) / 3 + 1) = x by omega]
  simp
theorem hg_one_b {g most a b c x : Nat} (hb : b < 16) (h : x < b) (h2 : b ≤ x + most) : (a, x, c) ∈ hg_one g most a b c := by
  unfold hg_one
  refine List.mem_flatMap.mpr ⟨3 * (b - x - 1) + 1, List.mem_range'_1.mpr (by omega), ?_⟩
  unfold hg_one1
  rw [if_neg (by omega), if_pos (by omega), if_pos (by omega), show b - ((3 * (b - x - 1) + 1) / 3 + 1) = x by omega]
  simp
theorem hg_one_c {g most a b c x : Nat} (hg : g ≠ 4) (hc : c < 16) (h : x < c) (h2 : c ≤ x + most) : (a, b, x) ∈ hg_one g most a b c := by
  unfold hg_one
  refine List.mem_flatMap.mpr ⟨3 * (c - x - 1) + 2, List.mem_range'_1.mpr (by omega), ?_⟩
  unfold hg_one1
  rw [if_neg (by omega), if_neg (by omega), if_neg hg, if_pos (by omega), show c - ((3 * (c - x - 1) + 2) / 3 + 1) = x by omega]
  simp
theorem hg_two0_mem {a b c : Nat} {m : Nat × Nat × Nat} (h : m ∈ hg_two 0 a b c) : ∃ x y, x < b ∧ y < c ∧ m = (a, x, y) := by
  unfold hg_two at h
  obtain ⟨k, hk, e⟩ := List.mem_map.mp h
  have hk2 : k < b * c := by
    have := (List.mem_range'_1.mp hk).2
    rw [Nat.zero_add] at this
    exact this
  exact ⟨k % b, k / b, hg_modlt hk2, hg_divlt hk2, e.symm⟩
theorem hg_two1_mem {a b c : Nat} {m : Nat × Nat × Nat} (h : m ∈ hg_two 1 a b c) : ∃ x y, x < a ∧ y < c ∧ m = (x, b, y) := by
  unfold hg_two at h
  obtain ⟨k, hk, e⟩ := List.mem_map.mp h
  have hk2 : k < a * c := by
    have := (List.mem_range'_1.mp hk).2
    rw [Nat.zero_add] at this
    exact this
  exact ⟨k % a, k / a, hg_modlt hk2, hg_divlt hk2, e.symm⟩
theorem hg_two2_mem {a b c : Nat} {m : Nat × Nat × Nat} (h : m ∈ hg_two 2 a b c) : ∃ x y, x < a ∧ y < b ∧ m = (x, y, c) := by
  unfold hg_two at h
  obtain ⟨k, hk, e⟩ := List.mem_map.mp h
  have hk2 : k < a * b := by
    have := (List.mem_range'_1.mp hk).2
    rw [Nat.zero_add] at this
    exact this
  exact ⟨k % a, k / a, hg_modlt hk2, hg_divlt hk2, e.symm⟩
theorem hg_pair {x y a b : Nat} (hx : x < a) (hy : y < b) : x + a * y < a * b ∧ (x + a * y) % a = x ∧ (x + a * y) / a = y := by
  have h1 : a * y + a ≤ a * b := by
    have := Nat.mul_le_mul_left a (show y + 1 ≤ b by omega)
    rw [Nat.mul_add, Nat.mul_one] at this
    exact this
  refine ⟨by omega, ?_, ?_⟩
  · rw [Nat.add_mul_mod_self_left, Nat.mod_eq_of_lt hx]
  · rw [Nat.add_mul_div_left _ _ (by omega), Nat.div_eq_of_lt hx, Nat.zero_add]
theorem hg_two0_in {a b c x y : Nat} (hx : x < b) (hy : y < c) : (a, x, y) ∈ hg_two 0 a b c := by
  obtain ⟨h1, h2, h3⟩ := hg_pair hx hy
  unfold hg_two
  refine List.mem_map.mpr ⟨x + b * y, List.mem_range'_1.mpr ⟨Nat.zero_le _, by rw [Nat.zero_add]; exact h1⟩, ?_⟩
  show (a, (x + b * y) % b, (x + b * y) / b) = (a, x, y)
  rw [h2, h3]
theorem hg_two1_in {a b c x y : Nat} (hx : x < a) (hy : y < c) : (x, b, y) ∈ hg_two 1 a b c := by
  obtain ⟨h1, h2, h3⟩ := hg_pair hx hy
  unfold hg_two
  refine List.mem_map.mpr ⟨x + a * y, List.mem_range'_1.mpr ⟨Nat.zero_le _, by rw [Nat.zero_add]; exact h1⟩, ?_⟩
  show ((x + a * y) % a, b, (x + a * y) / a) = (x, b, y)
  rw [h2, h3]
theorem hg_two2_in {a b c x y : Nat} (hx : x < a) (hy : y < b) : (x, y, c) ∈ hg_two 2 a b c := by
  obtain ⟨h1, h2, h3⟩ := hg_pair hx hy
  unfold hg_two
  refine List.mem_map.mpr ⟨x + a * y, List.mem_range'_1.mpr ⟨Nat.zero_le _, by rw [Nat.zero_add]; exact h1⟩, ?_⟩
  show ((x + a * y) % a, (x + a * y) / a, c) = (x, y, c)
  rw [h2, h3]
theorem hg_eqm_mem {a b c : Nat} {m : Nat × Nat × Nat} (h : m ∈ hg_eqm a b c) : ∃ t, 1 ≤ t ∧ t ≤ a ∧ t ≤ b ∧ m = (a - t, b - t, c) := by
  unfold hg_eqm at h
  obtain ⟨t, ht, e⟩ := List.mem_map.mp h
  have := List.mem_range'_1.mp ht
  exact ⟨t, by omega, by omega, by omega, e.symm⟩
theorem hg_eqm_in {a b c t : Nat} (h1 : 1 ≤ t) (h2 : t ≤ a) (h3 : t ≤ b) : (a - t, b - t, c) ∈ hg_eqm a b c := by
  unfold hg_eqm
  exact List.mem_map.mpr ⟨t, List.mem_range'_1.mpr (by omega), rfl⟩
theorem hg_mul_mem {a b c : Nat} {m : Nat × Nat × Nat} (h : m ∈ hg_mul a b c) : 0 < a ∧ 0 < b ∧ ∃ t, 1 ≤ t ∧ t < 16 ∧ ((t * b ≤ a ∧ m = (a - t * b, b, c)) ∨ (t * a ≤ b ∧ m = (a, b - t * a, c))) := by
  unfold hg_mul at h
  split at h
  · rename_i q
    obtain ⟨t, ht, e⟩ := List.mem_flatMap.mp h
    have := List.mem_range'_1.mp ht
    refine ⟨q.1, q.2, t, by omega, by omega, ?_⟩
    unfold hg_mu1 at e
    rcases List.mem_append.mp e with e | e
    · split at e
      · rename_i w
        exact Or.inl ⟨w, by simpa using e⟩
      · exact absurd e (by simp)
    · split at e
      · rename_i w
        exact Or.inr ⟨w, by simpa using e⟩
      · exact absurd e (by simp)
  · exact absurd h (by simp)
theorem hg_mul_a {a b c t : Nat} (ha : 0 < a) (hb : 0 < b) (h1 : 1 ≤ t) (h2 : t < 16) (h : t * b ≤ a) : (a - t * b, b, c) ∈ hg_mul a b c := by
  unfold hg_mul
  rw [if_pos ⟨ha, hb⟩]
  refine List.mem_flatMap.mpr ⟨t, List.mem_range'_1.mpr (by omega), ?_⟩
  unfold hg_mu1
  rw [if_pos h]
  simp
theorem hg_mul_b {a b c t : Nat} (ha : 0 < a) (hb : 0 < b) (h1 : 1 ≤ t) (h2 : t < 16) (h : t * a ≤ b) : (a, b - t * a, c) ∈ hg_mul a b c := by
  unfold hg_mul
  rw [if_pos ⟨ha, hb⟩]
  refine List.mem_flatMap.mpr ⟨t, List.mem_range'_1.mpr (by omega), ?_⟩
  unfold hg_mu1
  rw [if_pos h]
  simp
/-! tables -/
def hg_all : Nat → (Nat → Bool) → Bool
  | 0, _ => true
  | n + 1, f => f n && hg_all n f
theorem hg_allE {f : Nat → Bool} : ∀ {n : Nat}, hg_all n f = true → ∀ i, i < n → f i = true := by
  intro n
  induction n with
  | zero => intro _ i h; exact absurd h (by omega)
  | succ n ih =>
    intro h i hi
    have h' : (f n && hg_all n f) = true := h
    rw [Bool.and_eq_true] at h'
    rcases Nat.lt_or_ge i n with z | z
    · exact ih h'.2 i z
    · rw [show i = n by omega]; exact h'.1
theorem hg_allI {f : Nat → Bool} : ∀ {n : Nat}, (∀ i, i < n → f i = true) → hg_all n f = true := by
  intro n
  induction n with
  | zero => intro _; rfl
  | succ n ih =>
    intro h
    show (f n && hg_all n f) = true
    rw [Bool.and_eq_true]
    exact ⟨h n (by omega), ih (fun i hi => h i (by omega))⟩
theorem hg_all2 {n m : Nat} {f : Nat → Nat → Bool} (h : hg_all n (fun a => hg_all m (fun b => f a b)) = true) : ∀ a, a < n → ∀ b, b < m → f a b = true := fun a ha b hb => hg_allE (hg_allE h a ha) b hb
theorem hg_all3 {n m k : Nat} {f : Nat → Nat → Nat → Bool} (h : hg_all n (fun a => hg_all m (fun b => hg_all k (fun c => f a b c))) = true) : ∀ a, a < n → ∀ b, b < m → ∀ c, c < k → f a b c = true := fun a ha b hb c hc => hg_allE (hg_allE (hg_allE h a ha) b hb) c hc
theorem hg_orF {x y : Bool} (h : (x || y) = true) (hx : x = false) : y = true := by rw [hx] at h; exact h
theorem hg_orT {x y : Bool} (h : ((!x) || y) = true) (hx : x = true) : y = true := by rw [hx] at h; exact h
theorem hg_notT {x : Bool} (h : (!x) = true) : x = false := by cases x <;> simp_all
theorem hg_an {x y : Bool} (h : (x && y) = true) : x = true ∧ y = true := by rw [Bool.and_eq_true] at h; exact h
theorem hg_mk {x y : Bool} (h : x = true) (h2 : y = true) : (x && y) = true := by rw [h, h2]; rfl
/-- f wins: what a lost place leads to, and what leads nowhere is lost -/
def hg_chk3 (f : Nat → Nat → Nat → Bool) (most a b c : Nat) : Bool :=
  hg_all a (fun x => (!(Nat.ble a (x + most))) || f x b c) && (hg_all b (fun x => (!(Nat.ble b (x + most))) || f a x c) && hg_all c (fun x => (!(Nat.ble c (x + most))) || f a b x))
theorem hg_chk3E {f : Nat → Nat → Nat → Bool} {most a b c : Nat} (h : hg_chk3 f most a b c = true) : (∀ x, x < a → a ≤ x + most → f x b c = true) ∧ (∀ x, x < b → b ≤ x + most → f a x c = true) ∧ (∀ x, x < c → c ≤ x + most → f a b x = true) := by
  have h1 := hg_an h
  have h2 := hg_an h1.2
  exact ⟨fun x hx hm => hg_orT (hg_allE h1.1 x hx) (Nat.ble_eq_true_of_le hm), fun x hx hm => hg_orT (hg_allE h2.1 x hx) (Nat.ble_eq_true_of_le hm), fun x hx hm => hg_orT (hg_allE h2.2 x hx) (Nat.ble_eq_true_of_le hm)⟩
theorem hg_ornI {p : Nat} {q : Nat} {y : Bool} (h : p ≤ q → y = true) : ((!(Nat.ble p q)) || y) = true := by
  cases e : Nat.ble p q with
  | false => rfl
  | true => exact h (Nat.le_of_ble_eq_true e)
theorem hg_chk3I {f : Nat → Nat → Nat → Bool} {most a b c : Nat} (h1 : ∀ x, x < a → a ≤ x + most → f x b c = true) (h2 : ∀ x, x < b → b ≤ x + most → f a x c = true) (h3 : ∀ x, x < c → c ≤ x + most → f a b x = true) : hg_chk3 f most a b c = true :=
  hg_mk (hg_allI (fun x hx => hg_ornI (h1 x hx))) (hg_mk (hg_allI (fun x hx => hg_ornI (h2 x hx))) (hg_allI (fun x hx => hg_ornI (h3 x hx))))
def hg_xz (a b c : Nat) : Bool := !(decide (a ^^^ b ^^^ c = 0))
def hg_x7 (a b c : Nat) : Bool := !(decide ((a ^^^ b ^^^ c) % 4 = 0))
theorem hg_T1L : hg_all 16 (fun a => hg_all 16 (fun b => hg_all 16 (fun c => hg_last a b c || hg_chk3 hg_last 15 a b c))) = true := by decide +kernel
theorem hg_T1W : hg_all 16 (fun a => hg_all 16 (fun b => hg_all 16 (fun c => (!(hg_last a b c)) || ((!(hg_chk3 hg_last 15 a b c)) || Nat.beq (a + b + c) 0)))) = true := by decide +kernel
theorem hg_T0L : hg_all 16 (fun a => hg_all 16 (fun b => hg_all 16 (fun c => hg_xz a b c || hg_chk3 hg_xz 15 a b c))) = true := by decide +kernel
theorem hg_T0W : hg_all 16 (fun a => hg_all 16 (fun b => hg_all 16 (fun c => (!(hg_xz a b c)) || (!(hg_chk3 hg_xz 15 a b c))))) = true := by decide +kernel
theorem hg_T7L : hg_all 16 (fun a => hg_all 16 (fun b => hg_all 16 (fun c => hg_x7 a b c || hg_chk3 hg_x7 3 a b c))) = true := by decide +kernel
theorem hg_T7W : hg_all 16 (fun a => hg_all 16 (fun b => hg_all 16 (fun c => (!(hg_x7 a b c)) || (!(hg_chk3 hg_x7 3 a b c))))) = true := by decide +kernel
def hg_chk4 (a b : Nat) : Bool :=
  hg_all a (fun x => hg_gold x b) && (hg_all b (fun x => hg_gold a x) && hg_all 16 (fun t => (!(Nat.ble 1 t && (Nat.ble t a && Nat.ble t b))) || hg_gold (a - t) (b - t)))
theorem hg_T4L : hg_all 16 (fun a => hg_all 16 (fun b => hg_gold a b || hg_chk4 a b)) = true := by decide +kernel
theorem hg_T4W : hg_all 16 (fun a => hg_all 16 (fun b => (!(hg_gold a b)) || (!(hg_chk4 a b)))) = true := by decide +kernel
def hg_chk5 (a b : Nat) : Bool :=
  hg_all 16 (fun t => (!(Nat.ble 1 t && (Nat.ble 1 a && Nat.ble 1 b))) || (((!(Nat.ble (t * b) a)) || hg_ratio (a - t * b) b) && ((!(Nat.ble (t * a) b)) || hg_ratio a (b - t * a))))
theorem hg_T5L : hg_all 16 (fun a => hg_all 16 (fun b => hg_ratio a b || hg_chk5 a b)) = true := by decide +kernel
theorem hg_T5W : hg_all 16 (fun a => hg_all 16 (fun b => (!(hg_ratio a b)) || (!(hg_chk5 a b)))) = true := by decide +kernel
theorem hg_t1L {a b c : Nat} (ha : a < 16) (hb : b < 16) (hc : c < 16) (hw : hg_last a b c = false) : (∀ x, x < a → a ≤ x + 15 → hg_last x b c = true) ∧ (∀ x, x < b → b ≤ x + 15 → hg_last a x c = true) ∧ (∀ x, x < c → c ≤ x + 15 → hg_last a b x = true) :=
  hg_chk3E (hg_orF (hg_all3 hg_T1L a ha b hb c hc) hw)
theorem hg_t0L {a b c : Nat} (ha : a < 16) (hb : b < 16) (hc : c < 16) (hw : hg_xz a b c = false) : (∀ x, x < a → a ≤ x + 15 → hg_xz x b c = true) ∧ (∀ x, x < b → b ≤ x + 15 → hg_xz a x c = true) ∧ (∀ x, x < c → c ≤ x + 15 → hg_xz a b x = true) :=
  hg_chk3E (hg_orF (hg_all3 hg_T0L a ha b hb c hc) hw)
theorem hg_t7L {a b c : Nat} (ha : a < 16) (hb : b < 16) (hc : c < 16) (hw : hg_x7 a b c = false) : (∀ x, x < a → a ≤ x + 3 → hg_x7 x b c = true) ∧ (∀ x, x < b → b ≤ x + 3 → hg_x7 a x c = true) ∧ (∀ x, x < c → c ≤ x + 3 → hg_x7 a b x = true) :=
  hg_chk3E (hg_orF (hg_all3 hg_T7L a ha b hb c hc) hw)
theorem hg_t1W {a b c : Nat} (ha : a < 16) (hb : b < 16) (hc : c < 16) (h1 : ∀ x, x < a → a ≤ x + 15 → hg_last x b c = true) (h2 : ∀ x, x < b → b ≤ x + 15 → hg_last a x c = true) (h3 : ∀ x, x < c → c ≤ x + 15 → hg_last a b x = true) : hg_last a b c = false ∨ (hg_last a b c = true ∧ a + b + c = 0) := by
  cases e : hg_last a b c with
  | false => exact Or.inl rfl
  | true => exact Or.inr ⟨rfl, Nat.eq_of_beq_eq_true (hg_orT (hg_orT (hg_all3 hg_T1W a ha b hb c hc) e) (hg_chk3I h1 h2 h3))⟩
theorem hg_t0W {a b c : Nat} (ha : a < 16) (hb : b < 16) (hc : c < 16) (h1 : ∀ x, x < a → a ≤ x + 15 → hg_xz x b c = true) (h2 : ∀ x, x < b → b ≤ x + 15 → hg_xz a x c = true) (h3 : ∀ x, x < c → c ≤ x + 15 → hg_xz a b x = true) : hg_xz a b c = false := by
  cases e : hg_xz a b c with
  | false => rfl
  | true =>
    have q := hg_notT (hg_orT (hg_all3 hg_T0W a ha b hb c hc) e)
    rw [hg_chk3I h1 h2 h3] at q
    cases q
theorem hg_t7W {a b c : Nat} (ha : a < 16) (hb : b < 16) (hc : c < 16) (h1 : ∀ x, x < a → a ≤ x + 3 → hg_x7 x b c = true) (h2 : ∀ x, x < b → b ≤ x + 3 → hg_x7 a x c = true) (h3 : ∀ x, x < c → c ≤ x + 3 → hg_x7 a b x = true) : hg_x7 a b c = false := by
  cases e : hg_x7 a b c with
  | false => rfl
  | true =>
    have q := hg_notT (hg_orT (hg_all3 hg_T7W a ha b hb c hc) e)
    rw [hg_chk3I h1 h2 h3] at q
    cases q
theorem hg_t4L {a b : Nat} (ha : a < 16) (hb : b < 16) (hw : hg_gold a b = false) : (∀ x, x < a → hg_gold x b = true) ∧ (∀ x, x < b → hg_gold a x = true) ∧ (∀ t, t < 16 → 1 ≤ t → t ≤ a → t ≤ b → hg_gold (a - t) (b - t) = true) := by
  have h := hg_an (hg_orF (hg_all2 hg_T4L a ha b hb) hw)
  have h2 := hg_an h.2
  exact ⟨hg_allE h.1, hg_allE h2.1, fun t ht q1 q2 q3 => hg_orT (hg_allE h2.2 t ht) (hg_mk (Nat.ble_eq_true_of_le q1) (hg_mk (Nat.ble_eq_true_of_le q2) (Nat.ble_eq_true_of_le q3)))⟩
theorem hg_t4W {a b : Nat} (ha : a < 16) (hb : b < 16) (h1 : ∀ x, x < a → hg_gold x b = true) (h2 : ∀ x, x < b → hg_gold a x = true) (h3 : ∀ t, t < 16 → 1 ≤ t → t ≤ a → t ≤ b → hg_gold (a - t) (b - t) = true) : hg_gold a b = false := by
  cases e : hg_gold a b with
  | false => rfl
  | true =>
    have q := hg_notT (hg_orT (hg_all2 hg_T4W a ha b hb) e)
    have k : hg_chk4 a b = true := by
      refine hg_mk (hg_allI h1) (hg_mk (hg_allI h2) (hg_allI (fun t ht => ?_)))
      cases w : (Nat.ble 1 t && (Nat.ble t a && Nat.ble t b)) with
      | false => rfl
      | true => exact h3 t ht (Nat.le_of_ble_eq_true (hg_an w).1) (Nat.le_of_ble_eq_true (hg_an (hg_an w).2).1) (Nat.le_of_ble_eq_true (hg_an (hg_an w).2).2)
    rw [k] at q
    cases q
theorem hg_t5L {a b : Nat} (ha : a < 16) (hb : b < 16) (p1 : 0 < a) (p2 : 0 < b) (hw : hg_ratio a b = false) : ∀ t, t < 16 → 1 ≤ t → (t * b ≤ a → hg_ratio (a - t * b) b = true) ∧ (t * a ≤ b → hg_ratio a (b - t * a) = true) := by
  intro t ht q1
  have h := hg_an (hg_orT (hg_allE (hg_orF (hg_all2 hg_T5L a ha b hb) hw) t ht) (hg_mk (Nat.ble_eq_true_of_le q1) (hg_mk (Nat.ble_eq_true_of_le p1) (Nat.ble_eq_true_of_le p2))))
  exact ⟨fun w => hg_orT h.1 (Nat.ble_eq_true_of_le w), fun w => hg_orT h.2 (Nat.ble_eq_true_of_le w)⟩
theorem hg_t5W {a b : Nat} (ha : a < 16) (hb : b < 16) (h : 0 < a → 0 < b → ∀ t, t < 16 → 1 ≤ t → (t * b ≤ a → hg_ratio (a - t * b) b = true) ∧ (t * a ≤ b → hg_ratio a (b - t * a) = true)) : hg_ratio a b = false := by
  cases e : hg_ratio a b with
  | false => rfl
  | true =>
    have q := hg_notT (hg_orT (hg_all2 hg_T5W a ha b hb) e)
    have k : hg_chk5 a b = true := by
      refine hg_allI (fun t ht => ?_)
      cases w : (Nat.ble 1 t && (Nat.ble 1 a && Nat.ble 1 b)) with
      | false => rfl
      | true =>
        have r := h (Nat.le_of_ble_eq_true (hg_an (hg_an w).2).1) (Nat.le_of_ble_eq_true (hg_an (hg_an w).2).2) t ht (Nat.le_of_ble_eq_true (hg_an w).1)
        exact hg_mk (hg_ornI r.1) (hg_ornI r.2)
    rw [k] at q
    cases q
end
section
/-! from a lost place no move leads to a lost one; from a won one some does; the counts -/
def hg_gd (g : Nat) : Prop := g = 0 ∨ g = 1 ∨ g = 2 ∨ g = 4 ∨ g = 5 ∨ g = 7
theorem hg_w2 (a b c : Nat) : hg_won 2 a b c = false ↔ a = b ∧ b = c := by
  show (!(decide (a = b) && decide (b = c))) = false ↔ _
  simp
theorem hg_w2t (a b c : Nat) : hg_won 2 a b c = true ↔ ¬ (a = b ∧ b = c) := by
  rw [← hg_w2]
  cases hg_won 2 a b c <;> simp
theorem hg_lost {g a b c : Nat} (hg : hg_gd g) (ha : a < 16) (hb : b < 16) (hc : c < 16) (hw : hg_won g a b c = false) : ∀ m, m ∈ hg_mvs g a b c → hg_wonm g m = true := by
  intro m hm
  rcases hg with e | e | e | e | e | e
  · subst e
    have hm' : m ∈ hg_one 0 15 a b c := by
      have h : m ∈ hg_one 0 15 a b c ++ [] := hm
      rwa [List.append_nil] at h
    have T := hg_t0L ha hb hc hw
    rcases hg_one_mem hm' with ⟨x, h1, h2, e⟩ | ⟨x, h1, h2, e⟩ | ⟨_, x, h1, h2, e⟩
    · subst e; exact T.1 x h1 h2
    · subst e; exact T.2.1 x h1 h2
    · subst e; exact T.2.2 x h1 h2
  · subst e
    have hm' : m ∈ hg_one 1 15 a b c := by
      have h : m ∈ hg_one 1 15 a b c ++ [] := hm
      rwa [List.append_nil] at h
    have T := hg_t1L ha hb hc hw
    rcases hg_one_mem hm' with ⟨x, h1, h2, e⟩ | ⟨x, h1, h2, e⟩ | ⟨_, x, h1, h2, e⟩
    · subst e; exact T.1 x h1 h2
    · subst e; exact T.2.1 x h1 h2
    · subst e; exact T.2.2 x h1 h2
  · subst e
    have hm' : m ∈ hg_one 2 15 a b c ++ (hg_two 0 a b c ++ (hg_two 1 a b c ++ hg_two 2 a b c)) := hm
    have hw' := (hg_w2 a b c).mp hw
    show hg_won 2 m.1 m.2.1 m.2.2 = true
    rw [hg_w2t]
    rcases List.mem_append.mp hm' with h | h
    · rcases hg_one_mem h with ⟨x, h1, _, e⟩ | ⟨x, h1, _, e⟩ | ⟨_, x, h1, _, e⟩
      · subst e; dsimp only; omega
      · subst e; dsimp only; omega
      · subst e; dsimp only; omega
    · rcases List.mem_append.mp h with h | h
      · obtain ⟨x, y, h1, h2, e⟩ := hg_two0_mem h
        subst e; dsimp only; omega
      · rcases List.mem_append.mp h with h | h
        · obtain ⟨x, y, h1, h2, e⟩ := hg_two1_mem h
          subst e; dsimp only; omega
        · obtain ⟨x, y, h1, h2, e⟩ := hg_two2_mem h
          subst e; dsimp only; omega
  · subst e
    have hm' : m ∈ hg_one 4 15 a b c ++ hg_eqm a b c := hm
    have T := hg_t4L ha hb hw
    rcases List.mem_append.mp hm' with h | h
    · rcases hg_one_mem h with ⟨x, h1, _, e⟩ | ⟨x, h1, _, e⟩ | ⟨h0, _⟩
      · subst e; exact T.1 x h1
      · subst e; exact T.2.1 x h1
      · exact absurd rfl h0
    · obtain ⟨t, h1, h2, h3, e⟩ := hg_eqm_mem h
      subst e; exact T.2.2 t (by omega) h1 h2 h3
  · subst e
    have hm' : m ∈ hg_mul a b c := hm
    obtain ⟨p1, p2, t, h1, h2, h3⟩ := hg_mul_mem hm'
    have T := hg_t5L ha hb p1 p2 hw t h2 h1
    rcases h3 with ⟨q, e⟩ | ⟨q, e⟩
    · subst e; exact T.1 q
    · subst e; exact T.2 q
  · subst e
    have hm' : m ∈ hg_one 7 3 a b c := by
      have h : m ∈ hg_one 7 3 a b c ++ [] := hm
      rwa [List.append_nil] at h
    have T := hg_t7L ha hb hc hw
    rcases hg_one_mem hm' with ⟨x, h1, h2, e⟩ | ⟨x, h1, h2, e⟩ | ⟨_, x, h1, h2, e⟩
    · subst e; exact T.1 x h1 h2
    · subst e; exact T.2.1 x h1 h2
    · subst e; exact T.2.2 x h1 h2
theorem hg_wins {g a b c : Nat} (hg : hg_gd g) (ha : a < 16) (hb : b < 16) (hc : c < 16) (hw : ∀ m, m ∈ hg_mvs g a b c → hg_wonm g m = true) : (hg_won g a b c = false ∧ ¬ (g = 1 ∧ a + b + c = 0)) ∨ (hg_won g a b c = true ∧ g = 1 ∧ a + b + c = 0) := by
  rcases hg with e | e | e | e | e | e
  · subst e
    have O : ∀ m, m ∈ hg_one 0 15 a b c → hg_wonm 0 m = true := fun m h => hw m (List.mem_append.mpr (Or.inl h))
    exact Or.inl ⟨hg_t0W ha hb hc (fun x h h2 => O _ (hg_one_a ha h h2)) (fun x h h2 => O _ (hg_one_b hb h h2)) (fun x h h2 => O _ (hg_one_c (by decide) hc h h2)), by omega⟩
  · subst e
    have O : ∀ m, m ∈ hg_one 1 15 a b c → hg_wonm 1 m = true := fun m h => hw m (List.mem_append.mpr (Or.inl h))
    rcases hg_t1W ha hb hc (fun x h h2 => O _ (hg_one_a ha h h2)) (fun x h h2 => O _ (hg_one_b hb h h2)) (fun x h h2 => O _ (hg_one_c (by decide) hc h h2)) with q | q
    · refine Or.inl ⟨q, fun w => ?_⟩
      have e1 : a = 0 := by omega
      have e2 : b = 0 := by omega
      have e3 : c = 0 := by omega
      subst e1 e2 e3
      exact absurd q (by decide)
    · exact Or.inr ⟨q.1, rfl, q.2⟩
  · subst e
    have O : ∀ m, m ∈ hg_one 2 15 a b c → hg_wonm 2 m = true := fun m h => hw m (List.mem_append.mpr (Or.inl h))
    have T0 : ∀ m, m ∈ hg_two 0 a b c → hg_wonm 2 m = true := fun m h => hw m (List.mem_append.mpr (Or.inr (List.mem_append.mpr (Or.inl h))))
    have T1 : ∀ m, m ∈ hg_two 1 a b c → hg_wonm 2 m = true := fun m h => hw m (List.mem_append.mpr (Or.inr (List.mem_append.mpr (Or.inr (List.mem_append.mpr (Or.inl h))))))
    have T2 : ∀ m, m ∈ hg_two 2 a b c → hg_wonm 2 m = true := fun m h => hw m (List.mem_append.mpr (Or.inr (List.mem_append.mpr (Or.inr (List.mem_append.mpr (Or.inr h))))))
    refine Or.inl ⟨?_, by omega⟩
    rw [hg_w2]
    by_cases q1 : a = b
    · by_cases q2 : b = c
      · exact ⟨q1, q2⟩
      · exfalso
        rcases Nat.lt_or_ge b c with z | z
        · exact (hg_w2t a b b).mp (O (a, b, b) (hg_one_c (by decide) hc z (by omega))) ⟨q1, rfl⟩
        · exact (hg_w2t c c c).mp (T2 (c, c, c) (hg_two2_in (by omega) (by omega))) ⟨rfl, rfl⟩
    · exfalso
      rcases Nat.lt_or_ge a b with z | z
      · rcases Nat.lt_or_ge a c with y | y
        · exact (hg_w2t a a a).mp (T0 (a, a, a) (hg_two0_in z y)) ⟨rfl, rfl⟩
        · rcases Nat.lt_or_ge c a with x | x
          · exact (hg_w2t c c c).mp (T2 (c, c, c) (hg_two2_in (by omega) (by omega))) ⟨rfl, rfl⟩
          · exact (hg_w2t a a c).mp (O (a, a, c) (hg_one_b hb z (by omega))) ⟨rfl, by omega⟩
      · rcases Nat.lt_or_ge b c with y | y
        · exact (hg_w2t b b b).mp (T1 (b, b, b) (hg_two1_in (by omega) y)) ⟨rfl, rfl⟩
        · rcases Nat.lt_or_ge c b with x | x
          · exact (hg_w2t c c c).mp (T2 (c, c, c) (hg_two2_in (by omega) (by omega))) ⟨rfl, rfl⟩
          · exact (hg_w2t b b c).mp (O (b, b, c) (hg_one_a ha (by omega) (by omega))) ⟨rfl, by omega⟩
  · subst e
    have O : ∀ m, m ∈ hg_one 4 15 a b c → hg_wonm 4 m = true := fun m h => hw m (List.mem_append.mpr (Or.inl h))
    have E : ∀ m, m ∈ hg_eqm a b c → hg_wonm 4 m = true := fun m h => hw m (List.mem_append.mpr (Or.inr h))
    exact Or.inl ⟨hg_t4W ha hb (fun x h => O (x, b, c) (hg_one_a ha h (by omega))) (fun x h => O (a, x, c) (hg_one_b hb h (by omega))) (fun t _ h1 h2 h3 => E (a - t, b - t, c) (hg_eqm_in h1 h2 h3)), by omega⟩
  · subst e
    have E : ∀ m, m ∈ hg_mul a b c → hg_wonm 5 m = true := hw
    exact Or.inl ⟨hg_t5W ha hb (fun p1 p2 t h2 h1 => ⟨fun q => E (a - t * b, b, c) (hg_mul_a p1 p2 h1 h2 q), fun q => E (a, b - t * a, c) (hg_mul_b p1 p2 h1 h2 q)⟩), by omega⟩
  · subst e
    have O : ∀ m, m ∈ hg_one 7 3 a b c → hg_wonm 7 m = true := fun m h => hw m (List.mem_append.mpr (Or.inl h))
    exact Or.inl ⟨hg_t7W ha hb hc (fun x h h2 => O _ (hg_one_a ha h h2)) (fun x h h2 => O _ (hg_one_b hb h h2)) (fun x h h2 => O _ (hg_one_c (by decide) hc h h2)), by omega⟩
theorem hg_le {g a b c : Nat} (hg : hg_gd g) {m : Nat × Nat × Nat} (hm : m ∈ hg_mvs g a b c) : m.1 ≤ a ∧ m.2.1 ≤ b ∧ m.2.2 ≤ c := by
  have O : ∀ gg most, m ∈ hg_one gg most a b c → m.1 ≤ a ∧ m.2.1 ≤ b ∧ m.2.2 ≤ c := by
    intro gg most h
    rcases hg_one_mem h with ⟨x, h1, _, e⟩ | ⟨x, h1, _, e⟩ | ⟨_, x, h1, _, e⟩
    · subst e; dsimp only; omega
    · subst e; dsimp only; omega
    · subst e; dsimp only; omega
  rcases hg with e | e | e | e | e | e
  · subst e
    have h : m ∈ hg_one 0 15 a b c ++ [] := hm
    rw [List.append_nil] at h
    exact O _ _ h
  · subst e
    have h : m ∈ hg_one 1 15 a b c ++ [] := hm
    rw [List.append_nil] at h
    exact O _ _ h
  · subst e
    have hm' : m ∈ hg_one 2 15 a b c ++ (hg_two 0 a b c ++ (hg_two 1 a b c ++ hg_two 2 a b c)) := hm
    rcases List.mem_append.mp hm' with h | h
    · exact O _ _ h
    · rcases List.mem_append.mp h with h | h
      · obtain ⟨x, y, h1, h2, e⟩ := hg_two0_mem h
        subst e; dsimp only; omega
      · rcases List.mem_append.mp h with h | h
        · obtain ⟨x, y, h1, h2, e⟩ := hg_two1_mem h
          subst e; dsimp only; omega
        · obtain ⟨x, y, h1, h2, e⟩ := hg_two2_mem h
          subst e; dsimp only; omega
  · subst e
    have hm' : m ∈ hg_one 4 15 a b c ++ hg_eqm a b c := hm
    rcases List.mem_append.mp hm' with h | h
    · exact O _ _ h
    · obtain ⟨t, h1, h2, h3, e⟩ := hg_eqm_mem h
      subst e; dsimp only; omega
  · subst e
    have hm' : m ∈ hg_mul a b c := hm
    obtain ⟨p1, p2, t, h1, h2, h3⟩ := hg_mul_mem hm'
    rcases h3 with ⟨q, e⟩ | ⟨q, e⟩
    · subst e; dsimp only; omega
    · subst e; dsimp only; omega
  · subst e
    have h : m ∈ hg_one 7 3 a b c ++ [] := hm
    rw [List.append_nil] at h
    exact O _ _ h
theorem hg_fm_nil_of {g a b c : Nat} (h : ∀ m, m ∈ hg_mvs g a b c → hg_wonm g m = true) : hg_fm g 0 a b c = [] := by
  apply List.eq_nil_iff_forall_not_mem.mpr
  intro y hy
  obtain ⟨m, hm, h1, _⟩ := (hg_fm_mem g 0 a b c y).mp hy
  rcases h1 with e | e
  · exact absurd rfl e
  · rw [h m hm] at e; cases e
theorem hg_fm_nil {g a b c : Nat} (h : hg_fm g 0 a b c = []) : ∀ m, m ∈ hg_mvs g a b c → hg_wonm g m = true := by
  intro m hm
  cases e : hg_wonm g m with
  | true => rfl
  | false =>
    have : hg_enc m ∈ hg_fm g 0 a b c := (hg_fm_mem g 0 a b c _).mpr ⟨m, hm, Or.inr e, rfl⟩
    rw [h] at this
    exact absurd this (by simp)
/-- what play rests on -/
theorem hg_pick {g a b c i : Nat} (hg : hg_gd g) (ha : a < 16) (hb : b < 16) (hc : c < 16) (hi : i < (hg_fm g 0 a b c).length) :
    ∃ p q r, (hg_fm g 0 a b c).getD i 0 = hg_enc (p, q, r) ∧ p ≤ a ∧ q ≤ b ∧ r ≤ c ∧ hg_won g p q r = false ∧ hg_fm g 0 p q r = [] := by
  obtain ⟨m, hm, h1, h2⟩ := (hg_fm_mem g 0 a b c _).mp (hg_mem_getD hi)
  have hl := hg_le hg hm
  have hw : hg_won g m.1 m.2.1 m.2.2 = false := by
    rcases h1 with e | e
    · exact absurd rfl e
    · exact e
  exact ⟨m.1, m.2.1, m.2.2, h2, hl.1, hl.2.1, hl.2.2, hw, hg_fm_nil_of (hg_lost hg (by omega) (by omega) (by omega) hw)⟩
/-! counts -/
theorem hg_len_of {l xs : List Nat} (hs : l.Pairwise (· < ·)) (hx : xs.Nodup) (h : ∀ y, y ∈ l ↔ y ∈ xs) : l.length = xs.length :=
  ((List.perm_ext_iff_of_nodup (hs.imp (fun h => Nat.ne_of_lt h)) hx).mpr h).length_eq
theorem hg_all_len {g a b c : Nat} (hn : ((hg_mvs g a b c).map hg_enc).Nodup) : (hg_fm g 1 a b c).length = (hg_mvs g a b c).length := by
  rw [hg_len_of (hg_fm_sorted g 1 a b c) hn, List.length_map]
  intro y
  rw [hg_fm_mem, List.mem_map]
  constructor
  · rintro ⟨m, h1, _, h2⟩
    exact ⟨m, h1, h2.symm⟩
  · rintro ⟨m, h1, h2⟩
    exact ⟨m, h1, Or.inl (by decide), h2.symm⟩
theorem hg_one_nd {g most a b c : Nat} (ha : a < 16) (hb : b < 16) (hc : c < 16) : ((hg_one g most a b c).map hg_enc).Nodup := by
  show List.Pairwise _ _
  rw [List.pairwise_map]
  unfold hg_one
  rw [List.pairwise_flatMap]
  refine ⟨fun k _ => ?_, List.Pairwise.imp (fun {k k'} hlt x hx y hy => ?_) (List.pairwise_lt_range' (s := 0) (n := 48))⟩
  · unfold hg_one1
    repeat' split
    all_goals simp
  · rcases hg_one1_mem hx with ⟨_, h1, h2, e⟩ | ⟨_, h1, h2, e⟩ | ⟨_, h0, h1, h2, e⟩ <;> rcases hg_one1_mem hy with ⟨_, i1, i2, e'⟩ | ⟨_, i1, i2, e'⟩ | ⟨_, i0, i1, i2, e'⟩ <;> subst e e' <;> simp only [hg_enc] <;> omega
theorem hg_two_nd0 {a b c : Nat} (ha : a < 16) (hb : b < 16) (hc : c < 16) : ((hg_two 0 a b c).map hg_enc).Nodup := by
  show List.Pairwise _ _
  rw [List.pairwise_map]
  unfold hg_two
  rw [List.pairwise_map]
  refine List.Pairwise.imp_of_mem (fun {k k'} hk hk' hlt => ?_) (List.pairwise_lt_range' (s := 0) (n := hg_twoN 0 a b c))
  have e1 : k < b * c := by have := (List.mem_range'_1.mp hk).2; rw [Nat.zero_add] at this; exact this
  have e2 : k' < b * c := by have := (List.mem_range'_1.mp hk').2; rw [Nat.zero_add] at this; exact this
  have m1 := hg_modlt e1
  have m2 := hg_modlt e2
  have d1 := hg_divlt e1
  have d2 := hg_divlt e2
  have s1 := Nat.div_add_mod k b
  have s2 := Nat.div_add_mod k' b
  show hg_enc (a, k % b, k / b) ≠ hg_enc (a, k' % b, k' / b)
  simp only [hg_enc]
  intro z
  have z1 : k % b = k' % b := by omega
  have z2 : k / b = k' / b := by omega
  rw [z1, z2] at s1
  omega
theorem hg_two_nd1 {a b c : Nat} (ha : a < 16) (hb : b < 16) (hc : c < 16) : ((hg_two 1 a b c).map hg_enc).Nodup := by
  show List.Pairwise _ _
  rw [List.pairwise_map]
  unfold hg_two
  rw [List.pairwise_map]
  refine List.Pairwise.imp_of_mem (fun {k k'} hk hk' hlt => ?_) (List.pairwise_lt_range' (s := 0) (n := hg_twoN 1 a b c))
  have e1 : k < a * c := by have := (List.mem_range'_1.mp hk).2; rw [Nat.zero_add] at this; exact this
  have e2 : k' < a * c := by have := (List.mem_range'_1.mp hk').2; rw [Nat.zero_add] at this; exact this
  have m1 := hg_modlt e1
  have m2 := hg_modlt e2
  have d1 := hg_divlt e1
  have d2 := hg_divlt e2
  have s1 := Nat.div_add_mod k a
  have s2 := Nat.div_add_mod k' a
  show hg_enc (k % a, b, k / a) ≠ hg_enc (k' % a, b, k' / a)
  simp only [hg_enc]
  intro z
  have z1 : k % a = k' % a := by omega
  have z2 : k / a = k' / a := by omega
  rw [z1, z2] at s1
  omega
theorem hg_two_nd2 {a b c : Nat} (ha : a < 16) (hb : b < 16) (hc : c < 16) : ((hg_two 2 a b c).map hg_enc).Nodup := by
  show List.Pairwise _ _
  rw [List.pairwise_map]
  unfold hg_two
  rw [List.pairwise_map]
  refine List.Pairwise.imp_of_mem (fun {k k'} hk hk' hlt => ?_) (List.pairwise_lt_range' (s := 0) (n := hg_twoN 2 a b c))
  have e1 : k < a * b := by have := (List.mem_range'_1.mp hk).2; rw [Nat.zero_add] at this; exact this
  have e2 : k' < a * b := by have := (List.mem_range'_1.mp hk').2; rw [Nat.zero_add] at this; exact this
  have m1 := hg_modlt e1
  have m2 := hg_modlt e2
  have d1 := hg_divlt e1
  have d2 := hg_divlt e2
  have s1 := Nat.div_add_mod k a
  have s2 := Nat.div_add_mod k' a
  show hg_enc (k % a, k / a, c) ≠ hg_enc (k' % a, k' / a, c)
  simp only [hg_enc]
  intro z
  have z1 : k % a = k' % a := by omega
  have z2 : k / a = k' / a := by omega
  rw [z1, z2] at s1
  omega
theorem hg_m2_nd {a b c : Nat} (ha : a < 16) (hb : b < 16) (hc : c < 16) : ((hg_mvs 2 a b c).map hg_enc).Nodup := by
  show ((hg_one 2 15 a b c ++ (hg_two 0 a b c ++ (hg_two 1 a b c ++ hg_two 2 a b c))).map hg_enc).Nodup
  rw [List.map_append, List.map_append, List.map_append, List.nodup_append, List.nodup_append, List.nodup_append]
  refine ⟨hg_one_nd ha hb hc, ⟨hg_two_nd0 ha hb hc, ⟨hg_two_nd1 ha hb hc, hg_two_nd2 ha hb hc, fun x hx y hy => ?_⟩, fun x hx y hy => ?_⟩, fun x hx y hy => ?_⟩
  · obtain ⟨m, hm, ex⟩ := List.mem_map.mp hx
    obtain ⟨m', hm', ey⟩ := List.mem_map.mp hy
    obtain ⟨u, v, h1, h2, e⟩ := hg_two1_mem hm
    obtain ⟨u', v', h1', h2', e'⟩ := hg_two2_mem hm'
    subst e e' ex ey
    simp only [hg_enc]
    omega
  · obtain ⟨m, hm, ex⟩ := List.mem_map.mp hx
    obtain ⟨u, v, h1, h2, e⟩ := hg_two0_mem hm
    rcases List.mem_append.mp hy with hy | hy
    · obtain ⟨m', hm', ey⟩ := List.mem_map.mp hy
      obtain ⟨u', v', h1', h2', e'⟩ := hg_two1_mem hm'
      subst e e' ex ey
      simp only [hg_enc]
      omega
    · obtain ⟨m', hm', ey⟩ := List.mem_map.mp hy
      obtain ⟨u', v', h1', h2', e'⟩ := hg_two2_mem hm'
      subst e e' ex ey
      simp only [hg_enc]
      omega
  · obtain ⟨m, hm, ex⟩ := List.mem_map.mp hx
    rcases List.mem_append.mp hy with hy | hy
    · obtain ⟨m', hm', ey⟩ := List.mem_map.mp hy
      obtain ⟨u', v', h1', h2', e'⟩ := hg_two0_mem hm'
      rcases hg_one_mem hm with ⟨u, h1, _, e⟩ | ⟨u, h1, _, e⟩ | ⟨_, u, h1, _, e⟩ <;> subst e e' ex ey <;> simp only [hg_enc] <;> omega
    · rcases List.mem_append.mp hy with hy | hy
      · obtain ⟨m', hm', ey⟩ := List.mem_map.mp hy
        obtain ⟨u', v', h1', h2', e'⟩ := hg_two1_mem hm'
        rcases hg_one_mem hm with ⟨u, h1, _, e⟩ | ⟨u, h1, _, e⟩ | ⟨_, u, h1, _, e⟩ <;> subst e e' ex ey <;> simp only [hg_enc] <;> omega
      · obtain ⟨m', hm', ey⟩ := List.mem_map.mp hy
        obtain ⟨u', v', h1', h2', e'⟩ := hg_two2_mem hm'
        rcases hg_one_mem hm with ⟨u, h1, _, e⟩ | ⟨u, h1, _, e⟩ | ⟨_, u, h1, _, e⟩ <;> subst e e' ex ey <;> simp only [hg_enc] <;> omega
theorem hg_st1_mem {a b c t : Nat} {m : Nat × Nat × Nat} (h : m ∈ hg_st1 a b c t) : (t ≤ a ∧ m = (a - t, b, c)) ∨ (t ≤ b ∧ m = (a + t, b - t, c)) ∨ (t ≤ c ∧ m = (a, b + t, c - t)) := by
  unfold hg_st1 at h
  rcases List.mem_append.mp h with h | h
  · split at h
    · rename_i q
      exact Or.inl ⟨q, by simpa using h⟩
    · exact absurd h (by simp)
  · rcases List.mem_append.mp h with h | h
    · split at h
      · rename_i q
        exact Or.inr (Or.inl ⟨q, by simpa using h⟩)
      · exact absurd h (by simp)
    · split at h
      · rename_i q
        exact Or.inr (Or.inr ⟨q, by simpa using h⟩)
      · exact absurd h (by simp)
theorem hg_st_nd {a b c : Nat} (ha : a < 16) (hb : b < 16) (hc : c < 16) : ((hg_stair a b c).map hg_enc).Nodup := by
  show List.Pairwise _ _
  rw [List.pairwise_map]
  unfold hg_stair
  rw [List.pairwise_flatMap]
  refine ⟨fun t ht => ?_, List.Pairwise.imp_of_mem (fun {k k'} hk hk' hlt x hx y hy => ?_) (List.pairwise_lt_range' (s := 1) (n := 15))⟩
  · have ht' := List.mem_range'_1.mp ht
    unfold hg_st1
    rw [List.pairwise_append, List.pairwise_append]
    refine ⟨by split <;> simp, ⟨by split <;> simp, by split <;> simp, fun x hx y hy => ?_⟩, fun x hx y hy => ?_⟩
    · split at hx
      · split at hy
        · have e : x = (a + t, b - t, c) := by simpa using hx
          have e' : y = (a, b + t, c - t) := by simpa using hy
          subst e e'
          simp only [hg_enc]
          omega
        · exact absurd hy (by simp)
      · exact absurd hx (by simp)
    · split at hx
      · have e : x = (a - t, b, c) := by simpa using hx
        rcases List.mem_append.mp hy with hy | hy
        · split at hy
          · have e' : y = (a + t, b - t, c) := by simpa using hy
            subst e e'
            simp only [hg_enc]
            omega
          · exact absurd hy (by simp)
        · split at hy
          · have e' : y = (a, b + t, c - t) := by simpa using hy
            subst e e'
            simp only [hg_enc]
            omega
          · exact absurd hy (by simp)
      · exact absurd hx (by simp)
  · have q1 := List.mem_range'_1.mp hk
    have q2 := List.mem_range'_1.mp hk'
    rcases hg_st1_mem hx with ⟨h1, e⟩ | ⟨h1, e⟩ | ⟨h1, e⟩ <;> rcases hg_st1_mem hy with ⟨i1, e'⟩ | ⟨i1, e'⟩ | ⟨i1, e'⟩ <;> subst e e' <;> simp only [hg_enc] <;> omega
/-! lengths -/
def hg_c1 (i most h k : Nat) : Nat := if k % 3 = i ∧ k / 3 + 1 ≤ h ∧ k / 3 + 1 ≤ most then 1 else 0
def hg_cs (i most h : Nat) : List Nat → Nat
  | [] => 0
  | k :: t => hg_c1 i most h k + hg_cs i most h t
theorem hg_one1_c {g most a b c : Nat} (hg : g ≠ 4) (k : Nat) : (hg_one1 g most a b c k).length = hg_c1 0 most a k + hg_c1 1 most b k + hg_c1 2 most c k := by
  unfold hg_one1 hg_c1
  rw [if_neg hg]
  rcases (show k % 3 = 0 ∨ k % 3 = 1 ∨ k % 3 = 2 by omega) with e | e | e
  · rw [if_pos e, if_neg (show ¬ (k % 3 = 1 ∧ _) by omega), if_neg (show ¬ (k % 3 = 2 ∧ _) by omega)]
    by_cases q : k / 3 + 1 ≤ a ∧ k / 3 + 1 ≤ most
    · rw [if_pos q, if_pos ⟨e, q⟩]; rfl
    · rw [if_neg q, if_neg (fun w => q w.2)]; rfl
  · rw [if_neg (show ¬ k % 3 = 0 by omega), if_pos e, if_neg (show ¬ (k % 3 = 0 ∧ _) by omega), if_neg (show ¬ (k % 3 = 2 ∧ _) by omega)]
    by_cases q : k / 3 + 1 ≤ b ∧ k / 3 + 1 ≤ most
    · rw [if_pos q, if_pos ⟨e, q⟩]; rfl
    · rw [if_neg q, if_neg (fun w => q w.2)]; rfl
  · rw [if_neg (show ¬ k % 3 = 0 by omega), if_neg (show ¬ k % 3 = 1 by omega), if_neg (show ¬ (k % 3 = 0 ∧ _) by omega), if_neg (show ¬ (k % 3 = 1 ∧ _) by omega)]
    by_cases q : k / 3 + 1 ≤ c ∧ k / 3 + 1 ≤ most
    · rw [if_pos q, if_pos ⟨e, q⟩]; rfl
    · rw [if_neg q, if_neg (fun w => q w.2)]; rfl
theorem hg_one_cs {g most a b c : Nat} (hg : g ≠ 4) : ∀ ks : List Nat, (ks.flatMap (hg_one1 g most a b c)).length = hg_cs 0 most a ks + hg_cs 1 most b ks + hg_cs 2 most c ks := by
  intro ks
  induction ks with
  | nil => rfl
  | cons k t ih =>
    rw [List.flatMap_cons, List.length_append, hg_one1_c hg, ih]
    show _ = (hg_c1 0 most a k + hg_cs 0 most a t) + (hg_c1 1 most b k + hg_cs 1 most b t) + (hg_c1 2 most c k + hg_cs 2 most c t)
    omega
theorem hg_cs15 : ∀ h, h < 16 → hg_cs 0 15 h (List.range' 0 48) = h ∧ hg_cs 1 15 h (List.range' 0 48) = h ∧ hg_cs 2 15 h (List.range' 0 48) = h := by decide +kernel
def hg_m3 (h : Nat) : Nat := if 3 ≤ h then 3 else h
theorem hg_cs3 : ∀ h, h < 16 → hg_cs 0 3 h (List.range' 0 48) = hg_m3 h ∧ hg_cs 1 3 h (List.range' 0 48) = hg_m3 h ∧ hg_cs 2 3 h (List.range' 0 48) = hg_m3 h := by decide +kernel
def hg_d1 (h t : Nat) : Nat := if t ≤ h then 1 else 0
def hg_ds (h : Nat) : List Nat → Nat
  | [] => 0
  | k :: t => hg_d1 h k + hg_ds h t
theorem hg_st_cs {a b c : Nat} : ∀ ks : List Nat, (ks.flatMap (hg_st1 a b c)).length = hg_ds a ks + hg_ds b ks + hg_ds c ks := by
  intro ks
  induction ks with
  | nil => rfl
  | cons k t ih =>
    have e : (hg_st1 a b c k).length = hg_d1 a k + hg_d1 b k + hg_d1 c k := by
      unfold hg_st1 hg_d1
      rw [List.length_append, List.length_append]
      by_cases q1 : k ≤ a <;> by_cases q2 : k ≤ b <;> by_cases q3 : k ≤ c <;> simp [q1, q2, q3]
    rw [List.flatMap_cons, List.length_append, e, ih]
    show _ = (hg_d1 a k + hg_ds a t) + (hg_d1 b k + hg_ds b t) + (hg_d1 c k + hg_ds c t)
    omega
theorem hg_ds15 : ∀ h, h < 16 → hg_ds h (List.range' 1 15) = h := by decide +kernel
theorem hg_n0 {a b c : Nat} (ha : a < 16) (hb : b < 16) (hc : c < 16) : (hg_fm 0 1 a b c).length = a + b + c := by
  have e : hg_mvs 0 a b c = hg_one 0 15 a b c := List.append_nil _
  rw [hg_all_len (by rw [e]; exact hg_one_nd ha hb hc), e]
  unfold hg_one
  rw [hg_one_cs (by decide), (hg_cs15 a ha).1, (hg_cs15 b hb).2.1, (hg_cs15 c hc).2.2]
theorem hg_n7 {a b c : Nat} (ha : a < 16) (hb : b < 16) (hc : c < 16) : (hg_fm 7 1 a b c).length = hg_m3 a + hg_m3 b + hg_m3 c := by
  have e : hg_mvs 7 a b c = hg_one 7 3 a b c := List.append_nil _
  rw [hg_all_len (by rw [e]; exact hg_one_nd ha hb hc), e]
  unfold hg_one
  rw [hg_one_cs (by decide), (hg_cs3 a ha).1, (hg_cs3 b hb).2.1, (hg_cs3 c hc).2.2]
theorem hg_n3 {a b c : Nat} (ha : a < 16) (hb : b < 16) (hc : c < 16) : (hg_fm 3 1 a b c).length = a + b + c := by
  have e : hg_mvs 3 a b c = hg_stair a b c := rfl
  rw [hg_all_len (by rw [e]; exact hg_st_nd ha hb hc), e]
  unfold hg_stair
  rw [hg_st_cs, hg_ds15 a ha, hg_ds15 b hb, hg_ds15 c hc]
theorem hg_n2 {a b c : Nat} (ha : a < 16) (hb : b < 16) (hc : c < 16) : (hg_fm 2 1 a b c).length = a + b + c + a * b + a * c + b * c := by
  have e : hg_mvs 2 a b c = hg_one 2 15 a b c ++ (hg_two 0 a b c ++ (hg_two 1 a b c ++ hg_two 2 a b c)) := rfl
  have e1 : (hg_one 2 15 a b c).length = a + b + c := by
    unfold hg_one
    rw [hg_one_cs (by decide), (hg_cs15 a ha).1, (hg_cs15 b hb).2.1, (hg_cs15 c hc).2.2]
  have t0 : (hg_two 0 a b c).length = b * c := by unfold hg_two; rw [List.length_map, List.length_range']; rfl
  have t1 : (hg_two 1 a b c).length = a * c := by unfold hg_two; rw [List.length_map, List.length_range']; rfl
  have t2 : (hg_two 2 a b c).length = a * b := by unfold hg_two; rw [List.length_map, List.length_range']; rfl
  rw [hg_all_len (hg_m2_nd ha hb hc), e, List.length_append, List.length_append, List.length_append, e1, t0, t1, t2]
  omega
/-! the winning moves of game 0 -/
def hg_cnt (h s : Nat) : Nat := if s = 0 then 0 else if h ≤ h ^^^ s then 0 else 1
theorem hg_cntT (a : Nat) (ha : a < 16) (b : Nat) (hb : b < 16) (c : Nat) (hc : c < 16) : hg_cnt a (a ^^^ b ^^^ c) = (if b ^^^ c < a then 1 else 0) ∧ hg_cnt b (a ^^^ b ^^^ c) = (if a ^^^ c < b then 1 else 0) ∧ hg_cnt c (a ^^^ b ^^^ c) = (if a ^^^ b < c then 1 else 0) :=
  of_decide_eq_true (hg_all3 (n := 16) (m := 16) (k := 16) (f := fun a b c => decide (hg_cnt a (a ^^^ b ^^^ c) = (if b ^^^ c < a then 1 else 0) ∧ hg_cnt b (a ^^^ b ^^^ c) = (if a ^^^ c < b then 1 else 0) ∧ hg_cnt c (a ^^^ b ^^^ c) = (if a ^^^ b < c then 1 else 0))) (by decide +kernel) a ha b hb c hc)
theorem hg_xsol (a : Nat) (ha : a < 16) (b : Nat) (hb : b < 16) (c : Nat) (hc : c < 16) : (a ^^^ b ^^^ c = 0 ↔ a = b ^^^ c) ∧ (b ^^^ a ^^^ c = 0 ↔ a = b ^^^ c) ∧ (b ^^^ c ^^^ a = 0 ↔ a = b ^^^ c) :=
  of_decide_eq_true (hg_all3 (n := 16) (m := 16) (k := 16) (f := fun a b c => decide ((a ^^^ b ^^^ c = 0 ↔ a = b ^^^ c) ∧ (b ^^^ a ^^^ c = 0 ↔ a = b ^^^ c) ∧ (b ^^^ c ^^^ a = 0 ↔ a = b ^^^ c))) (by decide +kernel) a ha b hb c hc)
theorem hg_w0 (a b c : Nat) : hg_won 0 a b c = false ↔ a ^^^ b ^^^ c = 0 := by
  show (!(decide (a ^^^ b ^^^ c = 0))) = false ↔ _
  simp
theorem hg_xlt {a b : Nat} (ha : a < 16) (hb : b < 16) : a ^^^ b < 16 := Nat.xor_lt_two_pow (n := 4) ha hb
theorem hg_n00 {a b c : Nat} (ha : a < 16) (hb : b < 16) (hc : c < 16) : (hg_fm 0 0 a b c).length = hg_cnt a (a ^^^ b ^^^ c) + hg_cnt b (a ^^^ b ^^^ c) + hg_cnt c (a ^^^ b ^^^ c) := by
  have T := hg_cntT a ha b hb c hc
  rw [T.1, T.2.1, T.2.2]
  have x1 := hg_xlt hb hc
  have x2 := hg_xlt ha hc
  have x3 := hg_xlt ha hb
  have M : ∀ y, y ∈ hg_fm 0 0 a b c ↔ y ∈ ((if b ^^^ c < a then [hg_enc (b ^^^ c, b, c)] else []) ++ ((if a ^^^ c < b then [hg_enc (a, a ^^^ c, c)] else []) ++ (if a ^^^ b < c then [hg_enc (a, b, a ^^^ b)] else []))) := by
    intro y
    have e : hg_mvs 0 a b c = hg_one 0 15 a b c := List.append_nil _
    rw [hg_fm_mem, e, List.mem_append, List.mem_append]
    constructor
    · rintro ⟨m, hm, h1, h2⟩
      have hw : hg_won 0 m.1 m.2.1 m.2.2 = false := by
        rcases h1 with e | e
        · exact absurd rfl e
        · exact e
      rw [hg_w0] at hw
      rcases hg_one_mem hm with ⟨x, q1, _, e⟩ | ⟨x, q1, _, e⟩ | ⟨_, x, q1, _, e⟩
      · subst e
        have z := (hg_xsol x (by omega) b hb c hc).1.mp hw
        subst z
        rw [if_pos q1]
        exact Or.inl (by rw [h2]; simp)
      · subst e
        have z := (hg_xsol x (by omega) a ha c hc).2.1.mp hw
        subst z
        rw [if_pos q1]
        exact Or.inr (Or.inl (by rw [h2]; simp))
      · subst e
        have z := (hg_xsol x (by omega) a ha b hb).2.2.mp hw
        subst z
        rw [if_pos q1]
        exact Or.inr (Or.inr (by rw [h2]; simp))
    · rintro (h | h | h)
      · split at h
        · rename_i q
          exact ⟨(b ^^^ c, b, c), hg_one_a ha q (by omega), Or.inr ((hg_w0 _ _ _).mpr ((hg_xsol _ x1 b hb c hc).1.mpr rfl)), by simpa using h⟩
        · exact absurd h (by simp)
      · split at h
        · rename_i q
          exact ⟨(a, a ^^^ c, c), hg_one_b hb q (by omega), Or.inr ((hg_w0 _ _ _).mpr ((hg_xsol _ x2 a ha c hc).2.1.mpr rfl)), by simpa using h⟩
        · exact absurd h (by simp)
      · split at h
        · rename_i q
          exact ⟨(a, b, a ^^^ b), hg_one_c (by decide) hc q (by omega), Or.inr ((hg_w0 _ _ _).mpr ((hg_xsol _ x3 a ha b hb).2.2.mpr rfl)), by simpa using h⟩
        · exact absurd h (by simp)
  have N : ((if b ^^^ c < a then [hg_enc (b ^^^ c, b, c)] else []) ++ ((if a ^^^ c < b then [hg_enc (a, a ^^^ c, c)] else []) ++ (if a ^^^ b < c then [hg_enc (a, b, a ^^^ b)] else []))).Nodup := by
    rw [List.nodup_append, List.nodup_append]
    refine ⟨by split <;> simp, ⟨by split <;> simp, by split <;> simp, fun x hx y hy => ?_⟩, fun x hx y hy => ?_⟩
    · split at hx
      · split at hy
        · have e : x = hg_enc (a, a ^^^ c, c) := by simpa using hx
          have e' : y = hg_enc (a, b, a ^^^ b) := by simpa using hy
          subst e e'
          simp only [hg_enc]
          omega
        · exact absurd hy (by simp)
      · exact absurd hx (by simp)
    · split at hx
      · have e : x = hg_enc (b ^^^ c, b, c) := by simpa using hx
        rcases List.mem_append.mp hy with hy | hy
        · split at hy
          · have e' : y = hg_enc (a, a ^^^ c, c) := by simpa using hy
            subst e e'
            simp only [hg_enc]
            omega
          · exact absurd hy (by simp)
        · split at hy
          · have e' : y = hg_enc (a, b, a ^^^ b) := by simpa using hy
            subst e e'
            simp only [hg_enc]
            omega
          · exact absurd hy (by simp)
      · exact absurd hx (by simp)
  rw [hg_len_of (hg_fm_sorted 0 0 a b c) N M, List.length_append, List.length_append]
  by_cases q1 : b ^^^ c < a <;> by_cases q2 : a ^^^ c < b <;> by_cases q3 : a ^^^ b < c <;> simp [q1, q2, q3]
/-- one of the winning moves of game 0, as the law looks at it -/
theorem hg_m0 {a b c i : Nat} (ha : a < 16) (hb : b < 16) (hc : c < 16) (hi : i < (hg_fm 0 0 a b c).length) :
    ∃ p q r, (hg_fm 0 0 a b c).getD i 0 = hg_enc (p, q, r) ∧ p ≤ a ∧ q ≤ b ∧ r ≤ c ∧ p ^^^ q ^^^ r = 0 ∧ (if p = a then 0 else 1) + (if q = b then 0 else 1) + (if r = c then 0 else 1) = 1 := by
  obtain ⟨m, hm, h1, h2⟩ := (hg_fm_mem 0 0 a b c _).mp (hg_mem_getD hi)
  have hw : hg_won 0 m.1 m.2.1 m.2.2 = false := by
    rcases h1 with e | e
    · exact absurd rfl e
    · exact e
  have e : hg_mvs 0 a b c = hg_one 0 15 a b c := List.append_nil _
  rw [e] at hm
  refine ⟨m.1, m.2.1, m.2.2, h2, ?_⟩
  rw [hg_w0] at hw
  rcases hg_one_mem hm with ⟨x, q1, _, e⟩ | ⟨x, q1, _, e⟩ | ⟨_, x, q1, _, e⟩
  · subst e
    refine ⟨by dsimp only; omega, Nat.le_refl _, Nat.le_refl _, hw, ?_⟩
    dsimp only
    rw [if_neg (by omega), if_pos rfl, if_pos rfl]
  · subst e
    refine ⟨Nat.le_refl _, by dsimp only; omega, Nat.le_refl _, hw, ?_⟩
    dsimp only
    rw [if_neg (show ¬ x = b by omega), if_pos rfl, if_pos rfl]
  · subst e
    refine ⟨Nat.le_refl _, Nat.le_refl _, by dsimp only; omega, hw, ?_⟩
    dsimp only
    rw [if_neg (show ¬ x = c by omega), if_pos rfl, if_pos rfl]
/-! the rest of what the law says -/
theorem hg_big1 {a b c : Nat} (h : 1 < a ∨ 1 < b ∨ 1 < c) : hg_won 1 a b c = hg_won 0 a b c := by
  show ((decide (a < 2) && (decide (b < 2) && decide (c < 2))) == decide (a ^^^ b ^^^ c = 0)) = !(decide (a ^^^ b ^^^ c = 0))
  have e : (decide (a < 2) && (decide (b < 2) && decide (c < 2))) = false := by
    rcases h with h | h | h
    · rw [decide_eq_false (show ¬ a < 2 by omega)]; rfl
    · rw [decide_eq_false (show ¬ b < 2 by omega), Bool.false_and, Bool.and_false]
    · rw [decide_eq_false (show ¬ c < 2 by omega), Bool.and_false, Bool.and_false]
  rw [e]
  cases decide (a ^^^ b ^^^ c = 0) <;> rfl
theorem hg_big0 {a b c : Nat} (h1 : a ≤ 1) (h2 : b ≤ 1) (h3 : c ≤ 1) : hg_won 1 a b c = !(hg_won 0 a b c) := by
  show ((decide (a < 2) && (decide (b < 2) && decide (c < 2))) == decide (a ^^^ b ^^^ c = 0)) = !(!(decide (a ^^^ b ^^^ c = 0)))
  rw [decide_eq_true (show a < 2 by omega), decide_eq_true (show b < 2 by omega), decide_eq_true (show c < 2 by omega)]
  cases decide (a ^^^ b ^^^ c = 0) <;> rfl
theorem hg_mod4 (a : Nat) (ha : a < 16) (b : Nat) (hb : b < 16) (c : Nat) (hc : c < 16) : (a % 4) ^^^ (b % 4) ^^^ (c % 4) = (a ^^^ b ^^^ c) % 4 :=
  of_decide_eq_true (hg_all3 (n := 16) (m := 16) (k := 16) (f := fun a b c => decide ((a % 4) ^^^ (b % 4) ^^^ (c % 4) = (a ^^^ b ^^^ c) % 4)) (by decide +kernel) a ha b hb c hc)
theorem hg_x3ac (a : Nat) (ha : a < 16) (c : Nat) (hc : c < 16) : (a ^^^ c = 0 ↔ a = c) :=
  of_decide_eq_true (hg_all2 (n := 16) (m := 16) (f := fun a c => decide (a ^^^ c = 0 ↔ a = c)) (by decide +kernel) a ha c hc)
def hg_on (a b c k : Nat) : Nat := if (a / 2 ^ k % 2 + b / 2 ^ k % 2 + c / 2 ^ k % 2) % 3 = 0 then 0 else 1
theorem hg_ones (a : Nat) (ha : a < 16) (b : Nat) (hb : b < 16) (c : Nat) (hc : c < 16) : (hg_on a b c 0 + hg_on a b c 1 + hg_on a b c 2 + hg_on a b c 3 = 0 ↔ a = b ∧ b = c) :=
  of_decide_eq_true (hg_all3 (n := 16) (m := 16) (k := 16) (f := fun a b c => decide ((hg_on a b c 0 + hg_on a b c 1 + hg_on a b c 2 + hg_on a b c 3 = 0 ↔ a = b ∧ b = c))) (by decide +kernel) a ha b hb c hc)
end
section
/-! the law, from its end to its start -/
section
variable {post : Int32 → St0 → Prop} {mc ms kc ks : Nat} {x3 x4 fm : Int32} {a b c : Nat} {H A : Nat → Int32}
theorem hg_enc3 (p q r : Nat) : (nI p + (32 * nI q)) + (1024 * nI r) = nI (hg_enc (p, q, r)) := by
  rw [show (32 : Int32) = nI 32 from rfl, show (1024 : Int32) = nI 1024 from rfl, pk_mul, pk_mul, nI_add, nI_add]
  rfl
theorem hg_729a {g : Nat} {x17 z0 : Int32} (hP : post 1 ()) (hh : hg_hp a b c H) (hg : g = 3 ∨ g = 6) : wL_lawOf_729 post mc ms (nI a) (nI b) (nI c) (nI g) x17 z0 kc ks fm H A := by
  have T : wL_lawOf_744 post mc ms (nI a) (nI b) (nI c) (nI g) z0 kc ks fm H A := by
    unfold wL_lawOf_744
    exact hg_play36 hg (br_t rfl (hg_has (i := 0) (by decide) (br_t hh.1 (hg_has (i := 1) (by decide) (br_t hh.2.1 (hg_has (i := 2) (by decide) (br_t hh.2.2.1 hP)))))))
  exact pk_eq g 3 (fun _ => T) (fun z => pk_eq g 6 (fun _ => T) (fun z2 => absurd hg (by omega)))
theorem hg_729b {g pl : Nat} (hP : post 1 ()) (hh : hg_hp a b c H) (hg : hg_gd g) (hpl : ((hg_fm g 0 a b c).length = 0 ∧ pl = 0) ∨ pl < (hg_fm g 0 a b c).length) :
    wL_lawOf_729 post mc ms (nI a) (nI b) (nI c) (nI g) (nI (hg_fm g 0 a b c).length) (nI pl) kc ks fm H A := by
  have h3 : g ≠ 3 := by unfold hg_gd at hg; omega
  have h6 : g ≠ 6 := by unfold hg_gd at hg; omega
  have h8 : g < 8 := by unfold hg_gd at hg; omega
  have la := hh.2.2.2.1
  have lb := hh.2.2.2.2.1
  have lc := hh.2.2.2.2.2
  have hl := hg_fm_len g 0 a b c la lb lc
  refine pk_eq g 3 (fun z => absurd z h3) (fun _ => pk_eq g 6 (fun z => absurd z h6) (fun _ => ?_))
  rcases hpl with ⟨h0, hp0⟩ | hpl
  · subst hp0
    have hn : hg_fm g 0 a b c = [] := List.eq_nil_of_length_eq_zero h0
    have W := hg_wins hg la lb lc (hg_fm_nil hn)
    refine hg_wmOut hh h8 h6 (by omega) (by decide) (fun A1 => hg_playOut hh h8 h3 h6 (by omega) (by decide) (fun A2 => br_t ?_ (br_t rfl (br_t rfl (hg_has (i := 0) (by decide) (br_t hh.1 (hg_wonH hh h8 h6 (fun w => ?_) (fun w => ?_))))))))
    · rw [h0]; rfl
    · rcases W with W | W
      · exact pk_eq g 1 (fun z => pk_eq (a + b + c) 0 (fun z2 => absurd (And.intro z z2) W.2) (fun _ => br_t rfl hP) (hx := by rw [nI_add, nI_add])) (fun _ => br_t rfl hP)
      · rw [w] at W; exact absurd W.1 (by decide)
    · rcases W with W | W
      · rw [w] at W; exact absurd W.1 (by decide)
      · exact pk_eq g 1 (fun z => pk_eq (a + b + c) 0 (fun z2 => br_t rfl hP) (fun z2 => absurd W.2.2 z2) (hx := by rw [nI_add, nI_add])) (fun z => absurd W.2.1 z)
  · obtain ⟨p, q, r, he, hp, hq, hr, hw, hn⟩ := hg_pick hg la lb lc hpl
    have hh' : hg_hp p q r (hg_H' H p q r) := ⟨hg_H'0 H p q r, hg_H'1 H p q r, hg_H'2 H p q r, by omega, by omega, by omega⟩
    have hn0 : (hg_fm g 0 p q r).length = 0 := by rw [hn]; rfl
    refine hg_wmIn hh h8 h6 hpl (fun A1 => hg_playIn hh h8 h3 h6 hpl he (by omega) (by omega) (by omega) hw (fun A2 => pk_eq (hg_fm g 0 a b c).length 0 (fun z => absurd z (by omega)) (fun _ => br_t rfl (hg_has (i := 0) (by decide) (hg_has (i := 1) (by decide) (hg_has (i := 2) (by decide) (br_t ?_ (hg_wonH hh' h8 h6 (fun _ => br_t rfl (hg_winning hh' h8 h6 (fun A3 _ => br_t ?_ (hg_playOut (i := 0) hh' h8 h3 h6 (by omega) (by decide) (fun A4 => br_t rfl (hg_has (i := 0) (by decide) (pk_lt a p (fun z => absurd z (by omega)) (fun _ => hg_has (i := 1) (by decide) (pk_lt b q (fun z => absurd z (by omega)) (fun _ => hg_has (i := 2) (by decide) (pk_lt c r (fun z => absurd z (by omega)) (fun _ => hP) (hy := hg_H'2 H p q r))) (hy := hg_H'1 H p q r))) (hy := hg_H'0 H p q r)))))))) (fun w => ?_)))))))))
    · rw [hg_H'0, hg_H'1, hg_H'2, he]
      exact hg_enc3 p q r
    · rw [hn0]; rfl
    · rw [hw] at w; cases w
theorem hg_689 {z : Int32} (hP : post 1 ()) (hh : hg_hp a b c H) : wL_lawOf_689 post mc ms x3 x4 (nI a) (nI b) (nI c) z z kc ks fm H A := by
  obtain ⟨i, hi, ei⟩ := pk_andE x3 (m := 127) 7 (by decide)
  obtain ⟨k, hk, ek⟩ := pk_andE x4 (m := 127) 7 (by decide)
  have hi' : i < 128 := hi
  have hk' : k < 128 := hk
  unfold wL_lawOf_689
  rw [ei, ek]
  refine br_t rfl ⟨by decide, nm_r (e' := nI (i % 8)) (pk_rem (d := 8) (by omega) (by decide) (by decide)) ?_⟩
  have h8 : i % 8 < 8 := Nat.mod_lt _ (by decide)
  generalize i % 8 = g at h8 ⊢
  rcases (show g = 3 ∨ g = 6 ∨ hg_gd g by unfold hg_gd; omega) with e | e | e
  · subst e
    exact hg_winning (g := 3) hh (by decide) (by decide) (fun A' _ => br_c (fun _ => hg_729a (g := 3) hP hh (Or.inl rfl)) (fun z => ⟨z, hg_729a (g := 3) hP hh (Or.inl rfl)⟩))
  · subst e
    exact hg_winning6 hh (fun f A' => br_c (fun _ => hg_729a (g := 6) hP hh (Or.inr rfl)) (fun z => ⟨z, hg_729a (g := 6) hP hh (Or.inr rfl)⟩))
  · have h6 : g ≠ 6 := by unfold hg_gd at e; omega
    have hl := hg_fm_len g 0 a b c hh.2.2.2.1 hh.2.2.2.2.1 hh.2.2.2.2.2
    refine hg_winning hh h8 h6 (fun A' _ => pk_eq (hg_fm g 0 a b c).length 0 (fun z => hg_729b (pl := 0) hP hh e (Or.inl ⟨z, rfl⟩)) (fun z => ⟨nI_ne0 (by omega) (by omega), ?_⟩))
    rw [pk_rem (by omega) (by omega) (by omega)]
    exact hg_729b hP hh e (Or.inr (Nat.mod_lt _ (by omega)))
theorem hg_662 {o : Nat} {z : Int32} (hP : post 1 ()) (hh : hg_hp a b c H) (ho : o < 5) (hw : o = 0 ↔ hg_won 2 a b c = false) : wL_lawOf_662 post mc ms x3 x4 (nI a) (nI b) (nI c) (nI o) z z kc ks fm H A := by
  have la := hh.2.2.2.1
  have lb := hh.2.2.2.2.1
  have lc := hh.2.2.2.2.2
  have hl := hg_fm_len 2 0 a b c la lb lc
  have gd : hg_gd 2 := Or.inr (Or.inr (Or.inl rfl))
  refine br_t rfl (hg_winning (g := 2) hh (by decide) (by decide) (fun A' _ => pk_le (hg_fm 2 0 a b c).length 0 (fun z => ?_) (fun z => ?_)))
  · have hn : hg_fm 2 0 a b c = [] := List.eq_nil_of_length_eq_zero (by omega)
    rcases hg_wins gd la lb lc (hg_fm_nil hn) with W | W
    · have := hw.mpr W.1
      exact pk_le o 0 (fun _ => hg_689 hP hh) (fun z => absurd z (by omega))
    · exact absurd W.2.1 (by decide)
  · refine pk_le o 0 (fun y => ?_) (fun _ => hg_689 hP hh)
    have hn := hg_fm_nil_of (hg_lost gd la lb lc (hw.mp (by omega)))
    rw [hn] at z
    exact absurd z (by simp)
theorem hg_sl : ∀ n, n < 4 → ((nI n &&& 31).toBitVec.smod 32).toNat = n := by decide +kernel
theorem hg_bit {h k : Nat} (hh : h < 16) (hk : k < 4) : (nI h >>> (nI k &&& 31)) &&& 1 = nI (h / 2 ^ k % 2) := by
  have hd : h / 2 ^ k ≤ h := Nat.div_le_self _ _
  rw [pk_shrN (by omega) (nI k &&& 31) k (hg_sl k hk)]
  exact pk_andN (by omega) 1 (by decide)
theorem hg_596s {n o k : Nat} (la : a < 16) (lb : b < 16) (lc : c < 16) (hk : k < 4) (K : wL_lawOf_596 post mc ms x3 x4 (nI a) (nI b) (nI c) kc ks fm H A n (nI (o + hg_on a b c k)) (nI (k + 1))) :
    wL_lawOf_596 post mc ms x3 x4 (nI a) (nI b) (nI c) kc ks fm H A (n + 1) (nI o) (nI k) := by
  unfold hg_on at K
  have q1 : a / 2 ^ k % 2 < 2 := Nat.mod_lt _ (by decide)
  have q2 : b / 2 ^ k % 2 < 2 := Nat.mod_lt _ (by decide)
  have q3 : c / 2 ^ k % 2 < 2 := Nat.mod_lt _ (by decide)
  refine pk_le 4 k (fun z => absurd z (by omega)) (fun _ => ⟨by decide, pk_eq ((a / 2 ^ k % 2 + b / 2 ^ k % 2 + c / 2 ^ k % 2) % 3) 0 (fun z => ?_) (fun z => ?_) (hx := ?_)⟩)
  · rw [if_pos z] at K
    exact nm_r (nI_add o 0) (nm_r (nI_1 k) K)
  · rw [if_neg z] at K
    exact nm_r (nI_1 o) (nm_r (nI_1 k) K)
  · rw [hg_bit la hk, hg_bit lb hk, hg_bit lc hk, nI_add, nI_add]
    exact pk_rem (d := 3) (by omega) (by decide) (by decide)
theorem hg_on_lt (a b c k : Nat) : hg_on a b c k < 2 := by
  unfold hg_on
  split <;> omega
theorem hg_596 (hP : post 1 ()) (hh : hg_hp a b c H) : ∃ fu, wL_lawOf_596 post mc ms x3 x4 (nI a) (nI b) (nI c) kc ks fm H A fu 0 0 := by
  have la := hh.2.2.2.1
  have lb := hh.2.2.2.2.1
  have lc := hh.2.2.2.2.2
  have O := hg_ones a la b lb c lc
  have o0 := hg_on_lt a b c 0
  have o1 := hg_on_lt a b c 1
  have o2 := hg_on_lt a b c 2
  have o3 := hg_on_lt a b c 3
  rw [← hg_w2] at O
  refine ⟨5, hg_596s (o := 0) (k := 0) la lb lc (by decide) (hg_596s (k := 1) la lb lc (by decide) (hg_596s (k := 2) la lb lc (by decide) (hg_596s (k := 3) la lb lc (by decide) ?_)))⟩
  rw [Nat.zero_add]
  have ho : hg_on a b c 0 + hg_on a b c 1 + hg_on a b c 2 + hg_on a b c 3 < 5 := by omega
  generalize hg_on a b c 0 + hg_on a b c 1 + hg_on a b c 2 + hg_on a b c 3 = o at O ho ⊢
  refine pk_le 4 4 (fun _ => hg_wonH (g := 2) hh (by decide) (by decide) (fun w => ?_) (fun w => ?_)) (fun z => absurd z (by omega))
  · exact pk_eq o 0 (fun _ => hg_662 hP hh ho O) (fun z => absurd (O.mpr w) z)
  · exact pk_eq o 0 (fun z => by rw [O.mp z] at w; cases w) (fun _ => hg_662 hP hh ho O)
theorem hg_525 {J : Int32 → Int32 → Int32 → (Nat → Int32) → (Nat → Int32) → Prop} {x10 x16 z0 z1 : Int32} {m p q r : Nat} (hz : z1 + z0 = 1) (la : a < 16) (lb : b < 16) (lc : c < 16) (hp : p ≤ a) (hq : q ≤ b) (hr : r ≤ c) (K : J x16 (nI (m + 1)) fm H A) :
    wL_lawOf_525 post mc ms J x3 x4 (nI a) (nI b) (nI c) x10 (nI m) x16 (nI p) (nI q) (nI r) z0 z1 kc ks fm H A :=
  br_t hz (pk_lt a p (fun z => absurd z (by omega)) (fun _ => pk_lt b q (fun z => absurd z (by omega)) (fun _ => pk_le r c (fun _ => nm_r (nI_1 m) K) (fun z => absurd z (by omega)))))
theorem hg_500 {J : Int32 → Int32 → Int32 → (Nat → Int32) → (Nat → Int32) → Prop} {x10 x16 : Int32} {m p q r : Nat} (la : a < 16) (lb : b < 16) (lc : c < 16) (hp : p ≤ a) (hq : q ≤ b) (hr : r ≤ c)
    (hc1 : (if p = a then 0 else 1) + (if q = b then 0 else 1) + (if r = c then 0 else 1) = 1) (K : J x16 (nI (m + 1)) fm H A) :
    (nI p = nI a → wL_lawOf_500 post mc ms J x3 x4 (nI a) (nI b) (nI c) x10 (nI m) x16 (nI p) (nI q) (nI r) 0 kc ks fm H A) ∧ (¬ nI p = nI a → wL_lawOf_500 post mc ms J x3 x4 (nI a) (nI b) (nI c) x10 (nI m) x16 (nI p) (nI q) (nI r) 1 kc ks fm H A) := by
  refine pk_eq p a (fun z1 => pk_eq q b (fun z2 => pk_eq r c (fun z3 => ?_) (fun z3 => ?_)) (fun z2 => pk_eq r c (fun z3 => ?_) (fun z3 => ?_))) (fun z1 => pk_eq q b (fun z2 => pk_eq r c (fun z3 => ?_) (fun z3 => ?_)) (fun z2 => pk_eq r c (fun z3 => ?_) (fun z3 => ?_)))
  · rw [if_pos z1, if_pos z2, if_pos z3] at hc1; exact absurd hc1 (by decide)
  · exact hg_525 (by decide) la lb lc hp hq hr K
  · exact hg_525 (by decide) la lb lc hp hq hr K
  · rw [if_pos z1, if_neg z2, if_neg z3] at hc1; exact absurd hc1 (by decide)
  · exact hg_525 (by decide) la lb lc hp hq hr K
  · rw [if_neg z1, if_pos z2, if_neg z3] at hc1; exact absurd hc1 (by decide)
  · rw [if_neg z1, if_neg z2, if_pos z3] at hc1; exact absurd hc1 (by decide)
  · rw [if_neg z1, if_neg z2, if_neg z3] at hc1; exact absurd hc1 (by decide)
theorem hg_428 (hP : post 1 ()) (hh : hg_hp a b c H) : ∀ (d m : Nat) (last fm : Int32) (A : Nat → Int32), m + d = (hg_fm 0 0 a b c).length → (m < (hg_fm 0 0 a b c).length → ¬ nI ((hg_fm 0 0 a b c).getD m 0) ≤ last) →
    wL_lawOf_428 post mc ms x3 x4 (nI a) (nI b) (nI c) (nI (hg_fm 0 0 a b c).length) kc ks (d + 1) last (nI m) fm H A := by
  have la := hh.2.2.2.1
  have lb := hh.2.2.2.2.1
  have lc := hh.2.2.2.2.2
  have hl := hg_fm_len 0 0 a b c la lb lc
  intro d
  induction d with
  | zero =>
    intro m last fm A hm hlast
    exact pk_le (hg_fm 0 0 a b c).length m (fun _ => hg_wmOut (g := 0) hh (by decide) (by decide) (Nat.le_refl _) (by omega) (fun A1 => br_t rfl (hg_wmNeg (g := 0) hh (by decide) (by decide) (fun A2 => br_t rfl (hg_596 hP hh))))) (fun z => absurd z (by omega))
  | succ d ih =>
    intro m last fm A hm hlast
    have hm' : m < (hg_fm 0 0 a b c).length := by omega
    obtain ⟨p, q, r, he, hp, hq, hr, hx, h1⟩ := hg_m0 la lb lc hm'
    have eN : hg_enc (p, q, r) = p + 32 * q + 1024 * r := rfl
    refine pk_le (hg_fm 0 0 a b c).length m (fun z => absurd z (by omega)) (fun _ => hg_wmIn (g := 0) hh (by decide) (by decide) hm' (fun A1 => ?_))
    have hnot := hlast hm'
    have nxt : wL_lawOf_428 post mc ms x3 x4 (nI a) (nI b) (nI c) (nI (hg_fm 0 0 a b c).length) kc ks (d + 1) (nI ((hg_fm 0 0 a b c).getD m 0)) (nI (m + 1)) (nI (hg_fm 0 0 a b c).length) H A1 := by
      refine ih (m + 1) _ _ A1 (by omega) (fun y => ?_)
      have s := hg_sorted_getD (hg_fm_sorted 0 0 a b c) (i := m) (j := m + 1) (by omega) y
      obtain ⟨p', q', r', he', hp', hq', hr', _, _⟩ := hg_m0 la lb lc y
      have eN' : hg_enc (p', q', r') = p' + 32 * q' + 1024 * r' := rfl
      exact nI_ge s (by omega)
    rw [he] at hnot nxt ⊢
    refine ⟨by decide, nm_r (e' := nI p) ?_ ⟨by decide, by decide, nm_r (e' := nI q) ?_ ⟨by decide, nm_r (e' := nI r) ?_ (br_f hnot (br_t ?_ (hg_500 la lb lc hp hq hr h1 nxt)))⟩⟩⟩
    · rw [show nI (hg_enc (p, q, r)) - nI (hg_enc (p, q, r)) / 32 * 32 = nI (hg_enc (p, q, r) % 32) from pk_rem (d := 32) (by omega) (by decide) (by decide)]
      exact congrArg nI (by omega)
    · rw [show nI (hg_enc (p, q, r)) / 32 = nI (hg_enc (p, q, r) / 32) from pk_div (d := 32) (by omega) (by decide) (by decide)]
      rw [show nI (hg_enc (p, q, r) / 32) - nI (hg_enc (p, q, r) / 32) / 32 * 32 = nI (hg_enc (p, q, r) / 32 % 32) from pk_rem (d := 32) (by omega) (by decide) (by decide)]
      exact congrArg nI (by omega)
    · rw [show nI (hg_enc (p, q, r)) / 1024 = nI (hg_enc (p, q, r) / 1024) from pk_div (d := 1024) (by omega) (by decide) (by decide)]
      exact congrArg nI (by omega)
    · rw [hg_x3, hx]; rfl
end
end
section
section
variable {post : Int32 → St0 → Prop} {mc ms kc ks : Nat} {x3 x4 fm : Int32} {a b c : Nat} {H A : Nat → Int32}
theorem hg_385 {z : Int32} (hP : post 1 ()) (hh : hg_hp a b c H) : wL_lawOf_385 post mc ms x3 x4 (nI a) (nI b) (nI c) (nI (hg_fm 0 0 a b c).length) (-1) z z kc ks fm H A := by
  have la := hh.2.2.2.1
  have lb := hh.2.2.2.2.1
  have lc := hh.2.2.2.2.2
  refine br_t rfl (hg_moves (g := 2) hh (by decide) (by decide) (fun A1 => br_t ?_ ⟨(hg_fm 0 0 a b c).length + 1, hg_428 hP hh _ 0 (-1) _ A1 (by omega) (fun y => ?_)⟩))
  · rw [hg_n2 la lb lc, pk_mul, pk_mul, pk_mul, nI_add, nI_add, nI_add, nI_add, nI_add]
  · obtain ⟨p', q', r', he', hp', hq', hr', _, _⟩ := hg_m0 la lb lc y
    have eN' : hg_enc (p', q', r') = p' + 32 * q' + 1024 * r' := rfl
    rw [he']
    intro z
    have h1 := Int32.le_iff_toInt_le.mp z
    rw [nI_toInt (by omega)] at h1
    have h2 : (-1 : Int32).toInt = -1 := rfl
    omega
theorem hg_334 {z : Int32} (hP : post 1 ()) (hh : hg_hp a b c H) : wL_lawOf_334 post mc ms x3 x4 (nI a) (nI b) (nI c) (nI (hg_fm 0 0 a b c).length) (-1) (nI (hg_m3 a + hg_m3 b + hg_m3 c)) z z kc ks fm H A := by
  have la := hh.2.2.2.1
  have lb := hh.2.2.2.2.1
  have lc := hh.2.2.2.2.2
  refine br_t rfl (hg_moves (g := 7) hh (by decide) (by decide) (fun A1 => br_t ?_ (hg_moves (g := 3) hh (by decide) (by decide) (fun A2 => br_t ?_ (hg_wonH (g := 3) hh (by decide) (by decide) (fun w => ?_) (fun w => ?_))))))
  · rw [hg_n7 la lb lc]
  · rw [hg_n3 la lb lc, nI_add, nI_add]
  · have e : a = c := by
      have w' : (!(decide (a = c))) = false := w
      simpa using w'
    refine pk_eq (a ^^^ c) 0 (fun _ => hg_385 hP hh) (fun z => absurd ((hg_x3ac a la c lc).mpr e) z) (hx := hg_nxor a c) (ha := ?_)
    have := hg_xlt la lc
    omega
  · have e : ¬ a = c := by
      have w' : (!(decide (a = c))) = true := w
      simpa using w'
    refine pk_eq (a ^^^ c) 0 (fun z => absurd ((hg_x3ac a la c lc).mp z) e) (fun _ => hg_385 hP hh) (hx := hg_nxor a c) (ha := ?_)
    have := hg_xlt la lc
    omega
theorem hg_302 {z0 z1 : Int32} (hP : post 1 ()) (hh : hg_hp a b c H) (hz : z1 + z0 = nI (hg_m3 a + hg_m3 b + hg_m3 c)) : wL_lawOf_302 post mc ms x3 x4 (nI a) (nI b) (nI c) (nI (hg_fm 0 0 a b c).length) (-1) (nI ((a ^^^ b ^^^ c) % 4)) z0 z1 kc ks fm H A := by
  have hb : (a ^^^ b ^^^ c) % 4 < 4 := Nat.mod_lt _ (by decide)
  refine nm_r hz (hg_value7 hh (br_t rfl (hg_wonH (g := 7) hh (by decide) (by decide) (fun w => ?_) (fun w => ?_))))
  · have e : (a ^^^ b ^^^ c) % 4 = 0 := by
      have w' : (!(decide ((a ^^^ b ^^^ c) % 4 = 0))) = false := w
      simpa using w'
    exact pk_eq ((a ^^^ b ^^^ c) % 4) 0 (fun _ => hg_334 hP hh) (fun z => absurd e z)
  · have e : ¬ (a ^^^ b ^^^ c) % 4 = 0 := by
      have w' : (!(decide ((a ^^^ b ^^^ c) % 4 = 0))) = true := w
      simpa using w'
    exact pk_eq ((a ^^^ b ^^^ c) % 4) 0 (fun z => absurd z e) (fun _ => hg_334 hP hh)
theorem hg_m3t {h : Nat} (z : 3 ≤ h) : hg_m3 h = 3 := if_pos z
theorem hg_m3f {h : Nat} (z : h < 3) : hg_m3 h = h := if_neg (by omega)
theorem hg_289 {z0 z1 : Int32} (hP : post 1 ()) (hh : hg_hp a b c H) (hz : z1 + z0 = nI (hg_m3 a + hg_m3 b)) : wL_lawOf_289 post mc ms x3 x4 (nI a) (nI b) (nI c) (nI (hg_fm 0 0 a b c).length) (-1) (nI ((a ^^^ b ^^^ c) % 4)) z0 z1 kc ks fm H A := by
  have lc := hh.2.2.2.2.2
  refine pk_le 3 c (fun z => hg_302 hP hh ?_) (fun z => hg_302 hP hh ?_)
  · rw [hz, hg_m3t z, show (3 : Int32) = nI 3 from rfl, nI_add]
  · rw [hz, hg_m3f z, nI_add]
theorem hg_277 {z0 : Int32} (hP : post 1 ()) (hh : hg_hp a b c H) (hz : z0 = nI (hg_m3 a)) : wL_lawOf_277 post mc ms x3 x4 (nI a) (nI b) (nI c) (nI (hg_fm 0 0 a b c).length) (-1) (nI ((a ^^^ b ^^^ c) % 4)) z0 kc ks fm H A := by
  have lb := hh.2.2.2.2.1
  refine pk_le 3 b (fun z => hg_289 hP hh ?_) (fun z => hg_289 hP hh ?_)
  · rw [hz, hg_m3t z, show (3 : Int32) = nI 3 from rfl, nI_add]
  · rw [hz, hg_m3f z, nI_add]
theorem hg_244 {z : Int32} (hP : post 1 ()) (hh : hg_hp a b c H) : wL_lawOf_244 post mc ms x3 x4 (nI a) (nI b) (nI c) (nI (hg_fm 0 0 a b c).length) (-1) z z kc ks fm H A := by
  have la := hh.2.2.2.1
  have lb := hh.2.2.2.2.1
  have lc := hh.2.2.2.2.2
  refine br_t rfl ⟨by decide, by decide, by decide, nm_r (e' := nI ((a ^^^ b ^^^ c) % 4)) ?_ (pk_le 3 a (fun z => hg_277 hP hh ?_) (fun z => hg_277 hP hh ?_))⟩
  · rw [show nI a - nI a / 4 * 4 = nI (a % 4) from pk_rem (d := 4) (by omega) (by decide) (by decide), show nI b - nI b / 4 * 4 = nI (b % 4) from pk_rem (d := 4) (by omega) (by decide) (by decide), show nI c - nI c / 4 * 4 = nI (c % 4) from pk_rem (d := 4) (by omega) (by decide) (by decide), hg_x3, hg_mod4 a la b lb c lc]
  · rw [hg_m3t z]; rfl
  · rw [hg_m3f z]
theorem hg_184 {big : Nat} {z : Int32} (hP : post 1 ()) (hh : hg_hp a b c H) (hbig : (big = 1 ∧ (1 < a ∨ 1 < b ∨ 1 < c)) ∨ (big = 0 ∧ a ≤ 1 ∧ b ≤ 1 ∧ c ≤ 1)) : wL_lawOf_184 post mc ms x3 x4 (nI a) (nI b) (nI c) (nI (hg_fm 0 0 a b c).length) (nI big) (-1) z z kc ks fm H A := by
  have la := hh.2.2.2.1
  have lb := hh.2.2.2.2.1
  have lc := hh.2.2.2.2.2
  refine br_t rfl (hg_winning (g := 0) hh (by decide) (by decide) (fun A1 _ => br_t rfl (hg_moves (g := 0) hh (by decide) (by decide) (fun A2 => br_t ?_ ?_))))
  · rw [hg_n0 la lb lc, nI_add, nI_add]
  · rcases hbig with ⟨e, h⟩ | ⟨e, h1, h2, h3⟩
    · subst e
      have q := hg_big1 h
      refine hg_wonH (g := 1) hh (by decide) (by decide) (fun w => br_t rfl (hg_wonH (g := 0) hh (by decide) (by decide) (fun w2 => hg_244 hP hh) (fun w2 => ?_))) (fun w => br_t rfl (hg_wonH (g := 0) hh (by decide) (by decide) (fun w2 => ?_) (fun w2 => hg_244 hP hh)))
      · rw [w, w2] at q; cases q
      · rw [w, w2] at q; cases q
    · subst e
      have q := hg_big0 h1 h2 h3
      refine hg_wonH (g := 1) hh (by decide) (by decide) (fun w => br_f (by decide) (hg_wonH (g := 0) hh (by decide) (by decide) (fun w2 => ?_) (fun w2 => hg_244 hP hh))) (fun w => br_f (by decide) (hg_wonH (g := 0) hh (by decide) (by decide) (fun w2 => hg_244 hP hh) (fun w2 => ?_)))
      · rw [w, w2] at q; cases q
      · rw [w, w2] at q; cases q
theorem hg_127 {J : Int32 → Int32 → Prop} {x6 x7 x8 x11 x12 : Int32} {h s n m : Nat} (hh : h < 16) (hs : s < 16) (K : J (nI (n + hg_cnt h s)) (nI (m + 1))) : wL_lawOf_127 post mc ms J x3 x4 x6 x7 x8 (nI s) (nI n) x11 x12 (nI m) (nI h) kc ks fm H A := by
  unfold hg_cnt at K
  have hx := hg_xlt hh hs
  refine nm_r (hg_nxor h s) (pk_eq s 0 (fun z => ?_) (fun z => pk_le h (h ^^^ s) (fun z2 => ?_) (fun z2 => ?_)))
  · rw [if_pos z] at K
    exact nm_r (nI_1 m) K
  · rw [if_neg z, if_pos z2] at K
    exact nm_r (nI_1 m) K
  · rw [if_neg z, if_neg (by omega)] at K
    exact nm_r (nI_1 n) (nm_r (nI_1 m) K)
theorem hg_98 {big : Nat} (hP : post 1 ()) (hh : hg_hp a b c H) (hbig : (big = 1 ∧ (1 < a ∨ 1 < b ∨ 1 < c)) ∨ (big = 0 ∧ a ≤ 1 ∧ b ≤ 1 ∧ c ≤ 1)) :
    ∃ fu, wL_lawOf_98 post mc ms x3 x4 (nI a) (nI b) (nI c) (nI (a ^^^ b ^^^ c)) (nI big) (-1) kc ks fm H A fu 0 0 := by
  have la := hh.2.2.2.1
  have lb := hh.2.2.2.2.1
  have lc := hh.2.2.2.2.2
  have hx : a ^^^ b ^^^ c < 16 := hg_xlt (hg_xlt la lb) lc
  refine ⟨4, pk_le 3 0 (fun z => absurd z (by omega)) (fun _ => br_t rfl (hg_127 (n := 0) (m := 0) la hx (pk_le 3 1 (fun z => absurd z (by omega)) (fun _ => br_f (by decide) (br_t rfl (hg_127 (m := 1) lb hx (pk_le 3 2 (fun z => absurd z (by omega)) (fun _ => br_f (by decide) (br_f (by decide) (hg_127 (m := 2) lc hx (pk_le 3 3 (fun _ => ?_) (fun z => absurd z (by omega)))))))))))))⟩
  have e := hg_n00 la lb lc
  rw [Nat.zero_add, ← e]
  refine hg_value0 hh (br_t rfl (hg_wonH (g := 0) hh (by decide) (by decide) (fun w => ?_) (fun w => ?_)))
  · rw [hg_w0] at w
    exact pk_eq (a ^^^ b ^^^ c) 0 (fun _ => hg_184 hP hh hbig) (fun z => absurd w z)
  · have w' : ¬ a ^^^ b ^^^ c = 0 := fun q => by rw [(hg_w0 a b c).mpr q] at w; cases w
    exact pk_eq (a ^^^ b ^^^ c) 0 (fun z => absurd z w') (fun _ => hg_184 hP hh hbig)
theorem hg_63 {big : Nat} (hP : post 1 ()) (la : a < 16) (lb : b < 16) (lc : c < 16) (hbig : (big = 1 ∧ (1 < a ∨ 1 < b ∨ 1 < c)) ∨ (big = 0 ∧ a ≤ 1 ∧ b ≤ 1 ∧ c ≤ 1)) :
    wL_lawOf_63 post mc ms x3 x4 (nI a) (nI b) (nI c) (nI (a ^^^ b ^^^ c)) 0 (nI big) kc ks fm H A := by
  unfold wL_lawOf_63
  exact hg_heap (i := 0) (by decide) la (fun _ => hg_heap (i := 1) (by decide) lb (fun _ => hg_heap (i := 2) (by decide) lc (fun _ => hg_98 hP ⟨hg_H'0 H a b c, hg_H'1 H a b c, hg_H'2 H a b c, la, lb, lc⟩ hbig)))
theorem hg_lawOf {p0 p1 p2 : Int32} (hP : post 1 ()) (hmc : 5 ≤ mc) (hms : 1000 ≤ ms) : wpL_lawOf post mc ms () p0 p1 p2 x3 x4 := by
  obtain ⟨a, ha, ea⟩ := pk_andE p0 (m := 15) 4 (by decide)
  obtain ⟨b, hb, eb⟩ := pk_andE p1 (m := 15) 4 (by decide)
  obtain ⟨c, hc, ec⟩ := pk_andE p2 (m := 15) 4 (by decide)
  have la : a < 16 := ha
  have lb : b < 16 := hb
  have lc : c < 16 := hc
  have B1 : (1 < a ∨ 1 < b ∨ 1 < c) → ∀ kc ks, wL_lawOf_58 post mc ms x3 x4 (nI a) (nI b) (nI c) (nI (a ^^^ b ^^^ c)) 0 kc ks 0 (fun _ => 0) (fun _ => 0) := fun h kc ks => hg_63 (big := 1) hP la lb lc (Or.inl ⟨rfl, h⟩)
  refine ⟨by omega, by omega, 2, 803, by omega, by omega, by omega, by omega, by omega, by omega, nm_r ea (nm_r eb (nm_r ec (nm_r (hg_x3 a b c) (pk_lt 1 a (fun z => B1 (by omega) _ _) (fun z1 => pk_lt 1 b (fun z => B1 (by omega) _ _) (fun z2 => pk_le c 1 (fun z3 => hg_63 (big := 0) hP la lb lc (Or.inr ⟨rfl, z1, z2, z3⟩)) (fun z => B1 (by omega) _ _)))))))⟩
end
theorem hg_cell {post : Int32 → Prop} {xs : Nat → Int32} {L n : Nat} (hL : L ≤ 5) (hn : n < 5) (K : ∀ x, post x) : wpL_cellAt post L xs () (nI n) :=
  pk_le L n (fun _ => K _) (fun z => ⟨pk_in n L z, K _⟩)
theorem i_vc (xs : Nat → Int32) (L : Nat) (hL : L ≤ 5) : wpL_law (fun r => r = 1) L xs :=
  hg_cell (n := 0) hL (by decide) (fun r1 => hg_cell (n := 1) hL (by decide) (fun r2 => hg_cell (n := 2) hL (by decide) (fun r3 => hg_cell (n := 3) hL (by decide) (fun r4 => hg_cell (n := 4) hL (by decide) (fun r5 => ⟨5, 1000, by decide, by decide, hg_lawOf rfl (by decide) (by decide)⟩)))))
end
