section
/-! pure picture: every cell of the tables is the list of the scores of the folds of its stretch -/
def rf_cat (g : Nat → List Int) : Nat → List Int
  | 0 => []
  | m + 1 => rf_cat g m ++ g m
theorem rf_cat_mem {g : Nat → List Int} {s : Int} : ∀ {m : Nat}, s ∈ rf_cat g m ↔ ∃ d, d < m ∧ s ∈ g d := by
  intro m
  induction m with
  | zero => exact ⟨fun h => absurd h List.not_mem_nil, fun h => by obtain ⟨d, h, _⟩ := h; exact absurd h (by omega)⟩
  | succ m ih =>
    constructor
    · intro h
      rcases List.mem_append.mp h with h | h
      · obtain ⟨d, hd, hs⟩ := ih.mp h
        exact ⟨d, by omega, hs⟩
      · exact ⟨m, by omega, h⟩
    · intro h
      obtain ⟨d, hd, hs⟩ := h
      rcases Nat.lt_or_ge d m with z | z
      · exact List.mem_append.mpr (Or.inl (ih.mpr ⟨d, z, hs⟩))
      · have e : d = m := by omega
        rw [e] at hs
        exact List.mem_append.mpr (Or.inr hs)
theorem rf_cat_sub {g g' : Nat → List Int} : ∀ {m : Nat}, (∀ d, d < m → List.Sublist (g d) (g' d)) → List.Sublist (rf_cat g m) (rf_cat g' m) := by
  intro m
  induction m with
  | zero => intro _; exact List.Sublist.refl _
  | succ m ih => intro h; exact List.Sublist.append (ih (fun d hd => h d (by omega))) (h m (by omega))
theorem rf_cat_le {g : Nat → List Int} {m m' : Nat} (h : m ≤ m') : List.Sublist (rf_cat g m) (rf_cat g m') := by
  induction m' with
  | zero =>
    have e : m = 0 := by omega
    rw [e]
    exact List.Sublist.refl _
  | succ k ih =>
    rcases Nat.lt_or_ge m (k + 1) with z | z
    · exact List.Sublist.trans (ih (by omega)) (List.sublist_append_left _ _)
    · have e : m = k + 1 := by omega
      rw [e]
      exact List.Sublist.refl _
theorem rf_cat_len {g : Nat → List Int} {c : Nat} : ∀ {m : Nat}, (∀ d, d < m → (g d).length ≤ c) → (rf_cat g m).length ≤ m * c := by
  intro m
  induction m with
  | zero => intro _; exact Nat.zero_le _
  | succ m ih =>
    intro h
    show (rf_cat g m ++ g m).length ≤ (m + 1) * c
    rw [List.length_append, Nat.succ_mul]
    exact Nat.add_le_add (ih (fun d hd => h d (by omega))) (h m (by omega))
/-- sums of two scores -/
def rf_pr (X Y : List Int) : List Int := X.flatMap (fun a => Y.map (fun b => a + b))
theorem rf_pr_cons (a : Int) (X Y : List Int) : rf_pr (a :: X) Y = Y.map (fun b => a + b) ++ rf_pr X Y := List.flatMap_cons
theorem rf_pr_mem {X Y : List Int} {s : Int} : s ∈ rf_pr X Y ↔ ∃ a, a ∈ X ∧ ∃ b, b ∈ Y ∧ s = a + b := by
  unfold rf_pr
  rw [List.mem_flatMap]
  constructor
  · intro h
    obtain ⟨a, ha, h⟩ := h
    obtain ⟨b, hb, e⟩ := List.mem_map.mp h
    exact ⟨a, ha, b, hb, e.symm⟩
  · intro h
    obtain ⟨a, ha, b, hb, e⟩ := h
    exact ⟨a, ha, List.mem_map.mpr ⟨b, hb, e.symm⟩⟩
theorem rf_pr_len (X Y : List Int) : (rf_pr X Y).length = X.length * Y.length := by
  induction X with
  | nil => simp [rf_pr]
  | cons a X ih => rw [rf_pr_cons, List.length_append, List.length_map, ih, List.length_cons, Nat.succ_mul, Nat.add_comm]
theorem rf_pr_sub {X X' Y Y' : List Int} (hX : List.Sublist X X') (hY : List.Sublist Y Y') : List.Sublist (rf_pr X Y) (rf_pr X' Y') := by
  induction hX with
  | slnil => exact List.Sublist.refl _
  | cons a h ih =>
    rw [rf_pr_cons]
    exact List.Sublist.trans ih (List.sublist_append_right _ _)
  | cons_cons a h ih =>
    rw [rf_pr_cons, rf_pr_cons]
    exact List.Sublist.append (List.Sublist.map _ hY) ih
theorem rf_ite_sub {c c' : Bool} {A A' : List Int} (h : c = true → c' = true) (hA : c = true → List.Sublist A A') : List.Sublist (if c = true then A else []) (if c' = true then A' else []) := by
  by_cases hc : c = true
  · rw [if_pos hc, if_pos (h hc)]
    exact hA hc
  · rw [if_neg hc]
    exact List.nil_sublist _
/-- all places from i on, m of them, may be free -/
def rf_fm (fr : Nat → Bool) (i : Nat) : Nat → Bool
  | 0 => true
  | m + 1 => rf_fm fr i m && fr (i + m)
theorem rf_fm_iff {fr : Nat → Bool} {i : Nat} : ∀ {m : Nat}, rf_fm fr i m = true ↔ ∀ d, d < m → fr (i + d) = true := by
  intro m
  induction m with
  | zero => exact ⟨fun _ d hd => absurd hd (by omega), fun _ => rfl⟩
  | succ m ih =>
    show (rf_fm fr i m && fr (i + m)) = true ↔ _
    rw [Bool.and_eq_true, ih]
    constructor
    · intro h d hd
      rcases Nat.lt_or_ge d m with z | z
      · exact h.1 d z
      · have e : d = m := by omega
        rw [e]
        exact h.2
    · intro h
      exact ⟨fun d hd => h d (by omega), h m (by omega)⟩
def rf_free (fr : Nat → Bool) (i j : Nat) : Bool := rf_fm fr i (j - i)
theorem rf_free_iff {fr : Nat → Bool} {i j : Nat} : rf_free fr i j = true ↔ ∀ p, i ≤ p → p < j → fr p = true := by
  unfold rf_free
  rw [rf_fm_iff]
  constructor
  · intro h p h1 h2
    have e : i + (p - i) = p := by omega
    have := h (p - i) (by omega)
    rw [e] at this
    exact this
  · intro h d hd
    exact h (i + d) (by omega) (by omega)
def rf_FA (fr : Nat → Bool) (G : Nat → Nat → Nat → List Int) (l i j m : Nat) : List Int :=
  (if fr i = true then G l (i + 1) j else []) ++ rf_cat (fun d => rf_pr (G 3 i (i + 1 + d)) (G (l - 1) (i + 2 + d) j)) m
def rf_ex (t : Nat → Int) (i j k l : Nat) : Int := if k = i + 1 ∧ l + 1 = j then t 3 else - t 4
def rf_FI (fr : Nat → Bool) (t : Nat → Int) (o : Int) (G : Nat → Nat → Nat → List Int) (i j k m : Nat) : List Int :=
  rf_cat (fun e => if rf_free fr (k + 2 + e) j = true then (G 3 k (k + 1 + e)).map (fun s => o + rf_ex t i j k (k + 1 + e) + s) else []) m
def rf_FK (fr : Nat → Bool) (t : Nat → Int) (o : Int) (G : Nat → Nat → Nat → List Int) (i j m : Nat) : List Int :=
  (if rf_free fr (i + 1) j = true then [o] else []) ++ rf_cat (fun d => if rf_free fr (i + 1) (i + 1 + d) = true then rf_FI fr t o G i j (i + 1 + d) (j - (i + 2 + d)) else []) m
def rf_FP (fr : Nat → Bool) (mp : Nat → Nat → Bool) (ow : Nat → Nat → Int) (t : Nat → Int) (G : Nat → Nat → Nat → List Int) (i j : Nat) : List Int :=
  if i < j ∧ mp i j = true then rf_FK fr t (ow i j) G i j (j - (i + 1)) ++ (G 2 (i + 1) j).map (fun s => ow i j - t 5 + s) else []
def rf_F (fr : Nat → Bool) (mp : Nat → Nat → Bool) (ow : Nat → Nat → Int) (t : Nat → Int) (G : Nat → Nat → Nat → List Int) (k i j : Nat) : List Int :=
  if k = 3 then rf_FP fr mp ow t G i j else if i < j then rf_FA fr G k i j (j - (i + 1)) else if k = 0 then [0] else []
def rf_C (fr : Nat → Bool) (mp : Nat → Nat → Bool) (ow : Nat → Nat → Int) (t : Nat → Int) : Nat → Nat → Nat → Nat → List Int
  | 0 => fun _ _ _ => []
  | f + 1 => rf_F fr mp ow t (rf_C fr mp ow t f)
def rf_ms (k i j : Nat) : Nat := if k = 3 then 2 * (j - i) + 1 else 2 * (j - i)
def rf_hi (k j : Nat) : Nat := if k = 3 then j + 1 else j
theorem rf_ms3 (i j : Nat) : rf_ms 3 i j = 2 * (j - i) + 1 := rfl
theorem rf_hi3 (j : Nat) : rf_hi 3 j = j + 1 := rfl
theorem rf_msA {k : Nat} (h : k ≠ 3) (i j : Nat) : rf_ms k i j = 2 * (j - i) := if_neg h
theorem rf_hiA {k : Nat} (h : k ≠ 3) (j : Nat) : rf_hi k j = j := if_neg h
theorem rf_FI_sub {fr fr' : Nat → Bool} {t : Nat → Int} {o : Int} {G G' : Nat → Nat → Nat → List Int} {i j k m : Nat} (hi : i < k)
    (hm : k + 1 + m ≤ j)
    (hf : ∀ p, i ≤ p → p < j + 1 → fr p = true → fr' p = true)
    (hG : ∀ l, k < l → l < j → List.Sublist (G 3 k l) (G' 3 k l)) : List.Sublist (rf_FI fr t o G i j k m) (rf_FI fr' t o G' i j k m) := by
  unfold rf_FI
  refine rf_cat_sub (fun e he => rf_ite_sub (fun h => ?_) (fun _ => List.Sublist.map _ (hG _ (by omega) (by omega))))
  rw [rf_free_iff] at h ⊢
  exact fun p h1 h2 => hf p (by omega) (by omega) (h p h1 h2)
theorem rf_FK_sub {fr fr' : Nat → Bool} {t : Nat → Int} {o : Int} {G G' : Nat → Nat → Nat → List Int} {i j m : Nat} 
    (hm : i + 1 + m ≤ j)
    (hf : ∀ p, i ≤ p → p < j + 1 → fr p = true → fr' p = true)
    (hG : ∀ k l, i < k → k < l → l < j → List.Sublist (G 3 k l) (G' 3 k l)) : List.Sublist (rf_FK fr t o G i j m) (rf_FK fr' t o G' i j m) := by
  unfold rf_FK
  refine List.Sublist.append (rf_ite_sub (fun h => ?_) (fun _ => List.Sublist.refl _)) (rf_cat_sub (fun d hd => rf_ite_sub (fun h => ?_) (fun _ => rf_FI_sub (by omega) (by omega) hf (fun l h1 h2 => hG _ l (by omega) h1 h2))))
  · rw [rf_free_iff] at h ⊢
    exact fun p h1 h2 => hf p (by omega) (by omega) (h p h1 h2)
  · rw [rf_free_iff] at h ⊢
    exact fun p h1 h2 => hf p (by omega) (by omega) (h p h1 h2)
theorem rf_F_sub {fr fr' : Nat → Bool} {mp mp' : Nat → Nat → Bool} {ow : Nat → Nat → Int} {t : Nat → Int} {G G' : Nat → Nat → Nat → List Int} {k i j : Nat} (hk : k ≤ 3)
    (hf : ∀ p, i ≤ p → p < rf_hi k j → fr p = true → fr' p = true)
    (hm : ∀ p q, i ≤ p → p < q → q < rf_hi k j → mp p q = true → mp' p q = true)
    (hG : ∀ k' i' j', k' ≤ 3 → i ≤ i' → rf_hi k' j' ≤ rf_hi k j → i' ≤ j' → rf_ms k' i' j' < rf_ms k i j → List.Sublist (G k' i' j') (G' k' i' j')) :
    List.Sublist (rf_F fr mp ow t G k i j) (rf_F fr' mp' ow t G' k i j) := by
  unfold rf_F
  by_cases h3 : k = 3
  · rw [if_pos h3, if_pos h3]
    subst h3
    simp only [rf_hi3, rf_ms3] at hf hm hG
    unfold rf_FP
    by_cases hc : i < j ∧ mp i j = true
    · rw [if_pos hc, if_pos ⟨hc.1, hm i j (by omega) hc.1 (by omega) hc.2⟩]
      refine List.Sublist.append (rf_FK_sub (by omega) hf (fun k' l' h1 h2 h3 => hG 3 k' l' (by omega) (by omega) (by rw [rf_hi3]; omega) (by omega) (by rw [rf_ms3]; omega))) (List.Sublist.map _ (hG 2 (i + 1) j (by omega) (by omega) ?_ (by omega) ?_))
      · rw [rf_hiA (by omega)]; omega
      · rw [rf_msA (by omega)]; omega
    · rw [if_neg hc]
      exact List.nil_sublist _
  · rw [if_neg h3, if_neg h3]
    simp only [rf_hiA h3, rf_msA h3] at hf hm hG
    by_cases hc : i < j
    · rw [if_pos hc, if_pos hc]
      unfold rf_FA
      refine List.Sublist.append (rf_ite_sub (hf i (by omega) hc) (fun _ => hG k (i + 1) j hk (by omega) (by rw [rf_hiA h3]; omega) (by omega) (by rw [rf_msA h3]; omega))) (rf_cat_sub (fun d hd => rf_pr_sub (hG 3 i _ (by omega) (by omega) (by rw [rf_hi3]; omega) (by omega) (by rw [rf_ms3]; omega)) (hG (k - 1) _ j (by omega) (by omega) ?_ (by omega) ?_)))
      · rw [rf_hiA (by omega)]; omega
      · rw [rf_msA (by omega)]; omega
    · rw [if_neg hc, if_neg hc]
      exact List.Sublist.refl _
theorem rf_C_sub {fr fr' : Nat → Bool} {mp mp' : Nat → Nat → Bool} {ow : Nat → Nat → Int} {t : Nat → Int} : ∀ (f f' k i j : Nat), k ≤ 3 → rf_ms k i j < f → rf_ms k i j < f' →
    (∀ p, i ≤ p → p < rf_hi k j → fr p = true → fr' p = true) →
    (∀ p q, i ≤ p → p < q → q < rf_hi k j → mp p q = true → mp' p q = true) →
    List.Sublist (rf_C fr mp ow t f k i j) (rf_C fr' mp' ow t f' k i j) := by
  intro f
  induction f with
  | zero => intro f' k i j _ h; exact absurd h (by omega)
  | succ f ih =>
    intro f' k i j hk h h' hf hm
    cases f' with
    | zero => exact absurd h' (by omega)
    | succ f' =>
      show List.Sublist (rf_F fr mp ow t (rf_C fr mp ow t f) k i j) (rf_F fr' mp' ow t (rf_C fr' mp' ow t f') k i j)
      refine rf_F_sub hk hf hm (fun k' i' j' g1 g2 g3 g4 g5 => ih f' k' i' j' g1 (by omega) (by omega) (fun p h1 h2 => hf p (by omega) (by omega)) (fun p q h1 h2 h3 => hm p q (by omega) h2 (by omega)))
/-- the scores of the folds: k < 3: the places i .. j - 1 with at least k pairs at the top; k = 3: the pair (i, j) -/
def rf_L (fr : Nat → Bool) (mp : Nat → Nat → Bool) (ow : Nat → Nat → Int) (t : Nat → Int) (k i j : Nat) : List Int := rf_C fr mp ow t (rf_ms k i j + 1) k i j
theorem rf_L_sub {fr fr' : Nat → Bool} {mp mp' : Nat → Nat → Bool} {ow : Nat → Nat → Int} {t : Nat → Int} {k i j : Nat} (hk : k ≤ 3)
    (hf : ∀ p, i ≤ p → p < rf_hi k j → fr p = true → fr' p = true)
    (hm : ∀ p q, i ≤ p → p < q → q < rf_hi k j → mp p q = true → mp' p q = true) :
    List.Sublist (rf_L fr mp ow t k i j) (rf_L fr' mp' ow t k i j) :=
  rf_C_sub _ _ k i j hk (by omega) (by omega) hf hm
theorem rf_L_eq {fr : Nat → Bool} {mp : Nat → Nat → Bool} {ow : Nat → Nat → Int} {t : Nat → Int} {k i j : Nat} (hk : k ≤ 3) :
    rf_L fr mp ow t k i j = rf_F fr mp ow t (rf_L fr mp ow t) k i j := by
  have s1 : List.Sublist (rf_F fr mp ow t (rf_C fr mp ow t (rf_ms k i j)) k i j) (rf_F fr mp ow t (rf_L fr mp ow t) k i j) :=
    rf_F_sub hk (fun p _ _ h => h) (fun p q _ _ _ h => h) (fun k' i' j' g1 g2 g3 g4 g5 => rf_C_sub _ _ k' i' j' g1 g5 (by omega) (fun p _ _ h => h) (fun p q _ _ _ h => h))
  have s2 : List.Sublist (rf_F fr mp ow t (rf_L fr mp ow t) k i j) (rf_F fr mp ow t (rf_C fr mp ow t (rf_ms k i j)) k i j) :=
    rf_F_sub hk (fun p _ _ h => h) (fun p q _ _ _ h => h) (fun k' i' j' g1 g2 g3 g4 g5 => rf_C_sub _ _ k' i' j' g1 (by omega) g5 (fun p _ _ h => h) (fun p q _ _ _ h => h))
  exact List.Sublist.eq_of_length_le s1 s2.length_le
theorem rf_LA {fr : Nat → Bool} {mp : Nat → Nat → Bool} {ow : Nat → Nat → Int} {t : Nat → Int} {k i j : Nat} (hk : k < 3) (h : i < j) :
    rf_L fr mp ow t k i j = rf_FA fr (rf_L fr mp ow t) k i j (j - (i + 1)) := by
  rw [rf_L_eq (by omega)]
  unfold rf_F
  rw [if_neg (by omega), if_pos h]
theorem rf_L0 {fr : Nat → Bool} {mp : Nat → Nat → Bool} {ow : Nat → Nat → Int} {t : Nat → Int} {k i j : Nat} (hk : k < 3) (h : ¬ i < j) :
    rf_L fr mp ow t k i j = if k = 0 then [0] else [] := by
  rw [rf_L_eq (by omega)]
  unfold rf_F
  rw [if_neg (by omega), if_neg h]
theorem rf_LP {fr : Nat → Bool} {mp : Nat → Nat → Bool} {ow : Nat → Nat → Int} {t : Nat → Int} {i j : Nat} :
    rf_L fr mp ow t 3 i j = rf_FP fr mp ow t (rf_L fr mp ow t) i j := by
  rw [rf_L_eq (by omega)]
  unfold rf_F
  rw [if_pos rfl]
theorem rf_LP1 {fr : Nat → Bool} {mp : Nat → Nat → Bool} {ow : Nat → Nat → Int} {t : Nat → Int} {i j : Nat} (h : i < j) (hm : mp i j = true) :
    rf_L fr mp ow t 3 i j = rf_FK fr t (ow i j) (rf_L fr mp ow t) i j (j - (i + 1)) ++ (rf_L fr mp ow t 2 (i + 1) j).map (fun s => ow i j - t 5 + s) := by
  rw [rf_LP]
  unfold rf_FP
  rw [if_pos ⟨h, hm⟩]
theorem rf_LP0 {fr : Nat → Bool} {mp : Nat → Nat → Bool} {ow : Nat → Nat → Int} {t : Nat → Int} {i j : Nat} (h : ¬ (i < j ∧ mp i j = true)) :
    rf_L fr mp ow t 3 i j = [] := by
  rw [rf_LP]
  unfold rf_FP
  rw [if_neg h]
end
section
/-! lengths, bounds, membership -/
theorem rf_p8 {a b c : Nat} (h : a + b = c) : 8 ^ a * 8 ^ b = 8 ^ c := by rw [← h, Nat.pow_add]
theorem rf_L_len {fr : Nat → Bool} {mp : Nat → Nat → Bool} {ow : Nat → Nat → Int} {t : Nat → Int} : ∀ (w k i j : Nat), k ≤ 3 → i ≤ j → j - i ≤ 7 → rf_ms k i j < w →
    (rf_L fr mp ow t k i j).length ≤ 8 ^ (j - i) := by
  intro w
  induction w with
  | zero => intro k i j _ _ _ h; exact absurd h (by omega)
  | succ w ih =>
    intro k i j hk hij h7 hw
    by_cases h3 : k = 3
    · subst h3
      rw [rf_ms3] at hw
      by_cases hc : i < j ∧ mp i j = true
      · rw [rf_LP1 hc.1 hc.2, List.length_append, List.length_map]
        have hlt := hc.1
        have hA := ih 2 (i + 1) j (by omega) (by omega) (by omega) (by rw [rf_msA (by omega)]; omega)
        have h1 : (if rf_free fr (i + 1) j = true then [ow i j] else []).length ≤ 1 := by
          by_cases z : rf_free fr (i + 1) j = true
          · rw [if_pos z]; exact Nat.le_refl _
          · rw [if_neg z]; exact Nat.zero_le _
        unfold rf_FK
        rw [List.length_append]
        rcases Nat.lt_or_ge (j - i) 2 with z | z
        · have e : j - (i + 1) = 0 := by omega
          have e1 : j - i = 1 := by omega
          rw [e] at hA ⊢
          rw [e1]
          show _ + 0 + _ ≤ 8 ^ 1
          have : (8 : Nat) ^ 0 = 1 := rfl
          have : (8 : Nat) ^ 1 = 8 := rfl
          omega
        · have e2 : (8 : Nat) ^ (j - (i + 1)) = 8 * 8 ^ (j - (i + 2)) := by
            rw [show j - (i + 1) = (j - (i + 2)) + 1 by omega, Nat.pow_succ, Nat.mul_comm]
          have e3 : (8 : Nat) ^ (j - i) = 64 * 8 ^ (j - (i + 2)) := by
            rw [show j - i = (j - (i + 2)) + 2 by omega, Nat.pow_add, Nat.mul_comm]
          have hp : 0 < 8 ^ (j - (i + 2)) := Nat.pow_pos (by omega)
          have h2 : (rf_cat (fun d => if rf_free fr (i + 1) (i + 1 + d) = true then rf_FI fr t (ow i j) (rf_L fr mp ow t) i j (i + 1 + d) (j - (i + 2 + d)) else []) (j - (i + 1))).length ≤ (j - (i + 1)) * (5 * 8 ^ (j - (i + 2))) := by
            refine rf_cat_len (fun d hd => ?_)
            by_cases z : rf_free fr (i + 1) (i + 1 + d) = true
            · rw [if_pos z]
              have h5 : (rf_FI fr t (ow i j) (rf_L fr mp ow t) i j (i + 1 + d) (j - (i + 2 + d))).length ≤ (j - (i + 2 + d)) * 8 ^ (j - (i + 2)) := by
                unfold rf_FI
                refine rf_cat_len (fun e he => ?_)
                by_cases z : rf_free fr (i + 1 + d + 2 + e) j = true
                · rw [if_pos z, List.length_map]
                  refine Nat.le_trans (ih 3 _ _ (by omega) (by omega) (by omega) (by rw [rf_ms3]; omega)) (Nat.pow_le_pow_right (by omega) (by omega))
                · rw [if_neg z]; exact Nat.zero_le _
              exact Nat.le_trans h5 (Nat.mul_le_mul_right _ (by omega))
            · rw [if_neg z]; exact Nat.zero_le _
          have h6 : (j - (i + 1)) * (5 * 8 ^ (j - (i + 2))) ≤ 6 * (5 * 8 ^ (j - (i + 2))) := Nat.mul_le_mul_right _ (by omega)
          rw [e2] at hA
          rw [e3]
          omega
      · rw [rf_LP0 hc]
        exact Nat.zero_le _
    · by_cases hc : i < j
      · rw [rf_LA (by omega) hc]
        unfold rf_FA
        rw [rf_msA h3] at hw
        have hA := ih k (i + 1) j hk (by omega) (by omega) (by rw [rf_msA h3]; omega)
        have e3 : (8 : Nat) ^ (j - i) = 8 * 8 ^ (j - (i + 1)) := by
          rw [show j - i = (j - (i + 1)) + 1 by omega, Nat.pow_succ, Nat.mul_comm]
        have h1 : (if fr i = true then rf_L fr mp ow t k (i + 1) j else []).length ≤ 8 ^ (j - (i + 1)) := by
          by_cases z : fr i = true
          · rw [if_pos z]; exact hA
          · rw [if_neg z]; exact Nat.zero_le _
        have h2 : (rf_cat (fun d => rf_pr (rf_L fr mp ow t 3 i (i + 1 + d)) (rf_L fr mp ow t (k - 1) (i + 2 + d) j)) (j - (i + 1))).length ≤ (j - (i + 1)) * 8 ^ (j - (i + 1)) := by
          refine rf_cat_len (fun d hd => ?_)
          rw [rf_pr_len, ← rf_p8 (show (i + 1 + d - i) + (j - (i + 2 + d)) = j - (i + 1) by omega)]
          exact Nat.mul_le_mul (ih 3 i _ (by omega) (by omega) (by omega) (by rw [rf_ms3]; omega)) (ih (k - 1) _ j (by omega) (by omega) (by omega) (by rw [rf_msA (by omega)]; omega))
        have h6 : (j - (i + 1)) * 8 ^ (j - (i + 1)) ≤ 6 * 8 ^ (j - (i + 1)) := Nat.mul_le_mul_right _ (by omega)
        rw [List.length_append, e3]
        omega
      · rw [rf_L0 (by omega) hc]
        have hp : 0 < 8 ^ (j - i) := Nat.pow_pos (by omega)
        by_cases z : k = 0
        · rw [if_pos z]; exact hp
        · rw [if_neg z]; exact Nat.zero_le _
/-- every list here is short -/
theorem rf_L_short {fr : Nat → Bool} {mp : Nat → Nat → Bool} {ow : Nat → Nat → Int} {t : Nat → Int} {k i j : Nat} (hk : k ≤ 3) (h : i ≤ j) (h7 : j ≤ 7) : (rf_L fr mp ow t k i j).length ≤ 2097152 :=
  Nat.le_trans (rf_L_len _ k i j hk h (by omega) (Nat.lt_succ_self _)) (Nat.le_trans (Nat.pow_le_pow_right (by omega) (show j - i ≤ 7 by omega)) (by decide))
theorem rf_memA {fr : Nat → Bool} {mp : Nat → Nat → Bool} {ow : Nat → Nat → Int} {t : Nat → Int} {k i j : Nat} {s : Int} (hk : k < 3) :
    s ∈ rf_L fr mp ow t k i j ↔ (¬ i < j ∧ k = 0 ∧ s = 0) ∨ (i < j ∧ fr i = true ∧ s ∈ rf_L fr mp ow t k (i + 1) j) ∨
      (∃ q, i < q ∧ q < j ∧ ∃ a, a ∈ rf_L fr mp ow t 3 i q ∧ ∃ b, b ∈ rf_L fr mp ow t (k - 1) (q + 1) j ∧ s = a + b) := by
  by_cases hc : i < j
  · rw [rf_LA hk hc]
    unfold rf_FA
    rw [List.mem_append, rf_cat_mem]
    constructor
    · intro h
      rcases h with h | h
      · by_cases z : fr i = true
        · rw [if_pos z] at h
          exact Or.inr (Or.inl ⟨hc, z, h⟩)
        · rw [if_neg z] at h
          exact absurd h List.not_mem_nil
      · obtain ⟨d, hd, h⟩ := h
        obtain ⟨a, ha, b, hb, e⟩ := rf_pr_mem.mp h
        exact Or.inr (Or.inr ⟨i + 1 + d, by omega, by omega, a, ha, b, by rw [show i + 1 + d + 1 = i + 2 + d by omega]; exact hb, e⟩)
    · intro h
      rcases h with h | h | h
      · exact absurd hc h.1
      · exact Or.inl (by rw [if_pos h.2.1]; exact h.2.2)
      · obtain ⟨q, h1, h2, a, ha, b, hb, e⟩ := h
        refine Or.inr ⟨q - (i + 1), by omega, rf_pr_mem.mpr ⟨a, ?_, b, ?_, e⟩⟩
        · rw [show i + 1 + (q - (i + 1)) = q by omega]; exact ha
        · rw [show i + 2 + (q - (i + 1)) = q + 1 by omega]; exact hb
  · rw [rf_L0 hk hc]
    constructor
    · intro h
      by_cases z : k = 0
      · rw [if_pos z] at h
        exact Or.inl ⟨hc, z, List.mem_singleton.mp h⟩
      · rw [if_neg z] at h
        exact absurd h List.not_mem_nil
    · intro h
      rcases h with h | h | h
      · rw [if_pos h.2.1]
        exact List.mem_singleton.mpr h.2.2
      · exact absurd h.1 hc
      · obtain ⟨q, h1, h2, _⟩ := h
        exact absurd (Nat.lt_trans h1 h2) hc
theorem rf_memP {fr : Nat → Bool} {mp : Nat → Nat → Bool} {ow : Nat → Nat → Int} {t : Nat → Int} {i j : Nat} {s : Int} :
    s ∈ rf_L fr mp ow t 3 i j ↔ i < j ∧ mp i j = true ∧ (((∀ p, i + 1 ≤ p → p < j → fr p = true) ∧ s = ow i j) ∨
      (∃ k l, i < k ∧ k < l ∧ l < j ∧ (∀ p, i + 1 ≤ p → p < k → fr p = true) ∧ (∀ p, l + 1 ≤ p → p < j → fr p = true) ∧ ∃ a, a ∈ rf_L fr mp ow t 3 k l ∧ s = ow i j + rf_ex t i j k l + a) ∨
      (∃ a, a ∈ rf_L fr mp ow t 2 (i + 1) j ∧ s = ow i j - t 5 + a)) := by
  by_cases hc : i < j ∧ mp i j = true
  · rw [rf_LP1 hc.1 hc.2]
    unfold rf_FK rf_FI
    rw [List.mem_append, List.mem_append, rf_cat_mem]
    constructor
    · intro h
      refine ⟨hc.1, hc.2, ?_⟩
      rcases h with (h | h) | h
      · by_cases z : rf_free fr (i + 1) j = true
        · rw [if_pos z] at h
          exact Or.inl ⟨rf_free_iff.mp z, List.mem_singleton.mp h⟩
        · rw [if_neg z] at h
          exact absurd h List.not_mem_nil
      · obtain ⟨d, hd, h⟩ := h
        by_cases z : rf_free fr (i + 1) (i + 1 + d) = true
        · rw [if_pos z, rf_cat_mem] at h
          obtain ⟨e, he, h⟩ := h
          by_cases y : rf_free fr (i + 1 + d + 2 + e) j = true
          · rw [if_pos y] at h
            obtain ⟨a, ha, ea⟩ := List.mem_map.mp h
            exact Or.inr (Or.inl ⟨i + 1 + d, i + 1 + d + 1 + e, by omega, by omega, by omega, rf_free_iff.mp z, by rw [show i + 1 + d + 1 + e + 1 = i + 1 + d + 2 + e by omega]; exact rf_free_iff.mp y, a, ha, ea.symm⟩)
          · rw [if_neg y] at h
            exact absurd h List.not_mem_nil
        · rw [if_neg z] at h
          exact absurd h List.not_mem_nil
      · obtain ⟨a, ha, ea⟩ := List.mem_map.mp h
        exact Or.inr (Or.inr ⟨a, ha, ea.symm⟩)
    · intro h
      obtain ⟨_, _, h⟩ := h
      rcases h with h | h | h
      · exact Or.inl (Or.inl (by rw [if_pos (rf_free_iff.mpr h.1)]; exact List.mem_singleton.mpr h.2))
      · obtain ⟨k, l, h1, h2, h3, h4, h5, a, ha, ea⟩ := h
        refine Or.inl (Or.inr ⟨k - (i + 1), by omega, ?_⟩)
        rw [show i + 1 + (k - (i + 1)) = k by omega, if_pos (rf_free_iff.mpr h4), rf_cat_mem]
        refine ⟨l - (k + 1), by omega, ?_⟩
        rw [show k + 2 + (l - (k + 1)) = l + 1 by omega, show k + 1 + (l - (k + 1)) = l by omega, if_pos (rf_free_iff.mpr h5)]
        exact List.mem_map.mpr ⟨a, ha, ea.symm⟩
      · obtain ⟨a, ha, ea⟩ := h
        exact Or.inr (List.mem_map.mpr ⟨a, ha, ea.symm⟩)
  · rw [rf_LP0 hc]
    exact ⟨fun h => absurd h List.not_mem_nil, fun h => absurd ⟨h.1, h.2.1⟩ hc⟩
/-- scores are small -/
theorem rf_L_bd {fr : Nat → Bool} {mp : Nat → Nat → Bool} {ow : Nat → Nat → Int} {t : Nat → Int} (ho : ∀ i j, 0 ≤ ow i j ∧ ow i j ≤ 20) (ht : ∀ p, 0 ≤ t p ∧ t p ≤ 20) :
    ∀ (w k i j : Nat) (s : Int), k ≤ 3 → i ≤ j → rf_ms k i j < w → s ∈ rf_L fr mp ow t k i j → -(20 * ((rf_hi k j - i : Nat) : Int)) ≤ s ∧ s ≤ 20 * ((rf_hi k j - i : Nat) : Int) := by
  intro w
  induction w with
  | zero => intro k i j s _ _ h; exact absurd h (by omega)
  | succ w ih =>
    intro k i j s hk hij hw hs
    by_cases h3 : k = 3
    · subst h3
      rw [rf_ms3] at hw
      rw [rf_hi3]
      obtain ⟨h1, h2, h⟩ := rf_memP.mp hs
      have o1 := ho i j
      rcases h with h | h | h
      · obtain ⟨_, e⟩ := h
        omega
      · obtain ⟨k', l', g1, g2, g3, _, _, a, ha, ea⟩ := h
        have hb := ih 3 k' l' a (by omega) (by omega) (by rw [rf_ms3]; omega) ha
        rw [rf_hi3] at hb
        have t3 := ht 3
        have t4 := ht 4
        have ex : -20 ≤ rf_ex t i j k' l' ∧ rf_ex t i j k' l' ≤ 20 := by
          unfold rf_ex
          by_cases z : k' = i + 1 ∧ l' + 1 = j
          · rw [if_pos z]; omega
          · rw [if_neg z]; omega
        omega
      · obtain ⟨a, ha, ea⟩ := h
        have hb := ih 2 (i + 1) j a (by omega) (by omega) (by rw [rf_msA (by omega)]; omega) ha
        rw [rf_hiA (by omega)] at hb
        have t5 := ht 5
        omega
    · rw [rf_msA h3] at hw
      rw [rf_hiA h3]
      rcases (rf_memA (by omega)).mp hs with h | h | h
      · omega
      · have hb := ih k (i + 1) j s hk (by omega) (by rw [rf_msA h3]; omega) h.2.2
        rw [rf_hiA h3] at hb
        omega
      · obtain ⟨q, g1, g2, a, ha, b, hb, e⟩ := h
        have ba := ih 3 i q a (by omega) (by omega) (by rw [rf_ms3]; omega) ha
        have bb := ih (k - 1) (q + 1) j b (by omega) (by omega) (by rw [rf_msA (by omega)]; omega) hb
        rw [rf_hi3] at ba
        rw [rf_hiA (by omega)] at bb
        omega
theorem rf_L_sm {fr : Nat → Bool} {mp : Nat → Nat → Bool} {ow : Nat → Nat → Int} {t : Nat → Int} (ho : ∀ i j, 0 ≤ ow i j ∧ ow i j ≤ 20) (ht : ∀ p, 0 ≤ t p ∧ t p ≤ 20)
    {k i j : Nat} {s : Int} (hk : k ≤ 3) (hij : i ≤ j) (h7 : j ≤ 7) (hs : s ∈ rf_L fr mp ow t k i j) : -160 ≤ s ∧ s ≤ 160 := by
  have h := rf_L_bd ho ht _ k i j s hk hij (Nat.lt_succ_self _) hs
  have hh : rf_hi k j ≤ 8 := by
    unfold rf_hi
    by_cases z : k = 3
    · rw [if_pos z]; omega
    · rw [if_neg z]; omega
  omega
end
section
/-! transfer of folds between conditions -/
theorem rf_P_in {fr fr' : Nat → Bool} {mp mp' : Nat → Nat → Bool} {ow : Nat → Nat → Int} {t : Nat → Int} {i j : Nat} {s : Int}
    (ho : mp i j = true → mp' i j = true) (hf : ∀ q, i < q → q < j → fr q = true → fr' q = true) (hm : ∀ a b, i < a → a < b → b < j → mp a b = true → mp' a b = true)
    (h : s ∈ rf_L fr mp ow t 3 i j) : s ∈ rf_L fr' mp' ow t 3 i j := by
  obtain ⟨h1, h2, h⟩ := rf_memP.mp h
  refine rf_memP.mpr ⟨h1, ho h2, ?_⟩
  rcases h with h | h | h
  · exact Or.inl ⟨fun p g1 g2 => hf p (by omega) g2 (h.1 p g1 g2), h.2⟩
  · obtain ⟨k, l, g1, g2, g3, g4, g5, a, ha, ea⟩ := h
    refine Or.inr (Or.inl ⟨k, l, g1, g2, g3, fun p y1 y2 => hf p (by omega) (by omega) (g4 p y1 y2), fun p y1 y2 => hf p (by omega) (by omega) (g5 p y1 y2), a, ?_, ea⟩)
    exact (rf_L_sub (by omega) (fun p y1 y2 => hf p (by omega) (by rw [rf_hi3] at y2; omega)) (fun p q y1 y2 y3 => hm p q (by omega) y2 (by rw [rf_hi3] at y3; omega))).subset ha
  · obtain ⟨a, ha, ea⟩ := h
    refine Or.inr (Or.inr ⟨a, ?_, ea⟩)
    exact (rf_L_sub (by omega) (fun p y1 y2 => hf p (by omega) (by rw [rf_hiA (by omega)] at y2; omega)) (fun p q y1 y2 y3 => hm p q (by omega) y2 (by rw [rf_hiA (by omega)] at y3; omega))).subset ha
theorem rf_out {fr fr' : Nat → Bool} {mp mp' : Nat → Nat → Bool} {ow : Nat → Nat → Int} {t : Nat → Int} {p : Nat}
    (hf : ∀ q, q ≠ p → fr q = true → fr' q = true) (hm : ∀ a b, a ≠ p → b ≠ p → mp a b = true → mp' a b = true)
    {k i j : Nat} {s : Int} (hk : k ≤ 3) (ho : p < i ∨ rf_hi k j ≤ p) (h : s ∈ rf_L fr mp ow t k i j) : s ∈ rf_L fr' mp' ow t k i j :=
  (rf_L_sub hk (fun q y1 y2 => hf q (by omega)) (fun a b y1 y2 y3 => hm a b (by omega) (by omega))).subset h
/-- a place that is not decided: one of the three ways keeps the score -/
theorem rf_split {fr : Nat → Bool} {mp : Nat → Nat → Bool} {fr' : Nat → Nat → Bool} {mp' : Nat → Nat → Nat → Bool} {ow : Nat → Nat → Int} {t : Nat → Int} {p : Nat}
    (hf : ∀ h q, q ≠ p → fr q = true → fr' h q = true) (hm : ∀ h a b, a ≠ p → b ≠ p → mp a b = true → mp' h a b = true)
    (h1 : fr p = true → fr' 1 p = true) (h2 : ∀ b, b ≠ p → mp p b = true → mp' 2 p b = true) (h3 : ∀ a, a ≠ p → mp a p = true → mp' 3 a p = true) :
    ∀ (w k i j : Nat) (s : Int), k ≤ 3 → i ≤ j → rf_ms k i j < w → s ∈ rf_L fr mp ow t k i j → ∃ h, 1 ≤ h ∧ h ≤ 3 ∧ s ∈ rf_L (fr' h) (mp' h) ow t k i j := by
  have hf1 : ∀ q, fr q = true → fr' 1 q = true := by
    intro q hq
    by_cases e : q = p
    · rw [e] at hq ⊢; exact h1 hq
    · exact hf 1 q e hq
  intro w
  induction w with
  | zero => intro k i j s _ _ h; exact absurd h (by omega)
  | succ w ih =>
    intro k i j s hk hij hw hs
    by_cases hk3 : k = 3
    · subst hk3
      rw [rf_ms3] at hw
      obtain ⟨g1, g2, h⟩ := rf_memP.mp hs
      by_cases ei : i = p
      · refine ⟨2, by omega, by omega, rf_P_in (fun z => ?_) (fun q y1 y2 => hf 2 q (by omega)) (fun a b y1 y2 y3 => hm 2 a b (by omega) (by omega)) hs⟩
        rw [ei] at z ⊢
        exact h2 j (by omega) z
      · by_cases ej : j = p
        · refine ⟨3, by omega, by omega, rf_P_in (fun z => ?_) (fun q y1 y2 => hf 3 q (by omega)) (fun a b y1 y2 y3 => hm 3 a b (by omega) (by omega)) hs⟩
          rw [ej] at z ⊢
          exact h3 i (by omega) z
        · rcases h with h | h | h
          · exact ⟨1, by omega, by omega, rf_memP.mpr ⟨g1, hm 1 i j ei ej g2, Or.inl ⟨fun q y1 y2 => hf1 q (h.1 q y1 y2), h.2⟩⟩⟩
          · obtain ⟨k', l', y1, y2, y3, y4, y5, a, ha, ea⟩ := h
            by_cases hp : k' ≤ p ∧ p ≤ l'
            · obtain ⟨h, z1, z2, z3⟩ := ih 3 k' l' a (by omega) (by omega) (by rw [rf_ms3]; omega) ha
              exact ⟨h, z1, z2, rf_memP.mpr ⟨g1, hm h i j ei ej g2, Or.inr (Or.inl ⟨k', l', y1, y2, y3, fun q x1 x2 => hf h q (by omega) (y4 q x1 x2), fun q x1 x2 => hf h q (by omega) (y5 q x1 x2), a, z3, ea⟩)⟩⟩
            · exact ⟨1, by omega, by omega, rf_memP.mpr ⟨g1, hm 1 i j ei ej g2, Or.inr (Or.inl ⟨k', l', y1, y2, y3, fun q x1 x2 => hf1 q (y4 q x1 x2), fun q x1 x2 => hf1 q (y5 q x1 x2), a, rf_out (hf 1) (hm 1) (by omega) (by rw [rf_hi3]; omega) ha, ea⟩)⟩⟩
          · obtain ⟨a, ha, ea⟩ := h
            obtain ⟨h, z1, z2, z3⟩ := ih 2 (i + 1) j a (by omega) (by omega) (by rw [rf_msA (by omega)]; omega) ha
            exact ⟨h, z1, z2, rf_memP.mpr ⟨g1, hm h i j ei ej g2, Or.inr (Or.inr ⟨a, z3, ea⟩)⟩⟩
    · rw [rf_msA hk3] at hw
      rcases (rf_memA (by omega)).mp hs with h | h | h
      · exact ⟨1, by omega, by omega, (rf_memA (by omega)).mpr (Or.inl h)⟩
      · obtain ⟨g1, g2, g3⟩ := h
        by_cases ei : i = p
        · exact ⟨1, by omega, by omega, (rf_memA (by omega)).mpr (Or.inr (Or.inl ⟨g1, hf1 i g2, rf_out (hf 1) (hm 1) hk (by omega) g3⟩))⟩
        · obtain ⟨h, z1, z2, z3⟩ := ih k (i + 1) j s hk (by omega) (by rw [rf_msA hk3]; omega) g3
          exact ⟨h, z1, z2, (rf_memA (by omega)).mpr (Or.inr (Or.inl ⟨g1, hf h i ei g2, z3⟩))⟩
      · obtain ⟨q, g1, g2, a, ha, b, hb, e⟩ := h
        rcases Nat.lt_or_ge q p with z | z
        · obtain ⟨h, z1, z2, z3⟩ := ih (k - 1) (q + 1) j b (by omega) (by omega) (by rw [rf_msA (by omega)]; omega) hb
          exact ⟨h, z1, z2, (rf_memA (by omega)).mpr (Or.inr (Or.inr ⟨q, g1, g2, a, rf_out (hf h) (hm h) (by omega) (by rw [rf_hi3]; omega) ha, b, z3, e⟩))⟩
        · obtain ⟨h, z1, z2, z3⟩ := ih 3 i q a (by omega) (by omega) (by rw [rf_ms3]; omega) ha
          exact ⟨h, z1, z2, (rf_memA (by omega)).mpr (Or.inr (Or.inr ⟨q, g1, g2, a, z3, b, rf_out (hf h) (hm h) (by omega) (by omega) hb, e⟩))⟩
/-- a fold has no pair, and the score 0, or a pair that can be asked for -/
theorem rf_with {fr : Nat → Bool} {mp : Nat → Nat → Bool} {fr' : Nat → Nat → Nat → Bool} {mp' : Nat → Nat → Nat → Nat → Bool} {ow : Nat → Nat → Int} {t : Nat → Int}
    (hf : ∀ p q r, r ≠ p → r ≠ q → fr r = true → fr' p q r = true) (hm : ∀ p q a b, a ≠ p → a ≠ q → b ≠ p → b ≠ q → mp a b = true → mp' p q a b = true)
    (ho : ∀ p q, p < q → mp p q = true → mp' p q p q = true) :
    ∀ (w k i j : Nat) (s : Int), k < 3 → i ≤ j → j - i < w → s ∈ rf_L fr mp ow t k i j →
      ((∀ q, i ≤ q → q < j → fr q = true) ∧ s = 0) ∨ ∃ p q, i ≤ p ∧ p < q ∧ q < j ∧ mp p q = true ∧ s ∈ rf_L (fr' p q) (mp' p q) ow t k i j := by
  intro w
  induction w with
  | zero => intro k i j s _ _ h; exact absurd h (by omega)
  | succ w ih =>
    intro k i j s hk hij hw hs
    rcases (rf_memA hk).mp hs with h | h | h
    · exact Or.inl ⟨fun q y1 y2 => absurd y2 (by omega), h.2.2⟩
    · obtain ⟨g1, g2, g3⟩ := h
      rcases ih k (i + 1) j s hk (by omega) (by omega) g3 with z | z
      · refine Or.inl ⟨fun q y1 y2 => ?_, z.2⟩
        by_cases e : q = i
        · rw [e]; exact g2
        · exact z.1 q (by omega) y2
      · obtain ⟨p, q, z1, z2, z3, z4, z5⟩ := z
        exact Or.inr ⟨p, q, by omega, z2, z3, z4, (rf_memA hk).mpr (Or.inr (Or.inl ⟨g1, hf p q i (by omega) (by omega) g2, z5⟩))⟩
    · obtain ⟨q, g1, g2, a, ha, b, hb, e⟩ := h
      refine Or.inr ⟨i, q, by omega, g1, g2, (rf_memP.mp ha).2.1, (rf_memA hk).mpr (Or.inr (Or.inr ⟨q, g1, g2, a, ?_, b, ?_, e⟩))⟩
      · exact rf_P_in (ho i q g1) (fun r y1 y2 => hf i q r (by omega) (by omega)) (fun x y y1 y2 y3 => hm i q x y (by omega) (by omega) (by omega) (by omega)) ha
      · exact (rf_L_sub (by omega) (fun r y1 y2 => hf i q r (by omega) (by omega)) (fun x y y1 y2 y3 => hm i q x y (by omega) (by omega) (by omega) (by omega))).subset hb
theorem rf_zero {fr : Nat → Bool} {mp : Nat → Nat → Bool} {ow : Nat → Nat → Int} {t : Nat → Int} : ∀ (w i j : Nat), j - i < w → (∀ q, i ≤ q → q < j → fr q = true) → (0 : Int) ∈ rf_L fr mp ow t 0 i j := by
  intro w
  induction w with
  | zero => intro i j h; exact absurd h (by omega)
  | succ w ih =>
    intro i j hw h
    by_cases hc : i < j
    · exact (rf_memA (by omega)).mpr (Or.inr (Or.inl ⟨hc, h i (by omega) hc, ih (i + 1) j (by omega) (fun q y1 y2 => h q (by omega) y2)⟩))
    · exact (rf_memA (by omega)).mpr (Or.inl ⟨hc, rfl, rfl⟩)
/-- depth of the brackets -/
def rf_dp (W : Nat → Nat) : Nat → Int
  | 0 => 0
  | m + 1 => rf_dp W m + (if W m = 2 then 1 else if W m = 3 then -1 else 0)
theorem rf_dp2 {W : Nat → Nat} {m : Nat} (h : W m = 2) : rf_dp W (m + 1) = rf_dp W m + 1 := by
  show rf_dp W m + _ = _
  rw [if_pos h]
theorem rf_dp3 {W : Nat → Nat} {m : Nat} (h : W m = 3) : rf_dp W (m + 1) = rf_dp W m - 1 := by
  show rf_dp W m + _ = _
  rw [if_neg (by omega), if_pos h]
  rfl
theorem rf_dp1 {W : Nat → Nat} {m : Nat} (h : W m ≠ 2) (h' : W m ≠ 3) : rf_dp W (m + 1) = rf_dp W m := by
  show rf_dp W m + _ = _
  rw [if_neg h, if_neg h']
  exact Int.add_zero _
def rf_bal (W : Nat → Nat) (a b : Nat) : Prop := rf_dp W b = rf_dp W a ∧ ∀ q, a ≤ q → q ≤ b → rf_dp W a ≤ rf_dp W q
theorem rf_bal_tr {W : Nat → Nat} {a b c : Nat} (h : rf_bal W a b) (h' : rf_bal W b c) : rf_bal W a c := by
  refine ⟨by rw [h'.1, h.1], fun q h1 h2 => ?_⟩
  rcases Nat.lt_or_ge q b with z | z
  · exact h.2 q h1 (by omega)
  · have := h'.2 q z h2
    rw [h.1] at this
    exact this
theorem rf_bal_fr {W : Nat → Nat} {a : Nat} : ∀ {b : Nat}, a ≤ b → (∀ q, a ≤ q → q < b → W q ≠ 2 ∧ W q ≠ 3) → rf_bal W a b := by
  intro b
  induction b with
  | zero =>
    intro h _
    have e : a = 0 := by omega
    rw [e]
    exact ⟨rfl, fun q _ h2 => by have e : q = 0 := by omega
                                 rw [e]; exact Int.le_refl _⟩
  | succ b ih =>
    intro h hf
    rcases Nat.lt_or_ge a (b + 1) with z | z
    · have h1 := ih (by omega) (fun q y1 y2 => hf q y1 (by omega))
      have h2 := hf b (by omega) (by omega)
      have h3 := rf_dp1 h2.1 h2.2
      refine ⟨by rw [h3, h1.1], fun q y1 y2 => ?_⟩
      rcases Nat.lt_or_ge q (b + 1) with z' | z'
      · exact h1.2 q y1 (by omega)
      · have e : q = b + 1 := by omega
        rw [e, h3, h1.1]
        exact Int.le_refl _
    · have e : a = b + 1 := by omega
      rw [e]
      exact ⟨rfl, fun q y1 y2 => by have e : q = b + 1 := by omega
                                    rw [e]; exact Int.le_refl _⟩
theorem rf_balance {fr : Nat → Bool} {mp : Nat → Nat → Bool} {ow : Nat → Nat → Int} {t : Nat → Int} {W : Nat → Nat} {n : Nat}
    (hf : ∀ p, p < n → fr p = true → W p ≠ 2 ∧ W p ≠ 3) (hm : ∀ a b, a < n → b < n → mp a b = true → W a = 2 ∧ W b = 3) :
    ∀ (w k i j : Nat) (s : Int), k ≤ 3 → i ≤ j → rf_hi k j ≤ n → rf_ms k i j < w → s ∈ rf_L fr mp ow t k i j → rf_bal W i (rf_hi k j) := by
  intro w
  induction w with
  | zero => intro k i j s _ _ _ h; exact absurd h (by omega)
  | succ w ih =>
    intro k i j s hk hij hn hw hs
    by_cases hk3 : k = 3
    · subst hk3
      rw [rf_ms3] at hw
      rw [rf_hi3] at hn ⊢
      obtain ⟨g1, g2, h⟩ := rf_memP.mp hs
      have gm := hm i j (by omega) (by omega) g2
      have inner : rf_bal W (i + 1) j := by
        rcases h with h | h | h
        · exact rf_bal_fr (by omega) (fun q y1 y2 => hf q (by omega) (h.1 q y1 y2))
        · obtain ⟨k', l', y1, y2, y3, y4, y5, a, ha, ea⟩ := h
          have h1 := ih 3 k' l' a (by omega) (by omega) (by rw [rf_hi3]; omega) (by rw [rf_ms3]; omega) ha
          rw [rf_hi3] at h1
          exact rf_bal_tr (rf_bal_fr (by omega) (fun q x1 x2 => hf q (by omega) (y4 q x1 x2))) (rf_bal_tr h1 (rf_bal_fr (by omega) (fun q x1 x2 => hf q (by omega) (y5 q x1 x2))))
        · obtain ⟨a, ha, ea⟩ := h
          have h1 := ih 2 (i + 1) j a (by omega) (by omega) (by rw [rf_hiA (by omega)]; omega) (by rw [rf_msA (by omega)]; omega) ha
          rw [rf_hiA (by omega)] at h1
          exact h1
      have d1 := rf_dp2 gm.1
      have d2 := rf_dp3 gm.2
      have i1 := inner.1
      refine ⟨by omega, fun q y1 y2 => ?_⟩
      by_cases e1 : q = i
      · rw [e1]; exact Int.le_refl _
      · by_cases e2 : q = j + 1
        · rw [e2]; omega
        · have := inner.2 q (by omega) (by omega)
          omega
    · rw [rf_msA hk3] at hw
      rw [rf_hiA hk3] at hn ⊢
      rcases (rf_memA (by omega)).mp hs with h | h | h
      · have e : i = j := by omega
        rw [e]
        exact rf_bal_fr (by omega) (fun q y1 y2 => absurd y2 (by omega))
      · obtain ⟨g1, g2, g3⟩ := h
        have h1 := ih k (i + 1) j s hk (by omega) (by rw [rf_hiA hk3]; omega) (by rw [rf_msA hk3]; omega) g3
        rw [rf_hiA hk3] at h1
        refine rf_bal_tr (rf_bal_fr (by omega) (fun q y1 y2 => ?_)) h1
        have e : q = i := by omega
        rw [e]
        exact hf i (by omega) g2
      · obtain ⟨q, g1, g2, a, ha, b, hb, e⟩ := h
        have h1 := ih 3 i q a (by omega) (by omega) (by rw [rf_hi3]; omega) (by rw [rf_ms3]; omega) ha
        rw [rf_hi3] at h1
        have h2 := ih (k - 1) (q + 1) j b (by omega) (by omega) (by rw [rf_hiA (by omega)]; omega) (by rw [rf_msA (by omega)]; omega) hb
        rw [rf_hiA (by omega)] at h2
        exact rf_bal_tr h1 h2
end
section
/-! words of asked places, the greedy decision, the brackets' partners, codes -/
def rf_up (W : Nat → Nat) (p h : Nat) : Nat → Nat := fun q => if q = p then h else W q
theorem rf_up_s (W : Nat → Nat) (p h : Nat) : rf_up W p h p = h := if_pos rfl
theorem rf_up_n (W : Nat → Nat) {p q : Nat} (h : Nat) (hq : q ≠ p) : rf_up W p h q = W q := if_neg hq
def rf_fr (W : Nat → Nat) (p : Nat) : Bool := decide (W p ≤ 1)
def rf_kd (a b : Nat) : Nat := if (a = 0 ∧ b = 3) ∨ (a = 3 ∧ b = 0) then 0 else if (a = 1 ∧ b = 2) ∨ (a = 2 ∧ b = 1) then 1 else if (a = 2 ∧ b = 3) ∨ (a = 3 ∧ b = 2) then 2 else 3
def rf_mp (g : Nat) (B W : Nat → Nat) (fc : Nat → Nat → Bool) (i j : Nat) : Bool := decide ((W i = 0 ∨ W i = 2) ∧ (W j = 0 ∨ W j = 3) ∧ fc i j = true ∧ g < j - i ∧ rf_kd (B i) (B j) < 3)
def rf_ow (B t : Nat → Nat) (i j : Nat) : Int := (t (rf_kd (B i) (B j)) : Int)
def rf_tI (t : Nat → Nat) (p : Nat) : Int := (t p : Int)
def rf_M (g : Nat) (B t W : Nat → Nat) (fc : Nat → Nat → Bool) (k i j : Nat) : List Int := rf_L (rf_fr W) (rf_mp g B W fc) (rf_ow B t) (rf_tI t) k i j
theorem rf_fr_iff {W : Nat → Nat} {p : Nat} : rf_fr W p = true ↔ W p ≤ 1 := decide_eq_true_iff
theorem rf_mp_iff {g : Nat} {B W : Nat → Nat} {fc : Nat → Nat → Bool} {i j : Nat} : rf_mp g B W fc i j = true ↔ ((W i = 0 ∨ W i = 2) ∧ (W j = 0 ∨ W j = 3) ∧ fc i j = true ∧ g < j - i ∧ rf_kd (B i) (B j) < 3) := decide_eq_true_iff
theorem rf_M_sm {g : Nat} {B t W : Nat → Nat} {fc : Nat → Nat → Bool} (ht : ∀ p, t p ≤ 20) {k i j : Nat} {s : Int} (hk : k ≤ 3) (hij : i ≤ j) (h7 : j ≤ 7) (hs : s ∈ rf_M g B t W fc k i j) : -160 ≤ s ∧ s ≤ 160 :=
  rf_L_sm (fun i j => by unfold rf_ow; have := ht (rf_kd (B i) (B j)); omega) (fun p => by unfold rf_tI; have := ht p; omega) hk hij h7 hs
theorem rf_M_le {g : Nat} {B t V V' : Nat → Nat} {fc fc' : Nat → Nat → Bool} {n : Nat} (h : ∀ q, q < n → V' q = V q ∨ V q = 0) (hc : ∀ i j, fc' i j = true → fc i j = true) :
    List.Sublist (rf_M g B t V' fc' 0 0 n) (rf_M g B t V fc 0 0 n) := by
  refine rf_L_sub (by omega) (fun p _ h2 hp => ?_) (fun p q _ h2 h3 hp => ?_)
  · rw [rf_hiA (by omega)] at h2
    rw [rf_fr_iff] at hp ⊢
    rcases h p h2 with z | z <;> omega
  · rw [rf_hiA (by omega)] at h3
    rw [rf_mp_iff] at hp ⊢
    have h1 := h p (by omega)
    have h2 := h q (by omega)
    exact ⟨by omega, by omega, hc _ _ hp.2.2.1, hp.2.2.2⟩
theorem rf_M_split {g : Nat} {B t V : Nat → Nat} {fc : Nat → Nat → Bool} {n p : Nat} {s : Int} (hp : V p = 0) (hs : s ∈ rf_M g B t V fc 0 0 n) :
    ∃ h, 1 ≤ h ∧ h ≤ 3 ∧ s ∈ rf_M g B t (rf_up V p h) fc 0 0 n := by
  refine rf_split (fr' := fun h => rf_fr (rf_up V p h)) (mp' := fun h => rf_mp g B (rf_up V p h) fc) (p := p) (fun h q hq hf => ?_) (fun h a b ha hb hm => ?_) (fun hf => ?_) (fun b hb hm => ?_) (fun a ha hm => ?_) _ 0 0 n s (by omega) (by omega) (Nat.lt_succ_self _) hs
  · rw [rf_fr_iff, rf_up_n V h hq]
    exact rf_fr_iff.mp hf
  · rw [rf_mp_iff, rf_up_n V h ha, rf_up_n V h hb]
    exact rf_mp_iff.mp hm
  · rw [rf_fr_iff, rf_up_s]
    omega
  · have hm' := rf_mp_iff.mp hm
    rw [rf_mp_iff, rf_up_s, rf_up_n V 2 hb]
    exact ⟨Or.inr rfl, hm'.2⟩
  · have hm' := rf_mp_iff.mp hm
    rw [rf_mp_iff, rf_up_s, rf_up_n V 3 ha]
    exact ⟨hm'.1, Or.inr rfl, hm'.2.2⟩
/-- the greatest score, -1000 if there is none -/
def rf_mx : List Int → Int
  | [] => -1000
  | a :: l => if rf_mx l ≤ a then a else rf_mx l
theorem rf_mx_ge {l : List Int} : ∀ s, s ∈ l → s ≤ rf_mx l := by
  induction l with
  | nil => intro s h; exact absurd h List.not_mem_nil
  | cons a l ih =>
    intro s h
    show s ≤ if rf_mx l ≤ a then a else rf_mx l
    by_cases z : rf_mx l ≤ a
    · rw [if_pos z]
      rcases List.mem_cons.mp h with h | h
      · omega
      · have := ih s h; omega
    · rw [if_neg z]
      rcases List.mem_cons.mp h with h | h
      · omega
      · exact ih s h
theorem rf_mx_in {l : List Int} (hl : ∀ s, s ∈ l → -1000 < s) (h : l ≠ []) : rf_mx l ∈ l := by
  induction l with
  | nil => exact absurd rfl h
  | cons a l ih =>
    show (if rf_mx l ≤ a then a else rf_mx l) ∈ a :: l
    by_cases z : rf_mx l ≤ a
    · rw [if_pos z]
      exact List.mem_cons.mpr (Or.inl rfl)
    · rw [if_neg z]
      refine List.mem_cons.mpr (Or.inr (ih (fun s hs => hl s (List.mem_cons.mpr (Or.inr hs))) (fun e => ?_)))
      rw [e] at z
      have := hl a (List.mem_cons.mpr (Or.inl rfl))
      have e2 : rf_mx [] = -1000 := rfl
      omega
theorem rf_mx_un {l : List Int} {x : Int} (hx : x ∈ l) (h : ∀ s, s ∈ l → s ≤ x) (hl : ∀ s, s ∈ l → -1000 < s) : x = rf_mx l := by
  have h1 := rf_mx_ge x hx
  have h2 := h _ (rf_mx_in hl (List.ne_nil_of_mem hx))
  omega
theorem rf_mx_low (l : List Int) : -1000 ≤ rf_mx l := by
  induction l with
  | nil => exact Int.le_refl _
  | cons a l ih =>
    show -1000 ≤ if rf_mx l ≤ a then a else rf_mx l
    by_cases z : rf_mx l ≤ a
    · rw [if_pos z]; omega
    · rw [if_neg z]; exact ih
/-- the decision, place by place -/
def rf_pk (Q : (Nat → Nat) → List Int) (c : Int) (V : Nat → Nat) (m : Nat) : Nat := if c ∈ Q (rf_up V m 1) then 1 else if c ∈ Q (rf_up V m 2) then 2 else 3
def rf_st (Q : (Nat → Nat) → List Int) (c : Int) (W : Nat → Nat) : Nat → (Nat → Nat)
  | 0 => W
  | m + 1 => if rf_st Q c W m m = 0 then rf_up (rf_st Q c W m) m (rf_pk Q c (rf_st Q c W m) m) else rf_st Q c W m
def rf_Q (g : Nat) (B t : Nat → Nat) (n : Nat) (V : Nat → Nat) : List Int := rf_M g B t V (fun _ _ => true) 0 0 n
theorem rf_st_ok {g : Nat} {B t W : Nat → Nat} {n : Nat} {c : Int} (hc : c ∈ rf_Q g B t n W) (hW : ∀ q, W q ≤ 3) : ∀ m, 
    c ∈ rf_Q g B t n (rf_st (rf_Q g B t n) c W m) ∧ (∀ q, q < m → rf_st (rf_Q g B t n) c W m q ≠ 0) ∧ (∀ q, rf_st (rf_Q g B t n) c W m q = W q ∨ W q = 0) ∧
    (∀ q, m ≤ q → rf_st (rf_Q g B t n) c W m q = W q) ∧ (∀ q, rf_st (rf_Q g B t n) c W m q ≤ 3) := by
  intro m
  induction m with
  | zero => exact ⟨hc, fun q h => absurd h (by omega), fun q => Or.inl rfl, fun q _ => rfl, hW⟩
  | succ m ih =>
    obtain ⟨i1, i2, i3, i4, i5⟩ := ih
    have e : rf_st (rf_Q g B t n) c W (m + 1) = if rf_st (rf_Q g B t n) c W m m = 0 then rf_up (rf_st (rf_Q g B t n) c W m) m (rf_pk (rf_Q g B t n) c (rf_st (rf_Q g B t n) c W m) m) else rf_st (rf_Q g B t n) c W m := rfl
    rw [e]
    generalize rf_st (rf_Q g B t n) c W m = V at i1 i2 i3 i4 i5
    by_cases z : V m = 0
    · rw [if_pos z]
      have k : 1 ≤ rf_pk (rf_Q g B t n) c V m ∧ rf_pk (rf_Q g B t n) c V m ≤ 3 ∧ c ∈ rf_Q g B t n (rf_up V m (rf_pk (rf_Q g B t n) c V m)) := by
        unfold rf_pk
        by_cases y1 : c ∈ rf_Q g B t n (rf_up V m 1)
        · rw [if_pos y1]; exact ⟨by omega, by omega, y1⟩
        · rw [if_neg y1]
          by_cases y2 : c ∈ rf_Q g B t n (rf_up V m 2)
          · rw [if_pos y2]; exact ⟨by omega, by omega, y2⟩
          · rw [if_neg y2]
            obtain ⟨h, h1, h2, h3⟩ := rf_M_split (p := m) z i1
            have e3 : h = 3 := by
              rcases Nat.lt_or_ge h 2 with x | x
              · have : h = 1 := by omega
                rw [this] at h3
                exact absurd h3 y1
              · rcases Nat.lt_or_ge h 3 with x' | x'
                · have : h = 2 := by omega
                  rw [this] at h3
                  exact absurd h3 y2
                · omega
            rw [e3] at h3
            exact ⟨by omega, by omega, h3⟩
      generalize rf_pk (rf_Q g B t n) c V m = h at k
      have wm := i4 m (Nat.le_refl _)
      refine ⟨k.2.2, fun q hq => ?_, fun q => ?_, fun q hq => ?_, fun q => ?_⟩
      · by_cases e : q = m
        · rw [e, rf_up_s]; omega
        · rw [rf_up_n V h e]; exact i2 q (by omega)
      · by_cases e : q = m
        · rw [e]; exact Or.inr (by omega)
        · rw [rf_up_n V h e]; exact i3 q
      · rw [rf_up_n V h (by omega)]; exact i4 q (by omega)
      · by_cases e : q = m
        · rw [e, rf_up_s]; omega
        · rw [rf_up_n V h e]; exact i5 q
    · rw [if_neg z]
      refine ⟨i1, fun q hq => ?_, i3, fun q hq => i4 q (by omega), i5⟩
      by_cases e : q = m
      · rw [e]; exact z
      · exact i2 q (by omega)
/-- the decided word -/
def rf_D (g : Nat) (B t : Nat → Nat) (n : Nat) (H : Nat → Nat) : Nat → Nat := rf_st (rf_Q g B t n) (rf_mx (rf_Q g B t n H)) H n
theorem rf_Q_low {g : Nat} {B t W : Nat → Nat} {n : Nat} (ht : ∀ p, t p ≤ 20) (h7 : n ≤ 7) : ∀ s, s ∈ rf_Q g B t n W → -1000 < s := by
  intro s hs
  have := rf_M_sm ht (by omega) (by omega) h7 hs
  omega
theorem rf_D_ok {g : Nat} {B t H : Nat → Nat} {n : Nat} (ht : ∀ p, t p ≤ 20) (h7 : n ≤ 7) (hH : ∀ q, H q ≤ 3) (hn : rf_Q g B t n H ≠ []) :
    rf_mx (rf_Q g B t n (rf_D g B t n H)) = rf_mx (rf_Q g B t n H) ∧ rf_Q g B t n (rf_D g B t n H) ≠ [] ∧ (∀ q, q < n → 1 ≤ rf_D g B t n H q ∧ rf_D g B t n H q ≤ 3) ∧ rf_bal (rf_D g B t n H) 0 n := by
  have hm := rf_mx_in (rf_Q_low ht h7) hn
  obtain ⟨i1, i2, i3, i4, i5⟩ := rf_st_ok hm hH n
  unfold rf_D
  generalize rf_st (rf_Q g B t n) (rf_mx (rf_Q g B t n H)) H n = V at i1 i2 i3 i4 i5
  have sub : List.Sublist (rf_Q g B t n V) (rf_Q g B t n H) := rf_M_le (fun q _ => i3 q) (fun _ _ h => h)
  refine ⟨?_, List.ne_nil_of_mem i1, fun q hq => ⟨Nat.pos_of_ne_zero (i2 q hq), i5 q⟩, ?_⟩
  · exact (rf_mx_un i1 (fun s hs => rf_mx_ge s (sub.subset hs)) (rf_Q_low ht h7)).symm
  · have := rf_balance (fr := rf_fr V) (mp := rf_mp g B V (fun _ _ => true)) (W := V) (n := n) (fun p hp h => by rw [rf_fr_iff] at h; omega) (fun a b ha hb h => by
      rw [rf_mp_iff] at h
      have h1 := i2 a ha
      have h2 := i2 b hb
      omega) _ 0 0 n _ (by omega) (by omega) (by rw [rf_hiA (by omega)]; omega) (Nat.lt_succ_self _) i1
    rw [rf_hiA (by omega)] at this
    exact this
/-- the stack of the places that wait, and the partners found so far -/
def rf_pu (f : Nat → Option Nat) (k : Nat) (x : Option Nat) : Nat → Option Nat := fun q => if q = k then x else f q
theorem rf_pu_s (f : Nat → Option Nat) (k : Nat) (x : Option Nat) : rf_pu f k x k = x := if_pos rfl
theorem rf_pu_n (f : Nat → Option Nat) {k q : Nat} (x : Option Nat) (h : q ≠ k) : rf_pu f k x q = f q := if_neg h
def rf_sm (W : Nat → Nat) : Nat → List Nat × (Nat → Option Nat)
  | 0 => ([], fun _ => none)
  | m + 1 => if W m = 2 then (m :: (rf_sm W m).1, rf_pu (rf_sm W m).2 m none)
      else if W m = 3 then ((rf_sm W m).1.tail, rf_pu (rf_pu (rf_sm W m).2 m (some ((rf_sm W m).1.headD 0))) ((rf_sm W m).1.headD 0) (some m))
      else ((rf_sm W m).1, rf_pu (rf_sm W m).2 m none)
theorem rf_sm2 {W : Nat → Nat} {m : Nat} (h : W m = 2) : rf_sm W (m + 1) = (m :: (rf_sm W m).1, rf_pu (rf_sm W m).2 m none) := by
  show (if W m = 2 then _ else _) = _
  rw [if_pos h]
theorem rf_sm3 {W : Nat → Nat} {m p : Nat} {S : List Nat} (h : W m = 3) (hS : (rf_sm W m).1 = p :: S) : rf_sm W (m + 1) = (S, rf_pu (rf_pu (rf_sm W m).2 m (some p)) p (some m)) := by
  show (if W m = 2 then _ else _) = _
  rw [if_neg (by omega), if_pos h, hS]
  rfl
theorem rf_sm1 {W : Nat → Nat} {m : Nat} (h : W m ≠ 2) (h' : W m ≠ 3) : rf_sm W (m + 1) = ((rf_sm W m).1, rf_pu (rf_sm W m).2 m none) := by
  show (if W m = 2 then _ else _) = _
  rw [if_neg h, if_neg h']
def rf_si (m : Nat) (S : List Nat) (M : Nat → Option Nat) : Prop :=
  (∀ q, q ∈ S → q < m ∧ M q = none) ∧ S.Nodup ∧ ∀ q p, q < m → M q = some p → p < m ∧ p ≠ q ∧ M p = some q
theorem rf_si_1 {m : Nat} {S : List Nat} {M : Nat → Option Nat} (h : rf_si m S M) : rf_si (m + 1) S (rf_pu M m none) := by
  obtain ⟨h1, h2, h3⟩ := h
  refine ⟨fun q hq => ?_, h2, fun q p hq e => ?_⟩
  · have := h1 q hq
    exact ⟨by omega, by rw [rf_pu_n _ _ (by omega)]; exact this.2⟩
  · by_cases eq : q = m
    · rw [eq, rf_pu_s] at e
      exact absurd e.symm (Option.some_ne_none p)
    · rw [rf_pu_n _ _ eq] at e
      obtain ⟨g1, g2, g3⟩ := h3 q p (by omega) e
      exact ⟨by omega, g2, by rw [rf_pu_n _ _ (by omega)]; exact g3⟩
theorem rf_si_2 {m : Nat} {S : List Nat} {M : Nat → Option Nat} (h : rf_si m S M) : rf_si (m + 1) (m :: S) (rf_pu M m none) := by
  have h' := rf_si_1 h
  refine ⟨fun q hq => ?_, ?_, h'.2.2⟩
  · rcases List.mem_cons.mp hq with e | e
    · rw [e]; exact ⟨by omega, rf_pu_s _ _ _⟩
    · exact h'.1 q e
  · refine List.nodup_cons.mpr ⟨fun hm => ?_, h.2.1⟩
    have := (h.1 m hm).1
    omega
theorem rf_si_3 {m p : Nat} {S : List Nat} {M : Nat → Option Nat} (h : rf_si m (p :: S) M) : p < m ∧ rf_si (m + 1) S (rf_pu (rf_pu M m (some p)) p (some m)) := by
  obtain ⟨h1, h2, h3⟩ := h
  have hp := h1 p (List.mem_cons.mpr (Or.inl rfl))
  have hn := List.nodup_cons.mp h2
  refine ⟨hp.1, fun q hq => ?_, hn.2, fun q r hq e => ?_⟩
  · have := h1 q (List.mem_cons.mpr (Or.inr hq))
    have ne : q ≠ p := fun e => hn.1 (by rw [← e]; exact hq)
    exact ⟨by omega, by rw [rf_pu_n _ _ ne, rf_pu_n _ _ (by omega)]; exact this.2⟩
  · by_cases e1 : q = p
    · rw [e1, rf_pu_s] at e
      have er : m = r := Option.some.inj e
      rw [← er, e1]
      exact ⟨by omega, by omega, by rw [rf_pu_n _ _ (by omega), rf_pu_s]⟩
    · rw [rf_pu_n _ _ e1] at e
      by_cases e2 : q = m
      · rw [e2, rf_pu_s] at e
        have er : p = r := Option.some.inj e
        rw [← er, e2]
        exact ⟨by omega, by omega, rf_pu_s _ _ _⟩
      · rw [rf_pu_n _ _ e2] at e
        obtain ⟨g1, g2, g3⟩ := h3 q r (by omega) e
        have nr : r ≠ p := by
          intro er
          rw [er, hp.2] at g3
          exact absurd g3.symm (Option.some_ne_none q)
        exact ⟨by omega, g2, by rw [rf_pu_n _ _ nr, rf_pu_n _ _ (by omega)]; exact g3⟩
theorem rf_sm_ok {W : Nat → Nat} {n : Nat} (hb : rf_bal W 0 n) : ∀ m, m ≤ n → ((rf_sm W m).1.length : Int) = rf_dp W m ∧ rf_si m (rf_sm W m).1 (rf_sm W m).2 := by
  intro m
  induction m with
  | zero => 
    intro _
    exact ⟨rfl, fun q h => absurd h List.not_mem_nil, List.nodup_nil, fun q p h => absurd h (by omega)⟩
  | succ m ih =>
    intro hm
    obtain ⟨i1, i2⟩ := ih (by omega)
    by_cases h2 : W m = 2
    · rw [rf_sm2 h2, rf_dp2 h2]
      refine ⟨?_, rf_si_2 i2⟩
      show (((rf_sm W m).1.length + 1 : Nat) : Int) = _
      omega
    · by_cases h3 : W m = 3
      · have d := rf_dp3 h3
        have b := hb.2 (m + 1) (by omega) hm
        have e0 : rf_dp W 0 = 0 := rfl
        cases hS : (rf_sm W m).1 with
        | nil =>
          rw [hS] at i1
          have : (([] : List Nat).length : Int) = 0 := rfl
          omega
        | cons p S =>
          rw [rf_sm3 h3 hS]
          rw [hS] at i1 i2
          refine ⟨?_, (rf_si_3 i2).2⟩
          have : ((p :: S).length : Int) = ((S.length + 1 : Nat) : Int) := rfl
          show ((S.length : Nat) : Int) = _
          omega
      · rw [rf_sm1 h2 h3, rf_dp1 h2 h3]
        exact ⟨i1, rf_si_1 i2⟩
theorem rf_sm_top {W : Nat → Nat} {n m : Nat} (hb : rf_bal W 0 n) (hm : m < n) (h3 : W m = 3) : ∃ p S, (rf_sm W m).1 = p :: S ∧ p < m := by
  obtain ⟨i1, i2⟩ := rf_sm_ok hb m (by omega)
  have d := rf_dp3 h3
  have b := hb.2 (m + 1) (by omega) hm
  have e0 : rf_dp W 0 = 0 := rfl
  cases hS : (rf_sm W m).1 with
  | nil =>
    rw [hS] at i1
    have : (([] : List Nat).length : Int) = 0 := rfl
    omega
  | cons p S =>
    rw [hS] at i2
    exact ⟨p, S, rfl, (rf_si_3 i2).1⟩
/-- the code of a word -/
def rf_cd (W : Nat → Nat) : Nat → Nat
  | 0 => 0
  | m + 1 => 3 * rf_cd W m + (W m - 1)
theorem rf_cd_lt {W : Nat → Nat} : ∀ {m : Nat}, (∀ q, q < m → 1 ≤ W q ∧ W q ≤ 3) → rf_cd W m < 3 ^ m := by
  intro m
  induction m with
  | zero => intro _; exact Nat.lt_succ_self 0
  | succ m ih =>
    intro h
    have h1 := ih (fun q hq => h q (by omega))
    have h2 := h m (by omega)
    show 3 * rf_cd W m + (W m - 1) < 3 ^ (m + 1)
    rw [Nat.pow_succ]
    omega
end
section
/-! ints; a triple against a list -/
theorem rf_add {a b : Int32} (ha : -1000000 ≤ a.toInt ∧ a.toInt ≤ 1000000) (hb : -1000000 ≤ b.toInt ∧ b.toInt ≤ 1000000) : (a + b).toInt = a.toInt + b.toInt := by
  rw [Int32.toInt_add]
  exact Int.bmod_eq_of_le_mul_two (by omega) (by omega)
theorem rf_sub {a b : Int32} (ha : -1000000 ≤ a.toInt ∧ a.toInt ≤ 1000000) (hb : -1000000 ≤ b.toInt ∧ b.toInt ≤ 1000000) : (a - b).toInt = a.toInt - b.toInt := by
  rw [Int32.toInt_sub]
  exact Int.bmod_eq_of_le_mul_two (by omega) (by omega)
theorem rf_neg {b : Int32} (hb : -1000000 ≤ b.toInt ∧ b.toInt ≤ 1000000) : (-b).toInt = -b.toInt := by
  rw [Int32.toInt_neg]
  exact Int.bmod_eq_of_le_mul_two (by omega) (by omega)
theorem rf_ix3 (l i j : Nat) : ((144 * nI l) + (12 * nI i)) + nI j = nI (144 * l + 12 * i + j) := by
  show ((nI 144 * nI l) + (nI 12 * nI i)) + nI j = _
  rw [pk_mul, pk_mul, nI_add, nI_add]
theorem rf_ix3s (l i j : Nat) : ((144 * nI l) + (12 * (nI i + 1))) + nI j = nI (144 * l + 12 * (i + 1) + j) := by
  rw [nI_1]
  exact rf_ix3 l (i + 1) j
theorem rf_ix2 (i j : Nat) : (12 * nI i) + nI j = nI (12 * i + j) := by
  show (nI 12 * nI i) + nI j = _
  rw [pk_mul, nI_add]
theorem rf_ix8 (i j : Nat) : (288 + (12 * (nI i + 1))) + nI j = nI (144 * 2 + 12 * (i + 1) + j) := by
  rw [nI_1]
  show (nI 288 + (nI 12 * nI (i + 1))) + nI j = _
  rw [pk_mul, nI_add, nI_add]
def rf_ok (L : List Int) (x y z : Int32) : Prop :=
  z = nI L.length ∧ (∃ b, y = nI b ∧ b ≤ L.length ∧ (L ≠ [] → 0 < b)) ∧ (L ≠ [] → x.toInt ∈ L ∧ ∀ s, s ∈ L → s ≤ x.toInt)
theorem rf_ok_nil (x : Int32) : rf_ok [] x 0 0 := ⟨rfl, ⟨0, rfl, Nat.le_refl _, fun h => absurd rfl h⟩, fun h => absurd rfl h⟩
theorem rf_ok_one (x : Int32) {o : Int} (h : x.toInt = o) : rf_ok [o] x 1 1 := by
  refine ⟨rfl, ⟨1, rfl, Nat.le_refl _, fun _ => by omega⟩, fun _ => ⟨List.mem_singleton.mpr h, fun s hs => ?_⟩⟩
  rw [List.mem_singleton.mp hs, h]
  exact Int.le_refl _
theorem rf_ok_pr {X Y : List Int} {x1 y1 z1 x2 y2 z2 : Int32} (h1 : rf_ok X x1 y1 z1) (h2 : rf_ok Y x2 y2 z2) (b1 : ∀ s, s ∈ X → -160 ≤ s ∧ s ≤ 160) (b2 : ∀ s, s ∈ Y → -160 ≤ s ∧ s ≤ 160) :
    rf_ok (rf_pr X Y) (x1 + x2) (y1 * y2) (z1 * z2) := by
  obtain ⟨e1, ⟨c1, f1, g1, p1⟩, m1⟩ := h1
  obtain ⟨e2, ⟨c2, f2, g2, p2⟩, m2⟩ := h2
  have ne : rf_pr X Y ≠ [] → X ≠ [] ∧ Y ≠ [] := by
    intro h
    obtain ⟨s, hs⟩ := List.exists_mem_of_ne_nil _ h
    obtain ⟨a, ha, b, hb, _⟩ := rf_pr_mem.mp hs
    exact ⟨List.ne_nil_of_mem ha, List.ne_nil_of_mem hb⟩
  refine ⟨by rw [e1, e2, pk_mul, rf_pr_len], ⟨c1 * c2, by rw [f1, f2, pk_mul], by rw [rf_pr_len]; exact Nat.mul_le_mul g1 g2, fun h => Nat.mul_pos (p1 (ne h).1) (p2 (ne h).2)⟩, fun h => ?_⟩
  obtain ⟨n1, n2⟩ := ne h
  obtain ⟨i1, j1⟩ := m1 n1
  obtain ⟨i2, j2⟩ := m2 n2
  have k1 := b1 _ i1
  have k2 := b2 _ i2
  rw [rf_add (by omega) (by omega)]
  refine ⟨rf_pr_mem.mpr ⟨_, i1, _, i2, rfl⟩, fun s hs => ?_⟩
  obtain ⟨a, ha, b, hb, e⟩ := rf_pr_mem.mp hs
  have := j1 a ha
  have := j2 b hb
  omega
theorem rf_ok_map {X : List Int} {x y z c : Int32} {o : Int} (h : rf_ok X x y z) (hc : c.toInt = o) (ho : -1000 ≤ o ∧ o ≤ 1000) (b : ∀ s, s ∈ X → -160 ≤ s ∧ s ≤ 160) :
    rf_ok (X.map (fun s => o + s)) (c + x) y z := by
  obtain ⟨e1, ⟨c1, f1, g1, p1⟩, m1⟩ := h
  have ne : X.map (fun s => o + s) ≠ [] → X ≠ [] := fun h e => h (by rw [e]; rfl)
  refine ⟨by rw [List.length_map]; exact e1, ⟨c1, f1, by rw [List.length_map]; exact g1, fun h => p1 (ne h)⟩, fun h => ?_⟩
  obtain ⟨i1, j1⟩ := m1 (ne h)
  have k1 := b _ i1
  rw [rf_add (by omega) (by omega), hc]
  refine ⟨List.mem_map.mpr ⟨_, i1, rfl⟩, fun s hs => ?_⟩
  obtain ⟨a, ha, e⟩ := List.mem_map.mp hs
  have := j1 a ha
  omega
section
variable {gap size fo fs sc bc ac : Int32} {a1 a2 a3 a4 a5 a6 a7 a8 a9 a10 a11 a12 : Nat → Int32}
theorem rf_offer {post : St2 → Prop} {L L' : List Int} {v b a : Int32} (h : rf_ok L sc bc ac) (h' : rf_ok L' v b a) (hl : (L ++ L').length ≤ 2097152)
    (H : ∀ sc' bc' ac', rf_ok (L ++ L') sc' bc' ac' → post (gap, size, fo, fs, sc', bc', ac', a1, a2, a3, a4, a5, a6, a7, a8, a9, a10, a11, a12)) : wpX_offer post (gap, size, fo, fs, sc, bc, ac, a1, a2, a3, a4, a5, a6, a7, a8, a9, a10, a11, a12) v b a := by
  obtain ⟨e1, ⟨b1, f1, g1, p1⟩, m1⟩ := h
  obtain ⟨e2, ⟨b2, f2, g2, p2⟩, m2⟩ := h'
  rw [List.length_append] at hl
  subst e1 f1 e2 f2
  refine nm_r (nI_add _ _) ?_
  have el : (L ++ L').length = L.length + L'.length := List.length_append
  refine pk_eq b2 0 (fun z => ?_) (fun z => ?_) rfl rfl (by omega) (by omega)
  · have e : L' = [] := by
      by_cases y : L' = []
      · exact y
      · have := p2 y; omega
    refine H _ _ _ ?_
    subst e
    rw [List.append_nil]
    exact ⟨rfl, ⟨b1, rfl, g1, p1⟩, m1⟩
  · have n2 : L' ≠ [] := by
      intro e
      rw [e] at g2
      have : ([] : List Int).length = 0 := rfl
      omega
    obtain ⟨i2, j2⟩ := m2 n2
    refine pk_eq b1 0 (fun y => ?_) (fun y => ?_) rfl rfl (by omega) (by omega)
    · have e : L = [] := by
        by_cases x : L = []
        · exact x
        · have := p1 x; omega
      refine H _ _ _ ?_
      subst e
      rw [List.nil_append]
      exact ⟨by rw [show ([] : List Int).length = 0 from rfl, Nat.zero_add], ⟨b2, rfl, g2, p2⟩, m2⟩
    · have n1 : L ≠ [] := by
        intro e
        rw [e] at g1
        have : ([] : List Int).length = 0 := rfl
        omega
      obtain ⟨i1, j1⟩ := m1 n1
      refine br_c (fun q => br_c (fun e => nm_r (nI_add _ _) (H _ _ _ ?_)) (fun e => H _ _ _ ?_)) (fun q => H _ _ _ ?_)
      · refine ⟨by rw [el], ⟨b1 + b2, rfl, by omega, fun _ => by omega⟩, fun _ => ⟨List.mem_append.mpr (Or.inl i1), fun s hs => ?_⟩⟩
        rcases List.mem_append.mp hs with hs | hs
        · exact j1 s hs
        · rw [← e]; exact j2 s hs
      · refine ⟨by rw [el], ⟨b1, rfl, by omega, fun _ => by omega⟩, fun _ => ⟨List.mem_append.mpr (Or.inl i1), fun s hs => ?_⟩⟩
        rw [Int32.le_iff_toInt_le] at q
        rcases List.mem_append.mp hs with hs | hs
        · exact j1 s hs
        · have := j2 s hs; omega
      · refine ⟨by rw [el], ⟨b2, rfl, by omega, fun _ => by omega⟩, fun _ => ⟨List.mem_append.mpr (Or.inr i2), fun s hs => ?_⟩⟩
        rw [Int32.le_iff_toInt_le] at q
        rcases List.mem_append.mp hs with hs | hs
        · have := j1 s hs; omega
        · exact j2 s hs
theorem rf_mbf {post : Int32 → Prop} {W : Nat → Nat} {p : Nat} (hp : p < 11) (h : a3 p = nI (W p) ∧ W p ≤ 3) (H1 : W p ≤ 1 → post 1) (H0 : ¬ W p ≤ 1 → post 0) : wpX_mayBeFree post (gap, size, fo, fs, sc, bc, ac, a1, a2, a3, a4, a5, a6, a7, a8, a9, a10, a11, a12) (nI p) := by
  refine ⟨pk_in p 11 hp, ?_⟩
  rw [nI_clamp (by omega), h.1]
  exact pk_lt 1 (W p) (fun z => H0 (by omega)) (fun z => H1 (by omega)) rfl rfl (by omega) (by omega)
theorem rf_isf {post : Int32 → Prop} {W : Nat → Nat} {i j n : Nat} (hn : n ≤ 7) (hi : i ≤ j) (hj : j ≤ n) (h : ∀ p, p < n → a3 p = nI (W p) ∧ W p ≤ 3)
    (H1 : rf_free (rf_fr W) i j = true → post 1) (H0 : ¬ rf_free (rf_fr W) i j = true → post 0) : wpX_isFree post (gap, size, fo, fs, sc, bc, ac, a1, a2, a3, a4, a5, a6, a7, a8, a9, a10, a11, a12) (nI i) (nI j) :=
  pk_loop (σ := Unit) (fun n q _ => wX_isFree_2 post (nI j) gap size fo fs sc bc ac a1 a2 a3 a4 a5 a6 a7 a8 a9 a10 a11 a12 n (nI q)) (fun q _ => i ≤ q ∧ ∀ p, i ≤ p → p < q → W p ≤ 1) j i () hi ⟨Nat.le_refl _, fun p g1 g2 => absurd g2 (by omega)⟩
    (fun n _ k => pk_le j j (fun _ => H1 (rf_free_iff.mpr (fun p g1 g2 => rf_fr_iff.mpr (k.2 p g1 g2)))) (fun z => absurd z (by omega)))
    (fun n q _ hq k hw => pk_le j q (fun z => absurd z (by omega)) (fun _ => rf_mbf (by omega) (h q (by omega))
      (fun w => br_f (by decide) (nm_r (nI_1 q) (hw () ⟨by omega, fun p g1 g2 => by
        by_cases e : p = q
        · rw [e]; exact w
        · exact k.2 p g1 (by omega)⟩)))
      (fun w => br_t rfl (H0 (fun z => w (rf_fr_iff.mp (rf_free_iff.mp z q k.1 hq)))))))
theorem rf_kind {post : Int32 → Prop} {a b : Nat} (ha : a ≤ 3) (hb : b ≤ 3) (H : post (if rf_kd a b < 3 then nI (rf_kd a b) else -1)) : wpX_kindOf post () (nI a) (nI b) := by
  have ha' : a = 0 ∨ a = 1 ∨ a = 2 ∨ a = 3 := by omega
  have hb' : b = 0 ∨ b = 1 ∨ b = 2 ∨ b = 3 := by omega
  rcases ha' with e | e | e | e <;> rcases hb' with f | f | f | f <;> subst e f <;>
    repeat (first | exact H | refine br_t (by decide) ?_ | refine br_f (by decide) ?_)
end
end
section
/-! one cell of the tables -/
/-- what solve() reads and doesn't change: gap g, n places, bases B, tuned t, asked W, the forced pair fc -/
def rf_cx (g n : Nat) (B t W : Nat → Nat) (fc : Nat → Nat → Bool) (gap size fo fs : Int32) (a1 a3 a4 : Nat → Int32) : Prop :=
  n ≤ 7 ∧ g ≤ 4 ∧ gap = nI g ∧ size = nI n ∧ (∀ p, p < n → a1 p = nI (B p) ∧ B p ≤ 3) ∧ (∀ p, p < n → a3 p = nI (W p) ∧ W p ≤ 3) ∧ (∀ p, p < 6 → a4 p = nI (t p)) ∧ (∀ p, t p ≤ 20) ∧
  (∀ i j, i < n → j < n → (fc i j = true ↔ (fo < 0 ∨ (nI i = fo ↔ nI j = fs))))
theorem rf_FA_succ (fr : Nat → Bool) (G : Nat → Nat → Nat → List Int) (l i j m : Nat) : rf_FA fr G l i j (m + 1) = rf_FA fr G l i j m ++ rf_pr (G 3 i (i + 1 + m)) (G (l - 1) (i + 2 + m) j) := by
  unfold rf_FA
  rw [List.append_assoc]
  rfl
theorem rf_FA_le {fr : Nat → Bool} {mp : Nat → Nat → Bool} {ow : Nat → Nat → Int} {t : Nat → Int} {l i j m : Nat} (hl : l < 3) (hij : i < j) (hj : j ≤ 7) (hm : m ≤ j - (i + 1)) :
    (rf_FA fr (rf_L fr mp ow t) l i j m).length ≤ 2097152 := by
  refine Nat.le_trans (List.Sublist.length_le ?_) (rf_L_short (fr := fr) (mp := mp) (ow := ow) (t := t) (show l ≤ 3 by omega) (Nat.le_of_lt hij) hj)
  rw [rf_LA hl hij]
  exact List.Sublist.append (List.Sublist.refl _) (rf_cat_le hm)
section
variable {gap size fo fs sc bc ac : Int32} {a1 a2 a3 a4 a5 a6 a7 a8 a9 a10 a11 a12 : Nat → Int32} {g n : Nat} {B t W : Nat → Nat} {fc : Nat → Nat → Bool}
theorem rf_fit {post : Int32 → Prop} {i j : Nat} (cx : rf_cx g n B t W fc gap size fo fs a1 a3 a4) (hij : i < j) (hj : j < n)
    (H1 : g < j - i ∧ rf_kd (B i) (B j) < 3 → post 1) (H0 : ¬ (g < j - i ∧ rf_kd (B i) (B j) < 3) → post 0) : wpX_doFit post (gap, size, fo, fs, sc, bc, ac, a1, a2, a3, a4, a5, a6, a7, a8, a9, a10, a11, a12) (nI i) (nI j) := by
  obtain ⟨hn, hg, eg, es, hB, _, _, _, _⟩ := cx
  refine pk_le (j - i) g (fun z => H0 (fun y => absurd y.1 (by omega))) (fun z => ⟨pk_in i 11 (by omega), pk_in j 11 (by omega), ?_⟩) (pk_sub (by omega)) eg (by omega) (by omega)
  rw [nI_clamp (show i < 2 ^ 31 by omega), nI_clamp (show j < 2 ^ 31 by omega), (hB i (by omega)).1, (hB j (by omega)).1]
  refine rf_kind (hB i (by omega)).2 (hB j (by omega)).2 ?_
  by_cases y : rf_kd (B i) (B j) < 3
  · rw [if_pos y]
    exact br_f (nI_pos (by omega)) (H1 ⟨z, y⟩)
  · rw [if_neg y]
    exact br_t (by decide) (H0 (fun x => y x.2))
theorem rf_m92 {post : Int32 → Prop} {i j : Nat} {x3 x4 z0 : Int32} (cx : rf_cx g n B t W fc gap size fo fs a1 a3 a4) (hij : i < j) (hj : j < n)
    (H1 : ¬ x3 = 0 → ¬ x4 = 0 → ¬ z0 = 0 → g < j - i ∧ rf_kd (B i) (B j) < 3 → post 1) (H0 : (x3 = 0 ∨ x4 = 0 ∨ z0 = 0 ∨ ¬ (g < j - i ∧ rf_kd (B i) (B j) < 3)) → post 0) : wX_mayPair_92 post (nI i) (nI j) x3 x4 z0 gap size fo fs sc bc ac a1 a2 a3 a4 a5 a6 a7 a8 a9 a10 a11 a12 :=
  br_c (fun h => H0 (Or.inl h)) (fun h3 => br_c (fun h => H0 (Or.inr (Or.inl h))) (fun h4 => br_c (fun h => H0 (Or.inr (Or.inr (Or.inl h)))) (fun h0 =>
    rf_fit cx hij hj (fun y => br_f (by decide) (H1 h3 h4 h0 y)) (fun y => br_t rfl (H0 (Or.inr (Or.inr (Or.inr y))))))))
theorem rf_m84 {post : Int32 → Prop} {i j : Nat} {x3 x4 z0 z1 : Int32} (cx : rf_cx g n B t W fc gap size fo fs a1 a3 a4) (hij : i < j) (hj : j < n)
    (H1 : ¬ x3 = 0 → ¬ x4 = 0 → z1 = z0 → g < j - i ∧ rf_kd (B i) (B j) < 3 → post 1) (H0 : (x3 = 0 ∨ x4 = 0 ∨ ¬ z1 = z0 ∨ ¬ (g < j - i ∧ rf_kd (B i) (B j) < 3)) → post 0) : wX_mayPair_84 post (nI i) (nI j) x3 x4 z0 z1 gap size fo fs sc bc ac a1 a2 a3 a4 a5 a6 a7 a8 a9 a10 a11 a12 :=
  br_c (fun h => rf_m92 cx hij hj (fun h3 h4 _ y => H1 h3 h4 h y) (fun y => H0 (by
      rcases y with y | y | y | y
      · exact Or.inl y
      · exact Or.inr (Or.inl y)
      · exact absurd y (by decide)
      · exact Or.inr (Or.inr (Or.inr y)))))
    (fun h => rf_m92 cx hij hj (fun _ _ h0 _ => absurd rfl h0) (fun _ => H0 (Or.inr (Or.inr (Or.inl h)))))
theorem rf_m49 {post : Int32 → Prop} {i j : Nat} {x3 z0 : Int32} (cx : rf_cx g n B t W fc gap size fo fs a1 a3 a4) (hij : i < j) (hj : j < n)
    (H1 : ¬ x3 = 0 → ¬ z0 = 0 → fc i j = true → g < j - i ∧ rf_kd (B i) (B j) < 3 → post 1) (H0 : (x3 = 0 ∨ z0 = 0 ∨ ¬ fc i j = true ∨ ¬ (g < j - i ∧ rf_kd (B i) (B j) < 3)) → post 0) : wX_mayPair_49 post (nI i) (nI j) x3 z0 gap size fo fs sc bc ac a1 a2 a3 a4 a5 a6 a7 a8 a9 a10 a11 a12 := by
  have hc := cx.2.2.2.2.2.2.2.2 i j (by omega) hj
  refine br_c (fun h => ?_) (fun h => br_c (fun h1 => br_c (fun h2 => ?_) (fun h2 => ?_)) (fun h1 => br_c (fun h2 => ?_) (fun h2 => ?_)))
  · refine rf_m92 cx hij hj (fun h3 h4 _ y => H1 h3 h4 (hc.mpr (Or.inl h)) y) (fun y => H0 ?_)
    rcases y with y | y | y | y
    · exact Or.inl y
    · exact Or.inr (Or.inl y)
    · exact absurd y (by decide)
    · exact Or.inr (Or.inr (Or.inr y))
  · refine rf_m84 cx hij hj (fun h3 h4 _ y => H1 h3 h4 (hc.mpr (Or.inr ⟨fun _ => h2, fun _ => h1⟩)) y) (fun y => H0 ?_)
    rcases y with y | y | y | y
    · exact Or.inl y
    · exact Or.inr (Or.inl y)
    · exact absurd rfl y
    · exact Or.inr (Or.inr (Or.inr y))
  · refine rf_m84 cx hij hj (fun h3 h4 e y => absurd e (by decide)) (fun y => H0 (Or.inr (Or.inr (Or.inl (fun z => ?_)))))
    rcases hc.mp z with z | z
    · exact h z
    · exact h2 (z.mp h1)
  · refine rf_m84 cx hij hj (fun h3 h4 e y => absurd e (by decide)) (fun y => H0 (Or.inr (Or.inr (Or.inl (fun z => ?_)))))
    rcases hc.mp z with z | z
    · exact h z
    · exact h1 (z.mpr h2)
  · refine rf_m84 cx hij hj (fun h3 h4 _ y => H1 h3 h4 (hc.mpr (Or.inr ⟨fun x => absurd x h1, fun x => absurd x h2⟩)) y) (fun y => H0 ?_)
    rcases y with y | y | y | y
    · exact Or.inl y
    · exact Or.inr (Or.inl y)
    · exact absurd rfl y
    · exact Or.inr (Or.inr (Or.inr y))
theorem rf_m24 {post : Int32 → Prop} {i j : Nat} {z0 : Int32} (cx : rf_cx g n B t W fc gap size fo fs a1 a3 a4) (hij : i < j) (hj : j < n)
    (H1 : ¬ z0 = 0 → (W j = 0 ∨ W j = 3) → fc i j = true → g < j - i ∧ rf_kd (B i) (B j) < 3 → post 1) (H0 : (z0 = 0 ∨ ¬ (W j = 0 ∨ W j = 3) ∨ ¬ fc i j = true ∨ ¬ (g < j - i ∧ rf_kd (B i) (B j) < 3)) → post 0) : wX_mayPair_24 post (nI i) (nI j) z0 gap size fo fs sc bc ac a1 a2 a3 a4 a5 a6 a7 a8 a9 a10 a11 a12 := by
  have hn := cx.1
  have hw := cx.2.2.2.2.2.1 j hj
  have k1 : (W j = 0 ∨ W j = 3) → wX_mayPair_49 post (nI i) (nI j) z0 1 gap size fo fs sc bc ac a1 a2 a3 a4 a5 a6 a7 a8 a9 a10 a11 a12 := fun hw => rf_m49 cx hij hj (fun h3 _ hf y => H1 h3 hw hf y) (fun y => H0 (by
    rcases y with y | y | y | y
    · exact Or.inl y
    · exact absurd y (by decide)
    · exact Or.inr (Or.inr (Or.inl y))
    · exact Or.inr (Or.inr (Or.inr y))))
  refine ⟨pk_in j 11 (by omega), ?_⟩
  rw [nI_clamp (show j < 2 ^ 31 by omega), hw.1]
  refine pk_eq (W j) 0 (fun z => k1 (Or.inl z)) (fun z => ⟨pk_in j 11 (by omega), pk_eq (W j) 3 (fun y => k1 (Or.inr y)) (fun y => ?_) rfl rfl (by omega) (by omega)⟩) rfl rfl (by omega) (by omega)
  exact rf_m49 cx hij hj (fun _ h _ _ => absurd rfl h) (fun _ => H0 (Or.inr (Or.inl (by omega))))
theorem rf_may {post : Int32 → Prop} {i j : Nat} (cx : rf_cx g n B t W fc gap size fo fs a1 a3 a4) (hij : i < j) (hj : j < n)
    (H1 : rf_mp g B W fc i j = true → post 1) (H0 : ¬ rf_mp g B W fc i j = true → post 0) : wpX_mayPair post (gap, size, fo, fs, sc, bc, ac, a1, a2, a3, a4, a5, a6, a7, a8, a9, a10, a11, a12) (nI i) (nI j) := by
  have hn := cx.1
  have hw := cx.2.2.2.2.2.1 i (by omega)
  rw [rf_mp_iff] at H1 H0
  have k1 : (W i = 0 ∨ W i = 2) → wX_mayPair_24 post (nI i) (nI j) 1 gap size fo fs sc bc ac a1 a2 a3 a4 a5 a6 a7 a8 a9 a10 a11 a12 := fun hw => rf_m24 cx hij hj (fun _ h2 hf y => H1 ⟨hw, h2, hf, y⟩) (fun y => H0 (fun z => by
    rcases y with y | y | y | y
    · exact absurd y (by decide)
    · exact y z.2.1
    · exact y z.2.2.1
    · exact y z.2.2.2))
  refine ⟨pk_in i 11 (by omega), ?_⟩
  rw [nI_clamp (show i < 2 ^ 31 by omega), hw.1]
  refine pk_eq (W i) 0 (fun z => k1 (Or.inl z)) (fun z => ⟨pk_in i 11 (by omega), pk_eq (W i) 2 (fun y => k1 (Or.inr y)) (fun y => ?_) rfl rfl (by omega) (by omega)⟩) rfl rfl (by omega) (by omega)
  exact rf_m24 cx hij hj (fun h _ _ _ => absurd rfl h) (fun _ => H0 (fun x => by have := x.1; omega))
theorem rf_a191 {post : St2 → Prop} {l i j : Nat} (hl : l < 3) (hi : i ≤ 7) (hj : j ≤ 7)
    (H : post (gap, size, fo, fs, sc, bc, ac, a1, a2, a3, a4, a5, a6, a7, upd a8 (144 * l + 12 * i + j) sc, upd a9 (144 * l + 12 * i + j) bc, upd a10 (144 * l + 12 * i + j) ac, a11, a12)) : wX_solveAny_191 post (nI i) (nI j) (nI l) gap size fo fs sc bc ac a1 a2 a3 a4 a5 a6 a7 a8 a9 a10 a11 a12 := by
  refine nm_r (rf_ix3 l i j) ⟨vp_in_nI (by omega) (by omega), ?_⟩
  rw [nI_clamp (by omega)]
  exact nm_e ⟨vp_in_nI (by omega) (by omega), nm_e ⟨vp_in_nI (by omega) (by omega), nm_e H⟩⟩
theorem rf_a99 {post : St2 → Prop} {l i j : Nat} (cx : rf_cx g n B t W fc gap size fo fs a1 a3 a4) (hl : l < 3) (hij : i < j) (hj : j ≤ n)
    (hA : ∀ q, i < q → q < j → rf_ok (rf_M g B t W fc (l - 1) (q + 1) j) (a8 (144 * (l - 1) + 12 * (q + 1) + j)) (a9 (144 * (l - 1) + 12 * (q + 1) + j)) (a10 (144 * (l - 1) + 12 * (q + 1) + j)))
    (hP : ∀ q, i < q → q < j → rf_ok (rf_M g B t W fc 3 i q) (a5 (12 * i + q)) (a6 (12 * i + q)) (a7 (12 * i + q)))
    (h0 : rf_ok (rf_FA (rf_fr W) (rf_M g B t W fc) l i j 0) sc bc ac)
    (H : ∀ sc' bc' ac', rf_ok (rf_M g B t W fc l i j) sc' bc' ac' → wX_solveAny_191 post (nI i) (nI j) (nI l) gap size fo fs sc' bc' ac' a1 a2 a3 a4 a5 a6 a7 a8 a9 a10 a11 a12) :
    ∃ f, wX_solveAny_99 post (nI i) (nI j) (nI l) (nI (l - 1)) f (nI (i + 1)) gap size fo fs sc bc ac a1 a2 a3 a4 a5 a6 a7 a8 a9 a10 a11 a12 := by
  have hn := cx.1
  have ht := cx.2.2.2.2.2.2.2.1
  refine pk_loop (fun f q (s : Int32 × Int32 × Int32) => wX_solveAny_99 post (nI i) (nI j) (nI l) (nI (l - 1)) f (nI q) gap size fo fs s.1 s.2.1 s.2.2 a1 a2 a3 a4 a5 a6 a7 a8 a9 a10 a11 a12)
    (fun q s => i < q ∧ rf_ok (rf_FA (rf_fr W) (rf_M g B t W fc) l i j (q - (i + 1))) s.1 s.2.1 s.2.2) j (i + 1) (sc, bc, ac) (by omega) ⟨by omega, by rw [Nat.sub_self]; exact h0⟩ ?_ ?_
  · intro f s k
    refine pk_le j j (fun _ => H _ _ _ ?_) (fun z => absurd z (by omega))
    have k2 := k.2
    unfold rf_M at k2 ⊢
    rw [rf_LA hl hij]
    exact k2
  · intro f q s hq k hw
    refine pk_le j q (fun z => absurd z (by omega)) (fun _ => nm_r (rf_ix2 i q) (nm_r (rf_ix3s (l - 1) q j) ⟨vp_in_nI (by omega) (by omega), vp_in_nI (by omega) (by omega), nm_e ⟨vp_in_nI (by omega) (by omega), vp_in_nI (by omega) (by omega), vp_in_nI (by omega) (by omega), vp_in_nI (by omega) (by omega), ?_⟩⟩))
    rw [nI_clamp (show 12 * i + q < 2 ^ 31 by omega), nI_clamp (show 144 * (l - 1) + 12 * (q + 1) + j < 2 ^ 31 by omega)]
    have e : rf_FA (rf_fr W) (rf_M g B t W fc) l i j (q + 1 - (i + 1)) = rf_FA (rf_fr W) (rf_M g B t W fc) l i j (q - (i + 1)) ++ rf_pr (rf_M g B t W fc 3 i q) (rf_M g B t W fc (l - 1) (q + 1) j) := by
      rw [show q + 1 - (i + 1) = (q - (i + 1)) + 1 by omega, rf_FA_succ, show i + 1 + (q - (i + 1)) = q by omega, show i + 2 + (q - (i + 1)) = q + 1 by omega]
    refine rf_offer k.2 (rf_ok_pr (hP q k.1 hq) (hA q k.1 hq) (fun s hs => rf_M_sm ht (by omega) (by omega) (by omega) hs) (fun s hs => rf_M_sm ht (by omega) (by omega) (by omega) hs)) ?_ (fun sc' bc' ac' k' => nm_r (nI_1 q) (hw (sc', bc', ac') ⟨by omega, ?_⟩))
    · rw [← e]
      exact rf_FA_le hl hij (by omega) (by omega)
    · rw [e]
      exact k'
theorem rf_any {post : St2 → Prop} {l i j : Nat} (cx : rf_cx g n B t W fc gap size fo fs a1 a3 a4) (hl : l < 3) (hij : i ≤ j) (hj : j ≤ n)
    (hA : ∀ l' i', l' < 3 → i < i' → i' ≤ j → rf_ok (rf_M g B t W fc l' i' j) (a8 (144 * l' + 12 * i' + j)) (a9 (144 * l' + 12 * i' + j)) (a10 (144 * l' + 12 * i' + j)))
    (hP : ∀ q, i < q → q < j → rf_ok (rf_M g B t W fc 3 i q) (a5 (12 * i + q)) (a6 (12 * i + q)) (a7 (12 * i + q)))
    (H : ∀ sc' bc' ac', rf_ok (rf_M g B t W fc l i j) sc' bc' ac' → post (gap, size, fo, fs, sc', bc', ac', a1, a2, a3, a4, a5, a6, a7, upd a8 (144 * l + 12 * i + j) sc', upd a9 (144 * l + 12 * i + j) bc', upd a10 (144 * l + 12 * i + j) ac', a11, a12)) :
    wpX_solveAny post (gap, size, fo, fs, sc, bc, ac, a1, a2, a3, a4, a5, a6, a7, a8, a9, a10, a11, a12) (nI i) (nI j) (nI l) := by
  have hn := cx.1
  refine pk_eq i j (fun z => ?_) (fun z => ?_) rfl rfl (by omega) (by omega)
  · have e : rf_M g B t W fc l i j = if l = 0 then [0] else [] := rf_L0 hl (by omega)
    refine pk_eq l 0 (fun y => ?_) (fun y => ?_) rfl rfl (by omega) (by omega)
    · refine rf_offer (rf_ok_nil _) (rf_ok_one 0 (o := 0) rfl) (by decide) (fun sc' bc' ac' k => rf_a191 hl (by omega) (by omega) (H _ _ _ ?_))
      rw [e, if_pos y]
      exact k
    · refine rf_offer (rf_ok_nil _) (rf_ok_nil 0) (by decide) (fun sc' bc' ac' k => rf_a191 hl (by omega) (by omega) (H _ _ _ ?_))
      rw [e, if_neg y]
      exact k
  · have hlt : i < j := by omega
    have k81 : ∀ sc' bc' ac', rf_ok (rf_FA (rf_fr W) (rf_M g B t W fc) l i j 0) sc' bc' ac' → wX_solveAny_81 post (nI i) (nI j) (nI l) gap size fo fs sc' bc' ac' a1 a2 a3 a4 a5 a6 a7 a8 a9 a10 a11 a12 := by
      intro sc' bc' ac' k
      have := rf_a99 (post := post) (a11 := a11) (a2 := a2) (a12 := a12) cx hl hlt hj (fun q h1 h2 => hA (l - 1) (q + 1) (by omega) (by omega) (by omega)) hP k (fun s1 s2 s3 k' => rf_a191 hl (by omega) (by omega) (H _ _ _ k'))
      refine pk_le l 0 (fun y => nm_r (nI_1 i) ?_) (fun y => nm_r (pk_sub (a := l) (b := 1) (by omega)) (nm_r (nI_1 i) this)) rfl rfl (by omega) (by omega)
      have e : l - 1 = 0 := by omega
      rw [e] at this
      exact this
    refine rf_mbf (by omega) (cx.2.2.2.2.2.1 i (by omega)) (fun w => br_f (by decide) (nm_r (rf_ix3s l i j) ⟨vp_in_nI (by omega) (by omega), vp_in_nI (by omega) (by omega), vp_in_nI (by omega) (by omega), ?_⟩)) (fun w => br_t rfl (k81 _ _ _ ?_))
    · rw [nI_clamp (by omega)]
      refine rf_offer (rf_ok_nil _) (hA l (i + 1) hl (by omega) (by omega)) ?_ (fun sc' bc' ac' k => k81 _ _ _ ?_)
      · exact rf_L_short (by omega) (by omega) (by omega)
      · unfold rf_FA
        rw [if_pos (rf_fr_iff.mpr w)]
        rw [List.nil_append] at k
        show rf_ok (_ ++ []) _ _ _
        rw [List.append_nil]
        exact k
    · unfold rf_FA
      rw [if_neg (fun x => w (rf_fr_iff.mp x))]
      exact rf_ok_nil _
end
end
section
/-! the cells of pairs -/
theorem rf_FI_succ (fr : Nat → Bool) (t : Nat → Int) (o : Int) (G : Nat → Nat → Nat → List Int) (i j k m : Nat) :
    rf_FI fr t o G i j k (m + 1) = rf_FI fr t o G i j k m ++ (if rf_free fr (k + 2 + m) j = true then (G 3 k (k + 1 + m)).map (fun s => o + rf_ex t i j k (k + 1 + m) + s) else []) := rfl
theorem rf_FK_succ (fr : Nat → Bool) (t : Nat → Int) (o : Int) (G : Nat → Nat → Nat → List Int) (i j m : Nat) :
    rf_FK fr t o G i j (m + 1) = rf_FK fr t o G i j m ++ (if rf_free fr (i + 1) (i + 1 + m) = true then rf_FI fr t o G i j (i + 1 + m) (j - (i + 2 + m)) else []) := by
  unfold rf_FK
  rw [List.append_assoc]
  rfl
theorem rf_FK_le {fr : Nat → Bool} {mp : Nat → Nat → Bool} {ow : Nat → Nat → Int} {t : Nat → Int} {i j m : Nat} (hij : i < j) (hm : mp i j = true) (hj : j ≤ 7) (h : m ≤ j - (i + 1)) :
    (rf_FK fr t (ow i j) (rf_L fr mp ow t) i j m).length ≤ 2097152 := by
  refine Nat.le_trans (List.Sublist.length_le ?_) (rf_L_short (fr := fr) (mp := mp) (ow := ow) (t := t) (show 3 ≤ 3 by omega) (Nat.le_of_lt hij) hj)
  rw [rf_LP1 hij hm]
  exact List.Sublist.trans (List.Sublist.append (List.Sublist.refl _) (rf_cat_le h)) (List.sublist_append_left _ _)
section
variable {gap size fo fs sc bc ac : Int32} {a1 a2 a3 a4 a5 a6 a7 a8 a9 a10 a11 a12 : Nat → Int32} {g n : Nat} {B t W : Nat → Nat} {fc : Nat → Nat → Bool}
theorem rf_isf' {post : Int32 → Prop} {i j : Nat} {x y : Int32} (hx : x = nI i) (hy : y = nI j) (cx : rf_cx g n B t W fc gap size fo fs a1 a3 a4) (hi : i ≤ j) (hj : j ≤ n)
    (H1 : rf_free (rf_fr W) i j = true → post 1) (H0 : ¬ rf_free (rf_fr W) i j = true → post 0) : wpX_isFree post (gap, size, fo, fs, sc, bc, ac, a1, a2, a3, a4, a5, a6, a7, a8, a9, a10, a11, a12) x y := by
  subst hx hy
  exact rf_isf cx.1 hi hj cx.2.2.2.2.2.1 H1 H0
theorem rf_i97 {post : St2 → Prop} {J : Int32 → Int32 → Int32 → Int32 → Int32 → Int32 → Int32 → Int32 → (Nat → Int32) → (Nat → Int32) → (Nat → Int32) → (Nat → Int32) → (Nat → Int32) → (Nat → Int32) → (Nat → Int32) → (Nat → Int32) → (Nat → Int32) → (Nat → Int32) → (Nat → Int32) → (Nat → Int32) → Prop}
    {acc : List Int} {o ex : Int} {x1 x2 x3 own z0 : Int32} {k l : Nat} (cx : rf_cx g n B t W fc gap size fo fs a1 a3 a4) (hk : k < l) (hl : l < n)
    (h : rf_ok acc sc bc ac) (hP : rf_ok (rf_M g B t W fc 3 k l) (a5 (12 * k + l)) (a6 (12 * k + l)) (a7 (12 * k + l)))
    (ho : own.toInt = o) (hz : z0.toInt = ex) (bo : 0 ≤ o ∧ o ≤ 20) (be : -20 ≤ ex ∧ ex ≤ 20)
    (hlen : (acc ++ (rf_M g B t W fc 3 k l).map (fun s => o + ex + s)).length ≤ 2097152)
    (H : ∀ sc' bc' ac', rf_ok (acc ++ (rf_M g B t W fc 3 k l).map (fun s => o + ex + s)) sc' bc' ac' → J (nI (l + 1)) gap size fo fs sc' bc' ac' a1 a2 a3 a4 a5 a6 a7 a8 a9 a10 a11 a12) :
    wX_offerInner_97 post J x1 x2 x3 own (nI l) (nI (12 * k + l)) z0 gap size fo fs sc bc ac a1 a2 a3 a4 a5 a6 a7 a8 a9 a10 a11 a12 := by
  have hn := cx.1
  refine ⟨vp_in_nI (by omega) (by omega), vp_in_nI (by omega) (by omega), vp_in_nI (by omega) (by omega), ?_⟩
  rw [nI_clamp (by omega)]
  exact rf_offer h (rf_ok_map (o := o + ex) hP (by rw [rf_add (by omega) (by omega), ho, hz]) (by omega) (fun s hs => rf_M_sm cx.2.2.2.2.2.2.2.1 (by omega) (by omega) (by omega) hs)) hlen (fun sc' bc' ac' k' => nm_r (nI_1 l) (H _ _ _ k'))
theorem rf_tn {x : Int32} {m : Nat} (h : x = nI m) (hm : m ≤ 1000) : x.toInt = (m : Int) := by
  rw [h]
  exact nI_toInt (by omega)
theorem rf_inner {post : St2 → Prop} {acc : List Int} {o : Int} {own : Int32} {i j k : Nat} (cx : rf_cx g n B t W fc gap size fo fs a1 a3 a4) (hik : i < k) (hkj : k < j) (hj : j < n)
    (ho : own.toInt = o) (bo : 0 ≤ o ∧ o ≤ 20)
    (hP : ∀ l, k < l → l < j → rf_ok (rf_M g B t W fc 3 k l) (a5 (12 * k + l)) (a6 (12 * k + l)) (a7 (12 * k + l)))
    (h : rf_ok acc sc bc ac)
    (hlen : (acc ++ (if rf_free (rf_fr W) (i + 1) k = true then rf_FI (rf_fr W) (rf_tI t) o (rf_M g B t W fc) i j k (j - (k + 1)) else [])).length ≤ 2097152)
    (H : ∀ sc' bc' ac', rf_ok (acc ++ (if rf_free (rf_fr W) (i + 1) k = true then rf_FI (rf_fr W) (rf_tI t) o (rf_M g B t W fc) i j k (j - (k + 1)) else [])) sc' bc' ac' → post (gap, size, fo, fs, sc', bc', ac', a1, a2, a3, a4, a5, a6, a7, a8, a9, a10, a11, a12)) :
    wpX_offerInner post (gap, size, fo, fs, sc, bc, ac, a1, a2, a3, a4, a5, a6, a7, a8, a9, a10, a11, a12) (nI i) (nI j) (nI k) own := by
  have hn := cx.1
  have ht := cx.2.2.2.2.2.2.2.1
  have h4 := cx.2.2.2.2.2.2.1
  refine rf_isf' (nI_1 i) rfl cx (by omega) (by omega) (fun w => br_f (by decide) (nm_r (nI_1 k) ?_)) (fun w => br_t rfl (H _ _ _ ?_))
  · rw [if_pos w] at hlen H
    refine pk_loop (fun f l (s : Int32 × Int32 × Int32) => wX_offerInner_17 post (nI i) (nI j) (nI k) own f (nI l) gap size fo fs s.1 s.2.1 s.2.2 a1 a2 a3 a4 a5 a6 a7 a8 a9 a10 a11 a12)
      (fun l s => k < l ∧ rf_ok (acc ++ rf_FI (rf_fr W) (rf_tI t) o (rf_M g B t W fc) i j k (l - (k + 1))) s.1 s.2.1 s.2.2) j (k + 1) (sc, bc, ac) (by omega) ⟨by omega, ?_⟩ ?_ ?_
    · rw [Nat.sub_self]
      show rf_ok (acc ++ []) sc bc ac
      rw [List.append_nil]
      exact h
    · intro f s q
      exact pk_le j j (fun _ => H _ _ _ q.2) (fun z => absurd z (by omega))
    · intro f l s hl q hw
      obtain ⟨hkl, q⟩ := q
      refine pk_le j l (fun z => absurd z (by omega)) (fun _ => nm_r (rf_ix2 k l) ⟨vp_in_nI (by omega) (by omega), ?_⟩)
      rw [nI_clamp (by omega)]
      have e : rf_FI (rf_fr W) (rf_tI t) o (rf_M g B t W fc) i j k (l + 1 - (k + 1)) = rf_FI (rf_fr W) (rf_tI t) o (rf_M g B t W fc) i j k (l - (k + 1)) ++ (if rf_free (rf_fr W) (l + 1) j = true then (rf_M g B t W fc 3 k l).map (fun s => o + rf_ex (rf_tI t) i j k l + s) else []) := by
        rw [show l + 1 - (k + 1) = (l - (k + 1)) + 1 by omega, rf_FI_succ, show k + 2 + (l - (k + 1)) = l + 1 by omega, show k + 1 + (l - (k + 1)) = l by omega]
      have hp := hP l hkl hl
      have keep : (if rf_free (rf_fr W) (l + 1) j = true then (rf_M g B t W fc 3 k l).map (fun s => o + rf_ex (rf_tI t) i j k l + s) else []) = [] → wX_offerInner_17 post (nI i) (nI j) (nI k) own f (nI (l + 1)) gap size fo fs s.1 s.2.1 s.2.2 a1 a2 a3 a4 a5 a6 a7 a8 a9 a10 a11 a12 := by
        intro e0
        refine hw s ⟨by omega, ?_⟩
        rw [e, e0, List.append_nil]
        exact q
      have hs := rf_L_short (fr := rf_fr W) (mp := rf_mp g B W fc) (ow := rf_ow B t) (t := rf_tI t) (show 3 ≤ 3 by omega) (Nat.le_of_lt hkl) (show l ≤ 7 by omega)
      refine pk_le (rf_M g B t W fc 3 k l).length 0 (fun z => nm_r (nI_1 l) (keep ?_)) (fun z => ?_) hp.1 rfl (Nat.lt_of_le_of_lt hs (by omega)) (by omega)
      · have e0 : rf_M g B t W fc 3 k l = [] := List.length_eq_zero_iff.mp (by omega)
        rw [e0]
        by_cases y : rf_free (rf_fr W) (l + 1) j = true
        · rw [if_pos y]; rfl
        · rw [if_neg y]
      · refine rf_isf' (nI_1 l) rfl cx (by omega) (by omega) (fun y => br_f (by decide) ?_) (fun y => br_t rfl (nm_r (nI_1 l) (keep (if_neg y))))
        rw [if_pos y] at e
        have hl2 : ((acc ++ rf_FI (rf_fr W) (rf_tI t) o (rf_M g B t W fc) i j k (l - (k + 1))) ++ (rf_M g B t W fc 3 k l).map (fun s => o + rf_ex (rf_tI t) i j k l + s)).length ≤ 2097152 := by
          rw [List.append_assoc, ← e]
          exact Nat.le_trans (List.Sublist.length_le (List.Sublist.append (List.Sublist.refl _) (rf_cat_le (by omega)))) hlen
        have hH : ∀ sc' bc' ac', rf_ok ((acc ++ rf_FI (rf_fr W) (rf_tI t) o (rf_M g B t W fc) i j k (l - (k + 1))) ++ (rf_M g B t W fc 3 k l).map (fun s => o + rf_ex (rf_tI t) i j k l + s)) sc' bc' ac' → wX_offerInner_17 post (nI i) (nI j) (nI k) own f (nI (l + 1)) gap size fo fs sc' bc' ac' a1 a2 a3 a4 a5 a6 a7 a8 a9 a10 a11 a12 := by
          intro sc' bc' ac' k'
          refine hw (sc', bc', ac') ⟨by omega, ?_⟩
          rw [e, ← List.append_assoc]
          exact k'
        have t3 := ht 3
        have t4 := ht 4
        have k73 : ¬ (k = i + 1 ∧ l + 1 = j) → wX_offerInner_74 post (wX_offerInner_17 post (nI i) (nI j) (nI k) own f) (nI i) (nI j) (nI k) own (nI l) (nI (12 * k + l)) 0 gap size fo fs s.1 s.2.1 s.2.2 a1 a2 a3 a4 a5 a6 a7 a8 a9 a10 a11 a12 := by
          intro hc
          have ex : rf_ex (rf_tI t) i j k l = -(t 4 : Int) := if_neg hc
          have t4' : (a4 4).toInt = (t 4 : Int) := rf_tn (h4 4 (by omega)) (by omega)
          exact br_t rfl (rf_i97 cx hkl (by omega) q hp ho (by rw [rf_neg (by omega), t4', ex]) bo (by omega) hl2 hH)
        refine pk_eq k (i + 1) (fun e1 => pk_eq l (j - 1) (fun e2 => ?_) (fun e2 => k73 (by omega)) rfl (pk_sub (a := j) (b := 1) (by omega)) (by omega) (by omega)) (fun e1 => k73 (by omega)) rfl (nI_1 i) (by omega) (by omega)
        have ex : rf_ex (rf_tI t) i j k l = (t 3 : Int) := if_pos ⟨e1, by omega⟩
        have t3' : (a4 3).toInt = (t 3 : Int) := rf_tn (h4 3 (by omega)) (by omega)
        exact br_f (by decide) (rf_i97 cx hkl (by omega) q hp ho (by rw [t3', ex]) bo (by omega) hl2 hH)
  · rw [if_neg w, List.append_nil]
    exact h
theorem rf_p148 {post : St2 → Prop} {i j : Nat} (hi : i ≤ 7) (hj : j ≤ 7)
    (H : post (gap, size, fo, fs, sc, bc, ac, a1, a2, a3, a4, upd a5 (12 * i + j) sc, upd a6 (12 * i + j) bc, upd a7 (12 * i + j) ac, a8, a9, a10, a11, a12)) : wX_solvePair_148 post (nI i) (nI j) gap size fo fs sc bc ac a1 a2 a3 a4 a5 a6 a7 a8 a9 a10 a11 a12 := by
  unfold wX_solvePair_148
  rw [rf_ix2, nI_clamp (by omega)]
  exact ⟨vp_in_nI (by omega) (by omega), nm_e ⟨vp_in_nI (by omega) (by omega), nm_e ⟨vp_in_nI (by omega) (by omega), nm_e H⟩⟩⟩
theorem rf_p79 {post : St2 → Prop} {i j : Nat} {own : Int32} (cx : rf_cx g n B t W fc gap size fo fs a1 a3 a4) (hij : i < j) (hj : j < n) (hm : rf_mp g B W fc i j = true)
    (ho : own.toInt = rf_ow B t i j)
    (hP : ∀ k l, i < k → k < l → l < j → rf_ok (rf_M g B t W fc 3 k l) (a5 (12 * k + l)) (a6 (12 * k + l)) (a7 (12 * k + l)))
    (hA : rf_ok (rf_M g B t W fc 2 (i + 1) j) (a8 (144 * 2 + 12 * (i + 1) + j)) (a9 (144 * 2 + 12 * (i + 1) + j)) (a10 (144 * 2 + 12 * (i + 1) + j)))
    (h : rf_ok (rf_FK (rf_fr W) (rf_tI t) (rf_ow B t i j) (rf_M g B t W fc) i j 0) sc bc ac)
    (H : ∀ sc' bc' ac', rf_ok (rf_M g B t W fc 3 i j) sc' bc' ac' → wX_solvePair_148 post (nI i) (nI j) gap size fo fs sc' bc' ac' a1 a2 a3 a4 a5 a6 a7 a8 a9 a10 a11 a12) :
    ∃ f, wX_solvePair_79 post (nI i) (nI j) own f (nI (i + 1)) gap size fo fs sc bc ac a1 a2 a3 a4 a5 a6 a7 a8 a9 a10 a11 a12 := by
  have hn := cx.1
  have ht := cx.2.2.2.2.2.2.2.1
  have h4 := cx.2.2.2.2.2.2.1
  have bo : 0 ≤ rf_ow B t i j ∧ rf_ow B t i j ≤ 20 := by
    unfold rf_ow
    have := ht (rf_kd (B i) (B j))
    omega
  refine pk_loop (fun f k (s : Int32 × Int32 × Int32) => wX_solvePair_79 post (nI i) (nI j) own f (nI k) gap size fo fs s.1 s.2.1 s.2.2 a1 a2 a3 a4 a5 a6 a7 a8 a9 a10 a11 a12)
    (fun k s => i < k ∧ rf_ok (rf_FK (rf_fr W) (rf_tI t) (rf_ow B t i j) (rf_M g B t W fc) i j (k - (i + 1))) s.1 s.2.1 s.2.2) j (i + 1) (sc, bc, ac) (by omega) ⟨by omega, by rw [Nat.sub_self]; exact h⟩ ?_ ?_
  · intro f s q
    refine pk_le j j (fun _ => nm_r (rf_ix8 i j) ⟨vp_in_nI (by omega) (by omega), vp_in_nI (by omega) (by omega), vp_in_nI (by omega) (by omega), ?_⟩) (fun z => absurd z (by omega))
    rw [nI_clamp (by omega)]
    have t5 := ht 5
    have t5' : (a4 5).toInt = (t 5 : Int) := rf_tn (h4 5 (by omega)) (by omega)
    have e : rf_M g B t W fc 3 i j = rf_FK (rf_fr W) (rf_tI t) (rf_ow B t i j) (rf_M g B t W fc) i j (j - (i + 1)) ++ (rf_M g B t W fc 2 (i + 1) j).map (fun s => rf_ow B t i j - rf_tI t 5 + s) := rf_LP1 hij hm
    have e5 : rf_tI t 5 = (t 5 : Int) := rfl
    refine rf_offer q.2 (rf_ok_map (o := rf_ow B t i j - rf_tI t 5) hA (by rw [rf_sub (by omega) (by omega), ho, t5', e5]) (by omega) (fun s hs => rf_M_sm ht (by omega) (by omega) (by omega) hs)) ?_ (fun sc' bc' ac' k' => H _ _ _ (by rw [e]; exact k'))
    rw [← e]
    exact rf_L_short (by omega) (by omega) (by omega)
  · intro f k s hk q hw
    have e : rf_FK (rf_fr W) (rf_tI t) (rf_ow B t i j) (rf_M g B t W fc) i j (k + 1 - (i + 1)) = rf_FK (rf_fr W) (rf_tI t) (rf_ow B t i j) (rf_M g B t W fc) i j (k - (i + 1)) ++ (if rf_free (rf_fr W) (i + 1) k = true then rf_FI (rf_fr W) (rf_tI t) (rf_ow B t i j) (rf_M g B t W fc) i j k (j - (k + 1)) else []) := by
      have := q.1
      rw [show k + 1 - (i + 1) = (k - (i + 1)) + 1 by omega, rf_FK_succ, show i + 1 + (k - (i + 1)) = k by omega, show i + 2 + (k - (i + 1)) = k + 1 by omega]
    refine pk_le j k (fun z => absurd z (by omega)) (fun _ => rf_inner cx q.1 hk hj ho bo (fun l h1 h2 => hP k l q.1 h1 h2) q.2 ?_ (fun sc' bc' ac' k' => nm_r (nI_1 k) (hw (sc', bc', ac') ⟨by have := q.1; omega, by rw [e]; exact k'⟩)))
    rw [← e]
    exact rf_FK_le hij hm (by omega) (by omega)
theorem rf_pair {post : St2 → Prop} {i j : Nat} (cx : rf_cx g n B t W fc gap size fo fs a1 a3 a4) (hij : i ≤ j) (hj : j < n)
    (hP : ∀ k l, i < k → k < l → l < j → rf_ok (rf_M g B t W fc 3 k l) (a5 (12 * k + l)) (a6 (12 * k + l)) (a7 (12 * k + l)))
    (hA : i < j → rf_ok (rf_M g B t W fc 2 (i + 1) j) (a8 (144 * 2 + 12 * (i + 1) + j)) (a9 (144 * 2 + 12 * (i + 1) + j)) (a10 (144 * 2 + 12 * (i + 1) + j)))
    (H : ∀ sc' bc' ac', rf_ok (rf_M g B t W fc 3 i j) sc' bc' ac' → post (gap, size, fo, fs, sc', bc', ac', a1, a2, a3, a4, upd a5 (12 * i + j) sc', upd a6 (12 * i + j) bc', upd a7 (12 * i + j) ac', a8, a9, a10, a11, a12)) :
    wpX_solvePair post (gap, size, fo, fs, sc, bc, ac, a1, a2, a3, a4, a5, a6, a7, a8, a9, a10, a11, a12) (nI i) (nI j) := by
  have hn := cx.1
  have hB := cx.2.2.2.2.1
  have ht := cx.2.2.2.2.2.2.2.1
  have h4 := cx.2.2.2.2.2.2.1
  have none : ¬ (i < j ∧ rf_mp g B W fc i j = true) → wX_solvePair_148 post (nI i) (nI j) gap size fo fs (-1000) 0 0 a1 a2 a3 a4 a5 a6 a7 a8 a9 a10 a11 a12 := by
    intro hc
    refine rf_p148 (by omega) (by omega) (H _ _ _ ?_)
    have e : rf_M g B t W fc 3 i j = [] := rf_LP0 hc
    rw [e]
    exact rf_ok_nil _
  refine pk_le j i (fun z => none (fun y => absurd y.1 (by omega))) (fun z => rf_may cx z hj (fun hm => br_f (by decide) ⟨pk_in i 11 (by omega), pk_in j 11 (by omega), ?_⟩) (fun hm => br_t rfl (none (fun y => hm y.2)))) rfl rfl (by omega) (by omega)
  rw [nI_clamp (show i < 2 ^ 31 by omega), nI_clamp (show j < 2 ^ 31 by omega), (hB i (by omega)).1, (hB j (by omega)).1]
  refine rf_kind (hB i (by omega)).2 (hB j (by omega)).2 ?_
  have k3 := (rf_mp_iff.mp hm).2.2.2.2
  rw [if_pos k3]
  refine ⟨vp_in_nI (by omega) (by omega), ?_⟩
  rw [nI_clamp (by omega)]
  have ho : (a4 (rf_kd (B i) (B j))).toInt = rf_ow B t i j := rf_tn (h4 _ (by omega)) (by have := ht (rf_kd (B i) (B j)); omega)
  refine nm_e (rf_isf' (nI_1 i) rfl cx (by omega) (by omega) (fun w => br_f (by decide) (br_f (by decide) ?_)) (fun w => br_t rfl (br_t rfl ?_)))
  · refine rf_offer (rf_ok_nil _) (rf_ok_one _ ho) (show 1 ≤ 2097152 by omega) (fun sc' bc' ac' k => nm_r (nI_1 i) (rf_p79 cx z hj hm ho hP (hA z) ?_ (fun s1 s2 s3 k' => rf_p148 (by omega) (by omega) (H _ _ _ k'))))
    unfold rf_FK
    rw [if_pos w]
    exact k
  · refine rf_offer (rf_ok_nil _) (rf_ok_nil _) (by decide) (fun sc' bc' ac' k => nm_r (nI_1 i) (rf_p79 cx z hj hm ho hP (hA z) ?_ (fun s1 s2 s3 k' => rf_p148 (by omega) (by omega) (H _ _ _ k'))))
    unfold rf_FK
    rw [if_neg w]
    exact k
end
end
section
/-! the tables, cell by cell -/
/-- done: pairs of less than w places, those of w places with i < p; stretches of less than w places, those of w places with i < i0, and at i0 below l0 -/
def rf_tb (g n : Nat) (B t W : Nat → Nat) (fc : Nat → Nat → Bool) (w i0 l0 p : Nat) (a5 a6 a7 a8 a9 a10 : Nat → Int32) : Prop :=
  (∀ i j, i ≤ j → j < n → (j - i + 1 < w ∨ (j - i + 1 = w ∧ i < p)) → rf_ok (rf_M g B t W fc 3 i j) (a5 (12 * i + j)) (a6 (12 * i + j)) (a7 (12 * i + j))) ∧
  (∀ l i j, l < 3 → i ≤ j → j ≤ n → (j - i < w ∨ (j - i = w ∧ (i < i0 ∨ (i = i0 ∧ l < l0)))) → rf_ok (rf_M g B t W fc l i j) (a8 (144 * l + 12 * i + j)) (a9 (144 * l + 12 * i + j)) (a10 (144 * l + 12 * i + j)))
theorem rf_tb_p {g n : Nat} {B t W : Nat → Nat} {fc : Nat → Nat → Bool} {w i : Nat} {a5 a6 a7 a8 a9 a10 : Nat → Int32} {x y z : Int32} (hn : n ≤ 7) (hw : 0 < w) (hj : i + w ≤ n)
    (h : rf_tb g n B t W fc w i 0 i a5 a6 a7 a8 a9 a10) (k : rf_ok (rf_M g B t W fc 3 i (i + w - 1)) x y z) :
    rf_tb g n B t W fc w i 0 (i + 1) (upd a5 (12 * i + (i + w - 1)) x) (upd a6 (12 * i + (i + w - 1)) y) (upd a7 (12 * i + (i + w - 1)) z) a8 a9 a10 := by
  refine ⟨fun i' j' h1 h2 h3 => ?_, h.2⟩
  by_cases e : i' = i ∧ j' = i + w - 1
  · rw [e.1, e.2, pk_us, pk_us, pk_us]
    exact k
  · have ne : 12 * i' + j' ≠ 12 * i + (i + w - 1) := by omega
    rw [pk_un ne, pk_un ne, pk_un ne]
    exact h.1 i' j' h1 h2 (by omega)
theorem rf_tb_a {g n : Nat} {B t W : Nat → Nat} {fc : Nat → Nat → Bool} {w i l : Nat} {a5 a6 a7 a8 a9 a10 : Nat → Int32} {x y z : Int32} (hn : n ≤ 7) (hl : l < 3) (hj : i + w ≤ n)
    (h : rf_tb g n B t W fc w i l (i + 1) a5 a6 a7 a8 a9 a10) (k : rf_ok (rf_M g B t W fc l i (i + w)) x y z) :
    rf_tb g n B t W fc w i (l + 1) (i + 1) a5 a6 a7 (upd a8 (144 * l + 12 * i + (i + w)) x) (upd a9 (144 * l + 12 * i + (i + w)) y) (upd a10 (144 * l + 12 * i + (i + w)) z) := by
  refine ⟨h.1, fun l' i' j' h0 h1 h2 h3 => ?_⟩
  by_cases e : l' = l ∧ i' = i ∧ j' = i + w
  · rw [e.1, e.2.1, e.2.2, pk_us, pk_us, pk_us]
    exact k
  · have ne : 144 * l' + 12 * i' + j' ≠ 144 * l + 12 * i + (i + w) := by
      intro q
      have b1 : 12 * i' + j' < 144 := by omega
      have b2 : 12 * i + (i + w) < 144 := by omega
      have e1 : l' = l := by omega
      have b3 : j' < 12 := by omega
      have b4 : i + w < 12 := by omega
      have e2 : i' = i := by omega
      exact e ⟨e1, e2, by omega⟩
    rw [pk_un ne, pk_un ne, pk_un ne]
    exact h.2 l' i' j' h0 h1 h2 (by omega)
section
variable {gap size fo fs sc bc ac : Int32} {a1 a2 a3 a4 a5 a6 a7 a8 a9 a10 a11 a12 : Nat → Int32} {g n : Nat} {B t W : Nat → Nat} {fc : Nat → Nat → Bool}
theorem rf_s38 {post : St2 → Prop} {J2 J12 : Int32 → Int32 → Int32 → Int32 → Int32 → Int32 → Int32 → Int32 → (Nat → Int32) → (Nat → Int32) → (Nat → Int32) → (Nat → Int32) → (Nat → Int32) → (Nat → Int32) → (Nat → Int32) → (Nat → Int32) → (Nat → Int32) → (Nat → Int32) → (Nat → Int32) → (Nat → Int32) → Prop}
    {w i : Nat} (cx : rf_cx g n B t W fc gap size fo fs a1 a3 a4) (hw : i + w ≤ n) (h : rf_tb g n B t W fc w i 0 (i + 1) a5 a6 a7 a8 a9 a10)
    (H : ∀ sc' bc' ac' b8 b9 b10, rf_tb g n B t W fc w (i + 1) 0 (i + 1) a5 a6 a7 b8 b9 b10 → J12 (nI (i + 1)) gap size fo fs sc' bc' ac' a1 a2 a3 a4 a5 a6 a7 b8 b9 b10 a11 a12) :
    ∃ f, wX_solve_38 post J2 J12 (nI w) (nI i) f 0 gap size fo fs sc bc ac a1 a2 a3 a4 a5 a6 a7 a8 a9 a10 a11 a12 := by
  have hn := cx.1
  refine pk_loop (fun f l (s : Int32 × Int32 × Int32 × (Nat → Int32) × (Nat → Int32) × (Nat → Int32)) => wX_solve_38 post J2 J12 (nI w) (nI i) f (nI l) gap size fo fs s.1 s.2.1 s.2.2.1 a1 a2 a3 a4 a5 a6 a7 s.2.2.2.1 s.2.2.2.2.1 s.2.2.2.2.2 a11 a12)
    (fun l s => rf_tb g n B t W fc w i l (i + 1) a5 a6 a7 s.2.2.2.1 s.2.2.2.2.1 s.2.2.2.2.2) 3 0 (sc, bc, ac, a8, a9, a10) (by omega) h ?_ ?_
  · intro f s k
    refine pk_le 3 3 (fun _ => nm_r (nI_1 i) (H _ _ _ _ _ _ ⟨k.1, fun l i' j' h0 h1 h2 h3 => k.2 l i' j' h0 h1 h2 (by omega)⟩)) (fun z => absurd z (by omega))
  · intro f l s hl k hw'
    refine pk_le 3 l (fun z => absurd z (by omega)) (fun _ => ?_)
    rw [nI_add i w]
    refine rf_any cx hl (by omega) hw (fun l' i' h1 h2 h3 => k.2 l' i' (i + w) h1 h3 hw (by omega)) (fun q h1 h2 => k.1 i q (by omega) (by omega) (by omega)) (fun sc' bc' ac' k' => nm_r (nI_1 l) (hw' (sc', bc', ac', _, _, _) ?_))
    exact rf_tb_a hn hl hw k k'
theorem rf_s12 {post : St2 → Prop} {J2 : Int32 → Int32 → Int32 → Int32 → Int32 → Int32 → Int32 → Int32 → (Nat → Int32) → (Nat → Int32) → (Nat → Int32) → (Nat → Int32) → (Nat → Int32) → (Nat → Int32) → (Nat → Int32) → (Nat → Int32) → (Nat → Int32) → (Nat → Int32) → (Nat → Int32) → (Nat → Int32) → Prop}
    {w : Nat} (cx : rf_cx g n B t W fc gap size fo fs a1 a3 a4) (hw : w ≤ n) (h : rf_tb g n B t W fc w 0 0 0 a5 a6 a7 a8 a9 a10)
    (H : ∀ sc' bc' ac' b5 b6 b7 b8 b9 b10, rf_tb g n B t W fc (w + 1) 0 0 0 b5 b6 b7 b8 b9 b10 → J2 (nI (w + 1)) gap size fo fs sc' bc' ac' a1 a2 a3 a4 b5 b6 b7 b8 b9 b10 a11 a12) :
    ∃ f, wX_solve_12 post J2 (nI w) f 0 gap size fo fs sc bc ac a1 a2 a3 a4 a5 a6 a7 a8 a9 a10 a11 a12 := by
  have hn := cx.1
  have es := cx.2.2.2.1
  refine pk_loop (fun f i (s : Int32 × Int32 × Int32 × (Nat → Int32) × (Nat → Int32) × (Nat → Int32) × (Nat → Int32) × (Nat → Int32) × (Nat → Int32)) => wX_solve_12 post J2 (nI w) f (nI i) gap size fo fs s.1 s.2.1 s.2.2.1 a1 a2 a3 a4 s.2.2.2.1 s.2.2.2.2.1 s.2.2.2.2.2.1 s.2.2.2.2.2.2.1 s.2.2.2.2.2.2.2.1 s.2.2.2.2.2.2.2.2 a11 a12)
    (fun i s => rf_tb g n B t W fc w i 0 i s.2.2.2.1 s.2.2.2.2.1 s.2.2.2.2.2.1 s.2.2.2.2.2.2.1 s.2.2.2.2.2.2.2.1 s.2.2.2.2.2.2.2.2) (n - w + 1) 0 (sc, bc, ac, a5, a6, a7, a8, a9, a10) (by omega) h ?_ ?_
  · intro f s k
    refine pk_lt n (n - w + 1 + w) (fun _ => nm_r (nI_1 w) (H _ _ _ _ _ _ _ _ _ ⟨fun i' j' h1 h2 h3 => k.1 i' j' h1 h2 (by omega), fun l i' j' h0 h1 h2 h3 => k.2 l i' j' h0 h1 h2 (by omega)⟩)) (fun z => absurd z (by omega)) es (nI_add _ _) (by omega) (by omega)
  · intro f i s hi k hw'
    have k38 : ∀ sc' bc' ac' b5 b6 b7, rf_tb g n B t W fc w i 0 (i + 1) b5 b6 b7 s.2.2.2.2.2.2.1 s.2.2.2.2.2.2.2.1 s.2.2.2.2.2.2.2.2 → ∃ f', wX_solve_38 post J2 (wX_solve_12 post J2 (nI w) f) (nI w) (nI i) f' 0 gap size fo fs sc' bc' ac' a1 a2 a3 a4 b5 b6 b7 s.2.2.2.2.2.2.1 s.2.2.2.2.2.2.2.1 s.2.2.2.2.2.2.2.2 a11 a12 := by
      intro sc' bc' ac' b5 b6 b7 kb
      exact rf_s38 cx (by omega) kb (fun s1 s2 s3 b8 b9 b10 k' => hw' (s1, s2, s3, b5, b6, b7, b8, b9, b10) k')
    refine pk_lt n (i + w) (fun z => absurd z (by omega)) (fun _ => ?_) es (nI_add i w) (by omega) (by omega)
    refine pk_le w 0 (fun z => k38 _ _ _ _ _ _ ⟨fun i' j' h1 h2 h3 => absurd h3 (by omega), k.2⟩) (fun z => ?_) rfl rfl (by omega) (by omega)
    have e : (nI i + nI w) - 1 = nI (i + w - 1) := by
      rw [nI_add]
      exact pk_sub (a := i + w) (b := 1) (by omega)
    rw [e]
    refine rf_pair cx (by omega) (by omega) (fun k' l' h1 h2 h3 => k.1 k' l' (by omega) (by omega) (by omega)) (fun h1 => k.2 2 (i + 1) (i + w - 1) (by omega) (by omega) (by omega) (by omega)) (fun sc' bc' ac' k' => k38 _ _ _ _ _ _ (rf_tb_p hn z (by omega) k k'))
theorem rf_solve {post : St2 → Prop} (cx : rf_cx g n B t W fc gap size fo fs a1 a3 a4)
    (H : ∀ sc' bc' ac' b5 b6 b7 b8 b9 b10, rf_ok (rf_M g B t W fc 0 0 n) (b8 n) (b9 n) (b10 n) → post (gap, size, fo, fs, sc', bc', ac', a1, a2, a3, a4, b5, b6, b7, b8, b9, b10, a11, a12)) :
    wpX_solve post (gap, size, fo, fs, sc, bc, ac, a1, a2, a3, a4, a5, a6, a7, a8, a9, a10, a11, a12) := by
  have hn := cx.1
  have es := cx.2.2.2.1
  refine pk_loop (fun f w (s : Int32 × Int32 × Int32 × (Nat → Int32) × (Nat → Int32) × (Nat → Int32) × (Nat → Int32) × (Nat → Int32) × (Nat → Int32)) => wX_solve_2 post f (nI w) gap size fo fs s.1 s.2.1 s.2.2.1 a1 a2 a3 a4 s.2.2.2.1 s.2.2.2.2.1 s.2.2.2.2.2.1 s.2.2.2.2.2.2.1 s.2.2.2.2.2.2.2.1 s.2.2.2.2.2.2.2.2 a11 a12)
    (fun w s => rf_tb g n B t W fc w 0 0 0 s.2.2.2.1 s.2.2.2.2.1 s.2.2.2.2.2.1 s.2.2.2.2.2.2.1 s.2.2.2.2.2.2.2.1 s.2.2.2.2.2.2.2.2) (n + 1) 0 (sc, bc, ac, a5, a6, a7, a8, a9, a10) (by omega)
    ⟨fun i j h1 h2 h3 => absurd h3 (by omega), fun l i j h0 h1 h2 h3 => absurd h3 (by omega)⟩ ?_ ?_
  · intro f s k
    refine pk_lt n (n + 1) (fun _ => H _ _ _ _ _ _ _ _ _ ?_) (fun z => absurd z (by omega)) es rfl (by omega) (by omega)
    have := k.2 0 0 n (by omega) (by omega) (by omega) (by omega)
    rw [show 144 * 0 + 12 * 0 + n = n by omega] at this
    exact this
  · intro f w s hw k hw'
    exact pk_lt n w (fun z => absurd z (by omega)) (fun _ => rf_s12 cx (by omega) k (fun s1 s2 s3 b5 b6 b7 b8 b9 b10 k' => hw' (s1, s2, s3, b5, b6, b7, b8, b9, b10) k')) es rfl (by omega) (by omega)
end
end
section
/-! the object between calls; takeHeld, folds, best, bestFolds -/
def rf_ob (g n : Nat) (B t H : Nat → Nat) (gap size : Int32) (a1 a2 a4 : Nat → Int32) : Prop :=
  n ≤ 7 ∧ g ≤ 4 ∧ gap = nI g ∧ size = nI n ∧ (∀ p, p < n → a1 p = nI (B p) ∧ B p ≤ 3) ∧ (∀ p, p < n → a2 p = nI (H p)) ∧ (∀ p, H p ≤ 3) ∧ (∀ p, p < 6 → a4 p = nI (t p)) ∧ (∀ p, t p ≤ 20)
theorem rf_ok_mx {L : List Int} {x y z : Int32} (h : rf_ok L x y z) (hl : ∀ s, s ∈ L → -1000 < s) (hn : L ≠ []) : x.toInt = rf_mx L :=
  rf_mx_un (h.2.2 hn).1 (h.2.2 hn).2 hl
theorem rf_Q_short {g n : Nat} {B t W : Nat → Nat} (hn : n ≤ 7) : (rf_Q g B t n W).length ≤ 2097152 := by
  unfold rf_Q rf_M
  exact rf_L_short (by omega) (by omega) hn
theorem rf_m1000 : (-1000 : Int32).toInt = -1000 := by decide
section
variable {gap size fo fs sc bc ac : Int32} {a1 a2 a3 a4 a5 a6 a7 a8 a9 a10 a11 a12 : Nat → Int32} {g n : Nat} {B t H : Nat → Nat}
theorem rf_ob_cx {W : Nat → Nat} {b3 : Nat → Int32} {fs' : Int32} (ob : rf_ob g n B t H gap size a1 a2 a4) (h : ∀ p, p < n → b3 p = nI (W p) ∧ W p ≤ 3) : rf_cx g n B t W (fun _ _ => true) gap size (-1) fs' a1 b3 a4 :=
  ⟨ob.1, ob.2.1, ob.2.2.1, ob.2.2.2.1, ob.2.2.2.2.1, h, ob.2.2.2.2.2.2.2.1, ob.2.2.2.2.2.2.2.2, fun i j _ _ => ⟨fun _ => Or.inl (by decide), fun _ => rfl⟩⟩
theorem rf_take {post : St2 → Prop} (hn : n ≤ 7) (es : size = nI n) (K : ∀ b3, (∀ p, p < n → b3 p = a2 p) → post (gap, size, (-1), fs, sc, bc, ac, a1, a2, b3, a4, a5, a6, a7, a8, a9, a10, a11, a12)) : wpX_takeHeld post (gap, size, fo, fs, sc, bc, ac, a1, a2, a3, a4, a5, a6, a7, a8, a9, a10, a11, a12) := by
  refine pk_loop (fun f i s => wX_takeHeld_2 post gap size fo fs sc bc ac f (nI i) a1 a2 s a4 a5 a6 a7 a8 a9 a10 a11 a12) (fun i s => ∀ p, p < i → s p = a2 p) n 0 a3 (by omega) (fun p h => absurd h (by omega)) ?_ ?_
  · intro f s k
    exact pk_le n n (fun _ => K s k) (fun z => absurd z (by omega)) es rfl (by omega) (by omega)
  · intro f i s hi k hw
    refine pk_le n i (fun z => absurd z (by omega)) (fun _ => ⟨pk_in i 11 (by omega), pk_in i 11 (by omega), ?_⟩) es rfl (by omega) (by omega)
    rw [nI_clamp (by omega)]
    refine nm_e (nm_r (nI_1 i) (hw _ (fun p hp => ?_)))
    by_cases e : p = i
    · rw [e, pk_us]
    · rw [pk_un e]
      exact k p (by omega)
theorem rf_run {post : St2 → Prop} (ob : rf_ob g n B t H gap size a1 a2 a4)
    (K : ∀ sc' bc' ac' b3 b5 b6 b7 b8 b9 b10, (∀ p, p < n → b3 p = nI (H p)) → rf_ok (rf_Q g B t n H) (b8 n) (b9 n) (b10 n) → post (gap, size, (-1), fs, sc', bc', ac', a1, a2, b3, a4, b5, b6, b7, b8, b9, b10, a11, a12)) :
    wpX_takeHeld (fun u => wpX_solve post u) (gap, size, fo, fs, sc, bc, ac, a1, a2, a3, a4, a5, a6, a7, a8, a9, a10, a11, a12) :=
  rf_take ob.1 ob.2.2.2.1 (fun b3 hb => by
    have h3 : ∀ p, p < n → b3 p = nI (H p) := fun p hp => by rw [hb p hp]; exact ob.2.2.2.2.2.1 p hp
    exact rf_solve (rf_ob_cx ob (fun p hp => ⟨h3 p hp, ob.2.2.2.2.2.2.1 p⟩)) (fun sc' bc' ac' b5 b6 b7 b8 b9 b10 k => K _ _ _ _ _ _ _ _ _ _ h3 k))
theorem rf_folds {post : Int32 → St2 → Prop} (ob : rf_ob g n B t H gap size a1 a2 a4) (K : ∀ fo' fs' sc' bc' ac' b3 b5 b6 b7 b8 b9 b10 b11 b12, post (nI (rf_Q g B t n H).length) (gap, size, fo', fs', sc', bc', ac', a1, a2, b3, a4, b5, b6, b7, b8, b9, b10, b11, b12)) : wpX_folds post (gap, size, fo, fs, sc, bc, ac, a1, a2, a3, a4, a5, a6, a7, a8, a9, a10, a11, a12) := by
  have hn := ob.1
  have es := ob.2.2.2.1
  refine rf_run ob (fun sc' bc' ac' b3 b5 b6 b7 b8 b9 b10 h3 k => ⟨pk_in n 432 (by omega) es, ?_⟩)
  rw [pk_cl n es (by omega), k.1]
  exact K _ _ _ _ _ _ _ _ _ _ _ _ _ _
theorem rf_best {post : Int32 → St2 → Prop} (ob : rf_ob g n B t H gap size a1 a2 a4) (K : ∀ r fo' fs' sc' bc' ac' b3 b5 b6 b7 b8 b9 b10 b11 b12, r.toInt = rf_mx (rf_Q g B t n H) → post r (gap, size, fo', fs', sc', bc', ac', a1, a2, b3, a4, b5, b6, b7, b8, b9, b10, b11, b12)) : wpX_best post (gap, size, fo, fs, sc, bc, ac, a1, a2, a3, a4, a5, a6, a7, a8, a9, a10, a11, a12) := by
  have hn := ob.1
  have es := ob.2.2.2.1
  have low := rf_Q_low (g := g) (B := B) (W := H) ob.2.2.2.2.2.2.2.2 hn
  have hs : (rf_Q g B t n H).length ≤ 2097152 := rf_Q_short hn
  refine rf_run ob (fun sc' bc' ac' b3 b5 b6 b7 b8 b9 b10 h3 k => ⟨pk_in n 432 (by omega) es, ?_⟩)
  rw [pk_cl n es (by omega)]
  refine pk_eq (rf_Q g B t n H).length 0 (fun z => K _ _ _ _ _ _ _ _ _ _ _ _ _ _ _ ?_) (fun z => ⟨pk_in n 432 (by omega) es, K _ _ _ _ _ _ _ _ _ _ _ _ _ _ _ ?_⟩) k.1 rfl (by omega) (by omega)
  · rw [List.length_eq_zero_iff.mp z]
    exact rf_m1000
  · exact rf_ok_mx k low (fun e => z (by rw [e]; rfl))
theorem rf_bfolds {post : Int32 → St2 → Prop} (ob : rf_ob g n B t H gap size a1 a2 a4) (K : ∀ b fo' fs' sc' bc' ac' b3 b5 b6 b7 b8 b9 b10 b11 b12, b ≤ (rf_Q g B t n H).length → (rf_Q g B t n H ≠ [] → 0 < b) → post (nI b) (gap, size, fo', fs', sc', bc', ac', a1, a2, b3, a4, b5, b6, b7, b8, b9, b10, b11, b12)) : wpX_bestFolds post (gap, size, fo, fs, sc, bc, ac, a1, a2, a3, a4, a5, a6, a7, a8, a9, a10, a11, a12) := by
  have hn := ob.1
  have es := ob.2.2.2.1
  refine rf_run ob (fun sc' bc' ac' b3 b5 b6 b7 b8 b9 b10 h3 k => ⟨pk_in n 432 (by omega) es, ?_⟩)
  rw [pk_cl n es (by omega)]
  obtain ⟨b, e, h1, h2⟩ := k.2.1
  rw [e]
  exact K _ _ _ _ _ _ _ _ _ _ _ _ _ _ _ h1 h2
/-! decide -/
theorem rf_Q_test {V V' : Nat → Nat} {x y z goal : Int32} (ht : ∀ p, t p ≤ 20) (hn : n ≤ 7) (hs : List.Sublist (rf_Q g B t n V') (rf_Q g B t n V)) (k : rf_ok (rf_Q g B t n V') x y z)
    (hg : goal.toInt = rf_mx (rf_Q g B t n V)) (hne : rf_Q g B t n V' ≠ []) : x = goal ↔ rf_mx (rf_Q g B t n V) ∈ rf_Q g B t n V' := by
  have low := rf_Q_low (g := g) (B := B) (W := V') ht hn
  have e := rf_ok_mx k low hne
  have i1 := rf_mx_in low hne
  rw [← Int32.toInt_inj, hg, e]
  constructor
  · intro h
    rw [← h]
    exact i1
  · intro h
    have h1 := rf_mx_ge _ h
    have h2 := rf_mx_ge _ (hs.subset i1)
    omega
theorem rf_d53 {post : Int32 → St2 → Prop} {J : Int32 → Int32 → Int32 → Int32 → Int32 → Int32 → Int32 → Int32 → (Nat → Int32) → (Nat → Int32) → (Nat → Int32) → (Nat → Int32) → (Nat → Int32) → (Nat → Int32) → (Nat → Int32) → (Nat → Int32) → (Nat → Int32) → (Nat → Int32) → (Nat → Int32) → (Nat → Int32) → Prop}
    {goal : Int32} {V : Nat → Nat} {i how f : Nat} (ob : rf_ob g n B t H gap size a1 a2 a4) (hi : i < n) (hh : 1 ≤ how ∧ how < 3) (hV : ∀ p, V p ≤ 3) (h3 : ∀ p, p < n → p ≠ i → a3 p = nI (V p))
    (hs : List.Sublist (rf_Q g B t n (rf_up V i how)) (rf_Q g B t n H)) (hg : goal.toInt = rf_mx (rf_Q g B t n H))
    (KS : rf_mx (rf_Q g B t n H) ∈ rf_Q g B t n (rf_up V i how) → ∀ sc' bc' ac' b3 b5 b6 b7 b8 b9 b10, (∀ p, p < n → b3 p = nI (rf_up V i how p)) → J (nI (i + 1)) gap size (-1) fs sc' bc' ac' a1 a2 b3 a4 b5 b6 b7 b8 b9 b10 a11 a12)
    (KN : ¬ rf_mx (rf_Q g B t n H) ∈ rf_Q g B t n (rf_up V i how) → ∀ sc' bc' ac' b3 b5 b6 b7 b8 b9 b10, (∀ p, p < n → p ≠ i → b3 p = nI (V p)) → wX_decide_53 post J goal (nI i) f (nI (how + 1)) gap size (-1) fs sc' bc' ac' a1 a2 b3 a4 b5 b6 b7 b8 b9 b10 a11 a12) :
    wX_decide_53 post J goal (nI i) (f + 1) (nI how) gap size (-1) fs sc bc ac a1 a2 a3 a4 a5 a6 a7 a8 a9 a10 a11 a12 := by
  have hn := ob.1
  have es := ob.2.2.2.1
  have ht := ob.2.2.2.2.2.2.2.2
  have hl : (rf_Q g B t n (rf_up V i how)).length ≤ 2097152 := rf_Q_short hn
  refine pk_le 3 how (fun z => absurd z (by omega)) (fun _ => ⟨pk_in i 11 (by omega), ?_⟩)
  rw [nI_clamp (by omega)]
  have hu : ∀ p, p < n → upd a3 i (nI how) p = nI (rf_up V i how p) := by
    intro p hp
    by_cases e : p = i
    · rw [e, pk_us, rf_up_s]
    · rw [pk_un e, rf_up_n V how e]
      exact h3 p hp e
  have hu3 : ∀ p, rf_up V i how p ≤ 3 := by
    intro p
    by_cases e : p = i
    · rw [e, rf_up_s]; omega
    · rw [rf_up_n V how e]; exact hV p
  refine nm_e (rf_solve (rf_ob_cx ob (fun p hp => ⟨hu p hp, hu3 p⟩)) (fun sc' bc' ac' b5 b6 b7 b8 b9 b10 k => ⟨pk_in n 432 (by omega) es, ?_⟩))
  rw [pk_cl n es (by omega)]
  have hu' : ∀ p, p < n → p ≠ i → upd a3 i (nI how) p = nI (V p) := fun p hp e => by rw [pk_un e]; exact h3 p hp e
  refine pk_le (rf_Q g B t n (rf_up V i how)).length 0 (fun z => nm_r (nI_1 how) (KN (fun hm => ?_) _ _ _ _ _ _ _ _ _ _ hu')) (fun z => ⟨pk_in n 432 (by omega) es, ?_⟩) k.1 rfl (by omega) (by omega)
  · have e0 : rf_Q g B t n (rf_up V i how) = [] := List.length_eq_zero_iff.mp (by omega)
    rw [e0] at hm
    exact absurd hm List.not_mem_nil
  · have hne : rf_Q g B t n (rf_up V i how) ≠ [] := fun e => by rw [e] at z; exact absurd z (by decide)
    have tt := rf_Q_test ht hn hs k hg hne
    refine br_c (fun e => ⟨pk_in i 11 (by omega), ?_⟩) (fun e => nm_r (nI_1 how) (KN (fun hm => e (tt.mpr hm)) _ _ _ _ _ _ _ _ _ _ hu'))
    refine nm_e (nm_r (nI_1 i) (KS (tt.mp e) _ _ _ _ _ _ _ _ _ _ (fun p hp => ?_)))
    by_cases e : p = i
    · rw [e, pk_us, rf_up_s]
    · rw [pk_un e]
      exact hu p hp
theorem rf_d34 {post : Int32 → St2 → Prop} {goal : Int32} (ob : rf_ob g n B t H gap size a1 a2 a4) (h3 : ∀ p, p < n → a3 p = nI (H p)) (hne : rf_Q g B t n H ≠ []) (hg : goal.toInt = rf_mx (rf_Q g B t n H))
    (K : ∀ sc' bc' ac' b3 b5 b6 b7 b8 b9 b10, (∀ p, p < n → b3 p = nI (rf_D g B t n H p)) → post 1 (gap, size, (-1), fs, sc', bc', ac', a1, a2, b3, a4, b5, b6, b7, b8, b9, b10, a11, a12)) :
    ∃ f, wX_decide_34 post goal f 0 gap size (-1) fs sc bc ac a1 a2 a3 a4 a5 a6 a7 a8 a9 a10 a11 a12 := by
  have hn := ob.1
  have es := ob.2.2.2.1
  have ht := ob.2.2.2.2.2.2.2.2
  have hc := rf_mx_in (rf_Q_low (g := g) (B := B) (W := H) ht hn) hne
  have st := rf_st_ok (g := g) (B := B) (t := t) (n := n) hc ob.2.2.2.2.2.2.1
  refine pk_loop (fun f i (s : Int32 × Int32 × Int32 × (Nat → Int32) × (Nat → Int32) × (Nat → Int32) × (Nat → Int32) × (Nat → Int32) × (Nat → Int32) × (Nat → Int32)) => wX_decide_34 post goal f (nI i) gap size (-1) fs s.1 s.2.1 s.2.2.1 a1 a2 s.2.2.2.1 a4 s.2.2.2.2.1 s.2.2.2.2.2.1 s.2.2.2.2.2.2.1 s.2.2.2.2.2.2.2.1 s.2.2.2.2.2.2.2.2.1 s.2.2.2.2.2.2.2.2.2 a11 a12)
    (fun i s => ∀ p, p < n → s.2.2.2.1 p = nI (rf_st (rf_Q g B t n) (rf_mx (rf_Q g B t n H)) H i p)) n 0 (sc, bc, ac, a3, a5, a6, a7, a8, a9, a10) (by omega) h3 ?_ ?_
  · intro f s k
    exact pk_le n n (fun _ => K _ _ _ _ _ _ _ _ _ _ k) (fun z => absurd z (by omega)) es rfl (by omega) (by omega)
  · intro f i s hi k hw
    refine pk_le n i (fun z => absurd z (by omega)) (fun _ => ⟨pk_in i 11 (by omega), ?_⟩) es rfl (by omega) (by omega)
    rw [nI_clamp (by omega)]
    obtain ⟨i1, i2, i3, i4, i5⟩ := st i
    have hst : rf_st (rf_Q g B t n) (rf_mx (rf_Q g B t n H)) H (i + 1) = if rf_st (rf_Q g B t n) (rf_mx (rf_Q g B t n H)) H i i = 0 then rf_up (rf_st (rf_Q g B t n) (rf_mx (rf_Q g B t n H)) H i) i (rf_pk (rf_Q g B t n) (rf_mx (rf_Q g B t n H)) (rf_st (rf_Q g B t n) (rf_mx (rf_Q g B t n H)) H i) i) else rf_st (rf_Q g B t n) (rf_mx (rf_Q g B t n H)) H i := rfl
    rw [hst] at hw
    generalize rf_st (rf_Q g B t n) (rf_mx (rf_Q g B t n H)) H i = V at *
    have vi := i5 i
    refine pk_eq (V i) 0 (fun z => ?_) (fun z => nm_r (nI_1 i) (hw s ?_)) (k i hi) rfl (by omega) (by omega)
    · rw [if_pos z] at hw
      have wi := i4 i (Nat.le_refl _)
      have sub : ∀ h, List.Sublist (rf_Q g B t n (rf_up V i h)) (rf_Q g B t n H) := fun h => rf_M_le (fun q _ => by
        by_cases e : q = i
        · rw [e]; exact Or.inr (by omega)
        · rw [rf_up_n V h e]; exact i3 q) (fun _ _ h => h)
      refine ⟨3, rf_d53 (how := 1) ob hi (by omega) i5 (fun p hp _ => k p hp) (sub 1) hg (fun hm s1 s2 s3 b3 b5 b6 b7 b8 b9 b10 hb => ?_) (fun hm s1 s2 s3 b3 b5 b6 b7 b8 b9 b10 hb => ?_)⟩
      · refine hw (s1, s2, s3, b3, b5, b6, b7, b8, b9, b10) ?_
        unfold rf_pk
        rw [if_pos hm]
        exact hb
      · refine rf_d53 (how := 2) ob hi (by omega) i5 hb (sub 2) hg (fun hm' s1 s2 s3 b3 b5 b6 b7 b8 b9 b10 hb => ?_) (fun hm' s1 s2 s3 b3 b5 b6 b7 b8 b9 b10 hb => ?_)
        · refine hw (s1, s2, s3, b3, b5, b6, b7, b8, b9, b10) ?_
          unfold rf_pk
          rw [if_neg hm, if_pos hm']
          exact hb
        · refine pk_le 3 3 (fun _ => ⟨pk_in i 11 (by omega), ?_⟩) (fun z => absurd z (by omega))
          rw [nI_clamp (by omega)]
          refine nm_e (nm_r (nI_1 i) (hw (s1, s2, s3, _, b5, b6, b7, b8, b9, b10) ?_))
          unfold rf_pk
          rw [if_neg hm, if_neg hm']
          intro p hp
          by_cases e : p = i
          · rw [e, rf_up_s]; exact pk_us
          · rw [rf_up_n V 3 e, ← hb p hp e]
            exact pk_un e
    · rw [if_neg z]
      exact k
theorem rf_decide {post : Int32 → St2 → Prop} (ob : rf_ob g n B t H gap size a1 a2 a4)
    (K0 : rf_Q g B t n H = [] → ∀ fo' fs' sc' bc' ac' b3 b5 b6 b7 b8 b9 b10 b11 b12, post 0 (gap, size, fo', fs', sc', bc', ac', a1, a2, b3, a4, b5, b6, b7, b8, b9, b10, b11, b12))
    (K1 : rf_Q g B t n H ≠ [] → ∀ fo' fs' sc' bc' ac' b3 b5 b6 b7 b8 b9 b10 b11 b12, (∀ p, p < n → b3 p = nI (rf_D g B t n H p)) → post 1 (gap, size, fo', fs', sc', bc', ac', a1, a2, b3, a4, b5, b6, b7, b8, b9, b10, b11, b12)) : wpX_decide post (gap, size, fo, fs, sc, bc, ac, a1, a2, a3, a4, a5, a6, a7, a8, a9, a10, a11, a12) := by
  have hn := ob.1
  have es := ob.2.2.2.1
  have low := rf_Q_low (g := g) (B := B) (W := H) ob.2.2.2.2.2.2.2.2 hn
  have hs : (rf_Q g B t n H).length ≤ 2097152 := rf_Q_short hn
  refine rf_run ob (fun sc' bc' ac' b3 b5 b6 b7 b8 b9 b10 h3 k => ⟨pk_in n 432 (by omega) es, ?_⟩)
  rw [pk_cl n es (by omega)]
  refine pk_eq (rf_Q g B t n H).length 0 (fun z => K0 (List.length_eq_zero_iff.mp z) _ _ _ _ _ _ _ _ _ _ _ _ _ _) (fun z => ⟨pk_in n 432 (by omega) es, nm_e ?_⟩) k.1 rfl (by omega) (by omega)
  have hne : rf_Q g B t n H ≠ [] := fun e => z (by rw [e]; rfl)
  exact rf_d34 ob h3 hne (rf_ok_mx k low hne) (fun s1 s2 s3 c3 c5 c6 c7 c8 c9 c10 hb => K1 hne _ _ _ _ _ _ _ _ _ _ _ _ _ _ hb)
end
end
section
/-! bestCode, scoreOf, partner, solveWith -/
def rf_pv : Option Nat → Int32
  | none => -2
  | some p => nI p
def rf_rep (a : Nat → Int32) : List Nat → Prop
  | [] => True
  | p :: S => a S.length = nI p ∧ rf_rep a S
theorem rf_rep_u {a : Nat → Int32} {k : Nat} {x : Int32} : ∀ {S : List Nat}, S.length ≤ k → rf_rep a S → rf_rep (upd a k x) S := by
  intro S
  induction S with
  | nil => intro _ _; exact trivial
  | cons p S ih =>
    intro h r
    have h' : S.length + 1 ≤ k := h
    exact ⟨by rw [pk_un (by omega)]; exact r.1, ih (by omega) r.2⟩
theorem rf_sm_len {W : Nat → Nat} : ∀ m, (rf_sm W m).1.length ≤ m := by
  intro m
  induction m with
  | zero => exact Nat.le_refl _
  | succ m ih =>
    by_cases h2 : W m = 2
    · rw [rf_sm2 h2]
      show (rf_sm W m).1.length + 1 ≤ m + 1
      omega
    · by_cases h3 : W m = 3
      · have e : (rf_sm W (m + 1)).1 = (rf_sm W m).1.tail := by
          show (if W m = 2 then _ else _ : List Nat × (Nat → Option Nat)).1 = _
          rw [if_neg h2, if_pos h3]
        rw [e, List.length_tail]
        omega
      · rw [rf_sm1 h2 h3]
        show (rf_sm W m).1.length ≤ m + 1
        omega
section
variable {gap size fo fs sc bc ac : Int32} {a1 a2 a3 a4 a5 a6 a7 a8 a9 a10 a11 a12 : Nat → Int32} {g n : Nat} {B t H : Nat → Nat}
theorem rf_bcode {post : Int32 → St2 → Prop} (ob : rf_ob g n B t H gap size a1 a2 a4)
    (K0 : rf_Q g B t n H = [] → ∀ fo' fs' sc' bc' ac' b3 b5 b6 b7 b8 b9 b10 b11 b12, post (-1) (gap, size, fo', fs', sc', bc', ac', a1, a2, b3, a4, b5, b6, b7, b8, b9, b10, b11, b12))
    (K1 : rf_Q g B t n H ≠ [] → ∀ fo' fs' sc' bc' ac' b3 b5 b6 b7 b8 b9 b10 b11 b12, post (nI (rf_cd (rf_D g B t n H) n)) (gap, size, fo', fs', sc', bc', ac', a1, a2, b3, a4, b5, b6, b7, b8, b9, b10, b11, b12)) : wpX_bestCode post (gap, size, fo, fs, sc, bc, ac, a1, a2, a3, a4, a5, a6, a7, a8, a9, a10, a11, a12) := by
  have hn := ob.1
  have es := ob.2.2.2.1
  unfold wpX_bestCode
  refine rf_decide ob (fun e fo' fs' sc' bc' ac' b3 b5 b6 b7 b8 b9 b10 b11 b12 => br_t rfl (K0 e _ _ _ _ _ _ _ _ _ _ _ _ _ _)) (fun e fo' fs' sc' bc' ac' b3 b5 b6 b7 b8 b9 b10 b11 b12 hb => br_f (by decide) ?_)
  obtain ⟨d1, d2, d3, d4⟩ := rf_D_ok ob.2.2.2.2.2.2.2.2 hn ob.2.2.2.2.2.2.1 e
  refine pk_loop (σ := Unit) (fun f i _ => wX_bestCode_13 post gap size fo' fs' sc' bc' ac' a1 a2 b3 a4 b5 b6 b7 b8 b9 b10 b11 b12 f (nI (rf_cd (rf_D g B t n H) i)) (nI i)) (fun _ _ => True) n 0 () (by omega) trivial ?_ ?_
  · intro f _ _
    exact pk_le n n (fun _ => K1 e _ _ _ _ _ _ _ _ _ _ _ _ _ _) (fun z => absurd z (by omega)) es rfl (by omega) (by omega)
  · intro f i _ hi _ hw
    refine pk_le n i (fun z => absurd z (by omega)) (fun _ => ⟨pk_in i 11 (by omega), ?_⟩) es rfl (by omega) (by omega)
    rw [nI_clamp (by omega), hb i hi]
    refine nm_r ?_ (nm_r (nI_1 i) (hw () trivial))
    show ((nI 3 * nI (rf_cd (rf_D g B t n H) i)) + nI (rf_D g B t n H i)) - nI 1 = nI (3 * rf_cd (rf_D g B t n H) i + (rf_D g B t n H i - 1))
    have := d3 i hi
    rw [pk_mul, nI_add, pk_sub (by omega), show 3 * rf_cd (rf_D g B t n H) i + rf_D g B t n H i - 1 = 3 * rf_cd (rf_D g B t n H) i + (rf_D g B t n H i - 1) by omega]
theorem rf_s45 {post : Int32 → St2 → Prop} {V : Nat → Nat} (ob : rf_ob g n B t H gap size a1 a2 a4) (hV : ∀ q, q < n → 1 ≤ V q ∧ V q ≤ 3)
    (K : ∀ r fo' fs' sc' bc' ac' b3 b5 b6 b7 b8 b9 b10 b11 b12, r.toInt = rf_mx (rf_Q g B t n V) → post r (gap, size, fo', fs', sc', bc', ac', a1, a2, b3, a4, b5, b6, b7, b8, b9, b10, b11, b12)) :
    ∃ f, wX_scoreOf_45 post gap size fo fs sc bc ac f (nI (rf_cd V n)) (nI n - 1) a1 a2 a3 a4 a5 a6 a7 a8 a9 a10 a11 a12 := by
  have hn := ob.1
  have es := ob.2.2.2.1
  have low := rf_Q_low (g := g) (B := B) (W := V) ob.2.2.2.2.2.2.2.2 hn
  have hs : (rf_Q g B t n V).length ≤ 2097152 := rf_Q_short hn
  refine ⟨_, pk_loopD (fun f m s => wX_scoreOf_45 post gap size fo fs sc bc ac f (nI (rf_cd V m)) (nI m - 1) a1 a2 s a4 a5 a6 a7 a8 a9 a10 a11 a12) (fun m s => m ≤ n ∧ ∀ p, m ≤ p → p < n → s p = nI (V p)) ?_ ?_ n a3 ⟨Nat.le_refl _, fun p h1 h2 => absurd h1 (by omega)⟩⟩
  · intro f s k
    refine br_t (by decide) ?_
    refine rf_solve (rf_ob_cx ob (fun p hp => ⟨k.2 p (by omega) hp, (hV p hp).2⟩)) (fun sc' bc' ac' b5 b6 b7 b8 b9 b10 k => ⟨pk_in n 432 (by omega) es, ?_⟩)
    rw [pk_cl n es (by omega)]
    refine pk_eq (rf_Q g B t n V).length 0 (fun z => K _ _ _ _ _ _ _ _ _ _ _ _ _ _ _ ?_) (fun z => ⟨pk_in n 432 (by omega) es, K _ _ _ _ _ _ _ _ _ _ _ _ _ _ _ ?_⟩) k.1 rfl (by omega) (by omega)
    · rw [List.length_eq_zero_iff.mp z]
      exact rf_m1000
    · exact rf_ok_mx k low (fun e => z (by rw [e]; rfl))
  · intro f m s k hw
    obtain ⟨k1, k2⟩ := k
    have hv := hV m (by omega)
    have hc := rf_cd_lt (W := V) (m := m + 1) (fun q hq => hV q (by omega))
    have hp : 3 ^ (m + 1) ≤ 3 ^ 7 := Nat.pow_le_pow_right (by omega) (by omega)
    have e7 : 3 ^ 7 = 2187 := rfl
    have ec : rf_cd V (m + 1) = 3 * rf_cd V m + (V m - 1) := rfl
    show wX_scoreOf_45 post gap size fo fs sc bc ac (f + 1) (nI (rf_cd V (m + 1))) (nI (m + 1) - 1) a1 a2 s a4 a5 a6 a7 a8 a9 a10 a11 a12
    rw [nI_pred]
    refine pk_lt m 0 (fun z => absurd z (by omega)) (fun _ => ⟨by decide, pk_in m 11 (by omega), ?_⟩) rfl rfl (by omega) (by omega)
    rw [nI_clamp (by omega)]
    have e1 : (nI (rf_cd V (m + 1)) - nI (rf_cd V (m + 1)) / 3 * 3) + 1 = nI (V m) := by
      show (nI (rf_cd V (m + 1)) - nI (rf_cd V (m + 1)) / nI 3 * nI 3) + nI 1 = nI (V m)
      rw [pk_rem (by omega) (by omega) (by omega), nI_add, ec, show (3 * rf_cd V m + (V m - 1)) % 3 + 1 = V m by omega]
    have e2 : nI (rf_cd V (m + 1)) / 3 = nI (rf_cd V m) := by
      show nI (rf_cd V (m + 1)) / nI 3 = nI (rf_cd V m)
      rw [pk_div (by omega) (by omega) (by omega), ec, show (3 * rf_cd V m + (V m - 1)) / 3 = rf_cd V m by omega]
    rw [e1, e2]
    refine nm_e ⟨by decide, nm_e (nm_r (Int32.sub_eq_add_neg _ _).symm (hw _ ⟨by omega, fun p h1 h2 => ?_⟩))⟩
    by_cases e : p = m
    · rw [e, pk_us]
    · rw [pk_un e]
      exact k2 p (by omega) h2
theorem rf_score {post : Int32 → St2 → Prop} {V : Nat → Nat} (ob : rf_ob g n B t H gap size a1 a2 a4) (hV : ∀ q, q < n → 1 ≤ V q ∧ V q ≤ 3)
    (K : ∀ r fo' fs' sc' bc' ac' b3 b5 b6 b7 b8 b9 b10 b11 b12, r.toInt = rf_mx (rf_Q g B t n V) → post r (gap, size, fo', fs', sc', bc', ac', a1, a2, b3, a4, b5, b6, b7, b8, b9, b10, b11, b12)) : wpX_scoreOf post (gap, size, fo, fs, sc, bc, ac, a1, a2, a3, a4, a5, a6, a7, a8, a9, a10, a11, a12) (nI (rf_cd V n)) := by
  have hn := ob.1
  have es := ob.2.2.2.1
  have hc := rf_cd_lt (W := V) (m := n) hV
  have hp : 3 ^ n ≤ 3 ^ 7 := Nat.pow_le_pow_right (by omega) (by omega)
  have e7 : 3 ^ 7 = 2187 := rfl
  refine pk_loop (σ := Unit) (fun f i _ => wX_scoreOf_4 post (nI (rf_cd V n)) gap size fo fs sc bc ac a1 a2 a3 a4 a5 a6 a7 a8 a9 a10 a11 a12 f (nI (3 ^ i)) (nI i)) (fun _ _ => True) n 0 () (by omega) trivial ?_ ?_
  · intro f _ _
    refine pk_le n n (fun _ => ?_) (fun z => absurd z (by omega)) es rfl (by omega) (by omega)
    refine br_f (nI_pos (by omega)) (pk_lt (rf_cd V n) (3 ^ n) (fun _ => nm_r (by rw [es]) (rf_s45 ob hV K)) (fun z => absurd z (by omega)) rfl rfl (by omega) (by omega))
  · intro f i _ hi _ hw
    exact pk_le n i (fun z => absurd z (by omega)) (fun _ => nm_r (show nI (3 ^ i) * nI 3 = nI (3 ^ (i + 1)) by rw [pk_mul, ← Nat.pow_succ]) (nm_r (nI_1 i) (hw () trivial))) es rfl (by omega) (by omega)
theorem rf_place {post : Int32 → Prop} {p : Nat} (es : size = nI n) (hn : n ≤ 11) (hp : p < n) (K : post 1) : wpX_isPlace post (gap, size, fo, fs, sc, bc, ac, a1, a2, a3, a4, a5, a6, a7, a8, a9, a10, a11, a12) (nI p) :=
  br_f (nI_pos (by omega)) (pk_le n p (fun z => absurd z (by omega)) (fun _ => K) es rfl (by omega) (by omega))
theorem rf_partner {post : Int32 → St2 → Prop} {p : Nat} (ob : rf_ob g n B t H gap size a1 a2 a4) (hp : p < n)
    (K0 : rf_Q g B t n H = [] → ∀ fo' fs' sc' bc' ac' b3 b5 b6 b7 b8 b9 b10 b11 b12, post (-2) (gap, size, fo', fs', sc', bc', ac', a1, a2, b3, a4, b5, b6, b7, b8, b9, b10, b11, b12))
    (K1 : rf_Q g B t n H ≠ [] → ∀ fo' fs' sc' bc' ac' b3 b5 b6 b7 b8 b9 b10 b11 b12, post (rf_pv ((rf_sm (rf_D g B t n H) n).2 p)) (gap, size, fo', fs', sc', bc', ac', a1, a2, b3, a4, b5, b6, b7, b8, b9, b10, b11, b12)) : wpX_partner post (gap, size, fo, fs, sc, bc, ac, a1, a2, a3, a4, a5, a6, a7, a8, a9, a10, a11, a12) (nI p) := by
  have hn := ob.1
  have es := ob.2.2.2.1
  unfold wpX_partner
  refine rf_place es (by omega) hp (br_f (by decide) ?_)
  refine rf_decide ob (fun e fo' fs' sc' bc' ac' b3 b5 b6 b7 b8 b9 b10 b11 b12 => br_t rfl (K0 e _ _ _ _ _ _ _ _ _ _ _ _ _ _)) (fun e fo' fs' sc' bc' ac' b3 b5 b6 b7 b8 b9 b10 b11 b12 hb => br_f (by decide) ?_)
  obtain ⟨d1, d2, d3, d4⟩ := rf_D_ok ob.2.2.2.2.2.2.2.2 hn ob.2.2.2.2.2.2.1 e
  generalize rf_D g B t n H = D at *
  refine pk_loop (fun f i (s : (Nat → Int32) × (Nat → Int32)) => wX_partner_24 post (nI p) gap size fo' fs' sc' bc' ac' f (nI (rf_sm D i).1.length) (nI i) a1 a2 b3 a4 b5 b6 b7 b8 b9 b10 s.1 s.2)
    (fun i s => rf_rep s.1 (rf_sm D i).1 ∧ ∀ q, q < i → s.2 q = rf_pv ((rf_sm D i).2 q)) n 0 (b11, b12) (by omega) ⟨trivial, fun q h => absurd h (by omega)⟩ ?_ ?_
  · intro f s k
    refine pk_le n n (fun _ => ⟨pk_in p 11 (by omega), ?_⟩) (fun z => absurd z (by omega)) es rfl (by omega) (by omega)
    rw [nI_clamp (by omega), k.2 p hp]
    exact K1 e _ _ _ _ _ _ _ _ _ _ _ _ _ _
  · intro f i s hi k hw
    have hl := rf_sm_len (W := D) i
    have di := d3 i hi
    refine pk_le n i (fun z => absurd z (by omega)) (fun _ => ⟨pk_in i 11 (by omega), nm_e ⟨pk_in i 11 (by omega), ?_⟩⟩) es rfl (by omega) (by omega)
    rw [nI_clamp (by omega)]
    refine pk_eq (D i) 2 (fun z => ⟨vp_in_nI (by omega) (by omega), ?_⟩) (fun z => ⟨pk_in i 11 (by omega), pk_eq (D i) 3 (fun y => ?_) (fun y => ?_) (hb i hi) rfl (by omega) (by omega)⟩) (hb i hi) rfl (by omega) (by omega)
    · rw [nI_clamp (by omega)]
      rw [rf_sm2 z] at hw
      refine nm_e (nm_r (nI_1 _) (nm_r (nI_1 i) (hw (upd s.1 (rf_sm D i).1.length (nI i), upd s.2 i (-2)) ⟨⟨pk_us, rf_rep_u (Nat.le_refl _) k.1⟩, fun q hq => ?_⟩)))
      show upd s.2 i (-2) q = rf_pv (rf_pu (rf_sm D i).2 i none q)
      by_cases e : q = i
      · rw [e, rf_pu_s]; exact pk_us
      · rw [rf_pu_n _ _ e, ← k.2 q (by omega)]; exact pk_un e
    · obtain ⟨c, S, hS, hc⟩ := rf_sm_top d4 hi y
      have k1 := k.1
      rw [rf_sm3 y hS] at hw
      rw [hS] at k1 hl ⊢
      have hl' : S.length + 1 ≤ i := hl
      refine nm_r (pk_m1 S.length) ⟨vp_in_nI (by omega) (by omega), pk_in i 11 (by omega), ?_⟩
      rw [nI_clamp (show S.length < 2 ^ 31 by omega), k1.1, nI_clamp (show c < 2 ^ 31 by omega)]
      refine nm_e ⟨vp_in_nI (by omega) (by omega), vp_in_nI (by omega) (by omega), nm_e (nm_r (nI_1 i) (hw (s.1, upd (upd (upd s.2 i (-2)) i (nI c)) c (nI i)) ⟨k1.2, fun q hq => ?_⟩))⟩
      show upd (upd (upd s.2 i (-2)) i (nI c)) c (nI i) q = rf_pv (rf_pu (rf_pu (rf_sm D i).2 i (some c)) c (some i) q)
      by_cases e1 : q = c
      · rw [e1, rf_pu_s]; exact pk_us
      · rw [rf_pu_n _ _ e1]
        refine Eq.trans (pk_un e1) ?_
        by_cases e2 : q = i
        · rw [e2, rf_pu_s]; exact pk_us
        · rw [rf_pu_n _ _ e2, ← k.2 q (by omega)]
          exact Eq.trans (pk_un e2) (pk_un e2)
    · rw [rf_sm1 z y] at hw
      refine nm_r (nI_1 i) (hw (s.1, upd s.2 i (-2)) ⟨k.1, fun q hq => ?_⟩)
      show upd s.2 i (-2) q = rf_pv (rf_pu (rf_sm D i).2 i none q)
      by_cases e : q = i
      · rw [e, rf_pu_s]; exact pk_us
      · rw [rf_pu_n _ _ e, ← k.2 q (by omega)]; exact pk_un e
end
/-- the scores of the folds that have the pair (i, j) -/
def rf_X (g : Nat) (B t : Nat → Nat) (n : Nat) (H : Nat → Nat) (i j : Nat) : List Int :=
  if i < j ∧ (H i = 0 ∨ H i = 2) ∧ (H j = 0 ∨ H j = 3) then rf_M g B t (rf_up (rf_up H i 2) j 3) (fun a b => decide (a = i ↔ b = j)) 0 0 n else []
theorem rf_X_sub {g n : Nat} {B t H : Nat → Nat} {i j : Nat} : List.Sublist (rf_X g B t n H i j) (rf_Q g B t n H) := by
  unfold rf_X
  by_cases h : i < j ∧ (H i = 0 ∨ H i = 2) ∧ (H j = 0 ∨ H j = 3)
  · rw [if_pos h]
    refine rf_M_le (fun q _ => ?_) (fun _ _ _ => rfl)
    by_cases e : q = j
    · rw [e, rf_up_s]; omega
    · rw [rf_up_n _ _ e]
      by_cases e' : q = i
      · rw [e', rf_up_s]; omega
      · rw [rf_up_n _ _ e']; exact Or.inl rfl
  · rw [if_neg h]
    exact List.nil_sublist _
theorem rf_X_with {g n : Nat} {B t H : Nat → Nat} {s : Int} (hs : s ∈ rf_Q g B t n H) : ((∀ q, q < n → H q ≤ 1) ∧ s = 0) ∨ ∃ p q, p < q ∧ q < n ∧ s ∈ rf_X g B t n H p q := by
  have h := rf_with (fr' := fun p q => rf_fr (rf_up (rf_up H p 2) q 3)) (mp' := fun p q => rf_mp g B (rf_up (rf_up H p 2) q 3) (fun a b => decide (a = p ↔ b = q))) (fun p q r h1 h2 hf => ?_) (fun p q a b h1 h2 h3 h4 hm => ?_) (fun p q hpq hm => ?_) _ 0 0 n s (by omega) (by omega) (Nat.lt_succ_self _) hs
  · rcases h with h | h
    · exact Or.inl ⟨fun q hq => rf_fr_iff.mp (h.1 q (by omega) hq), h.2⟩
    · obtain ⟨p, q, h1, h2, h3, h4, h5⟩ := h
      refine Or.inr ⟨p, q, h2, h3, ?_⟩
      have h4' := rf_mp_iff.mp h4
      unfold rf_X
      rw [if_pos ⟨h2, h4'.1, h4'.2.1⟩]
      exact h5
  · rw [rf_fr_iff, rf_up_n _ _ h2, rf_up_n _ _ h1]
    exact rf_fr_iff.mp hf
  · have hm' := rf_mp_iff.mp hm
    rw [rf_mp_iff, rf_up_n _ _ h2, rf_up_n _ _ h1, rf_up_n _ _ h4, rf_up_n _ _ h3]
    exact ⟨hm'.1, hm'.2.1, decide_eq_true (Iff.intro (fun z => absurd z h1) (fun z => absurd z h4)), hm'.2.2.2⟩
  · have hm' := rf_mp_iff.mp hm
    rw [rf_mp_iff, rf_up_s, rf_up_n _ _ (show p ≠ q by omega), rf_up_s]
    exact ⟨Or.inr rfl, Or.inr rfl, decide_eq_true (Iff.intro (fun _ => rfl) (fun _ => rfl)), hm'.2.2.2⟩
section
variable {gap size fo fs sc bc ac : Int32} {a1 a2 a3 a4 a5 a6 a7 a8 a9 a10 a11 a12 : Nat → Int32} {g n : Nat} {B t H : Nat → Nat}
theorem rf_swith {post : Int32 → St2 → Prop} {i j : Nat} (ob : rf_ob g n B t H gap size a1 a2 a4) (hi : i < n) (hj : j < n)
    (K0 : rf_X g B t n H i j = [] → ∀ fo' fs' sc' bc' ac' b3 b5 b6 b7 b8 b9 b10 b11 b12, post 0 (gap, size, fo', fs', sc', bc', ac', a1, a2, b3, a4, b5, b6, b7, b8, b9, b10, b11, b12))
    (K1 : rf_X g B t n H i j ≠ [] → ∀ fo' fs' sc' bc' ac' b3 b5 b6 b7 b8 b9 b10 b11 b12, rf_ok (rf_X g B t n H i j) (b8 n) (b9 n) (b10 n) → post 1 (gap, size, fo', fs', sc', bc', ac', a1, a2, b3, a4, b5, b6, b7, b8, b9, b10, b11, b12)) : wpX_solveWith post (gap, size, fo, fs, sc, bc, ac, a1, a2, a3, a4, a5, a6, a7, a8, a9, a10, a11, a12) (nI i) (nI j) := by
  have hn := ob.1
  have es := ob.2.2.2.1
  have h2 := ob.2.2.2.2.2.1
  have h3 := ob.2.2.2.2.2.2.1
  have hHi := h3 i
  have hHj := h3 j
  refine rf_take hn es (fun b3 hb => ?_)
  have none : ¬ (i < j ∧ (H i = 0 ∨ H i = 2) ∧ (H j = 0 ∨ H j = 3)) → post 0 (gap, size, (-1), fs, sc, bc, ac, a1, a2, b3, a4, a5, a6, a7, a8, a9, a10, a11, a12) := fun h => K0 (by unfold rf_X; exact if_neg h) _ _ _ _ _ _ _ _ _ _ _ _ _ _
  refine pk_le j i (fun z => none (fun y => absurd y.1 (by omega))) (fun z => ⟨pk_in i 11 (by omega), ?_⟩) rfl rfl (by omega) (by omega)
  rw [nI_clamp (show i < 2 ^ 31 by omega)]
  have k49 : (H i = 0 ∨ H i = 2) → (H j = 0 ∨ H j = 3) → wX_solveWith_49 post (nI i) (nI j) gap size (-1) fs sc bc ac a1 a2 b3 a4 a5 a6 a7 a8 a9 a10 a11 a12 := by
    intro yi yj
    have eX : rf_X g B t n H i j = rf_M g B t (rf_up (rf_up H i 2) j 3) (fun a b => decide (a = i ↔ b = j)) 0 0 n := by
      unfold rf_X
      exact if_pos ⟨z, yi, yj⟩
    have hs : (rf_M g B t (rf_up (rf_up H i 2) j 3) (fun a b => decide (a = i ↔ b = j)) 0 0 n).length ≤ 2097152 := by
      unfold rf_M
      exact rf_L_short (by omega) (by omega) hn
    rw [eX] at K0 K1
    refine ⟨pk_in i 11 (by omega), ?_⟩
    rw [nI_clamp (show i < 2 ^ 31 by omega)]
    refine nm_e ⟨pk_in j 11 (by omega), ?_⟩
    rw [nI_clamp (show j < 2 ^ 31 by omega)]
    refine nm_e (rf_solve (g := g) (n := n) (B := B) (t := t) (W := rf_up (rf_up H i 2) j 3) (fc := fun a b => decide (a = i ↔ b = j)) ⟨hn, ob.2.1, ob.2.2.1, es, ob.2.2.2.2.1, fun p hp => ?_, ob.2.2.2.2.2.2.2.1, ob.2.2.2.2.2.2.2.2, fun a b ha hb' => ?_⟩ (fun sc' bc' ac' b5 b6 b7 b8 b9 b10 k => ⟨pk_in n 432 (by omega) es, ?_⟩))
    · by_cases e : p = j
      · rw [e, rf_up_s]
        exact ⟨pk_us, by omega⟩
      · rw [rf_up_n _ _ e, pk_un e]
        by_cases e' : p = i
        · rw [e', rf_up_s]
          exact ⟨pk_us, by omega⟩
        · rw [rf_up_n _ _ e', pk_un e', hb p hp]
          exact ⟨h2 p hp, h3 p⟩
    · rw [decide_eq_true_iff, nI_eq (by omega) (by omega), nI_eq (by omega) (by omega)]
      exact ⟨fun h => Or.inr h, fun h => h.resolve_left (nI_pos (by omega))⟩
    · rw [pk_cl n es (by omega)]
      refine pk_le (rf_M g B t (rf_up (rf_up H i 2) j 3) (fun a b => decide (a = i ↔ b = j)) 0 0 n).length 0 (fun y => K0 (List.length_eq_zero_iff.mp (by omega)) _ _ _ _ _ _ _ _ _ _ _ _ _ _) (fun y => K1 (fun e => by rw [e] at y; exact absurd y (by decide)) _ _ _ _ _ _ _ _ _ _ _ _ _ _ k) k.1 rfl (by omega) (by omega)
  have k28 : (H i = 0 ∨ H i = 2) → wX_solveWith_28 post (nI i) (nI j) gap size (-1) fs sc bc ac a1 a2 b3 a4 a5 a6 a7 a8 a9 a10 a11 a12 := by
    intro yi
    refine ⟨pk_in j 11 (by omega), ?_⟩
    rw [nI_clamp (show j < 2 ^ 31 by omega)]
    exact pk_eq (H j) 0 (fun y => k49 yi (Or.inl y)) (fun y => ⟨pk_in j 11 (by omega), pk_eq (H j) 3 (fun x => k49 yi (Or.inr x)) (fun x => none (fun w => by have := w.2.2; omega)) (h2 j hj) rfl (by omega) (by omega)⟩) (h2 j hj) rfl (by omega) (by omega)
  exact pk_eq (H i) 0 (fun y => k28 (Or.inl y)) (fun y => ⟨pk_in i 11 (by omega), pk_eq (H i) 2 (fun x => k28 (Or.inr x)) (fun x => none (fun w => by have := w.2.1; omega)) (h2 i hi) rfl (by omega) (by omega)⟩) (h2 i hi) rfl (by omega) (by omega)
theorem rf_X_low {i j : Nat} (ht : ∀ p, t p ≤ 20) (hn : n ≤ 7) : ∀ s, s ∈ rf_X g B t n H i j → -1000 < s := fun s hs => rf_Q_low ht hn s (rf_X_sub.subset hs)
theorem rf_bwith {post : Int32 → St2 → Prop} {i j : Nat} (ob : rf_ob g n B t H gap size a1 a2 a4) (hi : i < n) (hj : j < n)
    (K : ∀ r fo' fs' sc' bc' ac' b3 b5 b6 b7 b8 b9 b10 b11 b12, r.toInt = rf_mx (rf_X g B t n H i j) → post r (gap, size, fo', fs', sc', bc', ac', a1, a2, b3, a4, b5, b6, b7, b8, b9, b10, b11, b12)) : wpX_bestWith post (gap, size, fo, fs, sc, bc, ac, a1, a2, a3, a4, a5, a6, a7, a8, a9, a10, a11, a12) (nI i) (nI j) := by
  have hn := ob.1
  have es := ob.2.2.2.1
  unfold wpX_bestWith
  refine rf_place es (by omega) hi (br_f (by decide) (rf_place es (by omega) hj (br_f (by decide) (rf_swith ob hi hj (fun e fo' fs' sc' bc' ac' b3 b5 b6 b7 b8 b9 b10 b11 b12 => br_t rfl (K _ _ _ _ _ _ _ _ _ _ _ _ _ _ _ (by rw [e]; exact rf_m1000))) (fun e fo' fs' sc' bc' ac' b3 b5 b6 b7 b8 b9 b10 b11 b12 k => br_f (by decide) ⟨pk_in n 432 (by omega) es, K _ _ _ _ _ _ _ _ _ _ _ _ _ _ _ ?_⟩)))))
  rw [pk_cl n es (by omega)]
  exact rf_ok_mx k (rf_X_low ob.2.2.2.2.2.2.2.2 hn) e
theorem rf_fwith {post : Int32 → St2 → Prop} {i j : Nat} (ob : rf_ob g n B t H gap size a1 a2 a4) (hi : i < n) (hj : j < n)
    (K : ∀ fo' fs' sc' bc' ac' b3 b5 b6 b7 b8 b9 b10 b11 b12, post (nI (rf_X g B t n H i j).length) (gap, size, fo', fs', sc', bc', ac', a1, a2, b3, a4, b5, b6, b7, b8, b9, b10, b11, b12)) : wpX_foldsWith post (gap, size, fo, fs, sc, bc, ac, a1, a2, a3, a4, a5, a6, a7, a8, a9, a10, a11, a12) (nI i) (nI j) := by
  have hn := ob.1
  have es := ob.2.2.2.1
  unfold wpX_foldsWith
  refine rf_place es (by omega) hi (br_f (by decide) (rf_place es (by omega) hj (br_f (by decide) (rf_swith ob hi hj (fun e fo' fs' sc' bc' ac' b3 b5 b6 b7 b8 b9 b10 b11 b12 => br_t rfl ?_) (fun e fo' fs' sc' bc' ac' b3 b5 b6 b7 b8 b9 b10 b11 b12 k => br_f (by decide) ⟨pk_in n 432 (by omega) es, ?_⟩)))))
  · rw [e] at K
    exact K _ _ _ _ _ _ _ _ _ _ _ _ _ _
  · rw [pk_cl n es (by omega), k.1]
    exact K _ _ _ _ _ _ _ _ _ _ _ _ _ _
end
end
section
/-! holds -/
theorem rf_X_mx {g n : Nat} {B t H : Nat → Nat} {i j : Nat} (ht : ∀ p, t p ≤ 20) (hn : n ≤ 7) : rf_mx (rf_X g B t n H i j) ≤ rf_mx (rf_Q g B t n H) := by
  by_cases e : rf_X g B t n H i j = []
  · rw [e]
    exact rf_mx_low _
  · exact rf_mx_ge _ (rf_X_sub.subset (rf_mx_in (rf_X_low ht hn) e))
section
variable {gap size fo fs sc bc ac : Int32} {a1 a2 a3 a4 a5 a6 a7 a8 a9 a10 a11 a12 : Nat → Int32} {g n : Nat} {B t H : Nat → Nat}
theorem rf_h201 {post : Int32 → St2 → Prop} {x3 x4 x5 x6 : Int32} (ob : rf_ob g n B t H gap size a1 a2 a4) (h3 : x3 = nI (rf_Q g B t n H).length) (h4 : x4.toInt = rf_mx (rf_Q g B t n H))
    (h5 : rf_Q g B t n H ≠ [] → x5.toInt ≤ rf_mx (rf_Q g B t n H)) (h6 : rf_Q g B t n H ≠ [] → ¬ x6 = 0 → x5.toInt = rf_mx (rf_Q g B t n H))
    (K : ∀ fo' fs' sc' bc' ac' b3 b5 b6 b7 b8 b9 b10 b11 b12, post 1 (gap, size, fo', fs', sc', bc', ac', a1, a2, b3, a4, b5, b6, b7, b8, b9, b10, b11, b12)) : wL_holds_201 post x3 x4 x5 x6 gap size fo fs sc bc ac a1 a2 a3 a4 a5 a6 a7 a8 a9 a10 a11 a12 := by
  have hn := ob.1
  have ht := ob.2.2.2.2.2.2.2.2
  have hs : (rf_Q g B t n H).length ≤ 2097152 := rf_Q_short hn
  refine pk_eq (rf_Q g B t n H).length 0 (fun z => ?_) (fun z => ?_) h3 rfl (by omega) (by omega)
  · have e := List.length_eq_zero_iff.mp z
    have e4 : x4 = -1000 := Int32.toInt_inj.mp (by rw [h4, e]; exact rf_m1000.symm)
    refine br_t e4 (rf_bcode ob (fun _ fo' fs' sc' bc' ac' b3 b5 b6 b7 b8 b9 b10 b11 b12 => br_t rfl (rf_bfolds ob (fun b fo' fs' sc' bc' ac' b3 b5 b6 b7 b8 b9 b10 b11 b12 hb _ => br_t ?_ (K _ _ _ _ _ _ _ _ _ _ _ _ _ _)))) (fun y => absurd e y))
    rw [z] at hb
    rw [show b = 0 by omega]
    rfl
  · have hne : rf_Q g B t n H ≠ [] := fun e => z (by rw [e]; rfl)
    obtain ⟨d1, d2, d3, d4⟩ := rf_D_ok ht hn ob.2.2.2.2.2.2.1 hne
    refine rf_bcode ob (fun e => absurd e hne) (fun _ fo' fs' sc' bc' ac' b3 b5 b6 b7 b8 b9 b10 b11 b12 => rf_score ob d3 (fun r fo' fs' sc' bc' ac' b3 b5 b6 b7 b8 b9 b10 b11 b12 hr => br_t (Int32.toInt_inj.mp (by rw [hr, d1, h4])) (rf_bfolds ob (fun b fo' fs' sc' bc' ac' b3 b5 b6 b7 b8 b9 b10 b11 b12 hb hb' => br_f ?_ (rf_bfolds ob (fun c fo' fs' sc' bc' ac' b3 b5 b6 b7 b8 b9 b10 b11 b12 hc hc' => ?_))))))
    · exact nI_nlt (b := 1) (hb' hne) (by omega)
    · refine pk_le c (rf_Q g B t n H).length (fun _ => br_c (fun e6 => br_f ?_ (K _ _ _ _ _ _ _ _ _ _ _ _ _ _)) (fun e6 => br_t ?_ (K _ _ _ _ _ _ _ _ _ _ _ _ _ _))) (fun y => absurd hc (by omega)) rfl h3 (by omega) (by omega)
      · rw [Int32.lt_iff_toInt_lt, h4]
        have := h5 hne
        omega
      · exact Int32.toInt_inj.mp (by rw [h4, h6 hne e6])
theorem rf_h150 {post : Int32 → St2 → Prop} {J36 J90 : Int32 → Int32 → Int32 → Int32 → Int32 → Int32 → Int32 → Int32 → Int32 → (Nat → Int32) → (Nat → Int32) → (Nat → Int32) → (Nat → Int32) → (Nat → Int32) → (Nat → Int32) → (Nat → Int32) → (Nat → Int32) → (Nat → Int32) → (Nat → Int32) → (Nat → Int32) → (Nat → Int32) → Prop} {x1 x2 x3 x4 x5 x6 x7 x10 z : Int32} {j len m : Nat} (h3 : x3 = nI m) (hl : len ≤ m) (hm : m ≤ 2097152)
    (K1 : x10.toInt ≤ x5.toInt → J90 x5 (nI (j + 1)) gap size fo fs sc bc ac a1 a2 a3 a4 a5 a6 a7 a8 a9 a10 a11 a12) (K2 : x5.toInt < x10.toInt → J90 x10 (nI (j + 1)) gap size fo fs sc bc ac a1 a2 a3 a4 a5 a6 a7 a8 a9 a10 a11 a12) : wL_holds_150 post J36 J90 x1 x2 x3 x4 x5 x6 x7 (nI j) x10 (nI len) z z gap size fo fs sc bc ac a1 a2 a3 a4 a5 a6 a7 a8 a9 a10 a11 a12 :=
  br_t rfl (br_f (nI_pos (by omega)) (pk_le len m (fun _ => br_c (fun h => nm_r (nI_1 j) (K1 (Int32.le_iff_toInt_le.mp h))) (fun h => nm_r (nI_1 j) (K2 (by rw [Int32.le_iff_toInt_le] at h; omega)))) (fun y => absurd hl (by omega)) rfl h3 (by omega) (by omega)))
theorem rf_h106 {post : Int32 → St2 → Prop} {J36 J90 : Int32 → Int32 → Int32 → Int32 → Int32 → Int32 → Int32 → Int32 → Int32 → (Nat → Int32) → (Nat → Int32) → (Nat → Int32) → (Nat → Int32) → (Nat → Int32) → (Nat → Int32) → (Nat → Int32) → (Nat → Int32) → (Nat → Int32) → (Nat → Int32) → (Nat → Int32) → (Nat → Int32) → Prop} {x1 x2 x3 x4 x5 x6 : Int32} {i j : Nat} (ob : rf_ob g n B t H gap size a1 a2 a4) (hi : i < n) (hj : j < n) (h3 : x3 = nI (rf_Q g B t n H).length)
    (h5 : x5.toInt ≤ rf_mx (rf_Q g B t n H))
    (K : ∀ x5' fo' fs' sc' bc' ac' b3 b5 b6 b7 b8 b9 b10 b11 b12, x5'.toInt ≤ rf_mx (rf_Q g B t n H) → x5.toInt ≤ x5'.toInt → rf_mx (rf_X g B t n H i j) ≤ x5'.toInt → J90 x5' (nI (j + 1)) gap size fo' fs' sc' bc' ac' a1 a2 b3 a4 b5 b6 b7 b8 b9 b10 b11 b12) :
    wL_holds_106 post J36 J90 x1 x2 x3 x4 x5 x6 (nI i) (nI j) gap size fo fs sc bc ac a1 a2 a3 a4 a5 a6 a7 a8 a9 a10 a11 a12 := by
  have hn := ob.1
  have ht := ob.2.2.2.2.2.2.2.2
  have hs : (rf_Q g B t n H).length ≤ 2097152 := rf_Q_short hn
  have hx : (rf_X g B t n H i j).length ≤ (rf_Q g B t n H).length := rf_X_sub.length_le
  have hm : rf_mx (rf_X g B t n H i j) ≤ rf_mx (rf_Q g B t n H) := rf_X_mx ht hn
  refine rf_bwith ob hi hj (fun r fo' fs' sc' bc' ac' b3 b5 b6 b7 b8 b9 b10 b11 b12 hr => rf_fwith ob hi hj (fun fo' fs' sc' bc' ac' b3 b5 b6 b7 b8 b9 b10 b11 b12 => ?_))
  have k : ∀ z, wL_holds_150 post J36 J90 x1 x2 x3 x4 x5 x6 (nI i) (nI j) r (nI (rf_X g B t n H i j).length) z z gap size fo' fs' sc' bc' ac' a1 a2 b3 a4 b5 b6 b7 b8 b9 b10 b11 b12 := fun z =>
    rf_h150 h3 hx hs (fun h => K _ _ _ _ _ _ _ _ _ _ _ _ _ _ _ h5 (Int.le_refl _) (by omega)) (fun h => K _ _ _ _ _ _ _ _ _ _ _ _ _ _ _ (by omega) (by omega) (by omega))
  by_cases e : rf_X g B t n H i j = []
  · refine br_t ?_ (br_t ?_ (k 0))
    · rw [e]; decide
    · exact Int32.toInt_inj.mp (by rw [hr, e]; exact rf_m1000.symm)
  · have hp : 0 < (rf_X g B t n H i j).length := List.length_pos_iff.mpr e
    refine br_f (nI_nlt (b := 1) hp (by omega)) (br_f (fun y => ?_) (k 1))
    have h1 := rf_X_low ht hn _ (rf_mx_in (rf_X_low ht hn) e)
    rw [← hr, y, rf_m1000] at h1
    exact absurd h1 (by decide)
theorem rf_h90 {post : Int32 → St2 → Prop} {J36 : Int32 → Int32 → Int32 → Int32 → Int32 → Int32 → Int32 → Int32 → Int32 → (Nat → Int32) → (Nat → Int32) → (Nat → Int32) → (Nat → Int32) → (Nat → Int32) → (Nat → Int32) → (Nat → Int32) → (Nat → Int32) → (Nat → Int32) → (Nat → Int32) → (Nat → Int32) → (Nat → Int32) → Prop} {x1 x3 x4 x5 x6 : Int32} {i j : Nat} (ob : rf_ob g n B t H gap size a1 a2 a4) (hi : i < n) (hj : j < n) (h3 : x3 = nI (rf_Q g B t n H).length)
    (h5 : x5.toInt ≤ rf_mx (rf_Q g B t n H)) (h6 : ¬ x6 = 0 → j = i)
    (K : ∀ x5' fo' fs' sc' bc' ac' b3 b5 b6 b7 b8 b9 b10 b11 b12, x5'.toInt ≤ rf_mx (rf_Q g B t n H) → x5.toInt ≤ x5'.toInt → (¬ x6 = 0 → ∀ q, i ≤ q → q < n → rf_mx (rf_X g B t n H i q) ≤ x5'.toInt) → J36 x5' (nI (i + 1)) gap size fo' fs' sc' bc' ac' a1 a2 b3 a4 b5 b6 b7 b8 b9 b10 b11 b12) :
    ∃ f, wL_holds_90 post J36 x1 (nI n) x3 x4 x6 (nI i) f x5 (nI j) gap size fo fs sc bc ac a1 a2 a3 a4 a5 a6 a7 a8 a9 a10 a11 a12 := by
  have hn := ob.1
  refine pk_loop (fun f q (s : Int32 × Int32 × Int32 × Int32 × Int32 × Int32 × (Nat → Int32) × (Nat → Int32) × (Nat → Int32) × (Nat → Int32) × (Nat → Int32) × (Nat → Int32) × (Nat → Int32) × (Nat → Int32) × (Nat → Int32)) => wL_holds_90 post J36 x1 (nI n) x3 x4 x6 (nI i) f s.1 (nI q) gap size s.2.1 s.2.2.1 s.2.2.2.1 s.2.2.2.2.1 s.2.2.2.2.2.1 a1 a2 s.2.2.2.2.2.2.1 a4 s.2.2.2.2.2.2.2.1 s.2.2.2.2.2.2.2.2.1 s.2.2.2.2.2.2.2.2.2.1 s.2.2.2.2.2.2.2.2.2.2.1 s.2.2.2.2.2.2.2.2.2.2.2.1 s.2.2.2.2.2.2.2.2.2.2.2.2.1 s.2.2.2.2.2.2.2.2.2.2.2.2.2.1 s.2.2.2.2.2.2.2.2.2.2.2.2.2.2)
    (fun q s => s.1.toInt ≤ rf_mx (rf_Q g B t n H) ∧ x5.toInt ≤ s.1.toInt ∧ (¬ x6 = 0 → ∀ p, i ≤ p → p < q → rf_mx (rf_X g B t n H i p) ≤ s.1.toInt)) n j (x5, fo, fs, sc, bc, ac, a3, a5, a6, a7, a8, a9, a10, a11, a12) (by omega) ⟨h5, Int.le_refl _, fun e p h1 h2 => absurd h2 (by have := h6 e; omega)⟩ ?_ ?_
  · intro f s k
    exact pk_le n n (fun _ => nm_r (nI_1 i) (K s.1 _ _ _ _ _ _ _ _ _ _ _ _ _ _ k.1 k.2.1 k.2.2)) (fun z => absurd z (by omega))
  · intro f q s hq k hw
    have k106 : wL_holds_106 post J36 (wL_holds_90 post J36 x1 (nI n) x3 x4 x6 (nI i) f) x1 (nI n) x3 x4 s.1 x6 (nI i) (nI q) gap size s.2.1 s.2.2.1 s.2.2.2.1 s.2.2.2.2.1 s.2.2.2.2.2.1 a1 a2 s.2.2.2.2.2.2.1 a4 s.2.2.2.2.2.2.2.1 s.2.2.2.2.2.2.2.2.1 s.2.2.2.2.2.2.2.2.2.1 s.2.2.2.2.2.2.2.2.2.2.1 s.2.2.2.2.2.2.2.2.2.2.2.1 s.2.2.2.2.2.2.2.2.2.2.2.2.1 s.2.2.2.2.2.2.2.2.2.2.2.2.2.1 s.2.2.2.2.2.2.2.2.2.2.2.2.2.2 :=
      rf_h106 ob hi hq h3 k.1 (fun x5' fo' fs' sc' bc' ac' b3 b5 b6 b7 b8 b9 b10 b11 b12 g1 g2 g3 => hw (x5', fo', fs', sc', bc', ac', b3, b5, b6, b7, b8, b9, b10, b11, b12) ⟨g1, Int.le_trans k.2.1 g2, fun e p h1 h2 => by
        by_cases e' : p = q
        · rw [e']; exact g3
        · exact Int.le_trans (k.2.2 e p h1 (by omega)) g2⟩)
    exact pk_le n q (fun z => absurd z (by omega)) (fun _ => br_c (fun e6 => pk_eq i 0 (fun _ => k106) (fun _ => nm_r (nI_1 i) (K s.1 _ _ _ _ _ _ _ _ _ _ _ _ _ _ k.1 k.2.1 (fun e => absurd e6 e))) rfl rfl (by omega) (by omega)) (fun _ => k106))
theorem rf_h36 {post : Int32 → St2 → Prop} {x1 x3 x4 x6 : Int32} (ob : rf_ob g n B t H gap size a1 a2 a4) (h3 : x3 = nI (rf_Q g B t n H).length) (h4 : x4.toInt = rf_mx (rf_Q g B t n H))
    (hp : x1 = 0 → ∀ q, q < n → H q ≤ 1) (hp' : ¬ x1 = 0 → ∃ q, q < n ∧ ¬ H q ≤ 1)
    (K : ∀ fo' fs' sc' bc' ac' b3 b5 b6 b7 b8 b9 b10 b11 b12, post 1 (gap, size, fo', fs', sc', bc', ac', a1, a2, b3, a4, b5, b6, b7, b8, b9, b10, b11, b12)) : ∃ f, wL_holds_36 post x1 (nI n) x3 x4 x6 f (-1000) 0 gap size fo fs sc bc ac a1 a2 a3 a4 a5 a6 a7 a8 a9 a10 a11 a12 := by
  have hn := ob.1
  have ht := ob.2.2.2.2.2.2.2.2
  have low := rf_Q_low (g := g) (B := B) (W := H) ht hn
  refine pk_loop (fun f i (s : Int32 × Int32 × Int32 × Int32 × Int32 × Int32 × (Nat → Int32) × (Nat → Int32) × (Nat → Int32) × (Nat → Int32) × (Nat → Int32) × (Nat → Int32) × (Nat → Int32) × (Nat → Int32) × (Nat → Int32)) => wL_holds_36 post x1 (nI n) x3 x4 x6 f s.1 (nI i) gap size s.2.1 s.2.2.1 s.2.2.2.1 s.2.2.2.2.1 s.2.2.2.2.2.1 a1 a2 s.2.2.2.2.2.2.1 a4 s.2.2.2.2.2.2.2.1 s.2.2.2.2.2.2.2.2.1 s.2.2.2.2.2.2.2.2.2.1 s.2.2.2.2.2.2.2.2.2.2.1 s.2.2.2.2.2.2.2.2.2.2.2.1 s.2.2.2.2.2.2.2.2.2.2.2.2.1 s.2.2.2.2.2.2.2.2.2.2.2.2.2.1 s.2.2.2.2.2.2.2.2.2.2.2.2.2.2)
    (fun i s => s.1.toInt ≤ rf_mx (rf_Q g B t n H) ∧ (¬ x6 = 0 → ∀ p q, p < i → p ≤ q → q < n → rf_mx (rf_X g B t n H p q) ≤ s.1.toInt)) n 0 (-1000, fo, fs, sc, bc, ac, a3, a5, a6, a7, a8, a9, a10, a11, a12) (by omega)
    ⟨by rw [rf_m1000]; exact rf_mx_low _, fun e p q h1 => absurd h1 (by omega)⟩ ?_ ?_
  · intro f s k
    have wit : ¬ x6 = 0 → rf_Q g B t n H ≠ [] → ((∀ q, q < n → H q ≤ 1) ∧ rf_mx (rf_Q g B t n H) = 0) ∨ s.1.toInt = rf_mx (rf_Q g B t n H) := by
      intro e hne
      rcases rf_X_with (rf_mx_in low hne) with h | h
      · exact Or.inl h
      · obtain ⟨p, q, g1, g2, g3⟩ := h
        have h1 := rf_mx_ge _ g3
        have h2 := k.2 e p q (by omega) (by omega) g2
        have h3 := k.1
        exact Or.inr (by omega)
    refine pk_le n n (fun _ => br_c (fun e1 => ?_) (fun e1 => rf_h201 ob h3 h4 (fun _ => k.1) (fun hne e6 => ?_) (fun fo' fs' sc' bc' ac' b3 b5 b6 b7 b8 b9 b10 b11 b12 => K _ _ _ _ _ _ _ _ _ _ _ _ _ _))) (fun z => absurd z (by omega))
    · have z0 : rf_Q g B t n H ≠ [] → 0 ≤ rf_mx (rf_Q g B t n H) := fun _ => rf_mx_ge 0 (rf_zero _ 0 n (Nat.lt_succ_self _) (fun q _ hq => rf_fr_iff.mpr (hp e1 q hq)))
      refine br_c (fun e5 => rf_h201 ob h3 h4 (fun _ => k.1) (fun hne e6 => ?_) (fun fo' fs' sc' bc' ac' b3 b5 b6 b7 b8 b9 b10 b11 b12 => K _ _ _ _ _ _ _ _ _ _ _ _ _ _)) (fun e5 => rf_h201 ob h3 h4 (fun hne => z0 hne) (fun hne e6 => ?_) (fun fo' fs' sc' bc' ac' b3 b5 b6 b7 b8 b9 b10 b11 b12 => K _ _ _ _ _ _ _ _ _ _ _ _ _ _))
      · rw [Int32.le_iff_toInt_le] at e5
        have e0 : (0 : Int32).toInt = 0 := rfl
        have h1 := k.1
        rcases wit e6 hne with w | w
        · omega
        · exact w
      · rw [Int32.le_iff_toInt_le] at e5
        have e0 : (0 : Int32).toInt = 0 := rfl
        have h1 := z0 hne
        rcases wit e6 hne with w | w
        · omega
        · omega
    · rcases wit e6 hne with w | w
      · obtain ⟨q, g1, g2⟩ := hp' e1
        exact absurd (w.1 q g1) g2
      · exact w
  · intro f i s hi k hw
    have k75 : ∀ fo' fs' sc' bc' ac' b3 b5 b6 b7 b8 b9 b10 b11 b12, wL_holds_75 post (wL_holds_36 post x1 (nI n) x3 x4 x6 f) x1 (nI n) x3 x4 s.1 x6 (nI i) gap size fo' fs' sc' bc' ac' a1 a2 b3 a4 b5 b6 b7 b8 b9 b10 b11 b12 := by
      intro fo' fs' sc' bc' ac' b3 b5 b6 b7 b8 b9 b10 b11 b12
      have kk : ∀ x5' fo' fs' sc' bc' ac' b3 b5 b6 b7 b8 b9 b10 b11 b12, x5'.toInt ≤ rf_mx (rf_Q g B t n H) → s.1.toInt ≤ x5'.toInt → (¬ x6 = 0 → ∀ q, i ≤ q → q < n → rf_mx (rf_X g B t n H i q) ≤ x5'.toInt) → wL_holds_36 post x1 (nI n) x3 x4 x6 f x5' (nI (i + 1)) gap size fo' fs' sc' bc' ac' a1 a2 b3 a4 b5 b6 b7 b8 b9 b10 b11 b12 := by
        intro x5' fo' fs' sc' bc' ac' b3 b5 b6 b7 b8 b9 b10 b11 b12 g1 g2 g3
        refine hw (x5', fo', fs', sc', bc', ac', b3, b5, b6, b7, b8, b9, b10, b11, b12) ⟨g1, fun e p q h1 h2 h3 => ?_⟩
        by_cases e' : p = i
        · rw [e'] at h2 ⊢
          exact g3 e q h2 h3
        · exact Int.le_trans (k.2 e p q (by omega) h2 h3) g2
      refine br_c (fun e6 => nm_r (pk_sub (a := n) (b := 1) (by omega)) (rf_h90 ob hi (by omega) h3 k.1 (fun e => absurd e6 e) kk)) (fun e6 => rf_h90 ob hi hi h3 k.1 (fun _ => rfl) kk)
    refine pk_le n i (fun z => absurd z (by omega)) (fun _ => rf_partner ob hi (fun e fo' fs' sc' bc' ac' b3 b5 b6 b7 b8 b9 b10 b11 b12 => br_t (by decide) (k75 _ _ _ _ _ _ _ _ _ _ _ _ _ _)) (fun e fo' fs' sc' bc' ac' b3 b5 b6 b7 b8 b9 b10 b11 b12 => ?_))
    obtain ⟨d1, d2, d3, d4⟩ := rf_D_ok ht hn ob.2.2.2.2.2.2.1 e
    have si := (rf_sm_ok d4 n (Nat.le_refl _)).2
    cases hc : (rf_sm (rf_D g B t n H) n).2 i with
    | none => exact br_t (show (-2 : Int32) < 0 by decide) (k75 _ _ _ _ _ _ _ _ _ _ _ _ _ _)
    | some c =>
      obtain ⟨c1, c2, c3⟩ := si.2.2 i c hi hc
      refine br_f (nI_pos (n := c) (by omega)) (br_f (fun y => c2 ((nI_eq (by omega) (by omega)).mp y)) (rf_partner ob c1 (fun e' => absurd e' e) (fun _ fo' fs' sc' bc' ac' b3 b5 b6 b7 b8 b9 b10 b11 b12 => ?_)))
      rw [c3]
      exact br_t rfl (k75 _ _ _ _ _ _ _ _ _ _ _ _ _ _)
theorem rf_holds {post : Int32 → St2 → Prop} {x1 : Int32} (ob : rf_ob g n B t H gap size a1 a2 a4)
    (hp : x1 = 0 → ∀ q, q < n → H q ≤ 1) (hp' : ¬ x1 = 0 → ∃ q, q < n ∧ ¬ H q ≤ 1)
    (K : ∀ fo' fs' sc' bc' ac' b3 b5 b6 b7 b8 b9 b10 b11 b12, post 1 (gap, size, fo', fs', sc', bc', ac', a1, a2, b3, a4, b5, b6, b7, b8, b9, b10, b11, b12)) : wpL_holds post (gap, size, fo, fs, sc, bc, ac, a1, a2, a3, a4, a5, a6, a7, a8, a9, a10, a11, a12) x1 := by
  have es := ob.2.2.2.1
  subst es
  unfold wpL_holds wpX_length
  refine rf_folds ob (fun fo' fs' sc' bc' ac' b3 b5 b6 b7 b8 b9 b10 b11 b12 => rf_best ob (fun r fo' fs' sc' bc' ac' b3 b5 b6 b7 b8 b9 b10 b11 b12 hr => br_c (fun _ => rf_h36 ob rfl hr hp hp' (fun fo' fs' sc' bc' ac' b3 b5 b6 b7 b8 b9 b10 b11 b12 => K _ _ _ _ _ _ _ _ _ _ _ _ _ _)) (fun _ => rf_h36 ob rfl hr hp hp' (fun fo' fs' sc' bc' ac' b3 b5 b6 b7 b8 b9 b10 b11 b12 => K _ _ _ _ _ _ _ _ _ _ _ _ _ _))))
end
end
section
/-! bits (after kit/laws/BITS), the law's own loop -/
def rf_bt (x : Int32) (i : Nat) : Bool := x.toBitVec.getLsbD i
theorem rf_b_ext {x y : Int32} (h : ∀ i, i < 32 → rf_bt x i = rf_bt y i) : x = y := Int32.toBitVec_inj.mp (BitVec.eq_of_getLsbD_eq (fun i hi => h i hi))
theorem rf_b_or (x y : Int32) (i : Nat) : rf_bt (x ||| y) i = (rf_bt x i || rf_bt y i) := by unfold rf_bt; rw [Int32.toBitVec_or, BitVec.getLsbD_or]
theorem rf_b_and (x y : Int32) (i : Nat) : rf_bt (x &&& y) i = (rf_bt x i && rf_bt y i) := by unfold rf_bt; rw [Int32.toBitVec_and, BitVec.getLsbD_and]
theorem rf_b_0 (i : Nat) : rf_bt 0 i = false := BitVec.getLsbD_zero
theorem rf_b_m : ∀ n, n < 8 → ∀ i, i < 32 → rf_bt (((1 : Int32) <<< (nI n &&& 31)) - 1) i = decide (i < n) := by decide +kernel
theorem rf_b_1 : ∀ n, n < 12 → ∀ i, i < 32 → rf_bt ((1 : Int32) <<< (nI n &&& 31)) i = decide (i = n) := by decide +kernel
theorem rf_b_n : ∀ n, n < 12 → ∀ i, i < 32 → rf_bt (((1 : Int32) <<< (nI n &&& 31)) ^^^ (-1)) i = !decide (i = n) := by decide +kernel
theorem rf_mask {m : Int32} {n : Nat} (hn : n < 8) : m &&& (((1 : Int32) <<< (nI n &&& 31)) - 1) = 0 ↔ ∀ p, p < n → rf_bt m p = false := by
  constructor
  · intro e p hp
    have h := congrArg (fun x => rf_bt x p) e
    rw [rf_b_and, rf_b_m n hn p (by omega), rf_b_0, decide_eq_true hp, Bool.and_true] at h
    exact h
  · intro h
    refine rf_b_ext (fun i hi => ?_)
    rw [rf_b_and, rf_b_m n hn i hi, rf_b_0]
    by_cases z : i < n
    · rw [h i z]; rfl
    · rw [decide_eq_false z, Bool.and_false]
/-- the object and the law's mask between calls -/
def rf_iv (m gap size : Int32) (a1 a2 a4 : Nat → Int32) : Prop :=
  ∃ g n : Nat, n ≤ 11 ∧ g ≤ 4 ∧ gap = nI g ∧ size = nI n ∧ (∀ p, p < n → ∃ b, b ≤ 3 ∧ a1 p = nI b) ∧ (∀ p, p < n → ∃ h, h ≤ 3 ∧ a2 p = nI h ∧ (rf_bt m p = true ↔ 2 ≤ h)) ∧ (∀ p, p < 6 → ∃ v, v ≤ 20 ∧ a4 p = nI v)
theorem rf_pick {P : Nat → Nat → Prop} {n : Nat} (h : ∀ p, p < n → ∃ b, P p b) (d : Nat) : ∃ f : Nat → Nat, (∀ p, p < n → P p (f p)) ∧ (∀ p, ¬ p < n → f p = d) := by
  induction n with
  | zero => exact ⟨fun _ => d, fun p hp => absurd hp (by omega), fun _ _ => rfl⟩
  | succ n ih =>
    obtain ⟨f, h1, h2⟩ := ih (fun p hp => h p (by omega))
    obtain ⟨b, hb⟩ := h n (by omega)
    refine ⟨rf_up f n b, fun p hp => ?_, fun p hp => ?_⟩
    · by_cases e : p = n
      · rw [e, rf_up_s]; exact hb
      · rw [rf_up_n _ _ e]; exact h1 p (by omega)
    · rw [rf_up_n _ _ (by omega)]
      exact h2 p (by omega)
section
variable {gap size fo fs sc bc ac : Int32} {a1 a2 a3 a4 a5 a6 a7 a8 a9 a10 a11 a12 : Nat → Int32}
theorem rf_l288 {J22 : Int32 → Int32 → Int32 → Int32 → Int32 → Int32 → Int32 → Int32 → Int32 → (Nat → Int32) → (Nat → Int32) → (Nat → Int32) → (Nat → Int32) → (Nat → Int32) → (Nat → Int32) → (Nat → Int32) → (Nat → Int32) → (Nat → Int32) → (Nat → Int32) → (Nat → Int32) → (Nat → Int32) → Prop} {m z0 : Int32} {L k kc ks n g : Nat} {xs : Nat → Int32} (h7 : n ≤ 7) (iv : rf_iv m gap size a1 a2 a4) (hg : g ≤ 4) (eg : gap = nI g) (es : size = nI n)
    (h1 : ∀ p, p < n → ∃ b, b ≤ 3 ∧ a1 p = nI b) (h2 : ∀ p, p < n → ∃ h, h ≤ 3 ∧ a2 p = nI h ∧ (rf_bt m p = true ↔ 2 ≤ h)) (h4 : ∀ p, p < 6 → ∃ v, v ≤ 20 ∧ a4 p = nI v)
    (hz : z0 = 0 ↔ ∀ p, p < n → rf_bt m p = false)
    (K : ∀ m' gap' size' fo' fs' sc' bc' ac' c1 c2 c3 c4 c5 c6 c7 c8 c9 c10 c11 c12, rf_iv m' gap' size' c1 c2 c4 → J22 m' (nI (k + 2)) gap' size' fo' fs' sc' bc' ac' c1 c2 c3 c4 c5 c6 c7 c8 c9 c10 c11 c12) : wL_law_288 (fun r => r = 1) L xs J22 m (nI k) z0 kc ks gap size fo fs sc bc ac a1 a2 a3 a4 a5 a6 a7 a8 a9 a10 a11 a12 := by
  obtain ⟨B, hB, _⟩ := rf_pick h1 0
  obtain ⟨H, hH, hH'⟩ := rf_pick h2 0
  obtain ⟨t, ht, ht'⟩ := rf_pick h4 0
  have ob : rf_ob g n B t H gap size a1 a2 a4 := by
    refine ⟨h7, hg, eg, es, fun p hp => ⟨(hB p hp).2, (hB p hp).1⟩, fun p hp => (hH p hp).2.1, fun p => ?_, fun p hp => (ht p hp).2, fun p => ?_⟩
    · by_cases e : p < n
      · exact (hH p e).1
      · rw [hH' p e]; omega
    · by_cases e : p < 6
      · exact (ht p e).1
      · rw [ht' p e]; omega
  refine rf_holds ob (fun e q hq => ?_) (fun e => ?_) (fun fo' fs' sc' bc' ac' b3 b5 b6 b7 b8 b9 b10 b11 b12 => br_f (by decide) (nm_r (nI_add k 2) (K _ _ _ _ _ _ _ _ _ _ _ _ _ _ _ _ _ _ _ _ iv)))
  · have h := hz.mp e q hq
    have := (hH q hq).2.2
    rw [h] at this
    have : ¬ 2 ≤ H q := fun y => absurd (this.mpr y) (by decide)
    omega
  · by_cases y : ∃ q, q < n ∧ ¬ H q ≤ 1
    · exact y
    · refine absurd (hz.mpr (fun p hp => ?_)) e
      have h := (hH p hp).2.2
      cases hb : rf_bt m p with
      | false => rfl
      | true => exact absurd ⟨p, hp, by have := h.mp hb; omega⟩ y
theorem rf_l248 {J22 : Int32 → Int32 → Int32 → Int32 → Int32 → Int32 → Int32 → Int32 → Int32 → (Nat → Int32) → (Nat → Int32) → (Nat → Int32) → (Nat → Int32) → (Nat → Int32) → (Nat → Int32) → (Nat → Int32) → (Nat → Int32) → (Nat → Int32) → (Nat → Int32) → (Nat → Int32) → (Nat → Int32) → Prop} {m c : Int32} {L k kc ks : Nat} {xs : Nat → Int32} (iv : rf_iv m gap size a1 a2 a4)
    (K : ∀ m' gap' size' fo' fs' sc' bc' ac' c1 c2 c3 c4 c5 c6 c7 c8 c9 c10 c11 c12, rf_iv m' gap' size' c1 c2 c4 → J22 m' (nI (k + 2)) gap' size' fo' fs' sc' bc' ac' c1 c2 c3 c4 c5 c6 c7 c8 c9 c10 c11 c12) : wL_law_248 (fun r => r = 1) L xs J22 m (nI k) c kc ks gap size fo fs sc bc ac a1 a2 a3 a4 a5 a6 a7 a8 a9 a10 a11 a12 := by
  have iv0 := iv
  obtain ⟨g, n, hn, hg, eg, es, h1, h2, h4⟩ := iv
  subst es
  unfold wL_law_248 wpX_length
  refine pk_le 8 n (fun _ => nm_r (nI_add k 2) (K _ _ _ _ _ _ _ _ _ _ _ _ _ _ _ _ _ _ _ _ iv0)) (fun z => br_c (fun _ => br_c (fun e => ?_) (fun e => ?_)) (fun _ => nm_r (nI_add k 2) (K _ _ _ _ _ _ _ _ _ _ _ _ _ _ _ _ _ _ _ _ iv0))) rfl rfl (by omega) (by omega)
  · exact rf_l288 (by omega) iv0 hg eg rfl h1 h2 h4 ⟨fun _ => (rf_mask (by omega)).mp e, fun _ => rfl⟩ K
  · exact rf_l288 (by omega) iv0 hg eg rfl h1 h2 h4 ⟨fun y => absurd y (by decide), fun y => absurd ((rf_mask (by omega)).mpr y) e⟩ K
theorem rf_l185 {J22 : Int32 → Int32 → Int32 → Int32 → Int32 → Int32 → Int32 → Int32 → Int32 → (Nat → Int32) → (Nat → Int32) → (Nat → Int32) → (Nat → Int32) → (Nat → Int32) → (Nat → Int32) → (Nat → Int32) → (Nat → Int32) → (Nat → Int32) → (Nat → Int32) → (Nat → Int32) → (Nat → Int32) → Prop} {m c : Int32} {L k kc ks p h : Nat} {xs : Nat → Int32} (iv : rf_iv m gap size a1 a2 a4) (hp : (size = 0 ∧ p = 0) ∨ ∃ n, n ≤ 11 ∧ size = nI n ∧ p < n) (hh : h ≤ 3)
    (K : ∀ m' gap' size' fo' fs' sc' bc' ac' c1 c2 c3 c4 c5 c6 c7 c8 c9 c10 c11 c12, rf_iv m' gap' size' c1 c2 c4 → J22 m' (nI (k + 2)) gap' size' fo' fs' sc' bc' ac' c1 c2 c3 c4 c5 c6 c7 c8 c9 c10 c11 c12) : wL_law_185 (fun r => r = 1) L xs J22 m (nI k) c (nI p) (nI h) kc ks gap size fo fs sc bc ac a1 a2 a3 a4 a5 a6 a7 a8 a9 a10 a11 a12 := by
  have iv0 := iv
  obtain ⟨g, n, hn, hg, eg, es, h1, h2, h4⟩ := iv
  unfold wL_law_185 wpX_hold
  rcases hp with hp | hp
  · obtain ⟨e0, rfl⟩ := hp
    subst e0
    refine br_f (by decide) (br_t (by decide) (br_t rfl (br_t (by decide) ?_)))
    exact rf_l248 iv0 K
  · obtain ⟨n', hn', es', hp⟩ := hp
    have en : n' = n := (nI_eq (by omega) (by omega)).mp (es'.symm.trans es)
    subst en
    refine rf_place es hn hp (br_f (by decide) (br_f (nI_pos (by omega)) (br_t (nI_le (b := 3) hh (by omega)) ⟨pk_in p 11 (by omega), ?_⟩)))
    rw [nI_clamp (by omega)]
    obtain ⟨h0, hh0, e0, _⟩ := h2 p hp
    refine nm_r e0 ⟨pk_in p 11 (by omega), nm_e (br_f (nI_pos (by omega)) ?_)⟩
    refine pk_le h 1 (fun z => nm_e (rf_l248 ?_ K)) (fun z => nm_e (rf_l248 ?_ K)) rfl rfl (by omega) (by omega)
    · refine ⟨g, n', hn, hg, eg, es, h1, fun q hq => ?_, h4⟩
      rw [rf_b_or, rf_b_and, rf_b_n p (by omega) q (by omega), rf_b_0, Bool.or_false]
      by_cases e : q = p
      · rw [e, pk_us, decide_eq_true rfl]
        exact ⟨h, hh, rfl, by simp; omega⟩
      · rw [pk_un e, decide_eq_false e]
        obtain ⟨h', g1, g2, g3⟩ := h2 q hq
        exact ⟨h', g1, g2, by simpa using g3⟩
    · refine ⟨g, n', hn, hg, eg, es, h1, fun q hq => ?_, h4⟩
      rw [rf_b_or, rf_b_and, rf_b_n p (by omega) q (by omega), rf_b_1 p (by omega) q (by omega)]
      by_cases e : q = p
      · rw [e, pk_us, decide_eq_true rfl]
        exact ⟨h, hh, rfl, by simp; omega⟩
      · rw [pk_un e, decide_eq_false e]
        obtain ⟨h', g1, g2, g3⟩ := h2 q hq
        exact ⟨h', g1, g2, by simpa using g3⟩
theorem rf_l78 {J22 : Int32 → Int32 → Int32 → Int32 → Int32 → Int32 → Int32 → Int32 → Int32 → (Nat → Int32) → (Nat → Int32) → (Nat → Int32) → (Nat → Int32) → (Nat → Int32) → (Nat → Int32) → (Nat → Int32) → (Nat → Int32) → (Nat → Int32) → (Nat → Int32) → (Nat → Int32) → (Nat → Int32) → Prop} {m c d x7 : Int32} {L k kc ks p : Nat} {xs : Nat → Int32} (iv : rf_iv m gap size a1 a2 a4) (hp : (size = 0 ∧ p = 0) ∨ ∃ n, n ≤ 11 ∧ size = nI n ∧ p < n)
    (K : ∀ m' gap' size' fo' fs' sc' bc' ac' c1 c2 c3 c4 c5 c6 c7 c8 c9 c10 c11 c12, rf_iv m' gap' size' c1 c2 c4 → J22 m' (nI (k + 2)) gap' size' fo' fs' sc' bc' ac' c1 c2 c3 c4 c5 c6 c7 c8 c9 c10 c11 c12) : wL_law_78 (fun r => r = 1) L xs J22 m (nI k) c d x7 (nI p) kc ks gap size fo fs sc bc ac a1 a2 a3 a4 a5 a6 a7 a8 a9 a10 a11 a12 := by
  have iv0 := iv
  obtain ⟨g, n, hn, hg, eg, es, h1, h2, h4⟩ := iv
  obtain ⟨b, hb, eb⟩ := pk_andE (d >>> ((4 : Int32) &&& 31)) (m := 3) 2 (by decide)
  unfold wL_law_78
  refine br_c (fun _ => br_c (fun _ => ?_) (fun _ => br_c (fun _ => br_c (fun _ => ⟨by decide, by decide, ?_⟩) (fun _ => br_c (fun _ => ?_) (fun _ => ?_))) (fun _ => ?_))) (fun _ => ?_)
  · refine pk_eq n 0 (fun z => rf_l248 iv0 K) (fun z => nm_r (show size - 1 = nI (n - 1) by rw [es]; exact pk_sub (a := n) (b := 1) (by omega)) ⟨pk_in (n - 1) 11 (by omega), rf_l248 ⟨g, n - 1, by omega, hg, eg, rfl, fun q hq => h1 q (by omega), fun q hq => h2 q (by omega), h4⟩ K⟩) es rfl (by omega) (by omega)
  · obtain ⟨w, hw, ew⟩ := pk_andE d (m := 7) 3 (by decide)
    obtain ⟨v, hv, ev⟩ := pk_andE (d >>> ((4 : Int32) &&& 31)) (m := 31) 5 (by decide)
    rw [ew, ev]
    have e1 : nI w - nI w / 6 * 6 = nI (w % 6) := pk_rem (d := 6) (by omega) (by omega) (by omega)
    have e2 : nI v - nI v / 21 * 21 = nI (v % 21) := pk_rem (d := 21) (by omega) (by omega) (by omega)
    rw [e1, e2]
    refine br_f (nI_pos (by omega)) (br_t (nI_le (b := 5) (by omega) (by omega)) (br_f (nI_pos (by omega)) (br_t (nI_le (b := 20) (by omega) (by omega)) ⟨vp_in_nI (by omega) (by omega), nm_e ⟨vp_in_nI (by omega) (by omega), nm_e (rf_l248 ⟨g, n, hn, hg, eg, es, h1, h2, fun q hq => ?_⟩ K)⟩⟩)))
    rw [nI_clamp (by omega)]
    by_cases e : q = w % 6
    · rw [e, pk_us]
      exact ⟨v % 21, by omega, rfl⟩
    · rw [pk_un e]
      exact h4 q hq
  · obtain ⟨h, hh, eh⟩ := pk_andE (d >>> ((7 : Int32) &&& 31)) (m := 3) 2 (by decide)
    rw [eh]
    exact rf_l185 iv0 hp (by omega) K
  · exact rf_l185 (h := 0) iv0 hp (by omega) K
  · rw [eb]
    unfold wpX_set
    rcases hp with hp | hp
    · obtain ⟨e0, rfl⟩ := hp
      subst e0
      exact br_f (by decide) (br_t (by decide) (br_t rfl (rf_l248 iv0 K)))
    · obtain ⟨n', hn', es', hp⟩ := hp
      have en : n' = n := (nI_eq (by omega) (by omega)).mp (es'.symm.trans es)
      subst en
      refine rf_place es hn hp (br_f (by decide) (br_f (nI_pos (by omega)) (br_t (nI_le (b := 3) (by omega) (by omega)) ⟨pk_in p 11 (by omega), nm_e ⟨pk_in p 11 (by omega), nm_e (rf_l248 ⟨g, n', hn, hg, eg, es, fun q hq => ?_, h2, h4⟩ K)⟩⟩)))
      rw [nI_clamp (by omega)]
      by_cases e : q = p
      · rw [e, pk_us]
        exact ⟨b, by omega, rfl⟩
      · rw [pk_un e]
        exact h1 q hq
  · rw [eb]
    refine br_f (nI_pos (by omega)) (br_t (nI_le (b := 3) (by omega) (by omega)) (pk_eq n 11 (fun z => br_t (by decide) (rf_l248 iv0 K)) (fun z => ⟨pk_in n 11 (by omega) es, ?_⟩) es rfl (by omega) (by omega)))
    rw [pk_cl n es (by omega)]
    refine nm_e ⟨pk_in n 11 (by omega) es, nm_e (nm_r (show size + 1 = nI (n + 1) by rw [es]; exact nI_1 n) (br_f (nI_nle (by omega) (by omega)) (nm_e (rf_l248 ⟨g, n + 1, by omega, hg, eg, rfl, fun q hq => ?_, fun q hq => ?_, h4⟩ K))))⟩
    · by_cases e : q = n
      · rw [e, pk_us]
        exact ⟨b, by omega, rfl⟩
      · rw [pk_un e]
        exact h1 q (by omega)
    · rw [nI_pred, rf_b_and, rf_b_n n (by omega) q (by omega)]
      by_cases e : q = n
      · rw [e, pk_us, decide_eq_true rfl]
        exact ⟨0, by omega, rfl, by simp⟩
      · rw [pk_un e, decide_eq_false e]
        obtain ⟨h', g1, g2, g3⟩ := h2 q (by omega)
        exact ⟨h', g1, g2, by simpa using g3⟩
end
theorem rf_cell {post : Int32 → Prop} {L k : Nat} {xs : Nat → Int32} (hL : L ≤ 260) (hk : k ≤ 1000) (h : ∀ r, post r) : wpL_cell post L xs () (nI k) :=
  pk_le L k (fun _ => h 0) (fun z => ⟨pk_in k L z, h _⟩) rfl rfl (by omega) (by omega)
section
variable {gap size fo fs sc bc ac : Int32} {a1 a2 a3 a4 a5 a6 a7 a8 a9 a10 a11 a12 : Nat → Int32}
theorem rf_l22 {m : Int32} {L kc ks : Nat} {xs : Nat → Int32} (hL : L ≤ 260) (iv : rf_iv m gap size a1 a2 a4) : ∃ f, wL_law_22 (fun r => r = 1) L xs kc ks f m 1 gap size fo fs sc bc ac a1 a2 a3 a4 a5 a6 a7 a8 a9 a10 a11 a12 := by
  refine pk_loop (fun f i (s : Int32 × Int32 × Int32 × Int32 × Int32 × Int32 × Int32 × Int32 × (Nat → Int32) × (Nat → Int32) × (Nat → Int32) × (Nat → Int32) × (Nat → Int32) × (Nat → Int32) × (Nat → Int32) × (Nat → Int32) × (Nat → Int32) × (Nat → Int32) × (Nat → Int32) × (Nat → Int32)) => wL_law_22 (fun r => r = 1) L xs kc ks f s.1 (nI (2 * i + 1)) s.2.1 s.2.2.1 s.2.2.2.1 s.2.2.2.2.1 s.2.2.2.2.2.1 s.2.2.2.2.2.2.1 s.2.2.2.2.2.2.2.1 s.2.2.2.2.2.2.2.2.1 s.2.2.2.2.2.2.2.2.2.1 s.2.2.2.2.2.2.2.2.2.2.1 s.2.2.2.2.2.2.2.2.2.2.2.1 s.2.2.2.2.2.2.2.2.2.2.2.2.1 s.2.2.2.2.2.2.2.2.2.2.2.2.2.1 s.2.2.2.2.2.2.2.2.2.2.2.2.2.2.1 s.2.2.2.2.2.2.2.2.2.2.2.2.2.2.2.1 s.2.2.2.2.2.2.2.2.2.2.2.2.2.2.2.2.1 s.2.2.2.2.2.2.2.2.2.2.2.2.2.2.2.2.2.1 s.2.2.2.2.2.2.2.2.2.2.2.2.2.2.2.2.2.2.1 s.2.2.2.2.2.2.2.2.2.2.2.2.2.2.2.2.2.2.2)
    (fun i s => rf_iv s.1 s.2.1 s.2.2.1 s.2.2.2.2.2.2.2.2.1 s.2.2.2.2.2.2.2.2.2.1 s.2.2.2.2.2.2.2.2.2.2.2.1) (L / 2) 0 (m, gap, size, fo, fs, sc, bc, ac, a1, a2, a3, a4, a5, a6, a7, a8, a9, a10, a11, a12) (by omega) iv ?_ ?_
  · intro f s k
    refine pk_le L (2 * (L / 2) + 1) (fun _ => ?_) (fun z => absurd z (by omega)) rfl rfl (by omega) (by omega)
    obtain ⟨g, n, hn, hg, eg, es, _⟩ := k
    refine br_f ?_ rfl
    rw [es]
    exact nI_pos (by omega)
  · intro f i s hi k hw
    have K : ∀ m' gap' size' fo' fs' sc' bc' ac' c1 c2 c3 c4 c5 c6 c7 c8 c9 c10 c11 c12, rf_iv m' gap' size' c1 c2 c4 → wL_law_22 (fun r => r = 1) L xs kc ks f m' (nI (2 * i + 1 + 2)) gap' size' fo' fs' sc' bc' ac' c1 c2 c3 c4 c5 c6 c7 c8 c9 c10 c11 c12 := fun m' gap' size' fo' fs' sc' bc' ac' c1 c2 c3 c4 c5 c6 c7 c8 c9 c10 c11 c12 iv' => hw (m', gap', size', fo', fs', sc', bc', ac', c1, c2, c3, c4, c5, c6, c7, c8, c9, c10, c11, c12) iv'
    refine pk_le L (2 * i + 1) (fun z => absurd z (by omega)) (fun _ => rf_cell hL (by omega) (fun c => ?_)) rfl rfl (by omega) (by omega)
    rw [nI_1]
    refine rf_cell hL (by omega) (fun d => nm_e ?_)
    obtain ⟨g, n, hn, hg, eg, es, _⟩ := id k
    refine pk_le 1 n (fun z => ⟨?_, ?_⟩) (fun z => rf_l78 (p := 0) k (Or.inl ⟨by rw [es, show n = 0 by omega]; rfl, rfl⟩) K) rfl es (by omega) (by omega)
    · rw [es]
      exact nI_ne0 (by omega) (by omega)
    · obtain ⟨j, hj, ej⟩ := pk_andE d (m := 15) 4 (by decide)
      have e : (d &&& 15) - (d &&& 15) / s.2.2.1 * s.2.2.1 = nI (j % n) := by
        rw [ej, es]
        exact pk_rem (by omega) (by omega) (by omega)
      rw [e]
      exact rf_l78 k (Or.inr ⟨n, hn, es, Nat.mod_lt _ (by omega)⟩) K
end
theorem i_vc (xs : Nat → Int32) (L : Nat) (hL : L ≤ 260) : wpL_law (fun r => r = 1) L xs := by
  refine rf_cell hL (k := 0) (by omega) (fun r => ?_)
  obtain ⟨g, hg, eg⟩ := pk_andE r (m := 3) 2 (by decide)
  refine nm_r eg ⟨12, 1789, by omega, by omega, ?_⟩
  refine ⟨by omega, by omega, by omega, by omega, by omega, by omega, by omega, by omega, by omega, by omega, by omega, by omega, by omega, by omega, by omega, by omega, by omega, by omega, by omega, by omega, by omega, by omega, by omega, by omega, ?_⟩
  refine br_t (nI_pos' (by omega)) (br_t (nI_le (b := 4) (by omega) (by omega)) (nm_e (nm_e (nm_e (nm_e (nm_e (nm_e (rf_l22 hL ?_))))))))
  refine ⟨g, 0, by omega, by omega, rfl, rfl, fun p hp => absurd hp (by omega), fun p hp => absurd hp (by omega), fun p hp => ?_⟩
  have hp' : p = 0 ∨ p = 1 ∨ p = 2 ∨ p = 3 ∨ p = 4 ∨ p = 5 := by omega
  rcases hp' with e | e | e | e | e | e <;> subst e
  · exact ⟨3, by omega, rfl⟩
  · exact ⟨5, by omega, rfl⟩
  · exact ⟨1, by omega, rfl⟩
  · exact ⟨2, by omega, rfl⟩
  · exact ⟨2, by omega, rfl⟩
  · exact ⟨3, by omega, rfl⟩
end
