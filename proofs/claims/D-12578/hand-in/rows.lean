section
/-- since when two rows agree before column c -/
def hr_ag (x y : Nat → Bool) : Nat → Nat
  | 0 => 0
  | c + 1 => if x c = y c then hr_ag x y c else c + 1
theorem hr_ag_s (x y : Nat → Bool) (c : Nat) : hr_ag x y (c + 1) = if x c = y c then hr_ag x y c else c + 1 := rfl
theorem hr_ag_le (x y : Nat → Bool) (c : Nat) : hr_ag x y c ≤ c := by
  induction c with
  | zero => exact Nat.le_refl 0
  | succ c ih =>
    rw [hr_ag_s]
    by_cases e : x c = y c
    · rw [if_pos e]; omega
    · rw [if_neg e]; omega
theorem hr_ag_iff (x y : Nat → Bool) (c m : Nat) : hr_ag x y c ≤ m ↔ ∀ k, m ≤ k → k < c → x k = y k := by
  induction c with
  | zero => exact ⟨fun _ k _ h => absurd h (by omega), fun _ => Nat.zero_le m⟩
  | succ c ih =>
    rw [hr_ag_s]
    by_cases e : x c = y c
    · rw [if_pos e, ih]
      constructor
      · intro h k h1 h2
        by_cases ek : k = c
        · rw [ek]; exact e
        · exact h k h1 (by omega)
      · intro h k h1 h2
        exact h k h1 (by omega)
    · rw [if_neg e]
      constructor
      · intro h k h1 h2
        exact absurd h2 (by omega)
      · intro h
        apply Classical.byContradiction
        intro hm
        exact e (h c (by omega) (by omega))
theorem hr_eqm {a b : Nat} (h : ∀ m, a ≤ m ↔ b ≤ m) : a = b := Nat.le_antisymm ((h b).mpr (Nat.le_refl b)) ((h a).mp (Nat.le_refl a))
theorem hr_eqg {a b : Nat} (h : ∀ m, m ≤ a ↔ m ≤ b) : a = b := Nat.le_antisymm ((h a).mp (Nat.le_refl a)) ((h b).mpr (Nat.le_refl b))
theorem hr_ag_comm (x y : Nat → Bool) (c : Nat) : hr_ag x y c = hr_ag y x c := by
  apply hr_eqm
  intro m
  rw [hr_ag_iff, hr_ag_iff]
  exact ⟨fun h k h1 h2 => (h k h1 h2).symm, fun h k h1 h2 => (h k h1 h2).symm⟩
theorem hr_ag_tri {x y z : Nat → Bool} {c m : Nat} (h1 : hr_ag x y c ≤ m) (h2 : hr_ag y z c ≤ m) : hr_ag x z c ≤ m := by
  rw [hr_ag_iff] at h1 h2 ⊢
  exact fun k k1 k2 => (h1 k k1 k2).trans (h2 k k1 k2)
theorem hr_not_inj : ∀ a b : Bool, ((!a) = (!b)) ↔ a = b := by decide
theorem hr_ag_not (x y : Nat → Bool) (c : Nat) : hr_ag (fun k => !x k) (fun k => !y k) c = hr_ag x y c := by
  apply hr_eqm
  intro m
  rw [hr_ag_iff, hr_ag_iff]
  exact ⟨fun h k h1 h2 => (hr_not_inj _ _).mp (h k h1 h2), fun h k h1 h2 => (hr_not_inj _ _).mpr (h k h1 h2)⟩
theorem hr_ag_ne (x y : Nat → Bool) (c : Nat) (h : 0 < hr_ag x y c) : ¬ x (hr_ag x y c - 1) = y (hr_ag x y c - 1) := by
  intro e
  have t : hr_ag x y c ≤ hr_ag x y c - 1 := by
    rw [hr_ag_iff]
    intro k k1 k2
    by_cases ek : k = hr_ag x y c - 1
    · rw [ek]; exact e
    · exact (hr_ag_iff x y c (hr_ag x y c)).mp (Nat.le_refl _) k (by omega) k2
  omega
theorem hr_ag_top (x y : Nat → Bool) (c : Nat) : hr_ag x y (c + 1) = c + 1 ↔ ¬ x c = y c := by
  have h := hr_ag_le x y c
  rw [hr_ag_s]
  by_cases e : x c = y c
  · rw [if_pos e]
    exact ⟨fun z => absurd z (by omega), fun z => absurd e z⟩
  · rw [if_neg e]
    exact ⟨fun _ => e, fun _ => rfl⟩
theorem hr_ag_same {x y : Nat → Bool} {c : Nat} (e : x c = y c) : hr_ag x y (c + 1) = hr_ag x y c := by
  rw [hr_ag_s, if_pos e]
theorem hr_ag_val {x y : Nat → Bool} {c a : Nat} (h0 : 0 < a) (hc : a ≤ c) (h1 : ∀ k, a ≤ k → k < c → x k = y k) (h2 : ¬ x (a - 1) = y (a - 1)) : hr_ag x y c = a := by
  have t : hr_ag x y c ≤ a := (hr_ag_iff x y c a).mpr h1
  apply Classical.byContradiction
  intro hn
  have t2 : hr_ag x y c ≤ a - 1 := by omega
  exact h2 ((hr_ag_iff x y c (a - 1)).mp t2 (a - 1) (Nat.le_refl _) (by omega))
/-- x stands before y, or they are alike, in the order for column c -/
def hr_S (x y : Nat → Bool) (c : Nat) : Prop := hr_ag x y c = 0 ∨ x (hr_ag x y c - 1) = false
/-- the order and the begins for column c are right -/
def hr_P (n : Nat) (f : Nat → Nat → Bool) (c : Nat) (o b : Nat → Nat) : Prop :=
  ((List.range n).map o).Perm (List.range n) ∧ (∀ i, i < n → b i ≤ c) ∧
  (∀ i j, i < j → j < n → ∀ m, hr_ag (f (o i)) (f (o j)) c ≤ m ↔ ∀ k, i < k → k ≤ j → b k ≤ m) ∧
  (∀ i j, i < j → j < n → hr_S (f (o i)) (f (o j)) c)
theorem hr_P_lt {n : Nat} {f : Nat → Nat → Bool} {c : Nat} {o b : Nat → Nat} (h : hr_P n f c o b) {i : Nat} (hi : i < n) : o i < n :=
  List.mem_range.mp (h.1.mem_iff.mp (List.mem_map.mpr ⟨i, List.mem_range.mpr hi, rfl⟩))
theorem hr_P_sur {n : Nat} {f : Nat → Nat → Bool} {c : Nat} {o b : Nat → Nat} (h : hr_P n f c o b) {r : Nat} (hr : r < n) : ∃ p, p < n ∧ o p = r := by
  obtain ⟨p, hp, e⟩ := List.mem_map.mp (h.1.mem_iff.mpr (List.mem_range.mpr hr))
  exact ⟨p, List.mem_range.mp hp, e⟩
theorem hr_P_inj {n : Nat} {f : Nat → Nat → Bool} {c : Nat} {o b : Nat → Nat} (h : hr_P n f c o b) {i j : Nat} (hi : i < n) (hj : j < n) (e : o i = o j) : i = j := by
  have nd : ((List.range n).map o).Nodup := h.1.nodup_iff.mpr List.nodup_range
  have pw := List.pairwise_iff_getElem.mp nd
  have key : ∀ i j, i < j → j < n → ¬ o i = o j := by
    intro i j hij hj
    have t := pw i j (by rw [List.length_map, List.length_range]; omega) (by rw [List.length_map, List.length_range]; omega) hij
    rw [List.getElem_map, List.getElem_map, List.getElem_range, List.getElem_range] at t
    exact t
  rcases Nat.lt_trichotomy i j with g | g | g
  · exact absurd e (key i j g hj)
  · exact g
  · exact absurd e.symm (key j i g hi)
/-- the next places one by one -/
theorem hr_P_next {n : Nat} {f : Nat → Nat → Bool} {c : Nat} {o b : Nat → Nat} (h : hr_P n f c o b) {i j : Nat} (hij : i < j) (hj : j < n) : hr_ag (f (o i)) (f (o j)) c = max (if j = i + 1 then 0 else hr_ag (f (o i)) (f (o (j - 1))) c) (b j) := by
  apply hr_eqm
  intro m
  rw [h.2.2.1 i j hij hj m]
  by_cases e : j = i + 1
  · rw [if_pos e]
    constructor
    · intro g
      have := g j hij (Nat.le_refl j)
      omega
    · intro g k k1 k2
      have : k = j := by omega
      rw [this]; omega
  · rw [if_neg e]
    have q := h.2.2.1 i (j - 1) (by omega) (by omega) m
    constructor
    · intro g
      have g1 := g j hij (Nat.le_refl j)
      have g2 := q.mpr (fun k k1 k2 => g k k1 (by omega))
      omega
    · intro g k k1 k2
      by_cases ek : k = j
      · rw [ek]; omega
      · exact q.mp (by omega) k k1 (by omega)
def hr_up (o : Nat → Nat) (z x : Nat) : Nat → Nat := fun p => if p = z then x else o p
theorem hr_up_s {o : Nat → Nat} {z x : Nat} : hr_up o z x z = x := if_pos rfl
theorem hr_up_n {o : Nat → Nat} {z x p : Nat} (h : p ≠ z) : hr_up o z x p = o p := if_neg h
/-- one of the two heaps of 'part', i rows of the old order read: z rows u with begins v, s the running begin, w their bit -/
def hr_Side (n : Nat) (f : Nat → Nat → Bool) (c i : Nat) (o b : Nat → Nat) (z : Nat) (u v : Nat → Nat) (s : Nat) (w : Bool) : Prop :=
  (∀ p, p < z → f (u p) c = w ∧ v p ≤ c + 1) ∧ (0 < z → v 0 = c + 1) ∧ (z = 0 → s = c + 1) ∧ s ≤ c + 1 ∧
  (∀ p q, p < q → q < z → ∀ m, hr_ag (f (u p)) (f (u q)) c ≤ m ↔ ∀ k, p < k → k ≤ q → v k ≤ m) ∧
  (∀ p q, p < q → q < z → hr_S (f (u p)) (f (u q)) c) ∧
  (∀ p j, p < z → i ≤ j → j < n → ∀ m, hr_ag (f (u p)) (f (o j)) c ≤ m ↔ (∀ k, p < k → k < z → v k ≤ m) ∧ s ≤ m ∧ (∀ k, i ≤ k → k ≤ j → b k ≤ m)) ∧
  (∀ p j, p < z → i ≤ j → j < n → hr_S (f (u p)) (f (o j)) c)
theorem hr_side_0 {n : Nat} {f : Nat → Nat → Bool} {c : Nat} {o b u v : Nat → Nat} {w : Bool} : hr_Side n f c 0 o b 0 u v (c + 1) w :=
  ⟨fun p h => absurd h (by omega), fun h => absurd h (by omega), fun _ => rfl, Nat.le_refl _, fun p q _ h => absurd h (by omega), fun p q _ h => absurd h (by omega), fun p j h => absurd h (by omega), fun p j h => absurd h (by omega)⟩
theorem hr_side_skip {n : Nat} {f : Nat → Nat → Bool} {c i : Nat} {o b : Nat → Nat} {z : Nat} {u v : Nat → Nat} {s : Nat} {w : Bool} (hP : hr_P n f c o b) (hi : i < n) (h : hr_Side n f c i o b z u v s w) : hr_Side n f c (i + 1) o b z u v (max (b i) s) w := by
  obtain ⟨h1, h2, h3, h4, h5, h6, h7, h8⟩ := h
  have hb := hP.2.1 i hi
  refine ⟨h1, h2, fun e => ?_, by omega, h5, h6, ?_, fun p j hp k1 k2 => h8 p j hp (by omega) k2⟩
  · have := h3 e
    omega
  · intro p j hp hj1 hj2 m
    rw [h7 p j hp (by omega) hj2 m]
    constructor
    · intro ⟨g1, g2, g3⟩
      have := g3 i (Nat.le_refl i) (by omega)
      exact ⟨g1, by omega, fun k k1 k2 => g3 k (by omega) k2⟩
    · intro ⟨g1, g2, g3⟩
      refine ⟨g1, by omega, fun k k1 k2 => ?_⟩
      by_cases ek : k = i
      · rw [ek]; omega
      · exact g3 k (by omega) k2
theorem hr_side_add {n : Nat} {f : Nat → Nat → Bool} {c i : Nat} {o b : Nat → Nat} {z : Nat} {u v : Nat → Nat} {s : Nat} {w : Bool} (hP : hr_P n f c o b) (hi : i < n) (hw : f (o i) c = w) (h : hr_Side n f c i o b z u v s w) : hr_Side n f c (i + 1) o b (z + 1) (hr_up u z (o i)) (hr_up v z (max (b i) s)) 0 w := by
  obtain ⟨h1, h2, h3, h4, h5, h6, h7, h8⟩ := h
  obtain ⟨p1, p2, p3, p4⟩ := hP
  have hb := p2 i hi
  refine ⟨?_, ?_, ?_, ?_, ?_, ?_, ?_, ?_⟩
  · intro p hp
    by_cases e : p = z
    · rw [e, hr_up_s, hr_up_s]
      exact ⟨hw, by omega⟩
    · rw [hr_up_n e, hr_up_n e]
      exact h1 p (by omega)
  · intro _
    by_cases e : 0 = z
    · have e2 := h3 e.symm
      rw [← e, hr_up_s]
      omega
    · rw [hr_up_n e]
      exact h2 (by omega)
  · intro e
    exact absurd e (by omega)
  · exact Nat.zero_le _
  · intro p q hpq hq m
    have ep : p ≠ z := by omega
    rw [hr_up_n ep]
    by_cases e : q = z
    · rw [e, hr_up_s, h7 p i (by omega) (Nat.le_refl i) hi m]
      constructor
      · intro ⟨g1, g2, g3⟩ k k1 k2
        by_cases ek : k = z
        · rw [ek, hr_up_s]
          have := g3 i (Nat.le_refl _) (Nat.le_refl _)
          omega
        · rw [hr_up_n ek]
          exact g1 k k1 (by omega)
      · intro g
        have gz := g z (by omega) (Nat.le_refl z)
        rw [hr_up_s] at gz
        refine ⟨fun k k1 k2 => ?_, by omega, fun k k1 k2 => ?_⟩
        · have t := g k k1 (by omega)
          rw [hr_up_n (show k ≠ z by omega)] at t
          exact t
        · have ek : k = i := by omega
          rw [ek]; omega
    · rw [hr_up_n e, h5 p q hpq (by omega) m]
      constructor
      · intro g k k1 k2
        rw [hr_up_n (show k ≠ z by omega)]
        exact g k k1 k2
      · intro g k k1 k2
        have t := g k k1 k2
        rw [hr_up_n (show k ≠ z by omega)] at t
        exact t
  · intro p q hpq hq
    have ep : p ≠ z := by omega
    rw [hr_up_n ep]
    by_cases e : q = z
    · rw [e, hr_up_s]
      exact h8 p i (by omega) (Nat.le_refl i) hi
    · rw [hr_up_n e]
      exact h6 p q hpq (by omega)
  · intro p j hp hj1 hj2 m
    by_cases e : p = z
    · rw [e, hr_up_s, p3 i j (by omega) hj2 m]
      constructor
      · intro g
        exact ⟨fun k k1 k2 => absurd k1 (by omega), Nat.zero_le m, fun k k1 k2 => g k (by omega) k2⟩
      · intro ⟨_, _, g⟩ k k1 k2
        exact g k (by omega) k2
    · rw [hr_up_n e, h7 p j (by omega) (by omega) hj2 m]
      constructor
      · intro ⟨g1, g2, g3⟩
        refine ⟨fun k k1 k2 => ?_, Nat.zero_le m, fun k k1 k2 => g3 k (by omega) k2⟩
        by_cases ek : k = z
        · rw [ek, hr_up_s]
          have := g3 i (Nat.le_refl i) (by omega)
          omega
        · rw [hr_up_n ek]
          exact g1 k k1 (by omega)
      · intro ⟨g1, _, g3⟩
        have gz := g1 z (by omega) (by omega)
        rw [hr_up_s] at gz
        refine ⟨fun k k1 k2 => ?_, by omega, fun k k1 k2 => ?_⟩
        · have t := g1 k k1 (by omega)
          rw [hr_up_n (show k ≠ z by omega)] at t
          exact t
        · by_cases ek : k = i
          · rw [ek]; omega
          · exact g3 k (by omega) k2
  · intro p j hp hj1 hj2
    by_cases e : p = z
    · rw [e, hr_up_s]
      exact p4 i j (by omega) hj2
    · rw [hr_up_n e]
      exact h8 p j (by omega) (by omega) hj2
def hr_cat (z : Nat) (u u' : Nat → Nat) : Nat → Nat := fun p => if p < z then u p else u' (p - z)
theorem hr_cat_l {z : Nat} {u u' : Nat → Nat} {p : Nat} (h : p < z) : hr_cat z u u' p = u p := if_pos h
theorem hr_cat_r {z : Nat} {u u' : Nat → Nat} {p : Nat} (h : z ≤ p) : hr_cat z u u' p = u' (p - z) := if_neg (by omega)
theorem hr_cat_map (z m : Nat) (u u' : Nat → Nat) : (List.range (z + m)).map (hr_cat z u u') = (List.range z).map u ++ (List.range m).map u' := by
  have e1 : (List.range z).map (hr_cat z u u') = (List.range z).map u := List.map_congr_left (fun p hp => hr_cat_l (List.mem_range.mp hp))
  have e2 : (List.range m).map (hr_cat z u u' ∘ (fun x => z + x)) = (List.range m).map u' := List.map_congr_left (fun p _ => by
    show hr_cat z u u' (z + p) = u' p
    rw [hr_cat_r (by omega), Nat.add_sub_cancel_left])
  rw [List.range_add, List.map_append, List.map_map, e1, e2]
theorem hr_join {n : Nat} {f : Nat → Nat → Bool} {c : Nat} {o b : Nat → Nat} {z m : Nat} {u v u' v' : Nat → Nat} {s s' : Nat} (hz : z + m = n) (h0 : hr_Side n f c n o b z u v s false) (h1 : hr_Side n f c n o b m u' v' s' true) (hp : ∀ a, ((List.range z).map u).count a + ((List.range m).map u').count a = (List.range n).count a) : hr_P n f (c + 1) (hr_cat z u u') (hr_cat z v v') := by
  obtain ⟨a1, a2, a3, a4, a5, a6, a7, a8⟩ := h0
  obtain ⟨b1, b2, b3, b4, b5, b6, b7, b8⟩ := h1
  have bd : ∀ i, i < n → hr_cat z v v' i ≤ c + 1 := by
    intro i hi
    by_cases e : i < z
    · rw [hr_cat_l e]
      exact (a1 i e).2
    · rw [hr_cat_r (by omega)]
      exact (b1 (i - z) (by omega)).2
  refine ⟨?_, bd, ?_, ?_⟩
  · rw [List.perm_iff_count]
    intro a
    rw [← hp a, ← List.count_append, ← hr_cat_map, hz]
  · intro i j hij hj k
    by_cases ej : j < z
    · rw [hr_cat_l ej, hr_cat_l (show i < z by omega), hr_ag_same ((a1 i (by omega)).1.trans (a1 j ej).1.symm), a5 i j hij ej k]
      constructor
      · intro g t t1 t2
        rw [hr_cat_l (by omega)]
        exact g t t1 t2
      · intro g t t1 t2
        have q := g t t1 t2
        rw [hr_cat_l (by omega)] at q
        exact q
    · by_cases ei : i < z
      · rw [hr_cat_r (show z ≤ j by omega), hr_cat_l ei]
        have ne : ¬ f (u i) c = f (u' (j - z)) c := by
          rw [(a1 i ei).1, (b1 (j - z) (by omega)).1]
          decide
        rw [(hr_ag_top _ _ c).mpr ne]
        constructor
        · intro g t t1 t2
          have := bd t (by omega)
          omega
        · intro g
          have q := g z (by omega) (by omega)
          rw [hr_cat_r (Nat.le_refl z), Nat.sub_self, b2 (by omega)] at q
          exact q
      · rw [hr_cat_r (show z ≤ j by omega), hr_cat_r (show z ≤ i by omega), hr_ag_same ((b1 (i - z) (by omega)).1.trans (b1 (j - z) (by omega)).1.symm), b5 (i - z) (j - z) (by omega) (by omega) k]
        constructor
        · intro g t t1 t2
          rw [hr_cat_r (by omega)]
          exact g (t - z) (by omega) (by omega)
        · intro g t t1 t2
          have q := g (t + z) (by omega) (by omega)
          rw [hr_cat_r (by omega), Nat.add_sub_cancel] at q
          exact q
  · intro i j hij hj
    by_cases ej : j < z
    · rw [hr_cat_l ej, hr_cat_l (show i < z by omega)]
      unfold hr_S
      rw [hr_ag_same ((a1 i (by omega)).1.trans (a1 j ej).1.symm)]
      exact a6 i j hij ej
    · by_cases ei : i < z
      · rw [hr_cat_r (show z ≤ j by omega), hr_cat_l ei]
        have ne : ¬ f (u i) c = f (u' (j - z)) c := by
          rw [(a1 i ei).1, (b1 (j - z) (by omega)).1]
          decide
        unfold hr_S
        rw [(hr_ag_top _ _ c).mpr ne]
        exact Or.inr (a1 i ei).1
      · rw [hr_cat_r (show z ≤ j by omega), hr_cat_r (show z ≤ i by omega)]
        unfold hr_S
        rw [hr_ag_same ((b1 (i - z) (by omega)).1.trans (b1 (j - z) (by omega)).1.symm)]
        exact b6 (i - z) (j - z) (by omega) (by omega)
/-- column 0: the rows as they stand -/
theorem hr_P_0 (n : Nat) (f : Nat → Nat → Bool) : hr_P n f 0 (fun i => i) (fun _ => 0) := by
  refine ⟨?_, fun i _ => Nat.le_refl 0, fun i j hij hj m => ?_, fun i j _ _ => Or.inl rfl⟩
  · exact List.Perm.of_eq (List.map_id' _)
  · exact ⟨fun _ k _ _ => Nat.zero_le m, fun _ => Nat.zero_le m⟩
theorem hr_count_up (o : Nat → Nat) (z x a : Nat) : ((List.range (z + 1)).map (hr_up o z x)).count a = ((List.range z).map o).count a + [x].count a := by
  have e1 : (List.range z).map (hr_up o z x) = (List.range z).map o := List.map_congr_left (fun p hp => hr_up_n (by have := List.mem_range.mp hp; omega))
  rw [List.range_succ, List.map_append, e1, List.count_append]
  show _ + [hr_up o z x z].count a = _
  rw [hr_up_s]
theorem hr_drop (n : Nat) (o : Nat → Nat) {i : Nat} (hi : i < n) : ((List.range n).map o).drop i = o i :: ((List.range n).map o).drop (i + 1) := by
  rw [List.drop_eq_getElem_cons (by rw [List.length_map, List.length_range]; exact hi), List.getElem_map, List.getElem_range]
theorem hr_drop_n (n : Nat) (o : Nat → Nat) : ((List.range n).map o).drop n = [] :=
  List.drop_eq_nil_of_le (by rw [List.length_map, List.length_range]; exact Nat.le_refl n)
end
section
def hr_sum (g : Nat → Nat) : Nat → Nat
  | 0 => 0
  | k + 1 => hr_sum g k + g k
def hr_max (g : Nat → Nat) : Nat → Nat
  | 0 => 0
  | k + 1 => max (hr_max g k) (g k)
def hr_min (c : Nat) (g : Nat → Nat) : Nat → Nat
  | 0 => c
  | k + 1 => min (hr_min c g k) (g k)
def hr_or (g : Nat → Bool) : Nat → Bool
  | 0 => false
  | k + 1 => hr_or g k || g k
theorem hr_max_le (g : Nat → Nat) (k m : Nat) : hr_max g k ≤ m ↔ ∀ s, s < k → g s ≤ m := by
  induction k with
  | zero => exact ⟨fun _ s h => absurd h (by omega), fun _ => Nat.zero_le m⟩
  | succ k ih =>
    show max (hr_max g k) (g k) ≤ m ↔ _
    constructor
    · intro h s hs
      by_cases e : s = k
      · rw [e]; omega
      · exact ih.mp (by omega) s (by omega)
    · intro h
      have h1 := ih.mpr (fun s hs => h s (by omega))
      have h2 := h k (by omega)
      omega
theorem hr_min_ge (c : Nat) (g : Nat → Nat) (k m : Nat) : m ≤ hr_min c g k ↔ m ≤ c ∧ ∀ s, s < k → m ≤ g s := by
  induction k with
  | zero => exact ⟨fun h => ⟨h, fun s h => absurd h (by omega)⟩, fun h => h.1⟩
  | succ k ih =>
    show m ≤ min (hr_min c g k) (g k) ↔ _
    constructor
    · intro h
      refine ⟨(ih.mp (by omega)).1, fun s hs => ?_⟩
      by_cases e : s = k
      · rw [e]; omega
      · exact (ih.mp (by omega)).2 s (by omega)
    · intro h
      have h1 := ih.mpr ⟨h.1, fun s hs => h.2 s (by omega)⟩
      have h2 := h.2 k (by omega)
      omega
/-- pairs of a list with Q -/
def hr_pc (Q : Nat → Nat → Bool) : List Nat → Nat
  | [] => 0
  | x :: l => l.countP (Q x) + hr_pc Q l
theorem hr_pc_perm {Q : Nat → Nat → Bool} (hs : ∀ x y, Q x y = Q y x) {l l' : List Nat} (h : l.Perm l') : hr_pc Q l = hr_pc Q l' := by
  induction h with
  | nil => rfl
  | cons x h ih =>
    show _ + _ = _ + _
    rw [h.countP_eq, ih]
  | swap x y l =>
    show (x :: l).countP (Q y) + (l.countP (Q x) + hr_pc Q l) = (y :: l).countP (Q x) + (l.countP (Q y) + hr_pc Q l)
    rw [List.countP_cons, List.countP_cons, hs y x]
    generalize (if Q x y = true then 1 else 0) = t
    omega
  | trans _ _ i1 i2 => exact i1.trans i2
/-- kinds of a list under E -/
def hr_kd (E : Nat → Nat → Bool) : List Nat → Nat
  | [] => 0
  | x :: l => (if l.any (E x) = true then 0 else 1) + hr_kd E l
theorem hr_any_perm {p : Nat → Bool} {l l' : List Nat} (h : l.Perm l') : l.any p = l'.any p := by
  rw [Bool.eq_iff_iff, List.any_eq_true, List.any_eq_true]
  exact ⟨fun ⟨x, hx, e⟩ => ⟨x, h.mem_iff.mp hx, e⟩, fun ⟨x, hx, e⟩ => ⟨x, h.mem_iff.mpr hx, e⟩⟩
theorem hr_kd_perm {E : Nat → Nat → Bool} (hs : ∀ x y, E x y = true → E y x = true) (ht : ∀ x y z, E x y = true → E y z = true → E x z = true) {l l' : List Nat} (h : l.Perm l') : hr_kd E l = hr_kd E l' := by
  induction h with
  | nil => rfl
  | cons x h ih =>
    show _ + _ = _ + _
    rw [hr_any_perm h, ih]
  | swap x y l =>
    show (if (x :: l).any (E y) = true then 0 else 1) + ((if l.any (E x) = true then 0 else 1) + hr_kd E l) = (if (y :: l).any (E x) = true then 0 else 1) + ((if l.any (E y) = true then 0 else 1) + hr_kd E l)
    rw [List.any_cons, List.any_cons]
    by_cases e : E x y = true
    · have e2 := hs x y e
      have e3 : l.any (E x) = l.any (E y) := by
        rw [Bool.eq_iff_iff, List.any_eq_true, List.any_eq_true]
        exact ⟨fun ⟨z, hz, g⟩ => ⟨z, hz, ht y x z e2 g⟩, fun ⟨z, hz, g⟩ => ⟨z, hz, ht x y z e g⟩⟩
      rw [e, e2, e3]
    · have e2 : ¬ E y x = true := fun g => e (hs y x g)
      rw [Bool.eq_false_iff.mpr e, Bool.eq_false_iff.mpr e2, Bool.false_or, Bool.false_or]
      omega
  | trans _ _ i1 i2 => exact i1.trans i2
theorem hr_sum_countP (p : Nat → Bool) (n : Nat) : hr_sum (fun i => if p i = true then 1 else 0) n = (List.range n).countP p := by
  induction n with
  | zero => rfl
  | succ n ih =>
    rw [List.range_succ, List.countP_append, ← ih, List.countP_cons, List.countP_nil, Nat.zero_add]
    rfl
theorem hr_sum_perm {n : Nat} {o : Nat → Nat} (p : Nat → Bool) (h : ((List.range n).map o).Perm (List.range n)) : hr_sum (fun i => if p (o i) = true then 1 else 0) n = hr_sum (fun i => if p i = true then 1 else 0) n := by
  rw [hr_sum_countP (fun i => p (o i)), hr_sum_countP p, ← h.countP_eq p, List.countP_map]
  rfl
def hr_A (f : Nat → Nat → Bool) : Nat → Nat → Nat → Nat := fun i j c => hr_ag (f i) (f j) c
theorem hr_A_not (f : Nat → Nat → Bool) : hr_A (fun i c => !f i c) = hr_A f := funext fun i => funext fun j => funext fun c => hr_ag_not (f i) (f j) c
def hr_Q (A : Nat → Nat → Nat → Nat) (k c x y : Nat) : Bool := decide (k ≤ c - A x y c ∧ (c = 12 ∨ A x y (c + 1) = c + 1))
theorem hr_Q_comm (f : Nat → Nat → Bool) (k c x y : Nat) : hr_Q (hr_A f) k c x y = hr_Q (hr_A f) k c y x := by
  unfold hr_Q hr_A
  rw [hr_ag_comm (f x) (f y) c, hr_ag_comm (f x) (f y) (c + 1)]
def hr_mat (A : Nat → Nat → Nat → Nat) (n k : Nat) : Nat := hr_sum (fun t => hr_pc (hr_Q A k (t + 1)) (List.range n)) 12
def hr_lg (A : Nat → Nat → Nat → Nat) (r s : Nat) : Nat := hr_max (fun t => t + 1 - A r s (t + 1)) 12
def hr_bs (A : Nat → Nat → Nat → Nat) (n r c : Nat) : Nat := hr_min c (fun s => if s = r then c else A r s c) n
def hr_wo (A : Nat → Nat → Nat → Nat) (n r c : Nat) : Nat → Bool := fun s => decide (s ≠ r ∧ A r s c = hr_bs A n r c ∧ ¬ (c = 12 ∨ A r s (c + 1) = c + 1))
def hr_wn (A : Nat → Nat → Nat → Nat) (n r c : Nat) : Nat → Nat := fun s => if s ≠ r ∧ A r s c = hr_bs A n r c then 1 else 0
def hr_wb (A : Nat → Nat → Nat → Nat) (n r c : Nat) : Nat := if hr_bs A n r c = c then 0 else if hr_or (hr_wo A n r c) n = true then 0 else hr_sum (hr_wn A n r c) n
def hr_win (A : Nat → Nat → Nat → Nat) (n r : Nat) : Nat := hr_sum (fun t => hr_wb A n r (t + 1)) 12
def hr_cl (A : Nat → Nat → Nat → Nat) (n r w : Nat) : Nat → Nat := fun t => if hr_bs A n r (w + 1 + t) ≤ w then w + 1 + t - hr_bs A n r (w + 1 + t) else 0
def hr_cov (A : Nat → Nat → Nat → Nat) (n r : Nat) : Nat := hr_sum (fun w => hr_max (hr_cl A n r w) (12 - w)) 12
def hr_E (A : Nat → Nat → Nat → Nat) (a c x y : Nat) : Bool := decide (A x y c ≤ a)
def hr_kin (A : Nat → Nat → Nat → Nat) (n a c : Nat) : Nat := hr_kd (hr_E A a c) (List.range n)
def hr_hav (f : Nat → Nat → Bool) (n a c : Nat) (g : Nat → Bool) : Nat := hr_sum (fun i => if decide (hr_ag (f i) g c ≤ a) = true then 1 else 0) n
def hr_fit (f : Nat → Nat → Bool) (n c : Nat) (g : Nat → Bool) : Nat := hr_max (fun i => c - hr_ag (f i) g c) n
theorem hr_hav_not (f : Nat → Nat → Bool) (n a c : Nat) (g : Nat → Bool) : hr_hav (fun i c => !f i c) n a c (fun k => !g k) = hr_hav f n a c g := by
  unfold hr_hav
  congr 1
  funext i
  rw [hr_ag_not (f i) g c]
theorem hr_fit_not (f : Nat → Nat → Bool) (n c : Nat) (g : Nat → Bool) : hr_fit (fun i c => !f i c) n c (fun k => !g k) = hr_fit f n c g := by
  unfold hr_fit
  congr 1
  funext i
  rw [hr_ag_not (f i) g c]
section
variable {n : Nat} {f : Nat → Nat → Bool} {c : Nat} {o b : Nat → Nat}
theorem hr_P_adj (h : hr_P n f c o b) {i : Nat} (hi : i + 1 < n) : hr_ag (f (o i)) (f (o (i + 1))) c = b (i + 1) := by
  rw [hr_P_next h (show i < i + 1 by omega) hi, if_pos rfl]
  omega
theorem hr_P_ge (h : hr_P n f c o b) {i j k : Nat} (hij : i < j) (hj : j < n) (h1 : i < k) (h2 : k ≤ j) : b k ≤ hr_ag (f (o i)) (f (o j)) c :=
  (h.2.2.1 i j hij hj _).mp (Nat.le_refl _) k h1 h2
theorem hr_bs_eq (h : hr_P n f c o b) {p r : Nat} (hp : p < n) (e : o p = r) : min (if 0 < p then b p else c) (if p + 1 < n then b (p + 1) else c) = hr_bs (hr_A f) n r c := by
  apply hr_eqg
  intro m
  unfold hr_bs
  rw [hr_min_ge]
  have u1 : (if 0 < p then b p else c) ≤ c := by
    by_cases g : 0 < p
    · rw [if_pos g]; exact h.2.1 p hp
    · rw [if_neg g]; exact Nat.le_refl c
  constructor
  · intro hm
    refine ⟨by omega, fun s hs => ?_⟩
    by_cases er : s = r
    · rw [if_pos er]; omega
    · rw [if_neg er]
      obtain ⟨q, hq, eq⟩ := hr_P_sur h hs
      show m ≤ hr_ag (f r) (f s) c
      rw [← e, ← eq]
      rcases Nat.lt_trichotomy q p with g | g | g
      · have t := hr_P_ge h g hp g (Nat.le_refl p)
        rw [hr_ag_comm] at t
        rw [if_pos (show 0 < p by omega)] at hm
        omega
      · exact absurd (by rw [← eq, g, e]) er
      · have t := hr_P_ge h g hq (show p < p + 1 by omega) (show p + 1 ≤ q by omega)
        rw [if_pos (show p + 1 < n by omega)] at hm
        omega
  · intro ⟨hm, hs⟩
    have t1 : m ≤ if 0 < p then b p else c := by
      by_cases g : 0 < p
      · rw [if_pos g]
        have q := hs (o (p - 1)) (hr_P_lt h (by omega))
        rw [if_neg (fun z => by have := hr_P_inj h (show p - 1 < n by omega) hp (z.trans e.symm); omega)] at q
        have a := hr_P_adj h (i := p - 1) (by omega)
        rw [show p - 1 + 1 = p by omega] at a
        have q' : m ≤ hr_ag (f r) (f (o (p - 1))) c := q
        rw [hr_ag_comm, ← e, a] at q'
        exact q'
      · rw [if_neg g]; exact hm
    have t2 : m ≤ if p + 1 < n then b (p + 1) else c := by
      by_cases g : p + 1 < n
      · rw [if_pos g]
        have q := hs (o (p + 1)) (hr_P_lt h g)
        rw [if_neg (fun z => by have := hr_P_inj h g hp (z.trans e.symm); omega)] at q
        have a := hr_P_adj h (i := p) g
        have q' : m ≤ hr_ag (f r) (f (o (p + 1))) c := q
        rw [← e, a] at q'
        exact q'
      · rw [if_neg g]; exact hm
    omega
theorem hr_rev (o : Nat → Nat) (i : Nat) : ((List.range (i + 1)).map o).reverse = o i :: ((List.range i).map o).reverse := by
  rw [List.range_succ, List.map_append, List.reverse_append]
  rfl
theorem hr_kd_step (h : hr_P n f c o b) (a : Nat) {i : Nat} (hi : i < n) : hr_kd (hr_E (hr_A f) a c) ((List.range (i + 1)).map o).reverse = (if 0 < i ∧ b i ≤ a then 0 else 1) + hr_kd (hr_E (hr_A f) a c) ((List.range i).map o).reverse := by
  rw [hr_rev]
  show (if _ = true then 0 else 1) + _ = _
  have e : ((((List.range i).map o).reverse).any (hr_E (hr_A f) a c (o i)) = true) ↔ (0 < i ∧ b i ≤ a) := by
    rw [List.any_eq_true]
    constructor
    · intro ⟨x, hx, hE⟩
      obtain ⟨q, hq, rfl⟩ := List.mem_map.mp (List.mem_reverse.mp hx)
      have hq' := List.mem_range.mp hq
      have t : hr_ag (f (o i)) (f (o q)) c ≤ a := of_decide_eq_true hE
      rw [hr_ag_comm] at t
      have := hr_P_ge h hq' hi hq' (Nat.le_refl i)
      exact ⟨by omega, by omega⟩
    · intro ⟨h0, hb⟩
      refine ⟨o (i - 1), List.mem_reverse.mpr (List.mem_map.mpr ⟨i - 1, List.mem_range.mpr (by omega), rfl⟩), decide_eq_true ?_⟩
      have t := hr_P_adj h (i := i - 1) (by omega)
      rw [show i - 1 + 1 = i by omega, hr_ag_comm] at t
      show hr_ag (f (o i)) (f (o (i - 1))) c ≤ a
      omega
  by_cases g : 0 < i ∧ b i ≤ a
  · rw [if_pos g, if_pos (e.mpr g)]
  · rw [if_neg g, if_neg (fun z => g (e.mp z))]
theorem hr_kd_fin (h : hr_P n f c o b) (a : Nat) : hr_kd (hr_E (hr_A f) a c) ((List.range n).map o).reverse = hr_kin (hr_A f) n a c := by
  refine hr_kd_perm ?_ ?_ ((List.reverse_perm _).trans h.1)
  · intro x y e
    have t : hr_ag (f x) (f y) c ≤ a := of_decide_eq_true e
    rw [hr_ag_comm] at t
    exact decide_eq_true t
  · intro x y z e1 e2
    have t1 : hr_ag (f x) (f y) c ≤ a := of_decide_eq_true e1
    have t2 : hr_ag (f y) (f z) c ≤ a := of_decide_eq_true e2
    exact decide_eq_true (hr_ag_tri t1 t2)
/-- two rows of two kinds: not one kind -/
theorem hr_kin_ne (a : Nat) {x y : Nat} (hx : x < n) (hy : y < n) (hd : a < hr_ag (f x) (f y) c) : hr_kin (hr_A f) n a c ≠ 1 := by
  have key : ∀ l : List Nat, (∃ x, x ∈ l) → 1 ≤ hr_kd (hr_E (hr_A f) a c) l := by
    intro l
    induction l with
    | nil => intro ⟨x, h⟩; exact absurd h (List.not_mem_nil)
    | cons z l ih =>
      intro _
      show 1 ≤ (if l.any (hr_E (hr_A f) a c z) = true then 0 else 1) + hr_kd (hr_E (hr_A f) a c) l
      by_cases g : l.any (hr_E (hr_A f) a c z) = true
      · obtain ⟨w, hw, _⟩ := List.any_eq_true.mp g
        have := ih ⟨w, hw⟩
        omega
      · rw [if_neg g]; omega
  have key2 : ∀ l : List Nat, hr_kd (hr_E (hr_A f) a c) l = 1 → ∀ x y, x ∈ l → y ∈ l → hr_ag (f x) (f y) c ≤ a := by
    intro l
    induction l with
    | nil => intro _ x y h; exact absurd h (List.not_mem_nil)
    | cons z l ih =>
      intro h1
      have h1' : (if l.any (hr_E (hr_A f) a c z) = true then 0 else 1) + hr_kd (hr_E (hr_A f) a c) l = 1 := h1
      by_cases g : l.any (hr_E (hr_A f) a c z) = true
      · rw [if_pos g] at h1'
        obtain ⟨w, hw, hE⟩ := List.any_eq_true.mp g
        have hE' : hr_ag (f z) (f w) c ≤ a := of_decide_eq_true hE
        have i2 := ih (by omega)
        have zz : ∀ x, x ∈ z :: l → hr_ag (f x) (f w) c ≤ a := by
          intro x hx
          rcases List.mem_cons.mp hx with e | e
          · rw [e]; exact hE'
          · exact i2 x w e hw
        intro x y hx hy
        have t1 := zz x hx
        have t2 := zz y hy
        rw [hr_ag_comm] at t2
        exact hr_ag_tri t1 t2
      · rw [if_neg g] at h1'
        have l0 : l = [] := by
          cases l with
          | nil => rfl
          | cons w l => have := key (w :: l) ⟨w, List.mem_cons_self⟩; omega
        intro x y hx hy
        rw [l0] at hx hy
        rw [List.mem_singleton.mp hx, List.mem_singleton.mp hy, hr_ag_iff]
        exact fun _ _ _ => rfl
  intro h
  have := key2 (List.range n) h x y (List.mem_range.mpr hx) (List.mem_range.mpr hy)
  omega
theorem hr_hav_in (h : hr_P n f c o b) {a i : Nat} {g : Nat → Bool} (h0 : 0 < i) (hi : i < n) (hm : hr_ag (f (o (i - 1))) g c ≤ a) : hr_ag (f (o i)) g c ≤ a ↔ b i ≤ a := by
  have t := hr_P_adj h (i := i - 1) (by omega)
  rw [show i - 1 + 1 = i by omega] at t
  constructor
  · intro q
    rw [hr_ag_comm] at q
    have := hr_ag_tri hm q
    omega
  · intro q
    rw [hr_ag_comm] at t
    exact hr_ag_tri (show hr_ag (f (o i)) (f (o (i - 1))) c ≤ a by omega) hm
theorem hr_hav_out (h : hr_P n f c o b) {a i k : Nat} {g : Nat → Bool} (hk : k < i) (hi : i < n) (hm : hr_ag (f (o k)) g c ≤ a) (hn : ¬ hr_ag (f (o (i - 1))) g c ≤ a) : ¬ hr_ag (f (o i)) g c ≤ a := by
  intro q
  have hk2 : k < i - 1 := by
    have : k ≠ i - 1 := fun e => hn (by rw [← e]; exact hm)
    omega
  have q' := q
  rw [hr_ag_comm] at q'
  have t := (h.2.2.1 k i hk hi a).mp (hr_ag_tri hm q')
  have t2 := (h.2.2.1 k (i - 1) hk2 (by omega) a).mpr (fun j j1 j2 => t j j1 (by omega))
  rw [hr_ag_comm] at t2
  exact hn (hr_ag_tri t2 hm)
theorem hr_hav_fin (h : hr_P n f c o b) (a : Nat) (g : Nat → Bool) : hr_sum (fun i => if decide (hr_ag (f (o i)) g c ≤ a) = true then 1 else 0) n = hr_hav f n a c g :=
  hr_sum_perm (fun i => decide (hr_ag (f i) g c ≤ a)) h.1
/-- the row stands before g in the order for column c -/
def hr_bf (x g : Nat → Bool) (c : Nat) : Prop := 0 < hr_ag x g c ∧ x (hr_ag x g c - 1) = false
theorem hr_fit1 {x y g : Nat → Bool} (hS : hr_S x y c) (hb : hr_bf y g c) : hr_ag y g c ≤ hr_ag x g c := by
  obtain ⟨h0, hy⟩ := hb
  have hne := hr_ag_ne y g c h0
  have hle := hr_ag_le y g c
  apply Classical.byContradiction
  intro hn
  have hx := (hr_ag_iff x g c (hr_ag x g c)).mp (Nat.le_refl _)
  have hyg := (hr_ag_iff y g c (hr_ag y g c)).mp (Nat.le_refl _)
  have e1 := hx (hr_ag y g c - 1) (by omega) (by omega)
  have ev : hr_ag x y c = hr_ag y g c := hr_ag_val h0 hle (fun k k1 k2 => (hx k (by omega) k2).trans (hyg k k1 k2).symm) (fun e => hne (e.symm.trans e1))
  rcases hS with s | s
  · omega
  · rw [ev] at s
    exact hne (hy.trans (s.symm.trans e1))
theorem hr_fit2 {x y g : Nat → Bool} (hS : hr_S x y c) (hb : ¬ hr_bf x g c) : hr_ag x g c ≤ hr_ag y g c := by
  apply Classical.byContradiction
  intro hn
  have h0 : 0 < hr_ag x g c := by omega
  have hx0 : ¬ x (hr_ag x g c - 1) = false := fun e => hb ⟨h0, e⟩
  have hne := hr_ag_ne x g c h0
  have hle := hr_ag_le x g c
  have hx := (hr_ag_iff x g c (hr_ag x g c)).mp (Nat.le_refl _)
  have hy := (hr_ag_iff y g c (hr_ag y g c)).mp (Nat.le_refl _)
  have e1 := hy (hr_ag x g c - 1) (by omega) (by omega)
  have ev : hr_ag x y c = hr_ag x g c := hr_ag_val h0 hle (fun k k1 k2 => (hx k k1 k2).trans (hy k (by omega) k2).symm) (fun e => hne (e.trans e1))
  rcases hS with s | s
  · omega
  · rw [ev] at s
    exact hx0 s
theorem hr_fit_eq (h : hr_P n f c o b) {p : Nat} {g : Nat → Bool} (hp : p ≤ n) (h1 : 0 < p → hr_bf (f (o (p - 1))) g c) (h2 : ∀ i, p ≤ i → i < n → ¬ hr_bf (f (o i)) g c) :
    max (if 0 < p then c - hr_ag (f (o (p - 1))) g c else 0) (if p < n then c - hr_ag (f (o p)) g c else 0) = hr_fit f n c g := by
  apply hr_eqm
  intro m
  unfold hr_fit
  rw [hr_max_le]
  constructor
  · intro hm s hs
    obtain ⟨q, hq, rfl⟩ := hr_P_sur h hs
    by_cases e : q < p
    · rw [if_pos (show 0 < p by omega)] at hm
      have t : hr_ag (f (o (p - 1))) g c ≤ hr_ag (f (o q)) g c := by
        by_cases e2 : q = p - 1
        · rw [e2]; exact Nat.le_refl _
        · exact hr_fit1 (h.2.2.2 q (p - 1) (by omega) (by omega)) (h1 (by omega))
      omega
    · rw [if_pos (show p < n by omega)] at hm
      have t : hr_ag (f (o p)) g c ≤ hr_ag (f (o q)) g c := by
        by_cases e2 : q = p
        · rw [e2]; exact Nat.le_refl _
        · exact hr_fit2 (h.2.2.2 p q (by omega) hq) (h2 p (Nat.le_refl p) (by omega))
      omega
  · intro hs
    have t1 : (if 0 < p then c - hr_ag (f (o (p - 1))) g c else 0) ≤ m := by
      by_cases e : 0 < p
      · rw [if_pos e]
        exact hs (o (p - 1)) (hr_P_lt h (by omega))
      · rw [if_neg e]; exact Nat.zero_le m
    have t2 : (if p < n then c - hr_ag (f (o p)) g c else 0) ≤ m := by
      by_cases e : p < n
      · rw [if_pos e]
        exact hs (o p) (hr_P_lt h e)
      · rw [if_neg e]; exact Nat.zero_le m
    omega
theorem hr_pc_fin (h : hr_P n f c o b) (k : Nat) : hr_pc (hr_Q (hr_A f) k c) ((List.range n).map o) = hr_pc (hr_Q (hr_A f) k c) (List.range n) :=
  hr_pc_perm (hr_Q_comm f k c) h.1
end
end
section
theorem hr_sl : ∀ n, n < 32 → ((nI n &&& 31).toBitVec.smod 32).toNat = n := by decide +kernel
theorem hr_xor (a b : Nat) : nI a ^^^ nI b = nI (a ^^^ b) := by
  apply Int32.toBitVec_inj.1
  show BitVec.ofNat 32 a ^^^ BitVec.ofNat 32 b = BitVec.ofNat 32 (a ^^^ b)
  apply BitVec.eq_of_getLsbD_eq
  intro i hi
  simp [hi]
theorem hr_m1 (x : Int32) : x + (-1) = x - 1 := by rw [Int32.sub_eq_add_neg]
/-- an int that holds a row of 12 bits -/
def hr_row (x : Int32) (g : Nat → Bool) : Prop := ∃ v : Nat, v < 4096 ∧ x = nI v ∧ ∀ c, c < 12 → v.testBit c = g c
theorem hr_row_at {x : Int32} {g : Nat → Bool} (h : hr_row x g) {c : Nat} (hc : c < 12) : (x >>> (nI c &&& 31)) &&& 1 = nI (g c).toNat := by
  obtain ⟨v, hv, rfl, hb⟩ := h
  have h2 : v / 2 ^ c ≤ v := Nat.div_le_self _ _
  rw [pk_shrN (by omega) (nI c &&& 31) c (hr_sl c (by omega)), pk_andN (by omega) 1 (by decide), ← hb c hc, Nat.toNat_testBit]
theorem hr_tb_hi {v i : Nat} (hv : v < 4096) (hi : 12 ≤ i) : v.testBit i = false :=
  Nat.testBit_lt_two_pow (Nat.lt_of_lt_of_le (show v < 2 ^ 12 from hv) (Nat.pow_le_pow_right (by decide) hi))
theorem hr_tb_ext {v w : Nat} (hv : v < 4096) (hw : w < 4096) (h : ∀ c, c < 12 → v.testBit c = w.testBit c) : v = w := by
  apply Nat.eq_of_testBit_eq
  intro i
  rcases Nat.lt_or_ge i 12 with g | g
  · exact h i g
  · rw [hr_tb_hi hv g, hr_tb_hi hw g]
theorem hr_tb_not {v c : Nat} (hv : v < 4096) (hc : c < 12) : (4095 - v).testBit c = !v.testBit c := by
  have t := Nat.testBit_two_pow_sub_succ (show v < 2 ^ 12 from hv) c
  rw [show 2 ^ 12 - (v + 1) = 4095 - v by omega] at t
  rw [t, decide_eq_true hc, Bool.true_and]
theorem hr_row_not {v : Nat} (hv : v < 4096) {g : Nat → Bool} (h : hr_row (nI v) g) : hr_row (4095 - nI v) (fun c => !g c) := by
  obtain ⟨w, hw, e, hb⟩ := h
  have e2 : v = w := (nI_eq (by omega) (by omega)).mp e
  refine ⟨4095 - v, by omega, ?_, fun c hc => ?_⟩
  · exact pk_sub (a := 4095) (by omega)
  · rw [hr_tb_not hv hc, e2, hb c hc]
theorem hr_row_cmp {x y : Int32} {g : Nat → Bool} (hx : hr_row x g) (hy : hr_row y (fun c => !g c)) : ∃ v : Nat, v < 4096 ∧ x = nI v ∧ y = 4095 - nI v := by
  obtain ⟨v, hv, rfl, hb⟩ := hx
  obtain ⟨w, hw, rfl, hc⟩ := hy
  refine ⟨v, hv, rfl, ?_⟩
  have e : w = 4095 - v := hr_tb_ext hw (by omega) (fun c h => by rw [hc c h, hr_tb_not hv h, hb c h])
  rw [e]
  exact (pk_sub (a := 4095) (by omega)).symm
theorem hr_row_turn {x : Int32} {g : Nat → Bool} (h : hr_row x g) {c : Nat} (hc : c < 12) : hr_row (x ^^^ ((1 : Int32) <<< (nI c &&& 31))) (fun k => if k = c then !g k else g k) := by
  obtain ⟨v, hv, rfl, hb⟩ := h
  have hp : 2 ^ c < 2 ^ 12 := Nat.pow_lt_pow_right (by decide) hc
  have e : (1 : Int32) <<< (nI c &&& 31) = nI (1 * 2 ^ c) := pk_shlN (n := 1) (nI c &&& 31) c (hr_sl c (by omega)) (by omega)
  refine ⟨v ^^^ 2 ^ c, Nat.xor_lt_two_pow (n := 12) hv hp, ?_, fun k hk => ?_⟩
  · rw [e, Nat.one_mul, hr_xor]
  · show _ = if k = c then !g k else g k
    rw [Nat.testBit_xor, Nat.testBit_two_pow, hb k hk]
    by_cases ek : k = c
    · rw [if_pos ek, decide_eq_true ek.symm, Bool.xor_true]
    · rw [if_neg ek, decide_eq_false (fun z => ek z.symm), Bool.xor_false]
theorem hr_row_of {v : Nat} (hv : v < 4096) : hr_row (nI v) (fun c => v.testBit c) := ⟨v, hv, rfl, fun _ _ => rfl⟩
theorem hr_and12 (y : Int32) : ∃ v : Nat, v < 4096 ∧ y &&& 4095 = nI v := by
  obtain ⟨j, hj, e⟩ := pk_andE y (m := 4095) 12 (by decide)
  exact ⟨j, hj, e⟩
theorem hr_win_eq {x y : Int32} {g h : Nat → Bool} (hx : hr_row x g) (hy : hr_row y h) {a k : Nat} (hak : a + k ≤ 12) :
    ((x >>> (nI a &&& 31)) &&& (((1 : Int32) <<< (nI k &&& 31)) - 1) = y &&& (((1 : Int32) <<< (nI k &&& 31)) - 1)) ↔ hr_ag g (fun j => h (j - a)) (a + k) ≤ a := by
  obtain ⟨v, hv, rfl, hb⟩ := hx
  obtain ⟨w, hw, rfl, hc⟩ := hy
  have hp : 2 ^ k ≤ 2 ^ 12 := Nat.pow_le_pow_right (by decide) (by omega)
  have hp0 : 0 < 2 ^ k := Nat.two_pow_pos k
  have e : (1 : Int32) <<< (nI k &&& 31) = nI (1 * 2 ^ k) := pk_shlN (n := 1) (nI k &&& 31) k (hr_sl k (by omega)) (by omega)
  have em : nI (1 * 2 ^ k) - 1 = nI (2 ^ k - 1) := by
    rw [Nat.one_mul]
    exact pk_sub (b := 1) hp0
  have hm : (nI (2 ^ k - 1)).toBitVec.toNat = 2 ^ k - 1 := pk_tn (by omega)
  have h2 : v / 2 ^ a ≤ v := Nat.div_le_self _ _
  have m1 : v / 2 ^ a % 2 ^ k < 2 ^ k := Nat.mod_lt _ hp0
  have m2 : w % 2 ^ k < 2 ^ k := Nat.mod_lt _ hp0
  rw [e, em, pk_shrN (by omega) (nI a &&& 31) a (hr_sl a (by omega)), pk_andN (by omega) k hm, pk_andN (by omega) k hm, nI_eq (by omega) (by omega), hr_ag_iff]
  have tb : ∀ t, t < k → (v / 2 ^ a % 2 ^ k).testBit t = g (a + t) ∧ (w % 2 ^ k).testBit t = h t := by
    intro t ht
    rw [Nat.testBit_mod_two_pow, Nat.testBit_mod_two_pow, Nat.testBit_div_two_pow, decide_eq_true ht, Bool.true_and, Bool.true_and, Nat.add_comm t a, hb (a + t) (by omega), hc t (by omega)]
    exact ⟨rfl, rfl⟩
  constructor
  · intro q j j1 j2
    have t := tb (j - a) (by omega)
    rw [q, show a + (j - a) = j by omega] at t
    exact t.1.symm.trans t.2
  · intro q
    apply Nat.eq_of_testBit_eq
    intro i
    rcases Nat.lt_or_ge i k with gi | gi
    · have t := tb i gi
      have qi := q (a + i) (by omega) (by omega)
      rw [show a + i - a = i by omega] at qi
      rw [t.1, t.2, qi]
    · rw [Nat.testBit_mod_two_pow, Nat.testBit_mod_two_pow, decide_eq_false (by omega), Bool.false_and, Bool.false_and]
theorem hr_b2 (a b : Bool) : (nI a.toNat = nI b.toNat) ↔ a = b := by
  cases a <;> cases b <;> decide
theorem hr_b0 (a : Bool) : (nI a.toNat = 0) ↔ a = false := by
  cases a <;> decide
/-- the state of an object against its picture: n rows f -/
def hr_R (n : Nat) (f : Nat → Nat → Bool) (a1 : Nat → Int32) : Prop := n ≤ 8 ∧ ∀ i, i < n → hr_row (a1 i) (f i)
def hr_C (n : Nat) (f : Nat → Nat → Bool) (c : Nat) (a2 a3 : Nat → Int32) : Prop := ∃ o b : Nat → Nat, hr_P n f c o b ∧ ∀ i, i < n → a2 (8 * c + i) = nI (o i) ∧ a3 (8 * c + i) = nI (b i)
def hr_B (n : Nat) (f : Nat → Nat → Bool) (a2 a3 : Nat → Int32) : Prop := ∀ c, c ≤ 12 → hr_C n f c a2 a3
def hr_ok (n : Nat) (f : Nat → Nat → Bool) (fb : Int32) (a1 a2 a3 : Nat → Int32) : Prop := hr_R n f a1 ∧ (¬ fb = 0 → hr_B n f a2 a3)
end
section
section
variable {n : Nat} {f : Nat → Nat → Bool} {fb : Int32} {a1 a2 a3 a4 a5 : Nat → Int32} {post : Int32 → Prop}
theorem hr_at (h : hr_R n f a1) {r c : Nat} (hr : r < n) (hc : c < 12) (H : post (nI (f r c).toNat)) : wpX_at post (nI n, fb, a1, a2, a3, a4, a5) (nI r) (nI c) := by
  have h8 := h.1
  unfold wpX_at
  refine ⟨pk_in r 8 (by omega), ?_⟩
  rw [nI_clamp (by omega), hr_row_at (h.2 r hr) hc]
  exact H
theorem hr_sb8 (h : hr_R n f a1) {r c : Nat} (hr : r < n) (hc : c ≤ 12) {x2 : Int32} {g : Nat → Bool} (hx : hr_row x2 g) (H : post (nI (c - hr_ag (f r) g c))) :
    ∀ k t, t + k = c → hr_ag (f r) g c ≤ k → wX_sameBack_8 post (nI r) x2 (nI n) fb a1 a2 a3 a4 a5 (k + 1) (nI t) (nI k - 1) := by
  intro k
  induction k with
  | zero =>
    intro t ht hk
    refine br_t (by decide) ?_
    rw [show c - hr_ag (f r) g c = t by omega] at H
    exact H
  | succ k ih =>
    intro t ht hk
    have hk12 : k < 12 := by omega
    rw [nI_pred]
    refine br_f (nI_pos (by omega)) (hr_at h hr hk12 ?_)
    show (nI (f r k).toNat = (x2 >>> (nI k &&& 31)) &&& 1 → _) ∧ _
    rw [hr_row_at hx hk12]
    refine ek_if (hr_b2 _ _) (fun e => ?_) (fun e => ?_)
    · refine nm_r (nI_1 t) (nm_r (hr_m1 _) (ih (t + 1) (by omega) ?_))
      rw [hr_ag_iff] at hk ⊢
      intro j j1 j2
      by_cases ej : j = k
      · rw [ej]; exact e
      · exact hk j (by omega) j2
    · have : hr_ag (f r) g c = k + 1 := hr_ag_val (by omega) (by omega) ((hr_ag_iff _ _ _ _).mp hk) e
      rw [show c - hr_ag (f r) g c = t by omega] at H
      exact H
theorem hr_sameBack (h : hr_R n f a1) {r c : Nat} (hr : r < n) (hc : c ≤ 12) {x2 : Int32} {g : Nat → Bool} (hx : hr_row x2 g) (H : post (nI (c - hr_ag (f r) g c))) : wpX_sameBack post (nI n, fb, a1, a2, a3, a4, a5) (nI r) x2 (nI c) := by
  unfold wpX_sameBack
  exact nm_e ⟨c + 1, hr_sb8 h hr hc hx H c 0 (by omega) (hr_ag_le _ _ _)⟩
theorem hr_isBefore (h : hr_R n f a1) {r c : Nat} (hr : r < n) (hc : c ≤ 12) {x2 : Int32} {g : Nat → Bool} (hx : hr_row x2 g) (H1 : hr_bf (f r) g c → post 1) (H0 : ¬ hr_bf (f r) g c → post 0) : wpX_isBefore post (nI n, fb, a1, a2, a3, a4, a5) (nI r) x2 (nI c) := by
  have hle := hr_ag_le (f r) g c
  unfold wpX_isBefore
  refine hr_sameBack h hr hc hx ?_
  refine pk_le c (c - hr_ag (f r) g c) (fun z => H0 (fun q => ?_)) (fun z => ?_)
  · have := q.1
    omega
  · have e : (nI c - 1) - nI (c - hr_ag (f r) g c) = nI (hr_ag (f r) g c - 1) := by
      have e1 : nI c - 1 = nI (c - 1) := pk_sub (b := 1) (by omega)
      rw [e1, pk_sub (by omega)]
      congr 1
      omega
    rw [e]
    refine hr_at h hr (by omega) ?_
    exact ek_if (hr_b0 _) (fun q => H1 ⟨by omega, q⟩) (fun q => H0 (fun w => q w.2))
theorem hr_noRow {r : Nat} (hn : n ≤ 8) (hr : r < 2 ^ 31) (H : post (if r < n then 0 else 1)) : wpX_noRow post (nI n, fb, a1, a2, a3, a4, a5) (nI r) := by
  unfold wpX_noRow
  refine br_f (nI_pos hr) (pk_lt r n (fun z => ?_) (fun z => ?_))
  · rw [if_pos z] at H; exact H
  · rw [if_neg (by omega)] at H; exact H
theorem hr_parts (h : hr_R n f a1) {r s c : Nat} (hr : r < n) (hs : s < n) (hc : c ≤ 12) (H1 : (c = 12 ∨ hr_A f r s (c + 1) = c + 1) → post 1) (H0 : ¬ (c = 12 ∨ hr_A f r s (c + 1) = c + 1) → post 0) : wpX_parts post (nI n, fb, a1, a2, a3, a4, a5) (nI r) (nI s) (nI c) := by
  unfold wpX_parts
  refine pk_eq c 12 (fun z => H1 (Or.inl z)) (fun z => ?_)
  refine hr_at h hr (by omega) (hr_at h hs (by omega) ?_)
  have t := hr_ag_top (f r) (f s) c
  exact ek_if (hr_b2 _ _) (fun e => H0 (fun w => w.elim z (fun w => t.mp w e))) (fun e => H1 (Or.inr (t.mpr e)))
theorem hr_place {c : Nat} {o b : Nat → Nat} (h8 : n ≤ 8) (hc : c ≤ 12) (hP : hr_P n f c o b) (hA : ∀ i, i < n → a2 (8 * c + i) = nI (o i) ∧ a3 (8 * c + i) = nI (b i)) {p : Nat} (hp : p < n) (H : post (nI p)) : wpX_placeOf post (nI n, fb, a1, a2, a3, a4, a5) (nI (o p)) (nI c) := by
  unfold wpX_placeOf
  refine pk_loop (fun m i s => wX_placeOf_5 post (nI (o p)) (nI c) (nI n) fb a1 a2 a3 a4 a5 m (nI s) (nI i)) (fun i s => p < i → s = p) n 0 0 (by omega) (fun z => absurd z (by omega)) ?_ ?_
  · intro m s hI
    refine pk_le n n (fun _ => ?_) (fun z => absurd z (by omega))
    rw [hI hp]
    exact H
  · intro m i s hi hI hw
    have e : (8 * nI c) + nI i = nI (8 * c + i) := by
      rw [← nI_add, ← pk_mul]
      rfl
    refine pk_le n i (fun z => absurd z (by omega)) (fun _ => ⟨pk_in (8 * c + i) 104 (by omega) e, ?_⟩)
    rw [e, nI_clamp (by omega), (hA i hi).1]
    have ho := hr_P_lt hP hi
    have hop := hr_P_lt hP hp
    refine pk_eq (o i) (o p) (fun z => ?_) (fun z => ?_)
    · have eip := hr_P_inj hP hi hp z
      exact nm_r (nI_1 i) (hw i (fun _ => eip))
    · refine nm_r (nI_1 i) (hw s (fun q => hI ?_))
      have : p ≠ i := fun w => z (by rw [w])
      omega
theorem hr_as57 {c : Nat} {o b : Nat → Nat} (h8 : n ≤ 8) (hc : c ≤ 12) (hP : hr_P n f c o b) (hA : ∀ i, i < n → a2 (8 * c + i) = nI (o i) ∧ a3 (8 * c + i) = nI (b i)) {p q : Nat} (hpq : p < q) (hq : q < n) (H : post (nI (hr_ag (f (o p)) (f (o q)) c))) : ∃ m, wX_agreeSince_57 post (nI c) (nI q) (nI n) fb a1 a2 a3 a4 a5 m 0 (nI (p + 1)) := by
  refine pk_loop (fun m i s => wX_agreeSince_57 post (nI c) (nI q) (nI n) fb a1 a2 a3 a4 a5 m (nI s) (nI i)) (fun i s => p < i ∧ ∀ m, s ≤ m ↔ ∀ k, p < k → k < i → b k ≤ m) (q + 1) (p + 1) 0 (by omega) ⟨by omega, fun m => ⟨fun _ k k1 k2 => absurd k1 (by omega), fun _ => Nat.zero_le m⟩⟩ ?_ ?_
  · intro m s ⟨_, hI⟩
    refine pk_lt q (q + 1) (fun _ => ?_) (fun z => absurd z (by omega))
    have e : hr_ag (f (o p)) (f (o q)) c = s := hr_eqm (fun m => (hP.2.2.1 p q hpq hq m).trans ⟨fun g => (hI m).mpr (fun k k1 k2 => g k k1 (by omega)), fun g k k1 k2 => (hI m).mp g k k1 (by omega)⟩)
    rw [e] at H
    exact H
  · intro m i s hi ⟨hip, hI⟩ hw
    have e : (8 * nI c) + nI i = nI (8 * c + i) := by
      rw [← nI_add, ← pk_mul]
      rfl
    have hs : s ≤ 12 := (hI 12).mpr (fun k k1 k2 => Nat.le_trans (hP.2.1 k (by omega)) hc)
    have hbi := hP.2.1 i (by omega)
    refine pk_lt q i (fun z => absurd z (by omega)) (fun _ => ⟨pk_in (8 * c + i) 104 (by omega) e, nm_r (e' := nI (b i)) (by rw [e, nI_clamp (by omega), (hA i (by omega)).2]) ?_⟩)
    have st : ∀ m, max (b i) s ≤ m ↔ ∀ k, p < k → k < i + 1 → b k ≤ m := by
      intro m
      constructor
      · intro g k k1 k2
        by_cases ek : k = i
        · rw [ek]; omega
        · exact (hI m).mp (by omega) k k1 (by omega)
      · intro g
        have g1 := (hI m).mpr (fun k k1 k2 => g k k1 (by omega))
        have g2 := g i hip (by omega)
        omega
    have W := hw _ ⟨by omega, st⟩
    refine pk_le (b i) s (fun z => nm_r (nI_1 i) ?_) (fun z => nm_r (nI_1 i) ?_)
    · rw [show max (b i) s = s by omega] at W
      exact W
    · rw [show max (b i) s = b i by omega] at W
      exact W
theorem hr_agree {c : Nat} (h8 : n ≤ 8) (hc : c ≤ 12) (hC : hr_C n f c a2 a3) {r s : Nat} (hr : r < n) (hs : s < n) (hrs : r ≠ s) (H : post (nI (hr_A f r s c))) : wpX_agreeSince post (nI n, fb, a1, a2, a3, a4, a5) (nI r) (nI s) (nI c) := by
  obtain ⟨o, b, hP, hA⟩ := hC
  obtain ⟨p, hp, rfl⟩ := hr_P_sur hP hr
  obtain ⟨q, hq, rfl⟩ := hr_P_sur hP hs
  have hpq : p ≠ q := fun e => hrs (by rw [e])
  unfold wpX_agreeSince
  refine hr_place h8 hc hP hA hp (hr_place h8 hc hP hA hq ?_)
  refine pk_le q p (fun z => ?_) (fun z => ?_)
  · unfold wX_agreeSince_30
    refine pk_le q p (fun _ => nm_r (nI_1 q) (hr_as57 h8 hc hP hA (by omega) hp ?_)) (fun w => absurd w (by omega))
    rw [hr_ag_comm]
    exact H
  · unfold wX_agreeSince_30
    exact pk_le q p (fun w => absurd w (by omega)) (fun _ => nm_r (nI_1 p) (hr_as57 h8 hc hP hA z hq H))
theorem hr_best {c : Nat} (h8 : n ≤ 8) (hc : c ≤ 12) (hC : hr_C n f c a2 a3) {r : Nat} (hr : r < n) (H : post (nI (hr_bs (hr_A f) n r c))) : wpX_bestSince post (nI n, fb, a1, a2, a3, a4, a5) (nI r) (nI c) := by
  obtain ⟨o, b, hP, hA⟩ := hC
  obtain ⟨p, hp, rfl⟩ := hr_P_sur hP hr
  rw [← hr_bs_eq hP hp rfl] at H
  have hb := hP.2.1 p hp
  have two : ∀ up, up ≤ 12 → post (nI (min up (if p + 1 < n then b (p + 1) else c))) → wX_bestSince_26 post (nI c) (nI p) (nI up) (nI n) fb a1 a2 a3 a4 a5 := by
    intro up hup H
    have fin : ∀ dn, dn ≤ 12 → post (nI (min up dn)) → wX_bestSince_55 post (nI up) (nI dn) (nI n) fb a1 a2 a3 a4 a5 := by
      intro dn hdn H
      unfold wX_bestSince_55
      refine pk_le dn up (fun z => ?_) (fun z => ?_)
      · rw [show min up dn = dn by omega] at H
        exact H
      · rw [show min up dn = up by omega] at H
        exact H
    unfold wX_bestSince_26
    refine pk_le n (p + 1) (fun z => ?_) (fun z => ?_) rfl (nI_1 p)
    · rw [if_neg (by omega)] at H
      exact fin c hc H
    · rw [if_pos z] at H
      have e : ((8 * nI c) + nI p) + 1 = nI (8 * c + (p + 1)) := by
        rw [← Nat.add_assoc, ← nI_1, ← nI_add, ← pk_mul]
        rfl
      have hb2 := hP.2.1 (p + 1) z
      refine ⟨pk_in (8 * c + (p + 1)) 104 (by omega) e, ?_⟩
      rw [e, nI_clamp (by omega), (hA (p + 1) z).2]
      exact fin (b (p + 1)) (by omega) H
  unfold wpX_bestSince
  refine hr_place h8 hc hP hA hp ?_
  refine pk_le p 0 (fun z => ?_) (fun z => ?_)
  · rw [if_neg (by omega)] at H
    exact two c hc H
  · rw [if_pos z] at H
    have e : (8 * nI c) + nI p = nI (8 * c + p) := by
      rw [← nI_add, ← pk_mul]
      rfl
    refine ⟨pk_in (8 * c + p) 104 (by omega) e, ?_⟩
    rw [e, nI_clamp (by omega), (hA p hp).2]
    exact two (b p) (by omega) H
end
end
section
section
variable {n : Nat} {f : Nat → Nat → Bool} {fb : Int32} {a1 a2 a3 a4 a5 : Nat → Int32} {post : St1 → Prop}
theorem hr_166 {cn : Int32} {T z m : Nat} (hzm : z + m ≤ 8) (hT : T + 8 ≤ 104) (H : ∀ a2' a3' : Nat → Int32, (∀ j, j < m → a2' (T + z + j) = a4 j ∧ a3' (T + z + j) = a5 j) → (∀ k, k < T + z → a2' k = a2 k ∧ a3' k = a3 k) → post (cn, fb, a1, a2', a3', a4, a5)) : ∃ k, wX_part_166 post (nI T) (nI z) (nI m) cn fb k 0 a1 a2 a3 a4 a5 := by
  refine pk_loop (fun k i (s : (Nat → Int32) × (Nat → Int32)) => wX_part_166 post (nI T) (nI z) (nI m) cn fb k (nI i) a1 s.1 s.2 a4 a5) (fun i s => (∀ j, j < i → s.1 (T + z + j) = a4 j ∧ s.2 (T + z + j) = a5 j) ∧ (∀ k, k < T + z → s.1 k = a2 k ∧ s.2 k = a3 k)) m 0 (a2, a3) (by omega) ⟨fun j hj => absurd hj (by omega), fun k _ => ⟨rfl, rfl⟩⟩ ?_ ?_
  · intro k s hI
    exact pk_le m m (fun _ => H s.1 s.2 hI.1 hI.2) (fun z => absurd z (by omega))
  · intro k i s hi hI hw
    have e : (nI T + nI z) + nI i = nI (T + z + i) := by rw [nI_add, nI_add]
    refine pk_le m i (fun z => absurd z (by omega)) (fun _ => ⟨pk_in i 8 (by omega), pk_in (T + z + i) 104 (by omega) e, nm_e ⟨pk_in i 8 (by omega), pk_in (T + z + i) 104 (by omega) e, nm_e (nm_r (nI_1 i) ?_)⟩⟩)
    rw [e, nI_clamp (show T + z + i < 2 ^ 31 by omega), nI_clamp (show i < 2 ^ 31 by omega)]
    refine hw (upd s.1 (T + z + i) (a4 i), upd s.2 (T + z + i) (a5 i)) ⟨fun j hj => ?_, fun k hk => ?_⟩
    · by_cases ej : j = i
      · rw [ej]
        exact ⟨pk_us, pk_us⟩
      · have t := hI.1 j (by omega)
        exact ⟨(pk_un (by omega)).trans t.1, (pk_un (by omega)).trans t.2⟩
    · have t := hI.2 k hk
      exact ⟨(pk_un (by omega)).trans t.1, (pk_un (by omega)).trans t.2⟩
theorem hr_p90 {J : Int32 → Int32 → Int32 → Int32 → Int32 → (Nat → Int32) → (Nat → Int32) → (Nat → Int32) → (Nat → Int32) → (Nat → Int32) → Prop} (h : hr_R n f a1) {r c T z m s0 s1 i : Nat} {x2 : Int32} (hr : r < n) (hc : c < 12) (hz : z < 8) (hm : m < 8) (hT : T + 8 ≤ 104)
    (H0 : f r c = false → J (nI (z + 1)) (nI m) 0 (nI s1) (nI (i + 1)) a1 (upd a2 (T + z) (nI r)) (upd a3 (T + z) (nI s0)) a4 a5)
    (H1 : f r c = true → J (nI z) (nI (m + 1)) (nI s0) 0 (nI (i + 1)) a1 a2 a3 (upd a4 m (nI r)) (upd a5 m (nI s1))) :
    wX_part_90 post J (nI c) x2 (nI T) (nI z) (nI m) (nI s0) (nI i) (nI r) (nI s1) (nI n) fb a1 a2 a3 a4 a5 := by
  unfold wX_part_90
  refine hr_at h hr hc ?_
  refine ek_if (hr_b0 _) (fun q => ?_) (fun q => ?_)
  · have e : nI T + nI z = nI (T + z) := nI_add _ _
    refine ⟨pk_in (T + z) 104 (by omega) e, nm_e ⟨pk_in (T + z) 104 (by omega) e, nm_e (nm_r (nI_1 z) (nm_r (nI_1 i) ?_))⟩⟩
    rw [e, nI_clamp (show T + z < 2 ^ 31 by omega)]
    exact H0 q
  · refine ⟨pk_in m 8 hm, nm_e ⟨pk_in m 8 hm, nm_e (nm_r (nI_1 m) (nm_r (nI_1 i) ?_))⟩⟩
    rw [nI_clamp (show m < 2 ^ 31 by omega)]
    exact H1 (by cases g : f r c with | false => exact absurd g q | true => rfl)
theorem hr_C_ext {c : Nat} {a2' a3' : Nat → Int32} (h8 : n ≤ 8) (h : hr_C n f c a2 a3) (he : ∀ k, k < 8 * c + 8 → a2' k = a2 k ∧ a3' k = a3 k) : hr_C n f c a2' a3' := by
  obtain ⟨o, b, hP, hA⟩ := h
  refine ⟨o, b, hP, fun i hi => ?_⟩
  have t := he (8 * c + i) (by omega)
  rw [t.1, t.2]
  exact hA i hi
def hr_I29 (n : Nat) (f : Nat → Nat → Bool) (c : Nat) (o b : Nat → Nat) (A2 A3 : Nat → Int32) (i z m s0 s1 : Nat) (a2 a3 a4 a5 : Nat → Int32) : Prop :=
  ∃ u v u' v' : Nat → Nat, hr_Side n f c i o b z u v s0 false ∧ hr_Side n f c i o b m u' v' s1 true ∧ z + m = i ∧
  (∀ a, ((List.range z).map u).count a + ((List.range m).map u').count a + (((List.range n).map o).drop i).count a = (List.range n).count a) ∧
  (∀ p, p < z → a2 (8 * c + 8 + p) = nI (u p) ∧ a3 (8 * c + 8 + p) = nI (v p)) ∧ (∀ p, p < m → a4 p = nI (u' p) ∧ a5 p = nI (v' p)) ∧
  (∀ k, k < 8 * c + 8 → a2 k = A2 k ∧ a3 k = A3 k)
theorem hr_I29_z {c : Nat} {o b : Nat → Nat} {A2 A3 : Nat → Int32} {i z m s0 s1 : Nat} (hP : hr_P n f c o b) (hi : i < n) (hf : f (o i) c = false) (h : hr_I29 n f c o b A2 A3 i z m s0 s1 a2 a3 a4 a5) :
    hr_I29 n f c o b A2 A3 (i + 1) (z + 1) m 0 (max (b i) s1) (upd a2 (8 * c + 8 + z) (nI (o i))) (upd a3 (8 * c + 8 + z) (nI (max (b i) s0))) a4 a5 := by
  obtain ⟨u, v, u', v', h1, h2, h3, h4, h5, h6, h7⟩ := h
  refine ⟨hr_up u z (o i), hr_up v z (max (b i) s0), u', v', hr_side_add hP hi hf h1, hr_side_skip hP hi h2, by omega, fun a => ?_, fun p hp => ?_, h6, fun k hk => ?_⟩
  · have t := h4 a
    rw [hr_drop n o hi] at t
    rw [hr_count_up]
    rw [show o i :: ((List.range n).map o).drop (i + 1) = [o i] ++ ((List.range n).map o).drop (i + 1) from rfl, List.count_append] at t
    omega
  · by_cases e : p = z
    · rw [e, hr_up_s, hr_up_s]
      exact ⟨pk_us, pk_us⟩
    · rw [hr_up_n e, hr_up_n e]
      have t := h5 p (by omega)
      exact ⟨(pk_un (by omega)).trans t.1, (pk_un (by omega)).trans t.2⟩
  · have t := h7 k hk
    exact ⟨(pk_un (by omega)).trans t.1, (pk_un (by omega)).trans t.2⟩
theorem hr_I29_o {c : Nat} {o b : Nat → Nat} {A2 A3 : Nat → Int32} {i z m s0 s1 : Nat} (hP : hr_P n f c o b) (hi : i < n) (hf : f (o i) c = true) (h : hr_I29 n f c o b A2 A3 i z m s0 s1 a2 a3 a4 a5) :
    hr_I29 n f c o b A2 A3 (i + 1) z (m + 1) (max (b i) s0) 0 a2 a3 (upd a4 m (nI (o i))) (upd a5 m (nI (max (b i) s1))) := by
  obtain ⟨u, v, u', v', h1, h2, h3, h4, h5, h6, h7⟩ := h
  refine ⟨u, v, hr_up u' m (o i), hr_up v' m (max (b i) s1), hr_side_skip hP hi h1, hr_side_add hP hi hf h2, by omega, fun a => ?_, h5, fun p hp => ?_, h7⟩
  · have t := h4 a
    rw [hr_drop n o hi] at t
    rw [hr_count_up]
    rw [show o i :: ((List.range n).map o).drop (i + 1) = [o i] ++ ((List.range n).map o).drop (i + 1) from rfl, List.count_append] at t
    omega
  · by_cases e : p = m
    · rw [e, hr_up_s, hr_up_s]
      exact ⟨pk_us, pk_us⟩
    · rw [hr_up_n e, hr_up_n e]
      have t := h6 p (by omega)
      exact ⟨(pk_un e).trans t.1, (pk_un e).trans t.2⟩
theorem hr_part {c : Nat} (h : hr_R n f a1) (hc : c < 12) (hC : hr_C n f c a2 a3) (H : ∀ a2' a3' a4' a5' : Nat → Int32, hr_C n f (c + 1) a2' a3' → (∀ k, k < 8 * c + 8 → a2' k = a2 k ∧ a3' k = a3 k) → post (nI n, fb, a1, a2', a3', a4', a5')) : wpX_part post (nI n, fb, a1, a2, a3, a4, a5) (nI c) := by
  obtain ⟨o, b, hP, hA⟩ := hC
  have h8 := h.1
  unfold wpX_part
  refine nm_r (e' := nI (8 * c)) (by rw [← pk_mul]; rfl) (nm_r (e' := nI (8 * c + 8)) (by rw [← nI_add]; rfl) (nm_r (nI_1 c) (nm_r (nI_1 c) ?_)))
  refine pk_loop (fun k i (s : Nat × Nat × Nat × Nat × (Nat → Int32) × (Nat → Int32) × (Nat → Int32) × (Nat → Int32)) => wX_part_29 post (nI c) (nI (8 * c)) (nI (8 * c + 8)) (nI n) fb k (nI s.1) (nI s.2.1) (nI s.2.2.1) (nI s.2.2.2.1) (nI i) a1 s.2.2.2.2.1 s.2.2.2.2.2.1 s.2.2.2.2.2.2.1 s.2.2.2.2.2.2.2)
    (fun i s => hr_I29 n f c o b a2 a3 i s.1 s.2.1 s.2.2.1 s.2.2.2.1 s.2.2.2.2.1 s.2.2.2.2.2.1 s.2.2.2.2.2.2.1 s.2.2.2.2.2.2.2) n 0 (0, 0, c + 1, c + 1, a2, a3, a4, a5) (by omega) ?_ ?_ ?_
  · refine ⟨fun _ => 0, fun _ => 0, fun _ => 0, fun _ => 0, hr_side_0, hr_side_0, rfl, fun a => ?_, fun p hp => absurd hp (Nat.not_lt_zero p), fun p hp => absurd hp (Nat.not_lt_zero p), fun k _ => ⟨rfl, rfl⟩⟩
    have t := hP.1.count_eq a
    rw [List.drop_zero, t]
    show 0 + 0 + _ = _
    omega
  · intro k ⟨z, m, s0, s1, b2, b3, b4, b5⟩ hI
    obtain ⟨u, v, u', v', h1, h2, h3, h4, h5, h6, h7⟩ := hI
    dsimp only at h1 h2 h3 h4 h5 h6 h7 ⊢
    refine pk_le n n (fun _ => hr_166 (by omega) (by omega) (fun c2 c3 g1 g2 => ?_)) (fun z => absurd z (by omega))
    refine H c2 c3 b4 b5 ⟨hr_cat z u u', hr_cat z v v', hr_join h3 h1 h2 (fun a => ?_), fun i hi => ?_⟩ (fun k hk => ?_)
    · have t := h4 a
      rw [hr_drop_n] at t
      exact t
    · rw [show 8 * (c + 1) + i = 8 * c + 8 + i by omega]
      by_cases e : i < z
      · rw [hr_cat_l e, hr_cat_l e, (g2 (8 * c + 8 + i) (by omega)).1, (g2 (8 * c + 8 + i) (by omega)).2]
        exact h5 i e
      · rw [hr_cat_r (by omega), hr_cat_r (by omega)]
        have t := g1 (i - z) (by omega)
        rw [show 8 * c + 8 + z + (i - z) = 8 * c + 8 + i by omega] at t
        rw [t.1, t.2]
        exact h6 (i - z) (by omega)
    · have t1 := g2 k (by omega)
      have t2 := h7 k hk
      exact ⟨t1.1.trans t2.1, t1.2.trans t2.2⟩
  · intro k i ⟨z, m, s0, s1, b2, b3, b4, b5⟩ hi hI hw
    have W0 := fun hf => hw (z + 1, m, 0, max (b i) s1, _, _, b4, b5) (hr_I29_z hP hi hf hI)
    have W1 := fun hf => hw (z, m + 1, max (b i) s0, 0, b2, b3, _, _) (hr_I29_o hP hi hf hI)
    obtain ⟨u, v, u', v', h1, h2, h3, h4, h5, h6, h7⟩ := hI
    dsimp only at h1 h2 h3 h4 h5 h6 h7 W0 W1 ⊢
    have ho := hr_P_lt hP hi
    have hb := hP.2.1 i hi
    have hs0 := h1.2.2.2.1
    have hs1 := h2.2.2.2.1
    have e : nI (8 * c) + nI i = nI (8 * c + i) := nI_add _ _
    have r2 : b2 (nI (8 * c) + nI i).toNatClampNeg = nI (o i) := by
      rw [e, nI_clamp (by omega), (h7 (8 * c + i) (by omega)).1, (hA i hi).1]
    have r3 : b3 (nI (8 * c) + nI i).toNatClampNeg = nI (b i) := by
      rw [e, nI_clamp (by omega), (h7 (8 * c + i) (by omega)).2, (hA i hi).2]
    refine pk_le n i (fun z => absurd z (by omega)) (fun _ => ⟨pk_in (8 * c + i) 104 (by omega) e, nm_r r2 ⟨pk_in (8 * c + i) 104 (by omega) e, nm_r r3 ?_⟩⟩)
    have K90 : wX_part_90 post (wX_part_29 post (nI c) (nI (8 * c)) (nI (8 * c + 8)) (nI n) fb k) (nI c) (nI (8 * c)) (nI (8 * c + 8)) (nI z) (nI m) (nI (max (b i) s0)) (nI i) (nI (o i)) (nI (max (b i) s1)) (nI n) fb a1 b2 b3 b4 b5 :=
      hr_p90 h ho hc (by omega) (by omega) (by omega) W0 W1
    have K74 : wX_part_74 post (wX_part_29 post (nI c) (nI (8 * c)) (nI (8 * c + 8)) (nI n) fb k) (nI c) (nI (8 * c)) (nI (8 * c + 8)) (nI z) (nI m) (nI s1) (nI i) (nI (o i)) (nI (b i)) (nI (max (b i) s0)) (nI n) fb a1 b2 b3 b4 b5 := by
      unfold wX_part_74
      refine pk_le (b i) s1 (fun q => ?_) (fun q => ?_)
      · rw [show max (b i) s1 = s1 by omega] at K90
        exact K90
      · rw [show max (b i) s1 = b i by omega] at K90
        exact K90
    refine pk_le (b i) s0 (fun q => ?_) (fun q => ?_)
    · rw [show max (b i) s0 = s0 by omega] at K74
      exact K74
    · rw [show max (b i) s0 = b i by omega] at K74
      exact K74
theorem hr_b40 (h : hr_R n f a1) (hC : hr_C n f 0 a2 a3) (H : ∀ fb' a2' a3' a4' a5', ¬ fb' = 0 → hr_B n f a2' a3' → post (nI n, fb', a1, a2', a3', a4', a5')) : ∃ k, wX_build_40 post k 0 (nI n) fb a1 a2 a3 a4 a5 := by
  have h8 := h.1
  refine pk_loop (fun k i (s : (Nat → Int32) × (Nat → Int32) × (Nat → Int32) × (Nat → Int32)) => wX_build_40 post k (nI i) (nI n) fb a1 s.1 s.2.1 s.2.2.1 s.2.2.2) (fun i s => ∀ c, c ≤ i → hr_C n f c s.1 s.2.1) 12 0 (a2, a3, a4, a5) (by omega) ?_ ?_ ?_
  · intro c hc
    rw [show c = 0 by omega]
    exact hC
  · intro k s hI
    exact pk_le 12 12 (fun _ => H 1 s.1 s.2.1 s.2.2.1 s.2.2.2 (by decide) hI) (fun z => absurd z (by omega))
  · intro k i s hi hI hw
    refine pk_le 12 i (fun z => absurd z (by omega)) (fun _ => hr_part h hi (hI i (Nat.le_refl i)) (fun c2 c3 c4 c5 g1 g2 => ?_))
    refine nm_r (nI_1 i) (hw (c2, c3, c4, c5) (fun c hc => ?_))
    by_cases e : c = i + 1
    · rw [e]; exact g1
    · exact hr_C_ext h8 (hI c (by omega)) (fun k hk => g2 k (by omega))
theorem hr_build (h : hr_ok n f fb a1 a2 a3) (H : ∀ fb' a2' a3' a4' a5', ¬ fb' = 0 → hr_B n f a2' a3' → post (nI n, fb', a1, a2', a3', a4', a5')) : wpX_build post (nI n, fb, a1, a2, a3, a4, a5) := by
  have h8 := h.1.1
  unfold wpX_build
  refine br_c (fun _ => ?_) (fun z => H fb a2 a3 a4 a5 z (h.2 z))
  refine pk_loop (fun k i (s : (Nat → Int32) × (Nat → Int32)) => wX_build_10 post (nI n) fb k (nI i) a1 s.1 s.2 a4 a5) (fun i s => ∀ j, j < i → s.1 j = nI j ∧ s.2 j = nI 0) n 0 (a2, a3) (by omega) (fun j hj => absurd hj (by omega)) ?_ ?_
  · intro k s hI
    refine pk_le n n (fun _ => hr_b40 h.1 ⟨fun i => i, fun _ => 0, hr_P_0 n f, fun i hi => ?_⟩ H) (fun z => absurd z (by omega))
    rw [show 8 * 0 + i = i by omega]
    exact hI i hi
  · intro k i s hi hI hw
    refine pk_le n i (fun z => absurd z (by omega)) (fun _ => ⟨pk_in i 104 (by omega), nm_e ⟨pk_in i 104 (by omega), nm_e (nm_r (nI_1 i) ?_)⟩⟩)
    rw [nI_clamp (show i < 2 ^ 31 by omega)]
    refine hw (upd s.1 i (nI i), upd s.2 i 0) (fun j hj => ?_)
    by_cases e : j = i
    · rw [e]
      exact ⟨pk_us, pk_us⟩
    · have t := hI j (by omega)
      exact ⟨(pk_un e).trans t.1, (pk_un e).trans t.2⟩
end
end
section
section
variable {n : Nat} {f : Nat → Nat → Bool} {fb : Int32} {a1 a2 a3 a4 a5 : Nat → Int32}
theorem hr_ix (c i : Nat) : (8 * nI c) + nI i = nI (8 * c + i) := by
  rw [← nI_add, ← pk_mul]
  rfl
theorem hr_lg_le (A : Nat → Nat → Nat → Nat) (r s i : Nat) : hr_max (fun t => t + 1 - A r s (t + 1)) i ≤ i := by
  rw [hr_max_le]
  intro t ht
  omega
theorem hr_lgL {post : Int32 → St1 → Prop} (h8 : n ≤ 8) (hB : hr_B n f a2 a3) {r s : Nat} (hr : r < n) (hs : s < n) (hrs : r ≠ s) (H : post (nI (hr_lg (hr_A f) r s)) (nI n, fb, a1, a2, a3, a4, a5)) : ∃ k, wX_longest_33 post (nI r) (nI s) (nI n) fb a1 a2 a3 a4 a5 k 0 1 := by
  refine pk_loop (fun k i v => wX_longest_33 post (nI r) (nI s) (nI n) fb a1 a2 a3 a4 a5 k (nI v) (nI (i + 1))) (fun i v => v = hr_max (fun t => t + 1 - hr_A f r s (t + 1)) i) 12 0 0 (by omega) rfl ?_ ?_
  · intro k v hI
    refine pk_lt 12 13 (fun _ => ?_) (fun z => absurd z (by omega))
    rw [hI]
    exact H
  · intro k i v hi hI hw
    have hle := hr_ag_le (f r) (f s) (i + 1)
    have hv := hr_lg_le (hr_A f) r s i
    rw [← hI] at hv
    refine pk_lt 12 (i + 1) (fun z => absurd z (by omega)) (fun _ => hr_agree h8 (by omega) (hB (i + 1) (by omega)) hr hs hrs ?_)
    have W := hw (max v (i + 1 - hr_A f r s (i + 1))) (by rw [hI]; rfl)
    have e : nI (i + 1) - nI (hr_A f r s (i + 1)) = nI (i + 1 - hr_A f r s (i + 1)) := pk_sub hle
    refine pk_le (i + 1 - hr_A f r s (i + 1)) v (fun z => nm_r (nI_1 _) ?_) (fun z => nm_r e (nm_r (nI_1 _) ?_)) e
    · rw [show max v (i + 1 - hr_A f r s (i + 1)) = v by omega] at W
      exact W
    · rw [show max v (i + 1 - hr_A f r s (i + 1)) = i + 1 - hr_A f r s (i + 1) by omega] at W
      exact W
def hr_lgV (A : Nat → Nat → Nat → Nat) (n r s : Nat) : Int32 := if r < n ∧ s < n ∧ r ≠ s then nI (hr_lg A r s) else -4
theorem hr_longest {post : Int32 → St1 → Prop} (h : hr_ok n f fb a1 a2 a3) {r s : Nat} (hr : r < 2 ^ 31) (hs : s < 2 ^ 31) (H : ∀ fb' a2' a3' a4' a5', hr_ok n f fb' a1 a2' a3' → post (hr_lgV (hr_A f) n r s) (nI n, fb', a1, a2', a3', a4', a5')) : wpX_longest post (nI n, fb, a1, a2, a3, a4, a5) (nI r) (nI s) := by
  have h8 := h.1.1
  unfold hr_lgV at H
  unfold wpX_longest
  refine hr_noRow h8 hr ?_
  by_cases e1 : r < n
  · rw [if_pos e1]
    refine br_t rfl (hr_noRow h8 hs ?_)
    by_cases e2 : s < n
    · rw [if_pos e2]
      refine br_t rfl (pk_eq r s (fun z => ?_) (fun z => ?_))
      · rw [if_neg (fun w => w.2.2 z)] at H
        exact H _ _ _ _ _ h
      · rw [if_pos ⟨e1, e2, z⟩] at H
        exact hr_build h (fun fb' a2' a3' a4' a5' hf hB => hr_lgL h8 hB e1 e2 z (H fb' a2' a3' a4' a5' ⟨h.1, fun _ => hB⟩))
    · rw [if_neg e2]
      rw [if_neg (fun w => e2 w.2.1)] at H
      exact br_f (by decide) (H _ _ _ _ _ h)
  · rw [if_neg e1]
    rw [if_neg (fun w => e1 w.1)] at H
    exact br_f (by decide) (H _ _ _ _ _ h)
theorem hr_bs_le (A : Nat → Nat → Nat → Nat) (n r c : Nat) : hr_bs A n r c ≤ c := ((hr_min_ge c _ n _).mp (Nat.le_refl _)).1
theorem hr_wb23 {post : Int32 → Prop} (hR : hr_R n f a1) {c : Nat} (hc : c ≤ 12) (hC : hr_C n f c a2 a3) {r : Nat} (hr : r < n) (H : post (nI (if hr_or (hr_wo (hr_A f) n r c) n = true then 0 else hr_sum (hr_wn (hr_A f) n r c) n))) : ∃ k, wX_winsBefore_23 post (nI r) (nI c) (nI (hr_bs (hr_A f) n r c)) (nI n) fb a1 a2 a3 a4 a5 k 0 0 0 := by
  have h8 := hR.1
  have hbs := hr_bs_le (hr_A f) n r c
  refine pk_loop (σ := Unit) (fun k i _ => wX_winsBefore_23 post (nI r) (nI c) (nI (hr_bs (hr_A f) n r c)) (nI n) fb a1 a2 a3 a4 a5 k (nI (hr_sum (hr_wn (hr_A f) n r c) i)) (nI (hr_or (hr_wo (hr_A f) n r c) i).toNat) (nI i)) (fun _ _ => True) n 0 () (by omega) trivial ?_ ?_
  · intro k _ _
    refine pk_le n n (fun _ => ek_if (hr_b0 _) (fun q => ?_) (fun q => ?_)) (fun z => absurd z (by omega))
    · rw [q, if_neg (by decide)] at H
      exact H
    · rw [if_pos (by cases g : hr_or (hr_wo (hr_A f) n r c) n with | false => exact absurd g q | true => rfl)] at H
      exact H
  · intro k i _ hi _ hw
    have W := hw () trivial
    have s1 : hr_sum (hr_wn (hr_A f) n r c) (i + 1) = hr_sum (hr_wn (hr_A f) n r c) i + hr_wn (hr_A f) n r c i := rfl
    have s2 : hr_or (hr_wo (hr_A f) n r c) (i + 1) = (hr_or (hr_wo (hr_A f) n r c) i || hr_wo (hr_A f) n r c i) := rfl
    have hA := hr_ag_le (f r) (f i) c
    refine pk_le n i (fun z => absurd z (by omega)) (fun _ => pk_eq i r (fun z => nm_r (nI_1 i) ?_) (fun z => hr_agree h8 hc hC hr hi (fun w => z w.symm) ?_))
    · have t1 : hr_wn (hr_A f) n r c i = 0 := if_neg (fun w => w.1 z)
      have t2 : hr_wo (hr_A f) n r c i = false := decide_eq_false (fun w => w.1 z)
      rw [s1, s2, t1, t2, Bool.or_false, Nat.add_zero] at W
      exact W
    · refine pk_eq (hr_A f r i c) (hr_bs (hr_A f) n r c) (fun q => nm_r (nI_1 _) (hr_parts hR hr hi hc (fun p => ?_) (fun p => ?_))) (fun q => nm_r (nI_1 i) ?_) rfl rfl (Nat.lt_of_le_of_lt hA (by omega))
      · have t1 : hr_wn (hr_A f) n r c i = 1 := if_pos ⟨z, q⟩
        have t2 : hr_wo (hr_A f) n r c i = false := decide_eq_false (fun w => w.2.2 p)
        rw [s1, s2, t1, t2, Bool.or_false] at W
        refine ek_if (hr_b0 _) (fun g => br_f (by decide) (nm_r (nI_1 i) ?_)) (fun g => nm_r (nI_1 i) ?_)
        · rw [g] at W
          exact W
        · rw [show hr_or (hr_wo (hr_A f) n r c) i = true by cases g2 : hr_or (hr_wo (hr_A f) n r c) i with | false => exact absurd g2 g | true => rfl] at W
          exact W
      · have t1 : hr_wn (hr_A f) n r c i = 1 := if_pos ⟨z, q⟩
        have t2 : hr_wo (hr_A f) n r c i = true := decide_eq_true ⟨z, q, p⟩
        rw [s1, s2, t1, t2, Bool.or_true] at W
        exact ek_if (hr_b0 _) (fun g => br_t rfl (nm_r (nI_1 i) W)) (fun g => nm_r (nI_1 i) W)
      · have t1 : hr_wn (hr_A f) n r c i = 0 := if_neg (fun w => q w.2)
        have t2 : hr_wo (hr_A f) n r c i = false := decide_eq_false (fun w => q w.2.1)
        rw [s1, s2, t1, t2, Bool.or_false, Nat.add_zero] at W
        exact W
theorem hr_wins {post : Int32 → Prop} (hR : hr_R n f a1) {c : Nat} (hc : c ≤ 12) (hC : hr_C n f c a2 a3) {r : Nat} (hr : r < n) (H : post (nI (hr_wb (hr_A f) n r c))) : wpX_winsBefore post (nI n, fb, a1, a2, a3, a4, a5) (nI r) (nI c) := by
  have hbs := hr_bs_le (hr_A f) n r c
  unfold hr_wb at H
  unfold wpX_winsBefore
  refine hr_best hR.1 hc hC hr (pk_eq (hr_bs (hr_A f) n r c) c (fun z => ?_) (fun z => ?_))
  · rw [if_pos z] at H
    exact H
  · rw [if_neg z] at H
    exact hr_wb23 hR hc hC hr H
def hr_winV (A : Nat → Nat → Nat → Nat) (n r : Nat) : Int32 := if r < n then nI (hr_win A n r) else -4
theorem hr_winning {post : Int32 → St1 → Prop} (h : hr_ok n f fb a1 a2 a3) {r : Nat} (hr : r < 2 ^ 31) (H : ∀ fb' a2' a3' a4' a5', hr_ok n f fb' a1 a2' a3' → post (hr_winV (hr_A f) n r) (nI n, fb', a1, a2', a3', a4', a5')) : wpX_winning post (nI n, fb, a1, a2, a3, a4, a5) (nI r) := by
  have h8 := h.1.1
  unfold hr_winV at H
  unfold wpX_winning
  refine hr_noRow h8 hr ?_
  by_cases e1 : r < n
  · rw [if_pos e1]
    rw [if_pos e1] at H
    refine br_t rfl (hr_build h (fun fb' a2' a3' a4' a5' hf hB => ?_))
    refine pk_loop (fun k i v => wX_winning_19 post (nI r) (nI n) fb' a1 a2' a3' a4' a5' k (nI v) (nI (i + 1))) (fun i v => v = hr_sum (fun t => hr_wb (hr_A f) n r (t + 1)) i) 12 0 0 (by omega) rfl ?_ ?_
    · intro k v hI
      refine pk_lt 12 13 (fun _ => ?_) (fun z => absurd z (by omega))
      rw [hI]
      exact H fb' a2' a3' a4' a5' ⟨h.1, fun _ => hB⟩
    · intro k i v hi hI hw
      refine pk_lt 12 (i + 1) (fun z => absurd z (by omega)) (fun _ => hr_wins h.1 (by omega) (hB (i + 1) (by omega)) e1 ?_)
      exact nm_r (nI_add _ _) (nm_r (nI_1 _) (hw _ (by rw [hI]; rfl)))
  · rw [if_neg e1]
    rw [if_neg e1] at H
    exact br_f (by decide) (H _ _ _ _ _ h)
theorem hr_c64 {post : Int32 → St1 → Prop} {J19 J33 : Int32 → Int32 → Prop} {x1 x2 x3 : Int32} {v z c : Nat} {cn : Int32} (hv : v < 2 ^ 31) (hz : z < 2 ^ 31) (H : J33 (nI (max v z)) (nI (c + 1))) : wX_cover_64 post J19 J33 x1 x2 x3 (nI v) (nI c) (nI z) cn fb a1 a2 a3 a4 a5 := by
  unfold wX_cover_64
  refine pk_le z v (fun q => nm_r (nI_1 c) ?_) (fun q => nm_r (nI_1 c) ?_)
  · rw [show max v z = v by omega] at H
    exact H
  · rw [show max v z = z by omega] at H
    exact H
theorem hr_cl_le (A : Nat → Nat → Nat → Nat) (n r w i : Nat) : hr_max (hr_cl A n r w) i ≤ w + 1 + i := by
  rw [hr_max_le]
  intro t ht
  unfold hr_cl
  by_cases e : hr_bs A n r (w + 1 + t) ≤ w
  · rw [if_pos e]; omega
  · rw [if_neg e]; omega
theorem hr_c33 {post : Int32 → St1 → Prop} {J : Int32 → Int32 → Prop} (hR : hr_R n f a1) (hB : hr_B n f a2 a3) {r w S : Nat} (hr : r < n) (hw12 : w < 12) (H : J (nI (S + hr_max (hr_cl (hr_A f) n r w) (12 - w))) (nI (w + 1))) : ∃ k, wX_cover_33 post J (nI r) (nI S) (nI w) (nI n) fb a1 a2 a3 a4 a5 k 0 (nI (w + 1)) := by
  refine pk_loop (fun k i v => wX_cover_33 post J (nI r) (nI S) (nI w) (nI n) fb a1 a2 a3 a4 a5 k (nI v) (nI (w + 1 + i))) (fun i v => v = hr_max (hr_cl (hr_A f) n r w) i) (12 - w) 0 0 (by omega) rfl ?_ ?_
  · intro k v hI
    refine pk_lt 12 (w + 1 + (12 - w)) (fun _ => nm_r (nI_add _ _) (nm_r (nI_1 w) ?_)) (fun z => absurd z (by omega))
    rw [hI]
    exact H
  · intro k i v hi hI hw
    have hbs := hr_bs_le (hr_A f) n r (w + 1 + i)
    have hv := hr_cl_le (hr_A f) n r w i
    rw [← hI] at hv
    refine pk_lt 12 (w + 1 + i) (fun z => absurd z (by omega)) (fun _ => hr_best hR.1 (by omega) (hB (w + 1 + i) (by omega)) hr ?_)
    have W := hw (max v (hr_cl (hr_A f) n r w i)) (by rw [hI]; rfl)
    refine pk_lt w (hr_bs (hr_A f) n r (w + 1 + i)) (fun z => ?_) (fun z => ?_)
    · have e : hr_cl (hr_A f) n r w i = 0 := if_neg (by omega)
      rw [e] at W
      exact hr_c64 (z := 0) (by omega) (by decide) W
    · have e : hr_cl (hr_A f) n r w i = w + 1 + i - hr_bs (hr_A f) n r (w + 1 + i) := if_pos z
      rw [e] at W
      rw [pk_sub hbs]
      exact hr_c64 (by omega) (by omega) W
def hr_covV (A : Nat → Nat → Nat → Nat) (n r : Nat) : Int32 := if r < n then nI (hr_cov A n r) else -4
theorem hr_cover {post : Int32 → St1 → Prop} (h : hr_ok n f fb a1 a2 a3) {r : Nat} (hr : r < 2 ^ 31) (H : ∀ fb' a2' a3' a4' a5', hr_ok n f fb' a1 a2' a3' → post (hr_covV (hr_A f) n r) (nI n, fb', a1, a2', a3', a4', a5')) : wpX_cover post (nI n, fb, a1, a2, a3, a4, a5) (nI r) := by
  have h8 := h.1.1
  unfold hr_covV at H
  unfold wpX_cover
  refine hr_noRow h8 hr ?_
  by_cases e1 : r < n
  · rw [if_pos e1]
    rw [if_pos e1] at H
    refine br_t rfl (hr_build h (fun fb' a2' a3' a4' a5' hf hB => ?_))
    refine pk_loop (fun k i v => wX_cover_19 post (nI r) (nI n) fb' a1 a2' a3' a4' a5' k (nI v) (nI i)) (fun i v => v = hr_sum (fun w => hr_max (hr_cl (hr_A f) n r w) (12 - w)) i) 12 0 0 (by omega) rfl ?_ ?_
    · intro k v hI
      refine pk_le 12 12 (fun _ => ?_) (fun z => absurd z (by omega))
      rw [hI]
      exact H fb' a2' a3' a4' a5' ⟨h.1, fun _ => hB⟩
    · intro k i v hi hI hw
      refine pk_le 12 i (fun z => absurd z (by omega)) (fun _ => nm_r (nI_1 i) (hr_c33 h.1 hB e1 hi (hw _ ?_)))
      rw [hI]
      rfl
  · rw [if_neg e1]
    rw [if_neg e1] at H
    exact br_f (by decide) (H _ _ _ _ _ h)
end
end
section
section
variable {n : Nat} {f : Nat → Nat → Bool} {fb : Int32} {a1 a2 a3 a4 a5 : Nat → Int32}
/-- since before the next place j of the pair's inner loop -/
def hr_sj (f : Nat → Nat → Bool) (o : Nat → Nat) (c i j : Nat) : Nat := if j = i + 1 then 0 else hr_ag (f (o i)) (f (o (j - 1))) c
theorem hr_e60 {post : Int32 → Prop} {J5 : Int32 → Int32 → Prop} {J23 : Int32 → Int32 → Int32 → Prop} (hR : hr_R n f a1) {c k i j v : Nat} {o b : Nat → Nat} (hc : c ≤ 12) (hk : k < 2 ^ 31) (hP : hr_P n f c o b) (hA : ∀ i, i < n → a2 (8 * c + i) = nI (o i) ∧ a3 (8 * c + i) = nI (b i)) (hi : i < n) (hj : j < n)
    (H : J23 (nI (v + if hr_Q (hr_A f) k c (o i) (o j) = true then 1 else 0)) (nI (hr_ag (f (o i)) (f (o j)) c)) (nI (j + 1))) :
    wX_endingAt_60 post J5 J23 (nI c) (nI k) (nI v) (nI i) (nI j) (nI (hr_ag (f (o i)) (f (o j)) c)) (nI n) fb a1 a2 a3 a4 a5 := by
  have h8 := hR.1
  have hle := hr_ag_le (f (o i)) (f (o j)) c
  unfold wX_endingAt_60
  refine ⟨pk_in (8 * c + i) 104 (by omega) (hr_ix c i), nm_r (e' := nI (o i)) (by rw [hr_ix, nI_clamp (by omega), (hA i hi).1]) ⟨pk_in (8 * c + j) 104 (by omega) (hr_ix c j), nm_r (e' := nI (o j)) (by rw [hr_ix, nI_clamp (by omega), (hA j hj).1]) ?_⟩⟩
  refine pk_lt (c - hr_ag (f (o i)) (f (o j)) c) k (fun z => nm_r (nI_1 j) ?_) (fun z => hr_parts hR (hr_P_lt hP hi) (hr_P_lt hP hj) hc (fun q => ?_) (fun q => ?_)) (pk_sub hle)
  · have e : hr_Q (hr_A f) k c (o i) (o j) = false := decide_eq_false (fun w => absurd w.1 (Nat.not_le.mpr z))
    rw [e, if_neg (by decide), Nat.add_zero] at H
    exact H
  · have e : hr_Q (hr_A f) k c (o i) (o j) = true := decide_eq_true ⟨z, q⟩
    rw [e, if_pos rfl] at H
    exact br_f (by decide) (nm_r (nI_1 v) (nm_r (nI_1 j) H))
  · have e : hr_Q (hr_A f) k c (o i) (o j) = false := decide_eq_false (fun w => q w.2)
    rw [e, if_neg (by decide), Nat.add_zero] at H
    exact br_t rfl (nm_r (nI_1 j) H)
theorem hr_e23 {post : Int32 → Prop} {J : Int32 → Int32 → Prop} (hR : hr_R n f a1) {c k i v : Nat} {o b : Nat → Nat} (hc : c ≤ 12) (hk : k < 2 ^ 31) (hP : hr_P n f c o b) (hA : ∀ i, i < n → a2 (8 * c + i) = nI (o i) ∧ a3 (8 * c + i) = nI (b i)) (hi : i < n)
    (H : J (nI (v + (((List.range n).map o).drop (i + 1)).countP (hr_Q (hr_A f) k c (o i)))) (nI (i + 1))) : ∃ m, wX_endingAt_23 post J (nI c) (nI k) (nI i) (nI n) fb a1 a2 a3 a4 a5 m (nI v) 0 (nI (i + 1)) := by
  have h8 := hR.1
  have L := pk_loop (fun m j w => wX_endingAt_23 post J (nI c) (nI k) (nI i) (nI n) fb a1 a2 a3 a4 a5 m (nI w) (nI (hr_sj f o c i j)) (nI j))
    (fun j w => i < j ∧ w + (((List.range n).map o).drop j).countP (hr_Q (hr_A f) k c (o i)) = v + (((List.range n).map o).drop (i + 1)).countP (hr_Q (hr_A f) k c (o i))) n (i + 1) v (by omega) ⟨by omega, rfl⟩ ?_ ?_
  · have e : hr_sj f o c i (i + 1) = 0 := if_pos rfl
    rw [e] at L
    exact L
  · intro m w ⟨_, hI⟩
    refine pk_le n n (fun _ => nm_r (nI_1 i) ?_) (fun z => absurd z (by omega))
    rw [hr_drop_n, List.countP_nil, Nat.add_zero] at hI
    rw [hI]
    exact H
  · intro m j w hj ⟨hij, hI⟩ hw
    have hle := hr_ag_le (f (o i)) (f (o j)) c
    have nx := hr_P_next hP hij hj
    have nx' : hr_ag (f (o i)) (f (o j)) c = max (hr_sj f o c i j) (b j) := nx
    have hbj := hP.2.1 j hj
    have es : hr_sj f o c i (j + 1) = hr_ag (f (o i)) (f (o j)) c := by
      unfold hr_sj
      rw [if_neg (by omega), show j + 1 - 1 = j by omega]
    rw [hr_drop n o hj, List.countP_cons] at hI
    have W := hw (w + if hr_Q (hr_A f) k c (o i) (o j) = true then 1 else 0) ⟨by omega, by
      rw [← hI]
      generalize (if hr_Q (hr_A f) k c (o i) (o j) = true then 1 else 0) = t
      omega⟩
    rw [es] at W
    have K : wX_endingAt_60 post J (wX_endingAt_23 post J (nI c) (nI k) (nI i) (nI n) fb a1 a2 a3 a4 a5 m) (nI c) (nI k) (nI w) (nI i) (nI j) (nI (hr_ag (f (o i)) (f (o j)) c)) (nI n) fb a1 a2 a3 a4 a5 := hr_e60 hR hc hk hP hA hi hj W
    refine pk_le n j (fun z => absurd z (by omega)) (fun _ => ⟨pk_in (8 * c + j) 104 (by omega) (hr_ix c j), nm_r (e' := nI (b j)) (by rw [hr_ix, nI_clamp (by omega), (hA j hj).2]) ?_⟩)
    refine pk_le (b j) (hr_sj f o c i j) (fun z => ?_) (fun z => ?_)
    · rw [show hr_ag (f (o i)) (f (o j)) c = hr_sj f o c i j by omega] at K
      exact K
    · rw [show hr_ag (f (o i)) (f (o j)) c = b j by omega] at K
      exact K
theorem hr_ending {post : Int32 → Prop} (hR : hr_R n f a1) {c k : Nat} (hc : c ≤ 12) (hk : k < 2 ^ 31) (hC : hr_C n f c a2 a3) (H : post (nI (hr_pc (hr_Q (hr_A f) k c) (List.range n)))) : wpX_endingAt post (nI n, fb, a1, a2, a3, a4, a5) (nI c) (nI k) := by
  have h8 := hR.1
  obtain ⟨o, b, hP, hA⟩ := hC
  rw [← hr_pc_fin hP k] at H
  unfold wpX_endingAt
  refine pk_loop (fun m i v => wX_endingAt_5 post (nI c) (nI k) (nI n) fb a1 a2 a3 a4 a5 m (nI v) (nI i)) (fun i v => v + hr_pc (hr_Q (hr_A f) k c) (((List.range n).map o).drop i) = hr_pc (hr_Q (hr_A f) k c) ((List.range n).map o)) n 0 0 (by omega) (by rw [List.drop_zero, Nat.zero_add]) ?_ ?_
  · intro m v hI
    refine pk_le n n (fun _ => ?_) (fun z => absurd z (by omega))
    rw [hr_drop_n] at hI
    have hI' : v = hr_pc (hr_Q (hr_A f) k c) ((List.range n).map o) := hI
    rw [hI']
    exact H
  · intro m i v hi hI hw
    refine pk_le n i (fun z => absurd z (by omega)) (fun _ => nm_r (nI_1 i) (hr_e23 hR hc hk hP hA hi (hw _ ?_)))
    rw [hr_drop n o hi] at hI
    rw [← hI]
    show _ = v + (_ + _)
    omega
def hr_matV (A : Nat → Nat → Nat → Nat) (n k : Nat) : Int32 := nI (hr_mat A n k)
theorem hr_matches {post : Int32 → St1 → Prop} (h : hr_ok n f fb a1 a2 a3) {k : Nat} (hk1 : 1 ≤ k) (hk2 : k ≤ 12) (H : ∀ fb' a2' a3' a4' a5', hr_ok n f fb' a1 a2' a3' → post (hr_matV (hr_A f) n k) (nI n, fb', a1, a2', a3', a4', a5')) : wpX_matches post (nI n, fb, a1, a2, a3, a4, a5) (nI k) := by
  unfold wpX_matches
  refine pk_lt k 1 (fun z => absurd z (by omega)) (fun _ => pk_le k 12 (fun _ => hr_build h (fun fb' a2' a3' a4' a5' hf hB => ?_)) (fun z => absurd z (by omega)))
  refine pk_loop (fun m i v => wX_matches_21 post (nI k) (nI n) fb' a1 a2' a3' a4' a5' m (nI v) (nI (i + 1))) (fun i v => v = hr_sum (fun t => hr_pc (hr_Q (hr_A f) k (t + 1)) (List.range n)) i) 12 0 0 (by omega) rfl ?_ ?_
  · intro m v hI
    refine pk_lt 12 13 (fun _ => ?_) (fun z => absurd z (by omega))
    rw [hI]
    exact H fb' a2' a3' a4' a5' ⟨h.1, fun _ => hB⟩
  · intro m i v hi hI hw
    refine pk_lt 12 (i + 1) (fun z => absurd z (by omega)) (fun _ => hr_ending h.1 (by omega) (by omega) (hB (i + 1) (by omega)) ?_)
    exact nm_r (nI_add _ _) (nm_r (nI_1 _) (hw _ (by rw [hI]; rfl)))
def hr_kinV (A : Nat → Nat → Nat → Nat) (n a b : Nat) : Int32 := nI (hr_kin A n a (b + 1))
theorem hr_kinds {post : Int32 → St1 → Prop} (h : hr_ok n f fb a1 a2 a3) {a d : Nat} (had : a ≤ d) (hd : d < 12) (H : ∀ fb' a2' a3' a4' a5', hr_ok n f fb' a1 a2' a3' → post (hr_kinV (hr_A f) n a d) (nI n, fb', a1, a2', a3', a4', a5')) : wpX_kinds post (nI n, fb, a1, a2, a3, a4, a5) (nI a) (nI d) := by
  have h8 := h.1.1
  unfold wpX_kinds
  refine br_f (nI_pos (by omega)) (pk_le 12 d (fun z => absurd z (by omega)) (fun _ => pk_le a d (fun _ => hr_build h (fun fb' a2' a3' a4' a5' hf hB => ?_)) (fun z => absurd z (by omega))))
  have H' := H fb' a2' a3' a4' a5' ⟨h.1, fun _ => hB⟩
  obtain ⟨o, b, hP, hA⟩ := hB (d + 1) (by omega)
  unfold hr_kinV at H'
  rw [← hr_kd_fin hP a] at H'
  refine pk_loop (fun m i v => wX_kinds_26 post (nI a) (nI d) (nI n) fb' a1 a2' a3' a4' a5' m (nI v) (nI i)) (fun i v => v = hr_kd (hr_E (hr_A f) a (d + 1)) ((List.range i).map o).reverse) n 0 0 (by omega) rfl ?_ ?_
  · intro m v hI
    refine pk_le n n (fun _ => ?_) (fun z => absurd z (by omega))
    rw [hI]
    exact H'
  · intro m i v hi hI hw
    have st := hr_kd_step hP a hi
    rw [← hI] at st
    have W := hw _ st.symm
    have hbi := hP.2.1 i hi
    refine pk_le n i (fun z => absurd z (by omega)) (fun _ => pk_eq i 0 (fun z => nm_r (nI_1 v) (nm_r (nI_1 i) ?_)) (fun z => ?_))
    · rw [if_neg (by omega), Nat.add_comm 1 v] at W
      exact W
    · have e : (8 * (nI d + 1)) + nI i = nI (8 * (d + 1) + i) := by
        rw [nI_1, hr_ix]
      refine ⟨pk_in (8 * (d + 1) + i) 104 (by omega) e, ?_⟩
      rw [e, nI_clamp (by omega), (hA i hi).2]
      refine pk_le (b i) a (fun q => nm_r (nI_1 i) ?_) (fun q => nm_r (nI_1 v) (nm_r (nI_1 i) ?_))
      · rw [if_pos ⟨by omega, q⟩, Nat.zero_add] at W
        exact W
      · rw [if_neg (by omega), Nat.add_comm 1 v] at W
        exact W
theorem hr_h149 {post : Int32 → St1 → Prop} {J : Int32 → Int32 → Int32 → Prop} {x1 x3 x4 x5 cn : Int32} {v i : Nat} (B : Bool) (H : J (nI (v + if B = true then 1 else 0)) (nI B.toNat) (nI (i + 1))) : wX_having_149 post J x1 x3 x4 x5 (nI v) (nI B.toNat) (nI i) cn fb a1 a2 a3 a4 a5 := by
  unfold wX_having_149
  refine ek_if (hr_b0 _) (fun q => nm_r (nI_1 i) ?_) (fun q => nm_r (nI_1 v) (nm_r (nI_1 i) ?_))
  · rw [q] at H
    rw [q]
    exact H
  · have q' : B = true := by cases B with | false => exact absurd rfl q | true => rfl
    rw [q'] at H
    rw [q']
    exact H
theorem hr_sum_le1 (p : Nat → Bool) (i : Nat) : hr_sum (fun i => if p i = true then 1 else 0) i ≤ i := by
  induction i with
  | zero => exact Nat.le_refl 0
  | succ i ih =>
    show hr_sum (fun i => if p i = true then 1 else 0) i + (if p i = true then 1 else 0) ≤ i + 1
    by_cases e : p i = true
    · rw [if_pos e]; omega
    · rw [if_neg e]; omega
theorem hr_sum_ex (p : Nat → Bool) (i : Nat) (h : hr_sum (fun i => if p i = true then 1 else 0) i ≠ 0) : ∃ k, k < i ∧ p k = true := by
  induction i with
  | zero => exact absurd rfl h
  | succ i ih =>
    by_cases e : p i = true
    · exact ⟨i, by omega, e⟩
    · have h' : hr_sum (fun i => if p i = true then 1 else 0) i + (if p i = true then 1 else 0) ≠ 0 := h
      rw [if_neg e] at h'
      obtain ⟨k, hk, g⟩ := ih h'
      exact ⟨k, by omega, g⟩
theorem hr_having {post : Int32 → St1 → Prop} (h : hr_ok n f fb a1 a2 a3) {a k v : Nat} {g : Nat → Bool} (hak : a + k ≤ 12) (hv : v < 4096) (hg : hr_row (nI v) g) (H : ∀ fb' a2' a3' a4' a5', hr_ok n f fb' a1 a2' a3' → post (nI (hr_hav f n a (a + k) (fun j => g (j - a)))) (nI n, fb', a1, a2', a3', a4', a5')) : wpX_having post (nI n, fb, a1, a2, a3, a4, a5) (nI a) (nI k) (nI v) := by
  have h8 := h.1.1
  unfold wpX_having
  refine br_f (nI_pos (by omega)) (pk_lt 12 a (fun z => absurd z (by omega)) (fun _ => br_f (nI_pos (by omega)) (pk_lt 12 k (fun z => absurd z (by omega)) (fun _ => pk_lt 12 (a + k) (fun z => absurd z (by omega)) (fun _ => br_f (nI_pos (by omega)) (pk_le v 4095 (fun _ => ?_) (fun z => absurd z (by omega)))) rfl (nI_add a k)))))
  refine hr_build h (fun fb' a2' a3' a4' a5' hf hB => nm_e (nm_r (nI_add a k) ?_))
  have H' := H fb' a2' a3' a4' a5' ⟨h.1, fun _ => hB⟩
  obtain ⟨o, b, hP, hA⟩ := hB (a + k) hak
  rw [← hr_hav_fin hP a] at H'
  refine pk_loop (fun m i (s : Nat × Bool) => wX_having_66 post (nI a) (nI v) (((1 : Int32) <<< (nI k &&& 31)) - 1) (nI (a + k)) (nI n) fb' a1 a2' a3' a4' a5' m (nI s.1) (nI s.2.toNat) (nI i))
    (fun i s => s.1 = hr_sum (fun i => if decide (hr_ag (f (o i)) (fun j => g (j - a)) (a + k) ≤ a) = true then 1 else 0) i ∧ (i = 0 → s.2 = false) ∧ (0 < i → s.2 = decide (hr_ag (f (o (i - 1))) (fun j => g (j - a)) (a + k) ≤ a))) n 0 (0, false) (by omega) ⟨rfl, fun _ => rfl, fun z => absurd z (by omega)⟩ ?_ ?_
  · intro m ⟨w, B⟩ ⟨hI, _, _⟩
    refine pk_le n n (fun _ => ?_) (fun z => absurd z (by omega))
    dsimp only at hI ⊢
    rw [hI]
    exact H'
  · intro m i ⟨w, B⟩ hi ⟨hI, hI0, hI1⟩ hw
    dsimp only at hI hI0 hI1 ⊢
    have hwi : w ≤ i := by
      rw [hI]
      exact hr_sum_le1 (fun i => decide (hr_ag (f (o i)) (fun j => g (j - a)) (a + k) ≤ a)) i
    have W := hw (w + (if decide (hr_ag (f (o i)) (fun j => g (j - a)) (a + k) ≤ a) = true then 1 else 0), decide (hr_ag (f (o i)) (fun j => g (j - a)) (a + k) ≤ a)) ⟨by rw [hI]; rfl, fun z => absurd z (by omega), fun _ => rfl⟩
    dsimp only at W
    have hbi := hP.2.1 i hi
    have ho := hr_P_lt hP hi
    have e : (8 * nI (a + k)) + nI i = nI (8 * (a + k) + i) := hr_ix _ _
    refine pk_le n i (fun z => absurd z (by omega)) (fun _ => ek_if (hr_b0 _) (fun q => pk_eq w 0 (fun z => ?_) (fun z => ?_)) (fun q => ?_))
    · have r2 : a2' ((8 * nI (a + k)) + nI i).toNatClampNeg = nI (o i) := by rw [e, nI_clamp (by omega), (hA i hi).1]
      refine ⟨pk_in (8 * (a + k) + i) 104 (by omega) e, ?_⟩
      rw [r2, nI_clamp (show o i < 2 ^ 31 by omega)]
      refine ⟨pk_in (o i) 8 (by omega), ?_⟩
      refine ek_if (hr_win_eq (h.1.2 (o i) ho) hg hak) (fun t => ?_) (fun t => ?_)
      · rw [decide_eq_true t] at W
        exact hr_h149 true W
      · rw [decide_eq_false t] at W
        exact hr_h149 false W
    · have ex := hr_sum_ex (fun i => decide (hr_ag (f (o i)) (fun j => g (j - a)) (a + k) ≤ a)) i (by rw [← hI]; exact z)
      obtain ⟨t, ht, et⟩ := ex
      have i0 : 0 < i := by omega
      have nb := hI1 i0
      rw [q] at nb
      have no := hr_hav_out hP ht hi (of_decide_eq_true et) (of_decide_eq_false nb.symm)
      rw [decide_eq_false no] at W
      rw [q]
      exact hr_h149 false W
    · have i0 : 0 < i := by
        rcases Nat.eq_zero_or_pos i with z | z
        · exact absurd (hI0 z) q
        · exact z
      have qt : B = true := by cases B with | false => exact absurd rfl q | true => rfl
      have yb := hI1 i0
      rw [qt] at yb
      have yes := hr_hav_in hP i0 hi (of_decide_eq_true yb.symm)
      refine ⟨pk_in (8 * (a + k) + i) 104 (by omega) e, ?_⟩
      rw [e, nI_clamp (by omega), (hA i hi).2]
      refine pk_lt a (b i) (fun z => ?_) (fun z => ?_)
      · rw [decide_eq_false (fun t => absurd (yes.mp t) (by omega))] at W
        exact hr_h149 false W
      · rw [decide_eq_true (yes.mpr z)] at W
        exact hr_h149 true W
theorem hr_fitq {post : Int32 → St1 → Prop} (h : hr_ok n f fb a1 a2 a3) {c v : Nat} {g : Nat → Bool} (hc : c ≤ 12) (hv : v < 4096) (hg : hr_row (nI v) g) (H : ∀ fb' a2' a3' a4' a5', hr_ok n f fb' a1 a2' a3' → post (nI (hr_fit f n c g)) (nI n, fb', a1, a2', a3', a4', a5')) : wpX_fit post (nI n, fb, a1, a2, a3, a4, a5) (nI c) (nI v) := by
  have h8 := h.1.1
  unfold wpX_fit
  refine br_f (nI_pos (by omega)) (pk_lt 12 c (fun z => absurd z (by omega)) (fun _ => br_f (nI_pos (by omega)) (pk_le v 4095 (fun _ => ?_) (fun z => absurd z (by omega)))))
  refine hr_build h (fun fb' a2' a3' a4' a5' hf hB => ?_)
  have H' := H fb' a2' a3' a4' a5' ⟨h.1, fun _ => hB⟩
  obtain ⟨o, b, hP, hA⟩ := hB c hc
  have f139 : ∀ x y, x ≤ 12 → y ≤ 12 → max x y = hr_fit f n c g → wX_fit_139 post (nI x) (nI y) (nI n) fb' a1 a2' a3' a4' a5' := by
    intro x y hx hy e
    rw [← e] at H'
    unfold wX_fit_139
    refine pk_le x y (fun z => ?_) (fun z => ?_)
    · rw [show max x y = y by omega] at H'
      exact H'
    · rw [show max x y = x by omega] at H'
      exact H'
  have f108 : ∀ p x, p ≤ n → x ≤ 12 → max x (if p < n then c - hr_ag (f (o p)) g c else 0) = hr_fit f n c g → wX_fit_108 post (nI c) (nI v) (nI p) (nI x) (nI n) fb' a1 a2' a3' a4' a5' := by
    intro p x hp hx e
    unfold wX_fit_108
    refine pk_le n p (fun z => ?_) (fun z => ⟨pk_in (8 * c + p) 104 (by omega) (hr_ix c p), ?_⟩)
    · rw [if_neg (by omega)] at e
      exact f139 x 0 hx (by omega) e
    · rw [if_pos z] at e
      rw [hr_ix, nI_clamp (by omega), (hA p z).1]
      exact hr_sameBack h.1 (hr_P_lt hP z) hc hg (f139 x _ hx (by omega) e)
  refine pk_loop (fun m i p => wX_fit_32 post (nI c) (nI v) (nI n) fb' a1 a2' a3' a4' a5' m (nI p) (nI i)) (fun i p => p ≤ i ∧ (0 < p → hr_bf (f (o (p - 1))) g c) ∧ (∀ j, p ≤ j → j < i → ¬ hr_bf (f (o j)) g c)) n 0 0 (by omega) ⟨Nat.le_refl 0, fun z => absurd z (by omega), fun j _ z => absurd z (by omega)⟩ ?_ ?_
  · intro m p ⟨hp, h1, h2⟩
    have e := hr_fit_eq hP hp h1 h2
    refine pk_le n n (fun _ => pk_le p 0 (fun z => ?_) (fun z => ?_)) (fun z => absurd z (by omega))
    · rw [if_neg (by omega)] at e
      exact f108 p 0 hp (by omega) e
    · rw [if_pos z] at e
      have ei : ((8 * nI c) + nI p) - 1 = nI (8 * c + (p - 1)) := by
        rw [hr_ix]
        have t : nI (8 * c + p) - nI 1 = nI (8 * c + p - 1) := pk_sub (by omega)
        rw [show 8 * c + (p - 1) = 8 * c + p - 1 by omega]
        exact t
      refine ⟨pk_in (8 * c + (p - 1)) 104 (by omega) ei, ?_⟩
      rw [ei, nI_clamp (by omega), (hA (p - 1) (by omega)).1]
      exact hr_sameBack h.1 (hr_P_lt hP (by omega)) hc hg (f108 p _ hp (by omega) e)
  · intro m i p hi ⟨hp, h1, h2⟩ hw
    refine pk_le n i (fun z => absurd z (by omega)) (fun _ => ⟨pk_in (8 * c + i) 104 (by omega) (hr_ix c i), ?_⟩)
    rw [hr_ix, nI_clamp (by omega), (hA i hi).1]
    refine hr_isBefore h.1 (hr_P_lt hP hi) hc hg (fun q => ?_) (fun q => ?_)
    · refine br_f (by decide) (nm_r (nI_1 i) (nm_r (nI_1 i) (hw (i + 1) ⟨Nat.le_refl _, fun _ => ?_, fun j z1 z2 => absurd z1 (by omega)⟩)))
      exact q
    · refine br_t rfl (nm_r (nI_1 i) (hw p ⟨by omega, h1, fun j z1 z2 => ?_⟩))
      by_cases ej : j = i
      · rw [ej]; exact q
      · exact h2 j z1 (by omega)
theorem hr_noPlace {post : Int32 → Prop} {c i : Nat} (hn : n ≤ 8) (hc : c ≤ 12) (hi : i < n) (H : post 0) : wpX_noPlace post (nI n, fb, a1, a2, a3, a4, a5) (nI c) (nI i) := by
  unfold wpX_noPlace
  exact br_f (nI_pos (by omega)) (pk_lt 12 c (fun z => absurd z (by omega)) (fun _ => br_f (nI_pos (by omega)) (pk_lt i n (fun _ => H) (fun z => absurd z (by omega)))))
theorem hr_since {post : Int32 → St1 → Prop} (h : hr_ok n f fb a1 a2 a3) {c i : Nat} (hc : c ≤ 12) (h0 : 0 < i) (hi : i < n) (H : ∀ fb' a2' a3' a4' a5', ¬ fb' = 0 → hr_B n f a2' a3' → post (a3' (8 * c + i)) (nI n, fb', a1, a2', a3', a4', a5')) : wpX_since post (nI n, fb, a1, a2, a3, a4, a5) (nI c) (nI i) := by
  have h8 := h.1.1
  unfold wpX_since
  refine hr_noPlace h8 hc hi (br_t rfl (hr_build h (fun fb' a2' a3' a4' a5' hf hB => pk_eq i 0 (fun z => absurd z (by omega)) (fun _ => ⟨pk_in (8 * c + i) 104 (by omega) (hr_ix c i), ?_⟩))))
  rw [hr_ix, nI_clamp (by omega)]
  exact H fb' a2' a3' a4' a5' hf hB
theorem hr_ordered {post : Int32 → St1 → Prop} (h8 : n ≤ 8) (hf : ¬ fb = 0) {c i : Nat} (hc : c ≤ 12) (hi : i < n) (H : post (a2 (8 * c + i)) (nI n, fb, a1, a2, a3, a4, a5)) : wpX_ordered post (nI n, fb, a1, a2, a3, a4, a5) (nI c) (nI i) := by
  unfold wpX_ordered
  refine hr_noPlace h8 hc hi (br_t rfl ?_)
  unfold wpX_build
  refine br_f hf ⟨pk_in (8 * c + i) 104 (by omega) (hr_ix c i), ?_⟩
  rw [hr_ix, nI_clamp (by omega)]
  exact H
end
end
section
section
variable {n : Nat} {f : Nat → Nat → Bool} {fb : Int32} {a1 a2 a3 a4 a5 : Nat → Int32} {post : Int32 → St1 → Prop}
def hr_neg (f : Nat → Nat → Bool) : Nat → Nat → Bool := fun i c => !f i c
/-- the picture with a row more -/
def hr_pa (n : Nat) (f : Nat → Nat → Bool) (g : Nat → Bool) : Nat → Nat → Bool := fun i => if i = n then g else f i
/-- the picture with a bit turned -/
def hr_pt (r c : Nat) (f : Nat → Nat → Bool) : Nat → Nat → Bool := fun i => if i = r then (fun k => if k = c then !f i k else f i k) else f i
theorem hr_pa_neg (n : Nat) (f : Nat → Nat → Bool) (g : Nat → Bool) : hr_pa n (hr_neg f) (fun c => !g c) = hr_neg (hr_pa n f g) := by
  funext i c
  unfold hr_pa hr_neg
  dsimp only
  by_cases e : i = n
  · rw [if_pos e, if_pos e]
  · rw [if_neg e, if_neg e]
theorem hr_pt_neg (r c : Nat) (f : Nat → Nat → Bool) : hr_pt r c (hr_neg f) = hr_neg (hr_pt r c f) := by
  funext i k
  unfold hr_pt hr_neg
  dsimp only
  by_cases e : i = r
  · rw [if_pos e, if_pos e]
    by_cases e2 : k = c
    · rw [if_pos e2, if_pos e2]
    · rw [if_neg e2, if_neg e2]
  · rw [if_neg e, if_neg e]
theorem hr_add_bad {x : Int32} (hx : x < 0 ∨ (¬ x < 0 ∧ 4095 < x)) (H : post (-1) (nI n, fb, a1, a2, a3, a4, a5)) : wpX_add post (nI n, fb, a1, a2, a3, a4, a5) x := by
  unfold wpX_add
  rcases hx with z | ⟨z, z2⟩
  · exact br_t z H
  · refine br_f z (br_f ?_ H)
    intro w
    rw [Int32.lt_iff_toInt_lt] at z2
    rw [Int32.le_iff_toInt_le] at w
    omega
theorem hr_add {x : Int32} {g : Nat → Bool} (h : hr_ok n f fb a1 a2 a3) (hg : hr_row x g) (H8 : n = 8 → post (-2) (nI n, fb, a1, a2, a3, a4, a5)) (H7 : n < 8 → ∀ a1', hr_ok (n + 1) (hr_pa n f g) 0 a1' a2 a3 → post (nI n) (nI (n + 1), 0, a1', a2, a3, a4, a5)) : wpX_add post (nI n, fb, a1, a2, a3, a4, a5) x := by
  have h8 := h.1.1
  have hg' := hg
  obtain ⟨v, hv, rfl, _⟩ := hg
  unfold wpX_add
  refine br_f (nI_pos (by omega)) (pk_le v 4095 (fun _ => pk_eq n 8 H8 (fun z => ⟨pk_in n 8 (by omega), nm_e (nm_r (nI_1 n) ?_)⟩)) (fun z => absurd z (by omega)))
  rw [nI_pred, nI_clamp (by omega)]
  refine H7 (by omega) _ ⟨⟨by omega, fun i hi => ?_⟩, fun z => absurd rfl z⟩
  unfold hr_pa
  by_cases e : i = n
  · rw [if_pos e, e, pk_us]
    exact hg'
  · rw [if_neg e, pk_un e]
    exact h.1.2 i (by omega)
theorem hr_remove (h : hr_ok n f fb a1 a2 a3) (H0 : n = 0 → post (-4) (nI n, fb, a1, a2, a3, a4, a5)) (H1 : ∀ m, n = m + 1 → hr_ok m f 0 a1 a2 a3 → hr_row (a1 m) (f m) → post (a1 m) (nI m, 0, a1, a2, a3, a4, a5)) : wpX_remove post (nI n, fb, a1, a2, a3, a4, a5) := by
  have h8 := h.1.1
  unfold wpX_remove
  refine pk_eq n 0 H0 (fun z => ?_)
  obtain ⟨m, rfl⟩ : ∃ m, n = m + 1 := ⟨n - 1, by omega⟩
  refine nm_r (nI_pred m) ⟨pk_in m 8 (by omega), ?_⟩
  rw [nI_clamp (by omega)]
  exact H1 m rfl ⟨⟨by omega, fun i hi => h.1.2 i (by omega)⟩, fun z => absurd rfl z⟩ (h.1.2 m (by omega))
theorem hr_turn_ok (h : hr_ok n f fb a1 a2 a3) {r c : Nat} (hr : r < n) (hc : c < 12) (H : ∀ a1', hr_ok n (hr_pt r c f) 0 a1' a2 a3 → post (nI (!f r c).toNat) (nI n, 0, a1', a2, a3, a4, a5)) : wpX_turn post (nI n, fb, a1, a2, a3, a4, a5) (nI r) (nI c) := by
  have h8 := h.1.1
  unfold wpX_turn
  refine hr_noRow h8 (by omega) ?_
  rw [if_pos hr]
  refine br_t rfl (br_f (nI_pos (by omega)) (pk_lt c 12 (fun _ => ⟨pk_in r 8 (by omega), pk_in r 8 (by omega), nm_e ?_⟩) (fun z => absurd z (by omega))))
  rw [nI_clamp (show r < 2 ^ 31 by omega)]
  have hR : hr_R n (hr_pt r c f) (upd a1 r (a1 r ^^^ ((1 : Int32) <<< (nI c &&& 31)))) := by
    refine ⟨h8, fun i hi => ?_⟩
    unfold hr_pt
    by_cases e : i = r
    · rw [if_pos e, e, pk_us]
      exact hr_row_turn (h.1.2 r hr) hc
    · rw [if_neg e, pk_un e]
      exact h.1.2 i hi
  refine hr_at hR hr hc ?_
  have e : hr_pt r c f r c = !f r c := by
    unfold hr_pt
    rw [if_pos rfl]
    exact if_pos rfl
  rw [e]
  exact H _ ⟨hR, fun z => absurd rfl z⟩
theorem hr_turn_bad {x y : Int32} (h8 : n ≤ 8) (hx : ¬ ∃ r c : Nat, r < n ∧ c < 12 ∧ x = nI r ∧ y = nI c) (H : post (-4) (nI n, fb, a1, a2, a3, a4, a5)) : wpX_turn post (nI n, fb, a1, a2, a3, a4, a5) x y := by
  unfold wpX_turn wpX_noRow
  refine br_c (fun _ => br_f (by decide) H) (fun z => br_c (fun z2 => br_t rfl (br_c (fun _ => H) (fun z3 => br_c (fun z4 => ?_) (fun _ => H)))) (fun _ => br_f (by decide) H))
  exfalso
  obtain ⟨r, hr, e⟩ := nI_of z
  obtain ⟨c, hc, e2⟩ := nI_of z3
  refine hx ⟨r, c, ?_, ?_, e, e2⟩
  · rw [e] at z2
    exact (nI_ltI hr (by omega)).mp z2
  · rw [e2] at z4
    exact (nI_ltI hc (by omega)).mp z4
theorem hr_x (x : Int32) : (x < 0 ∨ (¬ x < 0 ∧ 4095 < x)) ∨ ∃ v : Nat, v < 4096 ∧ x = nI v := by
  by_cases z : x < 0
  · exact Or.inl (Or.inl z)
  · obtain ⟨j, hj, e⟩ := nI_of z
    by_cases w : j < 4096
    · exact Or.inr ⟨j, w, e⟩
    · exact Or.inl (Or.inr ⟨z, by rw [e]; exact nI_lt (a := 4095) (by omega) hj⟩)
theorem hr_other_bad {P : Int32 → Prop} {x : Int32} (hx : x < 0 ∨ (¬ x < 0 ∧ 4095 < x)) (H : P x) : wpL_other P () x := by
  unfold wpL_other
  rcases hx with z | ⟨z, z2⟩
  · exact br_t z H
  · exact br_f z (br_t z2 H)
theorem hr_other_ok {P : Int32 → Prop} {v : Nat} (hv : v < 4096) (H : P (4095 - nI v)) : wpL_other P () (nI v) := by
  unfold wpL_other
  exact br_f (nI_pos (by omega)) (pk_lt 4095 v (fun z => absurd z (by omega)) (fun _ => H))
theorem hr_15 {o : Nat} (ho : o < 16) : nI o &&& 15 = nI o := by
  rw [pk_andN (by omega) 4 (by decide), Nat.mod_eq_of_lt (by omega)]
end
end
section
section
variable {n : Nat} {f : Nat → Nat → Bool} {fb : Int32} {a1 a2 a3 a4 a5 : Nat → Int32}
theorem hr_orderedE {post : Int32 → St1 → Prop} (h8 : n ≤ 8) (hf : ¬ fb = 0) {c i : Nat} {x : Int32} (hx : x = nI i) (hc : c ≤ 12) (hi : i < n) (H : post (a2 (8 * c + i)) (nI n, fb, a1, a2, a3, a4, a5)) : wpX_ordered post (nI n, fb, a1, a2, a3, a4, a5) (nI c) x := by
  subst hx
  exact hr_ordered h8 hf hc hi H
theorem hr_longestE {post : Int32 → St1 → Prop} (h : hr_ok n f fb a1 a2 a3) {r s : Nat} {x y : Int32} (hx : x = nI r) (hy : y = nI s) (hr : r < 2 ^ 31) (hs : s < 2 ^ 31) (H : ∀ fb' a2' a3' a4' a5', hr_ok n f fb' a1 a2' a3' → post (hr_lgV (hr_A f) n r s) (nI n, fb', a1, a2', a3', a4', a5')) : wpX_longest post (nI n, fb, a1, a2, a3, a4, a5) x y := by
  subst hx hy
  exact hr_longest h hr hs H
theorem hr_fitE {post : Int32 → St1 → Prop} (h : hr_ok n f fb a1 a2 a3) {c : Nat} {x : Int32} {g : Nat → Bool} (hc : c ≤ 12) (hg : hr_row x g) (H : ∀ fb' a2' a3' a4' a5', hr_ok n f fb' a1 a2' a3' → post (nI (hr_fit f n c g)) (nI n, fb', a1, a2', a3', a4', a5')) : wpX_fit post (nI n, fb, a1, a2, a3, a4, a5) (nI c) x := by
  have hg' := hg
  obtain ⟨v, hv, rfl, _⟩ := hg
  exact hr_fitq h hc hv hg' H
theorem hr_havE {post : Int32 → St1 → Prop} (h : hr_ok n f fb a1 a2 a3) {a k : Nat} {x z : Int32} {g : Nat → Bool} (hz : z = nI k) (hak : a + k ≤ 12) (hg : hr_row x g) (H : ∀ fb' a2' a3' a4' a5', hr_ok n f fb' a1 a2' a3' → post (nI (hr_hav f n a (a + k) (fun j => g (j - a)))) (nI n, fb', a1, a2', a3', a4', a5')) : wpX_having post (nI n, fb, a1, a2, a3, a4, a5) (nI a) z x := by
  subst hz
  have hg' := hg
  obtain ⟨v, hv, rfl, _⟩ := hg
  exact hr_having h hak hv hg' H
theorem hr_kd_le (E : Nat → Nat → Bool) (l : List Nat) : hr_kd E l ≤ l.length := by
  induction l with
  | nil => exact Nat.le_refl 0
  | cons x l ih =>
    show (if l.any (E x) = true then 0 else 1) + hr_kd E l ≤ l.length + 1
    by_cases e : l.any (E x) = true
    · rw [if_pos e]; omega
    · rw [if_neg e]; omega
theorem hr_lg_ge (A : Nat → Nat → Nat → Nat) (r s c : Nat) (hc : c ≤ 12) : c - A r s c ≤ hr_lg A r s := by
  rcases Nat.eq_zero_or_pos c with z | z
  · rw [z]; omega
  · have t := (hr_max_le (fun t => t + 1 - A r s (t + 1)) 12 (hr_lg A r s)).mp (Nat.le_refl _) (c - 1) (by omega)
    rw [show c - 1 + 1 = c by omega] at t
    exact t
theorem hr_464 {post : Int32 → Prop} {L : Nat} {xs : Nat → Int32} {J : Int32 → Int32 → Int32 → (Nat → Int32) → (Nat → Int32) → (Nat → Int32) → (Nat → Int32) → (Nat → Int32) → Int32 → Int32 → (Nat → Int32) → (Nat → Int32) → (Nat → Int32) → (Nat → Int32) → (Nat → Int32) → Prop} {x3 : Int32} {c kc ks : Nat} {gn gb : Int32} {d1 d2 d3 d4 d5 : Nat → Int32} (hc : c ≤ 12) (h : hr_ok n f fb a1 a2 a3)
    (H : ∀ fb' a2' a3' a4' a5', hr_ok n f fb' a1 a2' a3' → J (nI (c + 1)) (nI n) fb' a1 a2' a3' a4' a5' gn gb d1 d2 d3 d4 d5) :
    ∃ m, wL_law_464 post L xs J x3 (nI n) (nI c) kc ks m 1 (nI n) fb a1 a2 a3 a4 a5 gn gb d1 d2 d3 d4 d5 := by
  have h8 := h.1.1
  refine pk_loop (fun m i (s : Int32 × (Nat → Int32) × (Nat → Int32) × (Nat → Int32) × (Nat → Int32)) => wL_law_464 post L xs J x3 (nI n) (nI c) kc ks m (nI i) (nI n) s.1 a1 s.2.1 s.2.2.1 s.2.2.2.1 s.2.2.2.2 gn gb d1 d2 d3 d4 d5) (fun i s => 0 < i ∧ hr_ok n f s.1 a1 s.2.1 s.2.2.1) (max n 1) 1 (fb, a2, a3, a4, a5) (by omega) ⟨by omega, h⟩ ?_ ?_
  · intro m s ⟨_, hI⟩
    exact pk_le n (max n 1) (fun _ => nm_r (nI_1 c) (H _ _ _ _ _ hI)) (fun z => absurd z (by omega))
  · intro m i s hi ⟨hi0, hI⟩ hw
    obtain ⟨j, rfl⟩ : ∃ j, i = j + 1 := ⟨i - 1, by omega⟩
    have hjn : j + 1 < n := by omega
    refine pk_le n (j + 1) (fun z => absurd z (by omega)) (fun _ => ?_)
    refine hr_since hI hc hi0 hjn (fun fb' c2 c3 c4 c5 hf hB => ?_)
    refine hr_orderedE h8 hf (nI_pred j) hc (show j < n by omega) ?_
    refine hr_ordered h8 hf hc hjn ?_
    obtain ⟨o, b, hP, hA⟩ := hB c hc
    have o1 := hr_P_lt hP (show j < n by omega)
    have o2 := hr_P_lt hP hjn
    have ne : o j ≠ o (j + 1) := fun e => by have := hr_P_inj hP (show j < n by omega) hjn e; omega
    have adj := hr_P_adj hP hjn
    have hb := hP.2.1 (j + 1) hjn
    refine hr_longestE ⟨hI.1, fun _ => hB⟩ (hA j (by omega)).1 (hA (j + 1) hjn).1 (by omega) (by omega) (fun fc e2 e3 e4 e5 hok => ?_)
    have ev : hr_lgV (hr_A f) n (o j) (o (j + 1)) = nI (hr_lg (hr_A f) (o j) (o (j + 1))) := if_pos ⟨o1, o2, ne⟩
    have lge := hr_lg_ge (hr_A f) (o j) (o (j + 1)) c hc
    have lge' : c - hr_ag (f (o j)) (f (o (j + 1))) c ≤ hr_lg (hr_A f) (o j) (o (j + 1)) := lge
    rw [adj] at lge'
    have lle : hr_lg (hr_A f) (o j) (o (j + 1)) ≤ 12 := hr_lg_le _ _ _ _
    have ea : c3 (8 * c + (j + 1)) = nI (b (j + 1)) := (hA (j + 1) hjn).2
    have es : nI c - c3 (8 * c + (j + 1)) = nI (c - b (j + 1)) := by
      rw [ea]
      exact pk_sub hb
    have W : ∀ fc e2 e3 e4 e5, hr_ok n f fc a1 e2 e3 → wL_law_464 post L xs J x3 (nI n) (nI c) kc ks m (nI (j + 1 + 1)) (nI n) fc a1 e2 e3 e4 e5 gn gb d1 d2 d3 d4 d5 :=
      fun fc e2 e3 e4 e5 hok => hw (fc, e2, e3, e4, e5) ⟨by omega, hok⟩
    refine pk_lt (hr_lg (hr_A f) (o j) (o (j + 1))) (c - b (j + 1)) (fun z => absurd z (by omega)) (fun _ => ?_) ev es
    refine pk_eq c 12 (fun z => pk_eq (b (j + 1)) 12 (fun z2 => ?_) (fun _ => nm_r (nI_1 _) (W _ _ _ _ _ hok)) ea) (fun _ => nm_r (nI_1 _) (W _ _ _ _ _ hok))
    refine hr_kinds (a := 11) (d := 11) hok (Nat.le_refl _) (by omega) (fun fc e2 e3 e4 e5 hok => ?_)
    have kne : hr_kin (hr_A f) n 11 12 ≠ 1 := hr_kin_ne 11 o1 o2 (by rw [z] at adj; omega)
    have kle : hr_kin (hr_A f) n 11 12 ≤ n := by
      have t := hr_kd_le (hr_E (hr_A f) 11 12) (List.range n)
      rw [List.length_range] at t
      exact t
    exact pk_eq (hr_kin (hr_A f) n 11 12) 1 (fun w => absurd w kne) (fun _ => nm_r (nI_1 _) (W _ _ _ _ _ hok))
theorem hr_365 {post : Int32 → Prop} {L : Nat} {xs : Nat → Int32} {J : Int32 → Int32 → Int32 → (Nat → Int32) → (Nat → Int32) → (Nat → Int32) → (Nat → Int32) → (Nat → Int32) → Int32 → Int32 → (Nat → Int32) → (Nat → Int32) → (Nat → Int32) → (Nat → Int32) → (Nat → Int32) → Prop} {x3 z0 : Int32} {c a kc ks : Nat} {gb : Int32} {d1 d2 d3 d4 d5 : Nat → Int32} (hc : c ≤ 12) (hz : z0 = nI a) (ha : a + (12 - c) ≤ 12) (ha2 : c < 12 → a ≤ c) (h : hr_ok n f fb a1 a2 a3) (hg : hr_ok n (hr_neg f) gb d1 d2 d3)
    (H : ∀ fb' a2' a3' a4' a5' gb' d2' d3' d4' d5', hr_ok n f fb' a1 a2' a3' → hr_ok n (hr_neg f) gb' d1 d2' d3' → J (nI (c + 1)) (nI n) fb' a1 a2' a3' a4' a5' (nI n) gb' d1 d2' d3' d4' d5') :
    wL_law_365 post L xs J x3 (nI n) (nI c) z0 kc ks (nI n) fb a1 a2 a3 a4 a5 (nI n) gb d1 d2 d3 d4 d5 := by
  subst hz
  unfold wL_law_365
  obtain ⟨p, hp, ep⟩ := hr_and12 (x3 >>> (nI c &&& 31))
  refine nm_r ep ?_
  have r1 := hr_row_of hp
  have r2 := hr_row_not hp r1
  have ek : (12 : Int32) - nI c = nI (12 - c) := pk_sub (a := 12) hc
  refine hr_fitE h hc r1 (fun fb' a2' a3' a4' a5' h => ?_)
  refine hr_fitE hg hc r2 (fun gb' d2' d3' d4' d5' hg => ?_)
  have e1 : hr_fit (hr_neg f) n c (fun k => !(p.testBit k)) = hr_fit f n c (fun k => p.testBit k) := hr_fit_not f n c (fun k => p.testBit k)
  refine br_t (by rw [e1]) ?_
  refine hr_havE h ek ha r1 (fun fb' a2' a3' a4' a5' h => ?_)
  refine hr_havE hg ek ha r2 (fun gb' d2' d3' d4' d5' hg => ?_)
  have e2 : hr_hav (hr_neg f) n a (a + (12 - c)) (fun j => !(p.testBit (j - a))) = hr_hav f n a (a + (12 - c)) (fun j => p.testBit (j - a)) := hr_hav_not f n a (a + (12 - c)) (fun j => p.testBit (j - a))
  refine br_t (by rw [e2]) ?_
  refine pk_le 12 c (fun z => ?_) (fun z => ?_)
  · exact hr_464 hc h (fun fb' a2' a3' a4' a5' h => H _ _ _ _ _ _ _ _ _ _ h hg)
  · refine hr_kinds h (ha2 z) z (fun fb' a2' a3' a4' a5' h => ?_)
    refine hr_kinds hg (ha2 z) z (fun gb' d2' d3' d4' d5' hg => ?_)
    have e3 : hr_A (hr_neg f) = hr_A f := hr_A_not f
    refine br_t (by rw [e3]) ?_
    exact hr_464 hc h (fun fb' a2' a3' a4' a5' h => H _ _ _ _ _ _ _ _ _ _ h hg)
theorem hr_343 {L : Nat} {xs : Nat → Int32} {x3 : Int32} {kc ks : Nat} {gb : Int32} {d1 d2 d3 d4 d5 : Nat → Int32} (h : hr_ok n f fb a1 a2 a3) (hg : hr_ok n (hr_neg f) gb d1 d2 d3) :
    ∃ m, wL_law_343 (fun r => r = 1) L xs x3 (nI n) kc ks m 0 (nI n) fb a1 a2 a3 a4 a5 (nI n) gb d1 d2 d3 d4 d5 := by
  refine pk_loop (fun m i (s : (Int32 × (Nat → Int32) × (Nat → Int32) × (Nat → Int32) × (Nat → Int32)) × (Int32 × (Nat → Int32) × (Nat → Int32) × (Nat → Int32) × (Nat → Int32))) => wL_law_343 (fun r => r = 1) L xs x3 (nI n) kc ks m (nI i) (nI n) s.1.1 a1 s.1.2.1 s.1.2.2.1 s.1.2.2.2.1 s.1.2.2.2.2 (nI n) s.2.1 d1 s.2.2.1 s.2.2.2.1 s.2.2.2.2.1 s.2.2.2.2.2)
    (fun i s => hr_ok n f s.1.1 a1 s.1.2.1 s.1.2.2.1 ∧ hr_ok n (hr_neg f) s.2.1 d1 s.2.2.1 s.2.2.2.1) 13 0 ((fb, a2, a3, a4, a5), (gb, d2, d3, d4, d5)) (by omega) ⟨h, hg⟩ ?_ ?_
  · intro m s _
    refine pk_le 13 13 (fun _ => ?_) (fun z => absurd z (by omega))
    unfold wpX_rows
    exact br_t rfl rfl
  · intro m i s hi ⟨h, hg⟩ hw
    have W : ∀ fb' a2' a3' a4' a5' gb' d2' d3' d4' d5', hr_ok n f fb' a1 a2' a3' → hr_ok n (hr_neg f) gb' d1 d2' d3' → wL_law_343 (fun r => r = 1) L xs x3 (nI n) kc ks m (nI (i + 1)) (nI n) fb' a1 a2' a3' a4' a5' (nI n) gb' d1 d2' d3' d4' d5' :=
      fun fb' a2' a3' a4' a5' gb' d2' d3' d4' d5' h hg => hw ((fb', a2', a3', a4', a5'), (gb', d2', d3', d4', d5')) ⟨h, hg⟩
    refine pk_le 13 i (fun z => absurd z (by omega)) (fun _ => pk_le 12 i (fun z => ?_) (fun z => ⟨by decide, ?_⟩))
    · exact hr_365 (a := 0) (by omega) rfl (by omega) (fun w => absurd w (by omega)) h hg W
    · have ed : nI i / 2 = nI (i / 2) := pk_div (d := 2) (by omega) (by omega) (by omega)
      exact hr_365 (a := i / 2) (by omega) ed (by omega) (fun w => by omega) h hg W
theorem hr_300 {post : Int32 → Prop} {L : Nat} {xs : Nat → Int32} {J : Int32 → Int32 → Int32 → (Nat → Int32) → (Nat → Int32) → (Nat → Int32) → (Nat → Int32) → (Nat → Int32) → Int32 → Int32 → (Nat → Int32) → (Nat → Int32) → (Nat → Int32) → (Nat → Int32) → (Nat → Int32) → Prop} {x3 x4 : Int32} {r kc ks : Nat} {gb : Int32} {d1 d2 d3 d4 d5 : Nat → Int32} (hr : r < 8) (h : hr_ok n f fb a1 a2 a3) (hg : hr_ok n (hr_neg f) gb d1 d2 d3)
    (H : ∀ fb' a2' a3' a4' a5' gb' d2' d3' d4' d5', hr_ok n f fb' a1 a2' a3' → hr_ok n (hr_neg f) gb' d1 d2' d3' → J (nI (r + 1)) (nI n) fb' a1 a2' a3' a4' a5' (nI n) gb' d1 d2' d3' d4' d5') :
    ∃ m, wL_law_300 post L xs J x3 x4 (nI r) kc ks m 0 (nI n) fb a1 a2 a3 a4 a5 (nI n) gb d1 d2 d3 d4 d5 := by
  refine pk_loop (fun m i (s : (Int32 × (Nat → Int32) × (Nat → Int32) × (Nat → Int32) × (Nat → Int32)) × (Int32 × (Nat → Int32) × (Nat → Int32) × (Nat → Int32) × (Nat → Int32))) => wL_law_300 post L xs J x3 x4 (nI r) kc ks m (nI i) (nI n) s.1.1 a1 s.1.2.1 s.1.2.2.1 s.1.2.2.2.1 s.1.2.2.2.2 (nI n) s.2.1 d1 s.2.2.1 s.2.2.2.1 s.2.2.2.2.1 s.2.2.2.2.2)
    (fun i s => hr_ok n f s.1.1 a1 s.1.2.1 s.1.2.2.1 ∧ hr_ok n (hr_neg f) s.2.1 d1 s.2.2.1 s.2.2.2.1) 8 0 ((fb, a2, a3, a4, a5), (gb, d2, d3, d4, d5)) (by omega) ⟨h, hg⟩ ?_ ?_
  · intro m s ⟨h, hg⟩
    exact pk_le 8 8 (fun _ => nm_r (nI_1 r) (H _ _ _ _ _ _ _ _ _ _ h hg)) (fun z => absurd z (by omega))
  · intro m i s hi ⟨h, hg⟩ hw
    refine pk_le 8 i (fun z => absurd z (by omega)) (fun _ => ?_)
    refine hr_longest h (by omega) (by omega) (fun fb' a2' a3' a4' a5' h => ?_)
    refine hr_longest hg (by omega) (by omega) (fun gb' d2' d3' d4' d5' hg => ?_)
    have e3 : hr_A (hr_neg f) = hr_A f := hr_A_not f
    refine br_t (by rw [e3]) (nm_r (nI_1 i) ?_)
    exact hw ((fb', a2', a3', a4', a5'), (gb', d2', d3', d4', d5')) ⟨h, hg⟩
theorem hr_239 {L : Nat} {xs : Nat → Int32} {x3 : Int32} {kc ks : Nat} {gb : Int32} {d1 d2 d3 d4 d5 : Nat → Int32} (h : hr_ok n f fb a1 a2 a3) (hg : hr_ok n (hr_neg f) gb d1 d2 d3) :
    ∃ m, wL_law_239 (fun r => r = 1) L xs x3 (nI n) kc ks m 0 (nI n) fb a1 a2 a3 a4 a5 (nI n) gb d1 d2 d3 d4 d5 := by
  refine pk_loop (fun m i (s : (Int32 × (Nat → Int32) × (Nat → Int32) × (Nat → Int32) × (Nat → Int32)) × (Int32 × (Nat → Int32) × (Nat → Int32) × (Nat → Int32) × (Nat → Int32))) => wL_law_239 (fun r => r = 1) L xs x3 (nI n) kc ks m (nI i) (nI n) s.1.1 a1 s.1.2.1 s.1.2.2.1 s.1.2.2.2.1 s.1.2.2.2.2 (nI n) s.2.1 d1 s.2.2.1 s.2.2.2.1 s.2.2.2.2.1 s.2.2.2.2.2)
    (fun i s => hr_ok n f s.1.1 a1 s.1.2.1 s.1.2.2.1 ∧ hr_ok n (hr_neg f) s.2.1 d1 s.2.2.1 s.2.2.2.1) 8 0 ((fb, a2, a3, a4, a5), (gb, d2, d3, d4, d5)) (by omega) ⟨h, hg⟩ ?_ ?_
  · intro m s ⟨h, hg⟩
    exact pk_le 8 8 (fun _ => hr_343 h hg) (fun z => absurd z (by omega))
  · intro m i s hi ⟨h, hg⟩ hw
    have e3 : hr_A (hr_neg f) = hr_A f := hr_A_not f
    refine pk_le 8 i (fun z => absurd z (by omega)) (fun _ => ?_)
    refine hr_winning h (by omega) (fun fb' a2' a3' a4' a5' h => ?_)
    refine hr_winning hg (by omega) (fun gb' d2' d3' d4' d5' hg => ?_)
    refine br_t (by rw [e3]) ?_
    refine hr_cover h (by omega) (fun fb' a2' a3' a4' a5' h => ?_)
    refine hr_cover hg (by omega) (fun gb' d2' d3' d4' d5' hg => ?_)
    refine br_t (by rw [e3]) ?_
    rw [nI_1]
    refine hr_matches h (by omega) (by omega) (fun fb' a2' a3' a4' a5' h => ?_)
    refine hr_matches hg (by omega) (by omega) (fun gb' d2' d3' d4' d5' hg => ?_)
    refine br_t (by rw [e3]) ?_
    exact hr_300 hi h hg (fun fb' a2' a3' a4' a5' gb' d2' d3' d4' d5' h hg => hw ((fb', a2', a3', a4', a5'), (gb', d2', d3', d4', d5')) ⟨h, hg⟩)
end
end
section
section
variable {n : Nat} {f : Nat → Nat → Bool} {fb : Int32} {a1 a2 a3 a4 a5 : Nat → Int32}
theorem hr_tA_bad {post : Int32 → St1 → Prop} {o : Nat} (ho : o < 8) {x y : Int32} (hx : x < 0 ∨ (¬ x < 0 ∧ 4095 < x)) (H : post (-1) (nI n, fb, a1, a2, a3, a4, a5)) : wpL_turn post (nI n, fb, a1, a2, a3, a4, a5) (nI o) x y := by
  unfold wpL_turn
  exact nm_r (hr_15 (by omega)) (pk_le 8 o (fun z => absurd z (by omega)) (fun _ => hr_add_bad hx H))
theorem hr_tA {post : Int32 → St1 → Prop} {o : Nat} (ho : o < 8) {x y : Int32} {g : Nat → Bool} (h : hr_ok n f fb a1 a2 a3) (hg : hr_row x g) (H8 : n = 8 → post (-2) (nI n, fb, a1, a2, a3, a4, a5)) (H7 : n < 8 → ∀ a1', hr_ok (n + 1) (hr_pa n f g) 0 a1' a2 a3 → post (nI n) (nI (n + 1), 0, a1', a2, a3, a4, a5)) : wpL_turn post (nI n, fb, a1, a2, a3, a4, a5) (nI o) x y := by
  unfold wpL_turn
  exact nm_r (hr_15 (by omega)) (pk_le 8 o (fun z => absurd z (by omega)) (fun _ => hr_add h hg H8 H7))
theorem hr_tR {post : Int32 → St1 → Prop} {o : Nat} (ho : 8 ≤ o) (ho2 : o < 10) {x y : Int32} (h : hr_ok n f fb a1 a2 a3) (H0 : n = 0 → post (-4) (nI n, fb, a1, a2, a3, a4, a5)) (H1 : ∀ m, n = m + 1 → hr_ok m f 0 a1 a2 a3 → hr_row (a1 m) (f m) → post (a1 m) (nI m, 0, a1, a2, a3, a4, a5)) : wpL_turn post (nI n, fb, a1, a2, a3, a4, a5) (nI o) x y := by
  unfold wpL_turn
  exact nm_r (hr_15 (by omega)) (pk_le 8 o (fun _ => pk_le 10 o (fun z => absurd z (by omega)) (fun _ => hr_remove h H0 H1)) (fun z => absurd z (by omega)))
theorem hr_tT_ok {post : Int32 → St1 → Prop} {o : Nat} (ho : 10 ≤ o) (ho2 : o < 16) (h : hr_ok n f fb a1 a2 a3) {r c : Nat} (hr : r < n) (hc : c < 12) (H : ∀ a1', hr_ok n (hr_pt r c f) 0 a1' a2 a3 → post (nI (!f r c).toNat) (nI n, 0, a1', a2, a3, a4, a5)) : wpL_turn post (nI n, fb, a1, a2, a3, a4, a5) (nI o) (nI r) (nI c) := by
  unfold wpL_turn
  exact nm_r (hr_15 (by omega)) (pk_le 8 o (fun _ => pk_le 10 o (fun _ => hr_turn_ok h hr hc H) (fun z => absurd z (by omega))) (fun z => absurd z (by omega)))
theorem hr_tT_bad {post : Int32 → St1 → Prop} {o : Nat} (ho : 10 ≤ o) (ho2 : o < 16) {x y : Int32} (h8 : n ≤ 8) (hx : ¬ ∃ r c : Nat, r < n ∧ c < 12 ∧ x = nI r ∧ y = nI c) (H : post (-4) (nI n, fb, a1, a2, a3, a4, a5)) : wpL_turn post (nI n, fb, a1, a2, a3, a4, a5) (nI o) x y := by
  unfold wpL_turn
  exact nm_r (hr_15 (by omega)) (pk_le 8 o (fun _ => pk_le 10 o (fun _ => hr_turn_bad h8 hx H) (fun z => absurd z (by omega))) (fun z => absurd z (by omega)))
section
variable {post : Int32 → Prop} {L : Nat} {xs : Nat → Int32} {J : Int32 → Int32 → Int32 → (Nat → Int32) → (Nat → Int32) → (Nat → Int32) → (Nat → Int32) → (Nat → Int32) → Int32 → Int32 → (Nat → Int32) → (Nat → Int32) → (Nat → Int32) → (Nat → Int32) → (Nat → Int32) → Prop} {x3 x4 : Int32} {kc ks : Nat} {hn gn gb : Int32} {d1 d2 d3 d4 d5 : Nat → Int32}
theorem hr_152 {x10 z0 : Int32} (e : x10 = z0) (H : J (x4 + 3) hn fb a1 a2 a3 a4 a5 gn gb d1 d2 d3 d4 d5) : wL_law_152 post L xs J x3 x4 x10 z0 kc ks hn fb a1 a2 a3 a4 a5 gn gb d1 d2 d3 d4 d5 := by
  unfold wL_law_152
  exact br_t e (nm_e H)
theorem hr_131a {o : Nat} {x9 x10 : Int32} (ho : o ≤ 9) (e : x10 = x9) (H : J (x4 + 3) hn fb a1 a2 a3 a4 a5 gn gb d1 d2 d3 d4 d5) : wL_law_131 post L xs J x3 x4 (nI o) x9 x10 kc ks hn fb a1 a2 a3 a4 a5 gn gb d1 d2 d3 d4 d5 := by
  unfold wL_law_131 wL_law_150
  exact pk_le o 9 (fun _ => hr_152 e H) (fun z => absurd z (by omega))
theorem hr_131b {o : Nat} {x9 x10 : Int32} (ho : 10 ≤ o) (ho2 : o < 16) (e : x9 < 0 → x10 = x9) (e2 : ¬ x9 < 0 → x10 = 1 - x9) (H : J (x4 + 3) hn fb a1 a2 a3 a4 a5 gn gb d1 d2 d3 d4 d5) : wL_law_131 post L xs J x3 x4 (nI o) x9 x10 kc ks hn fb a1 a2 a3 a4 a5 gn gb d1 d2 d3 d4 d5 := by
  unfold wL_law_131 wL_law_150
  exact pk_le o 9 (fun z => absurd z (by omega)) (fun _ => br_c (fun w => hr_152 (e w) H) (fun w => hr_152 (e2 w) H))
/-- one turn of the script on both objects -/
theorem hr_turn2 {o : Nat} (ho : o < 16) (x y : Int32) (h : hr_ok n f fb a1 a2 a3) (hg : hr_ok n (hr_neg f) gb d1 d2 d3)
    (H : ∀ (n' : Nat) (f' : Nat → Nat → Bool) (fb' gb' : Int32) (a1' d1' : Nat → Int32), hr_ok n' f' fb' a1' a2 a3 → hr_ok n' (hr_neg f') gb' d1' d2 d3 → J (x4 + 3) (nI n') fb' a1' a2 a3 a4 a5 (nI n') gb' d1' d2 d3 d4 d5) :
    wpL_other (fun r_467 => (wpL_turn (fun r_468 u => match u with | (c1, c2, b1, b2, b3, b4, b5) => (((8 ≤ nI o → (wL_law_102 post L xs J x3 x4 (nI o) y r_468 x (nI o) kc ks c1 c2 b1 b2 b3 b4 b5 (nI n) gb d1 d2 d3 d4 d5)) ∧ (¬ 8 ≤ nI o → (wL_law_102 post L xs J x3 x4 (nI o) y r_468 r_467 (nI o) kc ks c1 c2 b1 b2 b3 b4 b5 (nI n) gb d1 d2 d3 d4 d5))))) (nI n, fb, a1, a2, a3, a4, a5) (nI o) x y)) () x := by
  have h8 := h.1.1
  by_cases o8 : o < 8
  · rcases hr_x x with hx | ⟨v, hv, rfl⟩
    · refine hr_other_bad hx (hr_tA_bad o8 hx (pk_le 8 o (fun z => absurd z (by omega)) (fun _ => ?_)))
      unfold wL_law_102
      exact hr_tA_bad o8 hx (pk_le o 7 (fun _ => hr_131a (by omega) rfl (H _ _ _ _ _ _ h hg)) (fun z => absurd z (by omega)))
    · have r1 := hr_row_of hv
      have r2 := hr_row_not hv r1
      refine hr_other_ok hv (hr_tA o8 h r1 (fun e8 => pk_le 8 o (fun z => absurd z (by omega)) (fun _ => ?_)) (fun l8 a1' h' => pk_le 8 o (fun z => absurd z (by omega)) (fun _ => ?_)))
      · unfold wL_law_102
        exact hr_tA o8 hg r2 (fun _ => pk_le o 7 (fun _ => hr_131a (by omega) rfl (H _ _ _ _ _ _ h hg)) (fun z => absurd z (by omega))) (fun w => absurd w (by omega))
      · unfold wL_law_102
        refine hr_tA o8 hg r2 (fun w => absurd w (by omega)) (fun _ d1' hg' => pk_le o 7 (fun _ => hr_131a (by omega) rfl (H _ _ _ _ _ _ h' ?_)) (fun z => absurd z (by omega)))
        rw [← hr_pa_neg]
        exact hg'
  · have oth : ∀ P : Int32 → Prop, (∀ z, P z) → wpL_other P () x := by
      intro P hP
      rcases hr_x x with hx | ⟨v, hv, rfl⟩
      · exact hr_other_bad hx (hP _)
      · exact hr_other_ok hv (hP _)
    refine oth _ (fun xo => ?_)
    by_cases o10 : o < 10
    · refine hr_tR (by omega) o10 h (fun e0 => pk_le 8 o (fun _ => ?_) (fun z => absurd z (by omega))) (fun m em h' hrow => pk_le 8 o (fun _ => ?_) (fun z => absurd z (by omega)))
      · unfold wL_law_102
        refine hr_tR (by omega) o10 hg (fun _ => pk_le o 7 (fun z => absurd z (by omega)) (fun _ => pk_le 10 o (fun z => absurd z (by omega)) (fun _ => ?_))) (fun m em => absurd em (by omega))
        exact hr_other_bad (Or.inl (by decide)) (hr_152 rfl (H _ _ _ _ _ _ h hg))
      · unfold wL_law_102
        refine hr_tR (by omega) o10 hg (fun e0 => absurd em (by omega)) (fun m' em' hg' hrow' => pk_le o 7 (fun z => absurd z (by omega)) (fun _ => pk_le 10 o (fun z => absurd z (by omega)) (fun _ => ?_)))
        have emm : m' = m := by omega
        subst emm
        obtain ⟨v, hv, e1, e2⟩ := hr_row_cmp hrow hrow'
        rw [e1, e2]
        exact hr_other_ok hv (hr_152 rfl (H _ _ _ _ _ _ h' hg'))
    · by_cases hv : ∃ r c : Nat, r < n ∧ c < 12 ∧ x = nI r ∧ y = nI c
      · obtain ⟨r, c, hr, hc, rfl, rfl⟩ := hv
        refine hr_tT_ok (by omega) ho h hr hc (fun a1' h' => pk_le 8 o (fun _ => ?_) (fun z => absurd z (by omega)))
        unfold wL_law_102
        refine hr_tT_ok (by omega) ho hg hr hc (fun d1' hg' => pk_le o 7 (fun z => absurd z (by omega)) (fun _ => pk_le 10 o (fun _ => ?_) (fun z => absurd z (by omega))))
        refine hr_131b (by omega) ho ?_ ?_ (H _ _ _ _ _ _ h' ?_)
        · show nI (!f r c).toNat < 0 → nI (!!f r c).toNat = nI (!f r c).toNat
          cases f r c <;> decide
        · show ¬ nI (!f r c).toNat < 0 → nI (!!f r c).toNat = 1 - nI (!f r c).toNat
          cases f r c <;> decide
        · rw [← hr_pt_neg]
          exact hg'
      · refine hr_tT_bad (by omega) ho h8 hv (pk_le 8 o (fun _ => ?_) (fun z => absurd z (by omega)))
        unfold wL_law_102
        refine hr_tT_bad (by omega) ho h8 hv (pk_le o 7 (fun z => absurd z (by omega)) (fun _ => pk_le 10 o (fun _ => ?_) (fun z => absurd z (by omega))))
        exact hr_131b (by omega) ho (fun _ => rfl) (fun w => absurd (show (-4 : Int32) < 0 by decide) w) (H _ _ _ _ _ _ h hg)
end
theorem hr_172 {L : Nat} {xs : Nat → Int32} {x3 : Int32} {kc ks : Nat} {gb : Int32} {d1 d2 d3 d4 d5 : Nat → Int32} (h : hr_ok n f fb a1 a2 a3) (hg : hr_ok n (hr_neg f) gb d1 d2 d3) :
    ∃ m, wL_law_172 (fun r => r = 1) L xs x3 kc ks m 0 (nI n) fb a1 a2 a3 a4 a5 (nI n) gb d1 d2 d3 d4 d5 := by
  refine pk_loop (fun m i (s : Nat × (Int32 × (Nat → Int32)) × (Int32 × (Nat → Int32))) => wL_law_172 (fun r => r = 1) L xs x3 kc ks m (nI i) (nI s.1) s.2.1.1 s.2.1.2 a2 a3 a4 a5 (nI s.1) s.2.2.1 s.2.2.2 d2 d3 d4 d5)
    (fun i s => ∃ f, hr_ok s.1 f s.2.1.1 s.2.1.2 a2 a3 ∧ hr_ok s.1 (hr_neg f) s.2.2.1 s.2.2.2 d2 d3) 4 0 (n, (fb, a1), (gb, d1)) (by omega) ⟨f, h, hg⟩ ?_ ?_
  · intro m s ⟨f, h, hg⟩
    refine pk_le 4 4 (fun _ => ?_) (fun z => absurd z (by omega))
    unfold wpX_rows
    exact hr_239 h hg
  · intro m i ⟨n, ⟨fb, a1⟩, ⟨gb, d1⟩⟩ hi ⟨f, h, hg⟩ hw
    dsimp only at h hg ⊢
    obtain ⟨v, hv, ev⟩ := hr_and12 ((x3 * ((2 * nI i) + 1)) >>> (nI i &&& 31))
    have r1 := hr_row_of hv
    have r2 := hr_row_not hv r1
    refine pk_le 4 i (fun z => absurd z (by omega)) (fun _ => nm_r ev ?_)
    refine hr_add h r1 (fun e8 => ?_) (fun l8 a1' h' => ?_)
    · refine hr_add hg r2 (fun _ => br_t rfl (nm_r (nI_1 i) ?_)) (fun w => absurd w (by omega))
      exact hw (n, (fb, a1), (gb, d1)) ⟨f, h, hg⟩
    · refine hr_add hg r2 (fun w => absurd w (by omega)) (fun _ d1' hg' => br_t rfl (nm_r (nI_1 i) ?_))
      refine hw (n + 1, (0, a1'), (0, d1')) ⟨_, h', ?_⟩
      rw [← hr_pa_neg]
      exact hg'
theorem hr_32 {L : Nat} (hL : L ≤ 260) {xs : Nat → Int32} {x3 : Int32} {kc ks : Nat} {gb : Int32} {d1 d2 d3 d4 d5 : Nat → Int32} (h : hr_ok n f fb a1 a2 a3) (hg : hr_ok n (hr_neg f) gb d1 d2 d3) :
    ∃ m, wL_law_32 (fun r => r = 1) L xs x3 kc ks m 1 (nI n) fb a1 a2 a3 a4 a5 (nI n) gb d1 d2 d3 d4 d5 := by
  refine pk_loop (fun m i (s : Nat × (Int32 × (Nat → Int32)) × (Int32 × (Nat → Int32))) => wL_law_32 (fun r => r = 1) L xs x3 kc ks m (nI (1 + 3 * i)) (nI s.1) s.2.1.1 s.2.1.2 a2 a3 a4 a5 (nI s.1) s.2.2.1 s.2.2.2 d2 d3 d4 d5)
    (fun i s => ∃ f, hr_ok s.1 f s.2.1.1 s.2.1.2 a2 a3 ∧ hr_ok s.1 (hr_neg f) s.2.2.1 s.2.2.2 d2 d3) ((L - 1) / 3) 0 (n, (fb, a1), (gb, d1)) (by omega) ⟨f, h, hg⟩ ?_ ?_
  · intro m s ⟨f, h, hg⟩
    exact pk_le L (1 + 3 * ((L - 1) / 3) + 2) (fun _ => hr_172 h hg) (fun z => absurd z (by omega)) rfl (nI_add _ 2)
  · intro m i ⟨n, ⟨fb, a1⟩, ⟨gb, d1⟩⟩ hi ⟨f, h, hg⟩ hw
    dsimp only at h hg ⊢
    have e1 : nI (1 + 3 * i) + 1 = nI (1 + 3 * i + 1) := nI_1 _
    have e2 : nI (1 + 3 * i) + 2 = nI (1 + 3 * i + 2) := nI_add _ 2
    have e3 : nI (1 + 3 * i) + 3 = nI (1 + 3 * (i + 1)) := by
      rw [show 1 + 3 * (i + 1) = 1 + 3 * i + 3 by omega]
      exact nI_add _ 3
    refine pk_le L (1 + 3 * i + 2) (fun z => absurd z (by omega)) (fun _ => ?_) rfl e2
    obtain ⟨o, ho, eo⟩ := pk_andE (xs (nI (1 + 3 * i)).toNatClampNeg) (m := 15) 4 (by decide)
    refine ⟨pk_in (1 + 3 * i) L (by omega), nm_r eo ⟨pk_in (1 + 3 * i + 1) L (by omega) e1, nm_e ⟨pk_in (1 + 3 * i + 2) L (by omega) e2, nm_e ?_⟩⟩⟩
    refine hr_turn2 ho _ _ h hg (fun n' f' fb' gb' a1' d1' h' hg' => ?_)
    rw [e3]
    exact hw (n', (fb', a1'), (gb', d1')) ⟨f', h', hg'⟩
end
theorem i_vc (xs : Nat → Int32) (L : Nat) (hL : L ≤ 260) : wpL_law (fun r => r = 1) L xs := by
  have h0 : ∀ f : Nat → Nat → Bool, hr_ok 0 f 0 (fun _ => 0) (fun _ => 0) (fun _ => 0) := fun f => ⟨⟨by omega, fun i hi => absurd hi (by omega)⟩, fun z => absurd rfl z⟩
  unfold wpL_law
  refine ⟨5, 232, by omega, by omega, ?_⟩
  unfold wpX_init
  refine ⟨by omega, by omega, by omega, by omega, by omega, by omega, by omega, by omega, by omega, by omega, by omega, by omega, 5, 232, by omega, by omega, by omega, by omega, by omega, by omega, by omega, by omega, by omega, by omega, by omega, by omega, ?_⟩
  have K : ∀ x3 : Int32, ∃ m, wL_law_32 (fun r => r = 1) L xs x3 (1 + 5 + 1 + 5) (7 + 232 + 7 + 232) m 1 0 0 (fun _ => 0) (fun _ => 0) (fun _ => 0) (fun _ => 0) (fun _ => 0) 0 0 (fun _ => 0) (fun _ => 0) (fun _ => 0) (fun _ => 0) (fun _ => 0) :=
    fun x3 => hr_32 (n := 0) (f := fun _ _ => false) hL (h0 _) (h0 _)
  refine pk_le L 0 (fun _ => K 0) (fun z => ⟨pk_in 0 L z, nm_e (K _)⟩)
end
