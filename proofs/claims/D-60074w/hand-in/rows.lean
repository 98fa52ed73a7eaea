section
/-! plain laws 1: lists of a function's values, folds, the exchange argument; no program in sight -/
def jk_fl (O : Nat → Nat) (n : Nat) : List Nat := (List.range n).map O
theorem jk_fl_0 (O : Nat → Nat) : jk_fl O 0 = [] := rfl
theorem jk_fl_succ (O : Nat → Nat) (n : Nat) : jk_fl O (n + 1) = jk_fl O n ++ [O n] := by
  simp [jk_fl, List.range_succ]
theorem jk_fl_len (O : Nat → Nat) (n : Nat) : (jk_fl O n).length = n := by simp [jk_fl]
theorem jk_fl_congr {f g : Nat → Nat} {n : Nat} (h : ∀ i, i < n → f i = g i) : jk_fl f n = jk_fl g n := by
  unfold jk_fl
  exact List.map_congr_left (fun a ha => h a (List.mem_range.mp ha))
theorem jk_fl_add (f : Nat → Nat) (a b : Nat) : jk_fl f (a + b) = jk_fl f a ++ jk_fl (fun i => f (a + i)) b := by
  induction b with
  | zero => simp [jk_fl]
  | succ b ih => rw [← Nat.add_assoc, jk_fl_succ, ih, jk_fl_succ, List.append_assoc]
theorem jk_fl_mem {f : Nat → Nat} {n x : Nat} : x ∈ jk_fl f n ↔ ∃ i, i < n ∧ f i = x := by
  simp [jk_fl]
theorem jk_fl_get {f : Nat → Nat} {n i : Nat} (h : i < n) : (jk_fl f n)[i]? = some (f i) := by
  simp [jk_fl, h]
theorem jk_fl_id (n : Nat) : jk_fl (fun i => i) n = List.range n := by simp [jk_fl]
theorem jk_fold_mono {σ : Type} (f : σ → Nat → σ) (le : σ → σ → Prop) (mono : ∀ s t j, le s t → le (f s j) (f t j)) : ∀ (L : List Nat) (s t : σ), le s t → le (L.foldl f s) (L.foldl f t) := by
  intro L
  induction L with
  | nil => intro s t h; exact h
  | cons j L ih => intro s t h; exact ih _ _ (mono s t j h)
theorem jk_fold_move {σ : Type} (f : σ → Nat → σ) (le : σ → σ → Prop) (rf : ∀ s, le s s) (tr : ∀ a b c, le a b → le b c → le a c) (mono : ∀ s t j, le s t → le (f s j) (f t j)) (R : Nat → Nat → Prop) (sw : ∀ s a b, R a b → le (f (f s a) b) (f (f s b) a)) (a : Nat) : ∀ (X : List Nat) (s : σ), (∀ y ∈ X, R a y) → le ((a :: X).foldl f s) ((X ++ [a]).foldl f s) := by
  intro X
  induction X with
  | nil => intro s _; exact rf _
  | cons y X ih =>
    intro s h
    have h1 := jk_fold_mono f le mono X _ _ (sw s a y (h y List.mem_cons_self))
    have h2 := ih (f s y) (fun z hz => h z (List.mem_cons_of_mem _ hz))
    exact tr _ _ _ h1 h2
theorem jk_fold_sorted {σ : Type} (f : σ → Nat → σ) (le : σ → σ → Prop) (rf : ∀ s, le s s) (tr : ∀ a b c, le a b → le b c → le a c) (mono : ∀ s t j, le s t → le (f s j) (f t j)) (R : Nat → Nat → Prop) (sw : ∀ s a b, R a b → le (f (f s a) b) (f (f s b) a)) : ∀ (L : List Nat), L.Pairwise R → ∀ (L' : List Nat), L.Perm L' → ∀ s, le (L.foldl f s) (L'.foldl f s) := by
  intro L
  induction L with
  | nil =>
    intro _ L' hp s
    rw [List.nil_perm.mp hp]
    exact rf _
  | cons a T ih =>
    intro hw L' hp s
    obtain ⟨X, Y, rfl⟩ := List.append_of_mem (hp.subset List.mem_cons_self)
    have hp2 : T.Perm (X ++ Y) := List.Perm.cons_inv (hp.trans List.perm_middle)
    have hw' := List.pairwise_cons.mp hw
    have h1 := ih hw'.2 (X ++ Y) hp2 (f s a)
    have h2 := jk_fold_move f le rf tr mono R sw a X s (fun y hy => hw'.1 y (hp2.symm.subset (List.mem_append_left _ hy)))
    have h3 := jk_fold_mono f le mono Y _ _ h2
    have e1 : (X ++ a :: Y).foldl f s = Y.foldl f ((X ++ [a]).foldl f s) := by simp [List.foldl_append]
    have e2 : (X ++ Y).foldl f (f s a) = Y.foldl f ((a :: X).foldl f s) := by simp [List.foldl_append]
    rw [e2] at h1
    rw [e1]
    exact tr _ _ _ h1 h3
/-! one job more: the time so far, the second machine's time, the value; kind 0 weighted, 1 latest, 2 late, 3 both -/
def jk_st (P Q D V : Nat → Nat) (kind : Nat) (s : Nat × Nat × Int) (j : Nat) : Nat × Nat × Int :=
  (s.1 + P j,
   if kind = 3 then (if s.2.1 < s.1 + P j then s.1 + P j else s.2.1) + Q j else s.2.1,
   if kind = 0 then s.2.2 + ((V j * (s.1 + P j) : Nat) : Int)
   else if kind = 1 then (if s.2.2 < ((s.1 + P j : Nat) : Int) - (D j : Int) then ((s.1 + P j : Nat) : Int) - (D j : Int) else s.2.2)
   else if kind = 2 then s.2.2 + (if D j < s.1 + P j then 1 else 0)
   else (((if s.2.1 < s.1 + P j then s.1 + P j else s.2.1) + Q j : Nat) : Int))
def jk_s0 (kind : Nat) : Nat × Nat × Int := (0, 0, if kind = 1 then -1024 else 0)
def jk_fold (P Q D V : Nat → Nat) (kind : Nat) (s : Nat × Nat × Int) (L : List Nat) : Nat × Nat × Int := L.foldl (jk_st P Q D V kind) s
def jk_cost (P Q D V : Nat → Nat) (kind : Nat) (L : List Nat) : Int := (jk_fold P Q D V kind (jk_s0 kind) L).2.2
def jk_le (s t : Nat × Nat × Int) : Prop := s.1 = t.1 ∧ s.2.1 ≤ t.2.1 ∧ s.2.2 ≤ t.2.2
theorem jk_le_rf (s : Nat × Nat × Int) : jk_le s s := ⟨rfl, Nat.le_refl _, Int.le_refl _⟩
theorem jk_le_tr (a b c : Nat × Nat × Int) (h : jk_le a b) (k : jk_le b c) : jk_le a c := ⟨h.1.trans k.1, Nat.le_trans h.2.1 k.2.1, Int.le_trans h.2.2 k.2.2⟩
theorem jk_fold_snoc (P Q D V : Nat → Nat) (kind : Nat) (s : Nat × Nat × Int) (L : List Nat) (j : Nat) : jk_fold P Q D V kind s (L ++ [j]) = jk_st P Q D V kind (jk_fold P Q D V kind s L) j := by
  simp [jk_fold, List.foldl_append]
theorem jk_st_mono (P Q D V : Nat → Nat) (kind : Nat) (s t : Nat × Nat × Int) (j : Nat) (h : jk_le s t) : jk_le (jk_st P Q D V kind s j) (jk_st P Q D V kind t j) := by
  obtain ⟨s1, s2, s3⟩ := s
  obtain ⟨t1, t2, t3⟩ := t
  obtain ⟨h1, h2, h3⟩ := h
  dsimp only at h1 h2 h3
  subst h1
  refine ⟨rfl, ?_, ?_⟩
  · dsimp only [jk_st]
    by_cases k3 : kind = 3
    · rw [if_pos k3, if_pos k3]
      by_cases c1 : s2 < s1 + P j <;> by_cases c2 : t2 < s1 + P j <;> simp only [c1, c2, if_true, if_false] <;> omega
    · rw [if_neg k3, if_neg k3]
      exact h2
  · dsimp only [jk_st]
    by_cases k0 : kind = 0
    · rw [if_pos k0, if_pos k0]
      omega
    · rw [if_neg k0, if_neg k0]
      by_cases k1 : kind = 1
      · rw [if_pos k1, if_pos k1]
        by_cases c1 : s3 < ((s1 + P j : Nat) : Int) - (D j : Int) <;> by_cases c2 : t3 < ((s1 + P j : Nat) : Int) - (D j : Int) <;> simp only [c1, c2, if_true, if_false] <;> omega
      · rw [if_neg k1, if_neg k1]
        by_cases k2 : kind = 2
        · rw [if_pos k2, if_pos k2]
          omega
        · rw [if_neg k2, if_neg k2]
          by_cases c1 : s2 < s1 + P j <;> by_cases c2 : t2 < s1 + P j <;> simp only [c1, c2, if_true, if_false] <;> omega
/-! the order of 'before': how 0 by length for weight, 1 by dues, 2 for two machines -/
def jk_bef (P Q D V : Nat → Nat) (how i j : Nat) : Prop :=
  (how = 0 ∧ P i * V j < P j * V i) ∨ (how = 1 ∧ D i < D j) ∨ (how ≠ 0 ∧ how ≠ 1 ∧ ((P i < Q i ∧ ¬ P j < Q j) ∨ (P i < Q i ∧ P j < Q j ∧ P i < P j) ∨ (¬ P i < Q i ∧ ¬ P j < Q j ∧ Q j < Q i)))
def jk_R (P Q D V : Nat → Nat) (how i j : Nat) : Prop := ¬ jk_bef P Q D V how j i
theorem jk_bef_as {P Q D V : Nat → Nat} {how i j : Nat} (h : jk_bef P Q D V how i j) : jk_R P Q D V how i j := by
  unfold jk_R jk_bef at *
  omega
theorem jk_R_tr {P Q D V : Nat → Nat} {how a b c : Nat} (hb : how = 0 → ¬ (P b = 0 ∧ V b = 0)) (h1 : jk_R P Q D V how a b) (h2 : jk_R P Q D V how b c) : jk_R P Q D V how a c := by
  by_cases h0 : how = 0
  · have hb := hb h0
    subst h0
    have g1 : P a * V b ≤ P b * V a := by unfold jk_R jk_bef at h1; omega
    have g2 : P b * V c ≤ P c * V b := by unfold jk_R jk_bef at h2; omega
    have g3 : P a * V c ≤ P c * V a := by
      rcases Nat.eq_zero_or_pos (V b) with z | z
      · have pb : 0 < P b := by omega
        rw [z, Nat.mul_zero] at g2
        have : V c = 0 := by
          rcases Nat.eq_zero_or_pos (V c) with w | w
          · exact w
          · exact absurd (Nat.mul_pos pb w) (by omega)
        rw [this, Nat.mul_zero]
        exact Nat.zero_le _
      · have e1 : P a * V b * V c ≤ P b * V a * V c := Nat.mul_le_mul_right _ g1
        have e2 : P b * V c * V a ≤ P c * V b * V a := Nat.mul_le_mul_right _ g2
        have e3 : P a * V c * V b ≤ P c * V a * V b := by
          have a1 : P a * V b * V c = P a * V c * V b := Nat.mul_right_comm _ _ _
          have a2 : P b * V a * V c = P b * V c * V a := Nat.mul_right_comm _ _ _
          have a3 : P c * V b * V a = P c * V a * V b := Nat.mul_right_comm _ _ _
          omega
        exact Nat.le_of_mul_le_mul_right e3 z
    unfold jk_R jk_bef
    omega
  · unfold jk_R jk_bef at *
    omega
theorem jk_sw0 (P Q D V : Nat → Nat) (s : Nat × Nat × Int) (a b : Nat) (h : jk_R P Q D V 0 a b) : jk_le (jk_st P Q D V 0 (jk_st P Q D V 0 s a) b) (jk_st P Q D V 0 (jk_st P Q D V 0 s b) a) := by
  have g1 : P a * V b ≤ P b * V a := by unfold jk_R jk_bef at h; omega
  obtain ⟨s1, s2, s3⟩ := s
  refine ⟨?_, ?_, ?_⟩
  · dsimp only [jk_st]
    omega
  · simp [jk_st]
  · dsimp only [jk_st]
    simp only [if_true]
    have e1 : V b * (s1 + P a + P b) = V b * s1 + V b * P a + V b * P b := by rw [Nat.mul_add, Nat.mul_add]
    have e2 : V a * (s1 + P b + P a) = V a * s1 + V a * P b + V a * P a := by rw [Nat.mul_add, Nat.mul_add]
    have e3 : V a * (s1 + P a) = V a * s1 + V a * P a := by rw [Nat.mul_add]
    have e4 : V b * (s1 + P b) = V b * s1 + V b * P b := by rw [Nat.mul_add]
    have e5 : P a * V b = V b * P a := Nat.mul_comm _ _
    have e6 : P b * V a = V a * P b := Nat.mul_comm _ _
    rw [e1, e2, e3, e4]
    omega
theorem jk_sw1 (P Q D V : Nat → Nat) (s : Nat × Nat × Int) (a b : Nat) (h : jk_R P Q D V 1 a b) : jk_le (jk_st P Q D V 1 (jk_st P Q D V 1 s a) b) (jk_st P Q D V 1 (jk_st P Q D V 1 s b) a) := by
  have g1 : D a ≤ D b := by unfold jk_R jk_bef at h; omega
  obtain ⟨s1, s2, s3⟩ := s
  refine ⟨?_, ?_, ?_⟩
  · dsimp only [jk_st]
    omega
  · simp [jk_st]
  · simp only [jk_st, if_true, show ¬ (1 : Nat) = 0 by decide, show ¬ (1 : Nat) = 3 by decide, if_false]
    by_cases c1 : s3 < ((s1 + P a : Nat) : Int) - (D a : Int) <;> by_cases c2 : s3 < ((s1 + P b : Nat) : Int) - (D b : Int) <;> simp only [c1, c2, if_true, if_false] <;> split <;> split <;> omega
theorem jk_sw3 (P Q D V : Nat → Nat) (s : Nat × Nat × Int) (a b : Nat) (h : jk_R P Q D V 2 a b) : jk_le (jk_st P Q D V 3 (jk_st P Q D V 3 s a) b) (jk_st P Q D V 3 (jk_st P Q D V 3 s b) a) := by
  obtain ⟨s1, s2, s3⟩ := s
  unfold jk_R jk_bef at h
  have key : (if (if s2 < s1 + P a then s1 + P a else s2) + Q a < s1 + P a + P b then s1 + P a + P b else (if s2 < s1 + P a then s1 + P a else s2) + Q a) + Q b ≤ (if (if s2 < s1 + P b then s1 + P b else s2) + Q b < s1 + P b + P a then s1 + P b + P a else (if s2 < s1 + P b then s1 + P b else s2) + Q b) + Q a := by
    by_cases c1 : s2 < s1 + P a <;> by_cases c2 : s2 < s1 + P b <;> simp only [c1, c2, if_true, if_false] <;> split <;> split <;> omega
  refine ⟨?_, ?_, ?_⟩
  · dsimp only [jk_st]
    omega
  · simp only [jk_st, if_true]
    exact key
  · simp only [jk_st, if_true, show ¬ (3 : Nat) = 0 by decide, show ¬ (3 : Nat) = 1 by decide, show ¬ (3 : Nat) = 2 by decide, if_false]
    exact Int.ofNat_le.mpr key
/-- a sorted order is best: how 0 for kind 0, 1 for 1, 2 for 3 -/
theorem jk_best (P Q D V : Nat → Nat) (how kind : Nat) (hk : (how = 0 ∧ kind = 0) ∨ (how = 1 ∧ kind = 1) ∨ (how = 2 ∧ kind = 3)) (L L' : List Nat) (hw : L.Pairwise (jk_R P Q D V how)) (hp : L.Perm L') (s : Nat × Nat × Int) : jk_le (jk_fold P Q D V kind s L) (jk_fold P Q D V kind s L') := by
  unfold jk_fold
  refine jk_fold_sorted (jk_st P Q D V kind) jk_le jk_le_rf jk_le_tr (jk_st_mono P Q D V kind) (jk_R P Q D V how) ?_ L hw L' hp s
  rcases hk with ⟨rfl, rfl⟩ | ⟨rfl, rfl⟩ | ⟨rfl, rfl⟩
  · exact jk_sw0 P Q D V
  · exact jk_sw1 P Q D V
  · exact jk_sw3 P Q D V
/-! jobs without length and weight change nothing of the weighted sum -/
def jk_keep (P V : Nat → Nat) (how j : Nat) : Bool := !(decide (how = 0) && decide (P j = 0) && decide (V j = 0))
theorem jk_keep_n0 {P V : Nat → Nat} {how : Nat} (h : how ≠ 0) (j : Nat) : jk_keep P V how j = true := by simp [jk_keep, h]
theorem jk_keep_0 {P V : Nat → Nat} {j : Nat} : jk_keep P V 0 j = true ↔ ¬ (P j = 0 ∧ V j = 0) := by
  simp only [jk_keep, decide_true, Bool.true_and, Bool.not_eq_true', Bool.and_eq_false_iff, decide_eq_false_iff_not]
  omega
theorem jk_zero_st {P Q D V : Nat → Nat} {j : Nat} (h : jk_keep P V 0 j = false) (s : Nat × Nat × Int) : jk_st P Q D V 0 s j = s := by
  have : P j = 0 ∧ V j = 0 := by
    by_cases c : P j = 0 ∧ V j = 0
    · exact c
    · rw [jk_keep_0.mpr c] at h; cases h
  obtain ⟨s1, s2, s3⟩ := s
  simp [jk_st, this.1, this.2]
theorem jk_zero_filter (P Q D V : Nat → Nat) : ∀ (L : List Nat) (s : Nat × Nat × Int), jk_fold P Q D V 0 s (L.filter (jk_keep P V 0)) = jk_fold P Q D V 0 s L := by
  intro L
  induction L with
  | nil => intro s; rfl
  | cons j L ih =>
    intro s
    by_cases h : jk_keep P V 0 j = true
    · rw [List.filter_cons_of_pos h]
      exact ih (jk_st P Q D V 0 s j)
    · have h' : jk_keep P V 0 j = false := by simpa using h
      rw [List.filter_cons_of_neg h, ih s]
      show _ = jk_fold P Q D V 0 (jk_st P Q D V 0 s j) L
      rw [jk_zero_st h']
theorem jk_filter_all {P V : Nat → Nat} {how : Nat} (h : how ≠ 0) (L : List Nat) : L.filter (jk_keep P V how) = L := by
  rw [List.filter_eq_self]
  intro a _
  exact jk_keep_n0 h a
/-! the factorial code -/
def jk_fac : Nat → Nat
  | 0 => 1
  | n + 1 => (n + 1) * jk_fac n
theorem jk_fac_pos : ∀ n, 0 < jk_fac n
  | 0 => Nat.one_pos
  | n + 1 => Nat.mul_pos (Nat.succ_pos n) (jk_fac_pos n)
def jk_perm : Nat → List Nat → Nat → List Nat
  | 0, _, _ => []
  | m + 1, l, r => l.getD (r % (m + 1)) 0 :: jk_perm m (l.eraseIdx (r % (m + 1))) (r / (m + 1))
theorem jk_erase_perm {l : List Nat} {d : Nat} (h : d < l.length) : (l.getD d 0 :: l.eraseIdx d).Perm l := by
  have e1 : l.getD d 0 = l[d] := by simp [List.getD, h]
  rw [e1, List.eraseIdx_eq_take_drop_succ]
  have h2 := @List.perm_middle Nat l[d] (l.take d) (l.drop (d + 1))
  have e3 : l.take d ++ l[d] :: l.drop (d + 1) = l := by simp
  rw [e3] at h2
  exact h2.symm
theorem jk_perm_ok : ∀ (m : Nat) (l : List Nat) (r : Nat), l.length = m → (jk_perm m l r).Perm l := by
  intro m
  induction m with
  | zero => intro l r h; rw [List.length_eq_zero_iff.mp h]; exact List.Perm.refl _
  | succ m ih =>
    intro l r h
    have hd : r % (m + 1) < l.length := by rw [h]; exact Nat.mod_lt _ (Nat.succ_pos m)
    have h1 := ih (l.eraseIdx (r % (m + 1))) (r / (m + 1)) (by rw [List.length_eraseIdx_of_lt hd, h]; rfl)
    exact (h1.cons _).trans (jk_erase_perm hd)
theorem jk_perm_all : ∀ (m : Nat) (l L : List Nat), l.length = m → L.Perm l → ∃ r, r < jk_fac m ∧ jk_perm m l r = L := by
  intro m
  induction m with
  | zero =>
    intro l L h hp
    rw [List.length_eq_zero_iff.mp h] at hp
    exact ⟨0, Nat.one_pos, (List.perm_nil.mp hp).symm⟩
  | succ m ih =>
    intro l L h hp
    cases L with
    | nil => exact absurd hp.length_eq (by rw [h]; simp)
    | cons y T =>
      have hy : y ∈ l := hp.subset List.mem_cons_self
      obtain ⟨d, hd⟩ := List.getElem?_of_mem hy
      have hdl : d < l.length := (List.getElem?_eq_some_iff.mp hd).1
      have hg : l.getD d 0 = y := by rw [List.getD_eq_getElem?_getD, hd]; rfl
      have hp2 : T.Perm (l.eraseIdx d) := by
        have h1 := jk_erase_perm hdl
        rw [hg] at h1
        exact List.Perm.cons_inv (hp.trans h1.symm)
      obtain ⟨r, hr, hT⟩ := ih (l.eraseIdx d) T (by rw [List.length_eraseIdx_of_lt hdl, h]; rfl) hp2
      have e1 : (r * (m + 1) + d) % (m + 1) = d := by
        rw [Nat.mul_comm, Nat.mul_add_mod]
        exact Nat.mod_eq_of_lt (by omega)
      have e2 : (r * (m + 1) + d) / (m + 1) = r := by
        rw [Nat.mul_comm, Nat.mul_add_div (Nat.succ_pos m), Nat.div_eq_of_lt (by omega)]
        rfl
      refine ⟨r * (m + 1) + d, ?_, ?_⟩
      · have h3 : (r + 1) * (m + 1) ≤ jk_fac m * (m + 1) := Nat.mul_le_mul_right _ hr
        show _ < (m + 1) * jk_fac m
        rw [Nat.mul_comm (m + 1) (jk_fac m)]
        rw [Nat.add_mul] at h3
        omega
      · show l.getD ((r * (m + 1) + d) % (m + 1)) 0 :: jk_perm m (l.eraseIdx ((r * (m + 1) + d) % (m + 1))) ((r * (m + 1) + d) / (m + 1)) = y :: T
        rw [e1, e2, hg, hT]
/-- r is the least of v 0 .. v (N - 1) -/
def jk_min (v : Nat → Int) (N : Nat) (r : Int) : Prop := (∀ k, k < N → r ≤ v k) ∧ ∃ k, k < N ∧ r = v k
theorem jk_min_eq {n : Nat} {cost : List Nat → Int} {r val : Int} (h1 : ∀ L, L.Perm (List.range n) → val ≤ cost L) (h2 : ∃ L, L.Perm (List.range n) ∧ cost L = val) (h : jk_min (fun k => cost (jk_perm n (List.range n) k)) (jk_fac n) r) : r = val := by
  obtain ⟨ha, k, hk, e⟩ := h
  have g1 : val ≤ r := by rw [e]; exact h1 _ (jk_perm_ok n _ k List.length_range)
  obtain ⟨L, hL, hc⟩ := h2
  obtain ⟨q, hq, hp⟩ := jk_perm_all n (List.range n) L List.length_range hL
  have g2 : r ≤ val := by
    have : r ≤ cost (jk_perm n (List.range n) q) := ha q hq
    rw [hp, hc] at this
    exact this
  omega
/-! what the sorting loop leaves -/
def jk_Sorted (P Q D V : Nat → Nat) (how n : Nat) (O : Nat → Nat) (many : Nat) : Prop :=
  (jk_fl O many).Perm ((List.range n).filter (jk_keep P V how)) ∧ (jk_fl O many).Pairwise (jk_R P Q D V how)
theorem jk_Sorted_0 (P Q D V : Nat → Nat) (how : Nat) (O : Nat → Nat) : jk_Sorted P Q D V how 0 O 0 := by
  refine ⟨?_, ?_⟩
  · simp [jk_fl]
  · simp [jk_fl]
theorem jk_Sorted_skip {P Q D V : Nat → Nat} {how n many : Nat} {O : Nat → Nat} (h : jk_Sorted P Q D V how n O many) (hk : jk_keep P V how n = false) : jk_Sorted P Q D V how (n + 1) O many := by
  refine ⟨?_, h.2⟩
  rw [List.range_succ, List.filter_append, List.filter_cons_of_neg (by rw [hk]; decide)]
  simpa using h.1
theorem jk_Sorted_put {P Q D V : Nat → Nat} {how n many k : Nat} {O O' : Nat → Nat} (h : jk_Sorted P Q D V how n O many) (hk : k ≤ many) (hkp : jk_keep P V how n = true) (h1 : ∀ i, i < k → O' i = O i) (h2 : O' k = n) (h3 : ∀ i, k ≤ i → i < many → O' (i + 1) = O i) (hb : ∀ i, k ≤ i → i < many → jk_bef P Q D V how n (O i)) (ha : k = 0 ∨ ¬ jk_bef P Q D V how n (O (k - 1))) : jk_Sorted P Q D V how (n + 1) O' (many + 1) := by
  obtain ⟨hp, hw⟩ := h
  have e0 : jk_fl O many = jk_fl O k ++ jk_fl (fun i => O (k + i)) (many - k) := by
    rw [← jk_fl_add, Nat.add_sub_cancel' hk]
  have e1 : jk_fl O' (many + 1) = jk_fl O k ++ n :: jk_fl (fun i => O (k + i)) (many - k) := by
    have e2 : many + 1 = k + (1 + (many - k)) := by omega
    rw [e2, jk_fl_add, jk_fl_add, jk_fl_congr (f := O') (g := O) h1]
    congr 1
    show [O' (k + 0)] ++ _ = _
    rw [Nat.add_zero, h2]
    show n :: _ = _
    congr 1
    refine jk_fl_congr (fun i hi => ?_)
    show O' (k + (1 + i)) = O (k + i)
    rw [show k + (1 + i) = (k + i) + 1 by omega]
    exact h3 (k + i) (by omega) (by omega)
  have hin : ∀ i, i < many → how = 0 → ¬ (P (O i) = 0 ∧ V (O i) = 0) := by
    intro i hi h0
    have : O i ∈ (List.range n).filter (jk_keep P V how) := hp.subset (jk_fl_mem.mpr ⟨i, hi, rfl⟩)
    have h5 := (List.mem_filter.mp this).2
    rw [h0] at h5
    exact jk_keep_0.mp h5
  rw [jk_Sorted, e1]
  rw [e0] at hw hp
  refine ⟨?_, ?_⟩
  · rw [List.range_succ, List.filter_append, List.filter_cons_of_pos hkp, List.filter_nil]
    refine (List.perm_middle.trans ?_).trans List.perm_append_comm
    exact hp.cons n
  · obtain ⟨w1, w2, w3⟩ := List.pairwise_append.mp hw
    refine List.pairwise_append.mpr ⟨w1, List.pairwise_cons.mpr ⟨?_, w2⟩, ?_⟩
    · intro b hb2
      obtain ⟨i, hi, rfl⟩ := jk_fl_mem.mp hb2
      exact jk_bef_as (hb (k + i) (by omega) (by omega))
    · have hA : ∀ a ∈ jk_fl O k, jk_R P Q D V how a n := by
        intro a ha2
        obtain ⟨i, hi, rfl⟩ := jk_fl_mem.mp ha2
        rcases ha with hz | hz
        · omega
        · have hz : jk_R P Q D V how (O (k - 1)) n := hz
          by_cases hik : i = k - 1
          · rw [hik]; exact hz
          · refine jk_R_tr (hin (k - 1) (by omega)) ?_ hz
            have w4 := List.pairwise_iff_getElem.mp w1 i (k - 1) (by rw [jk_fl_len]; omega) (by rw [jk_fl_len]; omega) (by omega)
            simpa [jk_fl] using w4
      intro a ha2 b hb2
      rcases List.mem_cons.mp hb2 with rfl | hb3
      · exact hA a ha2
      · exact w3 a ha2 b hb3
end
section
/-! plain laws 2: late jobs (Moore, Hodgson) -/
def jk_sum (P : Nat → Nat) : List Nat → Nat
  | [] => 0
  | j :: L => P j + jk_sum P L
theorem jk_sum_app (P : Nat → Nat) (A B : List Nat) : jk_sum P (A ++ B) = jk_sum P A + jk_sum P B := by
  induction A with
  | nil => simp [jk_sum]
  | cons a A ih => simp [jk_sum, ih, Nat.add_assoc]
def jk_feas (P D : Nat → Nat) : Nat → List Nat → Prop
  | _, [] => True
  | t, j :: L => t + P j ≤ D j ∧ jk_feas P D (t + P j) L
def jk_ont (P D : Nat → Nat) : Nat → List Nat → List Nat
  | _, [] => []
  | t, j :: L => if t + P j ≤ D j then j :: jk_ont P D (t + P j) L else jk_ont P D (t + P j) L
theorem jk_feas_app (P D : Nat → Nat) : ∀ (A B : List Nat) (t : Nat), jk_feas P D t (A ++ B) ↔ jk_feas P D t A ∧ jk_feas P D (t + jk_sum P A) B := by
  intro A
  induction A with
  | nil => intro B t; simp [jk_feas, jk_sum]
  | cons a A ih =>
    intro B t
    simp only [List.cons_append, jk_feas, jk_sum]
    rw [ih, and_assoc, Nat.add_assoc]
theorem jk_feas_sub {P D : Nat → Nat} {T S : List Nat} (h : T.Sublist S) : ∀ (t t' : Nat), t' ≤ t → jk_feas P D t S → jk_feas P D t' T := by
  induction h with
  | slnil => intro t t' _ _; trivial
  | cons a _ ih =>
    intro t t' ht hf
    exact ih (t + P a) t' (by omega) hf.2
  | cons_cons a _ ih =>
    intro t t' ht hf
    have h1 := hf.1
    exact ⟨by omega, ih (t + P a) (t' + P a) (by omega) hf.2⟩
theorem jk_feas_le {P D : Nat → Nat} {d : Nat} : ∀ (S : List Nat) (t : Nat), t ≤ d → (∀ y ∈ S, D y ≤ d) → jk_feas P D t S → t + jk_sum P S ≤ d := by
  intro S
  induction S with
  | nil => intro t ht _ _; simpa [jk_sum] using ht
  | cons a S ih =>
    intro t ht hd hf
    have h1 : t + P a ≤ d := Nat.le_trans hf.1 (hd a List.mem_cons_self)
    have h2 := ih (t + P a) h1 (fun y hy => hd y (List.mem_cons_of_mem _ hy)) hf.2
    simp only [jk_sum]
    omega
theorem jk_ont_sub (P D : Nat → Nat) : ∀ (L : List Nat) (t : Nat), (jk_ont P D t L).Sublist L := by
  intro L
  induction L with
  | nil => intro t; exact List.Sublist.slnil
  | cons j L ih =>
    intro t
    simp only [jk_ont]
    split
    · exact (ih _).cons_cons j
    · exact (ih _).cons j
theorem jk_ont_feas (P D : Nat → Nat) : ∀ (L : List Nat) (t t' : Nat), t' ≤ t → jk_feas P D t' (jk_ont P D t L) := by
  intro L
  induction L with
  | nil => intro t t' _; trivial
  | cons j L ih =>
    intro t t' ht
    simp only [jk_ont]
    split
    · exact ⟨by omega, ih (t + P j) (t' + P j) (by omega)⟩
    · exact ih (t + P j) t' (by omega)
theorem jk_ont_all (P D : Nat → Nat) : ∀ (S G : List Nat) (t : Nat), jk_feas P D t S → S.length ≤ (jk_ont P D t (S ++ G)).length := by
  intro S
  induction S with
  | nil => intro G t _; exact Nat.zero_le _
  | cons j S ih =>
    intro G t hf
    simp only [List.cons_append, jk_ont, if_pos hf.1, List.length_cons]
    exact Nat.succ_le_succ (ih G (t + P j) hf.2)
theorem jk_late_ont (P Q D V : Nat → Nat) : ∀ (L : List Nat) (t u : Nat) (v : Int), (jk_fold P Q D V 2 (t, u, v) L).2.2 + ((jk_ont P D t L).length : Int) = v + (L.length : Int) := by
  intro L
  induction L with
  | nil => intro t u v; simp [jk_fold, jk_ont]
  | cons j L ih =>
    intro t u v
    show (jk_fold P Q D V 2 (jk_st P Q D V 2 (t, u, v) j) L).2.2 + _ = _
    have e1 : jk_st P Q D V 2 (t, u, v) j = (t + P j, u, v + (if D j < t + P j then 1 else 0)) := by simp [jk_st]
    rw [e1]
    simp only [jk_ont, List.length_cons]
    by_cases c : t + P j ≤ D j
    · rw [if_pos c, if_neg (by omega)]
      have := ih (t + P j) u (v + 0)
      simp only [List.length_cons]
      omega
    · rw [if_neg c, if_pos (by omega)]
      have := ih (t + P j) u (v + 1)
      omega
theorem jk_feas_lat (P Q D V : Nat → Nat) : ∀ (L : List Nat) (t u : Nat) (v : Int), (jk_fold P Q D V 1 (t, u, v) L).2.2 ≤ 0 ↔ v ≤ 0 ∧ jk_feas P D t L := by
  intro L
  induction L with
  | nil => intro t u v; simp [jk_fold, jk_feas]
  | cons j L ih =>
    intro t u v
    have e1 : jk_st P Q D V 1 (t, u, v) j = (t + P j, u, if v < ((t + P j : Nat) : Int) - (D j : Int) then ((t + P j : Nat) : Int) - (D j : Int) else v) := by simp [jk_st]
    show (jk_fold P Q D V 1 (jk_st P Q D V 1 (t, u, v) j) L).2.2 ≤ 0 ↔ _
    rw [e1, ih]
    simp only [jk_feas]
    rw [← and_assoc]
    refine and_congr_left (fun _ => ?_)
    split <;> omega
theorem jk_feas_sorted {P D : Nat → Nat} {T T' : List Nat} (hw : T.Pairwise (fun a b => D a ≤ D b)) (hp : T.Perm T') (hf : jk_feas P D 0 T') : jk_feas P D 0 T := by
  have h1 := (jk_feas_lat P P D P T' 0 0 0).mpr ⟨Int.le_refl _, hf⟩
  have h2 := jk_best P P D P 1 1 (Or.inr (Or.inl ⟨rfl, rfl⟩)) T T' (hw.imp (fun h => by unfold jk_R jk_bef; omega)) hp (0, 0, 0)
  exact ((jk_feas_lat P P D P T 0 0 0).mp (Int.le_trans h2.2.2 h1)).2
theorem jk_ext {P : Nat → Nat} {U S : List Nat} (h : U.Sublist S) : U.length < S.length → ∃ U', U'.Sublist S ∧ U'.length = U.length + 1 ∧ ∃ y ∈ S, jk_sum P U' = jk_sum P U + P y := by
  induction h with
  | slnil => intro h; exact absurd h (by simp)
  | @cons U S a hs ih =>
    intro _
    exact ⟨a :: U, hs.cons_cons a, rfl, a, List.mem_cons_self, by simp only [jk_sum]; omega⟩
  | @cons_cons U S a hs ih =>
    intro hl
    obtain ⟨U', h1, h2, y, h3, h4⟩ := ih (by simpa using hl)
    exact ⟨a :: U', h1.cons_cons a, by simp [h2], y, List.mem_cons_of_mem _ h3, by simp only [jk_sum]; omega⟩
/-- S: jobs that are kept of L: all on time in this order, and no choice of jobs on time is better -/
def jk_MH (P D : Nat → Nat) (L S : List Nat) : Prop := S.Sublist L ∧ jk_feas P D 0 S ∧ ∀ T, T.Sublist L → jk_feas P D 0 T → ∃ U, U.Sublist S ∧ U.length = T.length ∧ jk_sum P U ≤ jk_sum P T
theorem jk_MH_0 (P D : Nat → Nat) : jk_MH P D [] [] := ⟨List.Sublist.slnil, trivial, fun T hT _ => ⟨T, hT, rfl, Nat.le_refl _⟩⟩
theorem jk_MH_more {P D : Nat → Nat} {L S : List Nat} {j : Nat} (h : jk_MH P D L S) : ∀ T, T.Sublist (L ++ [j]) → jk_feas P D 0 T → ∃ U, U.Sublist (S ++ [j]) ∧ U.length = T.length ∧ jk_sum P U ≤ jk_sum P T := by
  intro T hT hf
  obtain ⟨T1, T2, rfl, h1, h2⟩ := List.sublist_append_iff.mp hT
  obtain ⟨U1, g1, g2, g3⟩ := h.2.2 T1 h1 ((jk_feas_app P D T1 T2 0).mp hf).1
  refine ⟨U1 ++ T2, g1.append h2, by simp [g2], ?_⟩
  rw [jk_sum_app, jk_sum_app]
  omega
theorem jk_MH_keep {P D : Nat → Nat} {L S : List Nat} {j : Nat} (h : jk_MH P D L S) (hj : jk_sum P S + P j ≤ D j) : jk_MH P D (L ++ [j]) (S ++ [j]) := by
  refine ⟨h.1.append (List.Sublist.refl _), ?_, jk_MH_more h⟩
  rw [jk_feas_app]
  refine ⟨h.2.1, ?_, trivial⟩
  omega
theorem jk_MH_drop {P D : Nat → Nat} {L S A B : List Nat} {j w : Nat} (h : jk_MH P D L S) (hd : ∀ y ∈ L, D y ≤ D j) (hj : D j < jk_sum P S + P j) (he : S ++ [j] = A ++ w :: B) (hm : ∀ y ∈ S ++ [j], P y ≤ P w) : jk_MH P D (L ++ [j]) (A ++ B) := by
  have hdS : ∀ y ∈ S, D y ≤ D j := fun y hy => hd y (h.1.subset hy)
  have hsub : (A ++ B).Sublist (S ++ [j]) := by
    rw [he]
    exact (List.Sublist.refl A).append (List.sublist_cons_self w B)
  have hsum : jk_sum P S + P j = jk_sum P A + (P w + jk_sum P B) := by
    have := congrArg (jk_sum P) he
    rw [jk_sum_app, jk_sum_app] at this
    simpa [jk_sum] using this
  refine ⟨hsub.trans (h.1.append (List.Sublist.refl _)), ?_, ?_⟩
  · rcases List.eq_nil_or_concat B with hB | ⟨B0, z, hB⟩
    · subst hB
      have := List.append_inj' he rfl
      rw [List.append_nil, ← this.1]
      exact h.2.1
    · rw [List.concat_eq_append] at hB
      subst hB
      have e2 : S ++ [j] = (A ++ w :: B0) ++ [z] := by rw [he]; simp
      obtain ⟨e3, e4⟩ := List.append_inj' e2 rfl
      have e4 : j = z := by simpa using e4
      subst e4
      subst e3
      rw [← List.append_assoc, jk_feas_app]
      have hAB : (A ++ B0).Sublist (A ++ w :: B0) := (List.Sublist.refl A).append (List.sublist_cons_self w B0)
      refine ⟨jk_feas_sub hAB 0 0 (Nat.le_refl _) h.2.1, ?_, trivial⟩
      have g1 := jk_feas_le (A ++ w :: B0) 0 (Nat.zero_le _) hdS h.2.1
      have g2 : P j ≤ P w := hm j (by simp)
      rw [jk_sum_app] at g1 ⊢
      simp only [jk_sum] at g1
      omega
  · intro T hT hf
    obtain ⟨U, h1, h2, h3⟩ := jk_MH_more h T hT hf
    rw [he] at h1
    obtain ⟨U1, U2, rfl, k1, k2⟩ := List.sublist_append_iff.mp h1
    rcases List.sublist_cons_iff.mp k2 with k3 | ⟨U3, rfl, k3⟩
    · exact ⟨U1 ++ U2, k1.append k3, h2, h3⟩
    · have hs3 : (U1 ++ U3).Sublist (A ++ B) := k1.append k3
      by_cases hl : (U1 ++ U3).length < (A ++ B).length
      · obtain ⟨U', a1, a2, y, a3, a4⟩ := jk_ext (P := P) hs3 hl
        have hy : P y ≤ P w := hm y (hsub.subset a3)
        refine ⟨U', a1, ?_, ?_⟩
        · rw [a2, ← h2]
          simp
          omega
        · rw [a4]
          rw [jk_sum_app] at h3 ⊢
          simp only [jk_sum] at h3
          omega
      · have heq : U1 ++ U3 = A ++ B := hs3.eq_of_length_le (by omega)
        have hsumU : jk_sum P (U1 ++ w :: U3) = jk_sum P A + (P w + jk_sum P B) := by
          have := congrArg (jk_sum P) heq
          rw [jk_sum_app, jk_sum_app] at this
          rw [jk_sum_app]
          simp only [jk_sum]
          omega
        have hTd : ∀ y ∈ T, D y ≤ D j := by
          intro y hy
          rcases List.mem_append.mp (hT.subset hy) with q | q
          · exact hd y q
          · rw [List.mem_singleton.mp q]; exact Nat.le_refl _
        have := jk_feas_le T 0 (Nat.zero_le _) hTd hf
        omega
/-- what Moore and Hodgson leave is the least number of late jobs -/
theorem jk_late_min {P Q D V : Nat → Nat} {L S : List Nat} (h : jk_MH P D L S) (hw : L.Pairwise (fun a b => D a ≤ D b)) : (∀ L', L'.Perm L → (L.length : Int) - S.length ≤ jk_cost P Q D V 2 L') ∧ ∃ L', L'.Perm L ∧ jk_cost P Q D V 2 L' = (L.length : Int) - S.length := by
  have h1 : ∀ L', L'.Perm L → (L.length : Int) - S.length ≤ jk_cost P Q D V 2 L' := by
    intro L' hp
    obtain ⟨T, hT1, hT2⟩ := List.exists_perm_sublist (jk_ont_sub P D L' 0) hp
    have hf : jk_feas P D 0 T := jk_feas_sorted (hw.sublist hT2) hT1 (jk_ont_feas P D L' 0 0 (Nat.le_refl _))
    obtain ⟨U, u1, u2, -⟩ := h.2.2 T hT2 hf
    have l1 := u1.length_le
    have l2 := hT1.length_eq
    have l3 := hp.length_eq
    have l4 := jk_late_ont P Q D V L' 0 0 0
    have e : jk_cost P Q D V 2 L' = (jk_fold P Q D V 2 (0, 0, 0) L').2.2 := rfl
    rw [e]
    omega
  refine ⟨h1, ?_⟩
  obtain ⟨G, hG⟩ := h.1.exists_perm_append
  refine ⟨S ++ G, hG.symm, ?_⟩
  have g1 := h1 (S ++ G) hG.symm
  have g2 := jk_ont_all P D S G 0 h.2.1
  have g3 := jk_late_ont P Q D V (S ++ G) 0 0 0
  have g4 := hG.length_eq
  have e : jk_cost P Q D V 2 (S ++ G) = (jk_fold P Q D V 2 (0, 0, 0) (S ++ G)).2.2 := rfl
  rw [e] at g1 ⊢
  omega
/-! sums of some jobs -/
def jk_sub (P : Nat → Nat) : Nat → Nat → Prop
  | 0, y => y = 0
  | e + 1, y => jk_sub P e y ∨ (P e ≤ y ∧ jk_sub P e (y - P e))
def jk_all (P : Nat → Nat) : Nat → Nat
  | 0 => 0
  | e + 1 => jk_all P e + P e
def jk_bs (P : Nat → Nat) (s : Nat) : Nat → Nat
  | 0 => 0
  | e + 1 => jk_bs P s e + (if s.testBit e = true then P e else 0)
theorem jk_sub_le {P : Nat → Nat} : ∀ (e y : Nat), jk_sub P e y → y ≤ jk_all P e := by
  intro e
  induction e with
  | zero => intro y h; exact Nat.le_of_eq h
  | succ e ih =>
    intro y h
    simp only [jk_all]
    rcases h with h | ⟨h1, h2⟩
    · have := ih y h; omega
    · have := ih _ h2; omega
theorem jk_sub_0 (P : Nat → Nat) : ∀ e, jk_sub P e 0
  | 0 => rfl
  | e + 1 => Or.inl (jk_sub_0 P e)
theorem jk_sub_co {P : Nat → Nat} : ∀ (e y : Nat), jk_sub P e y → jk_sub P e (jk_all P e - y) := by
  intro e
  induction e with
  | zero => intro y h; show 0 - y = 0; omega
  | succ e ih =>
    intro y h
    simp only [jk_all, jk_sub]
    rcases h with h | ⟨h1, h2⟩
    · have g1 := jk_sub_le e y h
      refine Or.inr ⟨by omega, ?_⟩
      rw [show jk_all P e + P e - y - P e = jk_all P e - y by omega]
      exact ih y h
    · refine Or.inl ?_
      rw [show jk_all P e + P e - y = jk_all P e - (y - P e) by omega]
      exact ih _ h2
theorem jk_bs_sub (P : Nat → Nat) (s : Nat) : ∀ e, jk_sub P e (jk_bs P s e) := by
  intro e
  induction e with
  | zero => rfl
  | succ e ih =>
    simp only [jk_bs, jk_sub]
    split
    · refine Or.inr ⟨by omega, ?_⟩
      rw [Nat.add_sub_cancel]
      exact ih
    · exact Or.inl ih
theorem jk_bs_congr {P : Nat → Nat} {s s' : Nat} : ∀ e, (∀ i, i < e → s.testBit i = s'.testBit i) → jk_bs P s e = jk_bs P s' e := by
  intro e
  induction e with
  | zero => intro _; rfl
  | succ e ih =>
    intro h
    simp only [jk_bs]
    rw [ih (fun i hi => h i (by omega)), h e (by omega)]
theorem jk_sub_bs {P : Nat → Nat} : ∀ (e y : Nat), jk_sub P e y → ∃ s, s < 2 ^ e ∧ jk_bs P s e = y := by
  intro e
  induction e with
  | zero => intro y h; exact ⟨0, Nat.one_pos, h.symm⟩
  | succ e ih =>
    intro y h
    have hp : 2 ^ (e + 1) = 2 ^ e + 2 ^ e := by rw [Nat.pow_succ]; omega
    rcases h with h | ⟨h1, h2⟩
    · obtain ⟨s, hs, hy⟩ := ih y h
      refine ⟨s, by omega, ?_⟩
      simp only [jk_bs]
      rw [Nat.testBit_lt_two_pow hs, hy]
      simp
    · obtain ⟨s, hs, hy⟩ := ih _ h2
      refine ⟨2 ^ e + s, by omega, ?_⟩
      simp only [jk_bs]
      rw [Nat.testBit_two_pow_add_eq, Nat.testBit_lt_two_pow hs, jk_bs_congr (s' := s) e (fun i hi => Nat.testBit_two_pow_add_gt hi s), hy]
      simp
      omega
/-- two hands: the greatest sum up to half of all -/
theorem jk_shared {P : Nat → Nat} {n half : Nat} {r : Int} (h1 : half ≤ jk_all P n / 2) (h2 : jk_sub P n half) (h3 : ∀ y, half < y → y ≤ jk_all P n / 2 → ¬ jk_sub P n y) (h : jk_min (fun s => if ((jk_all P n : Int) - jk_bs P s n) < (jk_bs P s n : Int) then (jk_bs P s n : Int) else (jk_all P n : Int) - jk_bs P s n) (2 ^ n) r) : r = ((jk_all P n - half : Nat) : Int) := by
  obtain ⟨ha, k, hk, e⟩ := h
  have g1 : r ≤ ((jk_all P n - half : Nat) : Int) := by
    obtain ⟨s, hs, hy⟩ := jk_sub_bs n half h2
    have := ha s hs
    dsimp only at this
    rw [hy] at this
    split at this <;> omega
  have g2 : ((jk_all P n - half : Nat) : Int) ≤ r := by
    have q1 := jk_bs_sub P k n
    have q2 := jk_sub_le n _ q1
    have q3 := jk_sub_co n _ q1
    have q4 : jk_bs P k n ≤ half ∨ jk_all P n / 2 < jk_bs P k n := by
      by_cases c : half < jk_bs P k n
      · by_cases c2 : jk_bs P k n ≤ jk_all P n / 2
        · exact absurd q1 (h3 _ c c2)
        · exact Or.inr (by omega)
      · exact Or.inl (by omega)
    have q5 : jk_all P n - jk_bs P k n ≤ half ∨ jk_all P n / 2 < jk_all P n - jk_bs P k n := by
      by_cases c : half < jk_all P n - jk_bs P k n
      · by_cases c2 : jk_all P n - jk_bs P k n ≤ jk_all P n / 2
        · exact absurd q3 (h3 _ c c2)
        · exact Or.inr (by omega)
      · exact Or.inl (by omega)
    rw [e]
    dsimp only
    split <;> omega
  omega
/-! the plain laws of the four numbers -/
theorem jk_law_w {P Q D V : Nat → Nat} {n many : Nat} {O : Nat → Nat} {r : Int} (hs : jk_Sorted P Q D V 0 n O many) (h : jk_min (fun k => jk_cost P Q D V 0 (jk_perm n (List.range n) k)) (jk_fac n) r) : r = (jk_fold P Q D V 0 (0, 0, 0) (jk_fl O many)).2.2 := by
  refine jk_min_eq (cost := jk_cost P Q D V 0) ?_ ?_ h
  · intro L hL
    have h1 := jk_best P Q D V 0 0 (Or.inl ⟨rfl, rfl⟩) (jk_fl O many) (L.filter (jk_keep P V 0)) hs.2 (hs.1.trans (hL.symm.filter _)) (0, 0, 0)
    rw [jk_zero_filter] at h1
    exact h1.2.2
  · refine ⟨jk_fl O many ++ (List.range n).filter (fun j => !jk_keep P V 0 j), (hs.1.append_right _).trans (List.filter_append_perm _ _), ?_⟩
    show (jk_fold P Q D V 0 (0, 0, 0) _).2.2 = _
    rw [← jk_zero_filter, List.filter_append]
    have e1 : ((List.range n).filter (fun j => !jk_keep P V 0 j)).filter (jk_keep P V 0) = [] := by
      rw [List.filter_eq_nil_iff]
      intro a ha
      have := (List.mem_filter.mp ha).2
      simpa using this
    rw [e1, List.append_nil, jk_zero_filter]
theorem jk_law_b {P Q D V : Nat → Nat} {n many : Nat} {O : Nat → Nat} {r : Int} (hs : jk_Sorted P Q D V 2 n O many) (h : jk_min (fun k => jk_cost P Q D V 3 (jk_perm n (List.range n) k)) (jk_fac n) r) : r = (jk_fold P Q D V 3 (0, 0, 0) (jk_fl O many)).2.2 := by
  obtain ⟨hp, hw⟩ := hs
  rw [jk_filter_all (by decide)] at hp
  refine jk_min_eq (cost := jk_cost P Q D V 3) ?_ ⟨jk_fl O many, hp, rfl⟩ h
  intro L hL
  exact (jk_best P Q D V 2 3 (Or.inr (Or.inr ⟨rfl, rfl⟩)) (jk_fl O many) L hw (hp.trans hL.symm) (0, 0, 0)).2.2
theorem jk_lat_start {P Q D V : Nat → Nat} (hD : ∀ j, D j ≤ 1023) {L : List Nat} (hL : L ≠ []) (v w : Int) (hv : v ≤ -1024) (hw : w ≤ -1024) : (jk_fold P Q D V 1 (0, 0, v) L).2.2 = (jk_fold P Q D V 1 (0, 0, w) L).2.2 := by
  cases L with
  | nil => exact absurd rfl hL
  | cons j L =>
    show (jk_fold P Q D V 1 (jk_st P Q D V 1 (0, 0, v) j) L).2.2 = (jk_fold P Q D V 1 (jk_st P Q D V 1 (0, 0, w) j) L).2.2
    have hj := hD j
    have e1 : ∀ z : Int, z ≤ -1024 → jk_st P Q D V 1 (0, 0, z) j = (0 + P j, 0, ((0 + P j : Nat) : Int) - (D j : Int)) := by
      intro z hz
      have : z < ((0 + P j : Nat) : Int) - (D j : Int) := by omega
      simp only [jk_st, show ¬ (1 : Nat) = 0 by decide, show ¬ (1 : Nat) = 3 by decide, if_false, if_true, if_pos this]
    rw [e1 v hv, e1 w hw]
theorem jk_law_l {P Q D V : Nat → Nat} (hD : ∀ j, D j ≤ 1023) {n many : Nat} (hn : 0 < n) {O : Nat → Nat} {r : Int} (hs : jk_Sorted P Q D V 1 n O many) (h : jk_min (fun k => jk_cost P Q D V 1 (jk_perm n (List.range n) k)) (jk_fac n) r) (v : Int) (hv : v ≤ -1024) : r = (jk_fold P Q D V 1 (0, 0, v) (jk_fl O many)).2.2 := by
  obtain ⟨hp, hw⟩ := hs
  rw [jk_filter_all (by decide)] at hp
  have hne : jk_fl O many ≠ [] := by
    intro e
    have := hp.length_eq
    rw [e, List.length_range] at this
    simp at this
    omega
  rw [jk_lat_start hD hne v (-1024) hv (Int.le_refl _)]
  refine jk_min_eq (cost := jk_cost P Q D V 1) ?_ ⟨jk_fl O many, hp, rfl⟩ h
  intro L hL
  exact (jk_best P Q D V 1 1 (Or.inr (Or.inl ⟨rfl, rfl⟩)) (jk_fl O many) L hw (hp.trans hL.symm) (0, 0, -1024)).2.2
theorem jk_law_c {P Q D V : Nat → Nat} {n many : Nat} {O : Nat → Nat} {S : List Nat} {r : Int} (hs : jk_Sorted P Q D V 1 n O many) (hm : jk_MH P D (jk_fl O many) S) (h : jk_min (fun k => jk_cost P Q D V 2 (jk_perm n (List.range n) k)) (jk_fac n) r) : r = (many : Int) - (S.length : Int) := by
  obtain ⟨hp, hw⟩ := hs
  rw [jk_filter_all (by decide)] at hp
  obtain ⟨g1, L', g2, g3⟩ := jk_late_min (Q := Q) (V := V) hm (hw.imp (fun {a b} h => by unfold jk_R jk_bef at h; omega))
  rw [jk_fl_len] at g1 g3
  refine jk_min_eq (cost := jk_cost P Q D V 2) ?_ ⟨L', g2.trans hp, g3⟩ h
  intro L hL
  exact g1 L (hL.trans hp.symm)
/-- bounds of the numbers -/
theorem jk_bound {P Q D V : Nat → Nat} (hP : ∀ j, P j ≤ 255) (hQ : ∀ j, Q j ≤ 255) (hD : ∀ j, D j ≤ 1023) (hV : ∀ j, V j ≤ 255) (kind : Nat) : ∀ (L : List Nat) (s : Nat × Nat × Int) (i : Nat), i + L.length ≤ 6 → s.1 ≤ 255 * i → s.2.1 ≤ 510 * i → -2147483648 ≤ s.2.2 → s.2.2 ≤ 400000 * i → (jk_fold P Q D V kind s L).1 ≤ 255 * (i + L.length) ∧ (jk_fold P Q D V kind s L).2.1 ≤ 510 * (i + L.length) ∧ -2147483648 ≤ (jk_fold P Q D V kind s L).2.2 ∧ (jk_fold P Q D V kind s L).2.2 ≤ 400000 * ((i + L.length : Nat) : Int) := by
  intro L
  induction L with
  | nil =>
    intro s i _ h1 h2 h3 h4
    exact ⟨h1, h2, h3, h4⟩
  | cons j L ih =>
    intro s i hi h1 h2 h3 h4
    obtain ⟨s1, s2, s3⟩ := s
    dsimp only at h1 h2 h3 h4
    simp only [List.length_cons] at hi
    have p1 := hP j
    have p2 := hQ j
    have p3 := hD j
    have p4 := hV j
    have hm : V j * (s1 + P j) ≤ 255 * 1530 := Nat.mul_le_mul p4 (by omega)
    have key := ih (jk_st P Q D V kind (s1, s2, s3) j) (i + 1) (by omega) (by dsimp only [jk_st]; omega) ?_ ?_ ?_
    · show (jk_fold P Q D V kind (jk_st P Q D V kind (s1, s2, s3) j) L).1 ≤ _ ∧ _
      simp only [List.length_cons]
      rw [show i + (L.length + 1) = i + 1 + L.length by omega]
      exact key
    · dsimp only [jk_st]
      by_cases k3 : kind = 3
      · rw [if_pos k3]
        split <;> omega
      · rw [if_neg k3]
        omega
    · dsimp only [jk_st]
      generalize V j * (s1 + P j) = z at hm ⊢
      split
      · omega
      · split
        · split <;> omega
        · split
          · split <;> omega
          · split <;> omega
    · dsimp only [jk_st]
      generalize V j * (s1 + P j) = z at hm ⊢
      split
      · omega
      · split
        · split <;> omega
        · split
          · split <;> omega
          · split <;> omega
end
section
-- ===== PART A: goes FIRST, ahead of the names: the tables' words, and 'selects' of the private methods out of them =====
/-- a private method of a class that the tables say can be made, by its rows of tables_1 -/
def lw_okq (q : MethodName × Nat) : Prop := (q.1.cls ≠ "java/lang/invoke/MethodHandle" ∧ q.1.cls ≠ "java/lang/invoke/VarHandle") ∧ Cond.instantiable q.1.cls q.2 ∈ tables_1 ∧ Cond.privateMethod q.1 ∈ tables_1 ∧ Cond.instanceMethod q.1 ∈ tables_1
set_option maxRecDepth 100000
theorem lw_p0 : lw_okq (⟨"JobDesk", "sort", "(I)I"⟩, 7) := ⟨⟨by decide +kernel, by decide +kernel⟩, List.mem_of_getElem? (i := 5) rfl, List.mem_of_getElem? (i := 53) rfl, List.mem_of_getElem? (i := 54) rfl⟩
theorem lw_p1 : lw_okq (⟨"JobDesk", "before", "(III)Z"⟩, 7) := ⟨⟨by decide +kernel, by decide +kernel⟩, List.mem_of_getElem? (i := 5) rfl, List.mem_of_getElem? (i := 57) rfl, List.mem_of_getElem? (i := 58) rfl⟩
theorem lw_p2 : lw_okq (⟨"JobDeskModel", "best", "(I)J"⟩, 7) := ⟨⟨by decide +kernel, by decide +kernel⟩, List.mem_of_getElem? (i := 81) rfl, List.mem_of_getElem? (i := 121) rfl, List.mem_of_getElem? (i := 122) rfl⟩
theorem lw_p3 : lw_okq (⟨"JobDeskModel", "orders", "()I"⟩, 7) := ⟨⟨by decide +kernel, by decide +kernel⟩, List.mem_of_getElem? (i := 81) rfl, List.mem_of_getElem? (i := 126) rfl, List.mem_of_getElem? (i := 127) rfl⟩
theorem lw_p4 : lw_okq (⟨"JobDeskModel", "order", "(I)V"⟩, 7) := ⟨⟨by decide +kernel, by decide +kernel⟩, List.mem_of_getElem? (i := 81) rfl, List.mem_of_getElem? (i := 130) rfl, List.mem_of_getElem? (i := 131) rfl⟩
def lw_privs_1 : List (MethodName × Nat) := [(⟨"JobDesk", "sort", "(I)I"⟩, 7), (⟨"JobDesk", "before", "(III)Z"⟩, 7), (⟨"JobDeskModel", "best", "(I)J"⟩, 7), (⟨"JobDeskModel", "orders", "()I"⟩, 7), (⟨"JobDeskModel", "order", "(I)V"⟩, 7)]
theorem lw_r1 : ∀ q ∈ lw_privs_1, lw_okq q := List.forall_mem_cons.mpr ⟨lw_p0, List.forall_mem_cons.mpr ⟨lw_p1, List.forall_mem_cons.mpr ⟨lw_p2, List.forall_mem_cons.mpr ⟨lw_p3, List.forall_mem_cons.mpr ⟨lw_p4, fun _ h => absurd h List.not_mem_nil⟩⟩⟩⟩⟩
def lw_privs : List (MethodName × Nat) := lw_privs_1
def lw_tbl : List Cond := k2_sels lw_privs ++ tables_1
theorem lw_privs_ok : ∀ q ∈ lw_privs, lw_okq q := lw_r1
-- ===== ONE list of words for every method: the tables' words that hold all through a run =====
def lw_all : List Cond := lw_tbl.filter goodWord
/-- a word of the tables by its place: claim/WORDS.tsv -/
theorem lw_w {w : Cond} (i : Nat) (h : lw_tbl[i]? = some w) (g : goodWord w = true) : w ∈ lw_all := List.mem_filter.mpr ⟨List.mem_of_getElem? h, g⟩
theorem lw_all_tbl {w : Cond} (h : w ∈ lw_all) : w ∈ lw_tbl := (List.mem_filter.mp h).1
theorem lw_self : GoodIn lw_all lw_all := fun w h => ⟨h, good_of_word (List.mem_filter.mp h).2⟩
/-- a class's field words, by their places -/
theorem lw_in (ws : List Cond) (ps : List Nat) (hp : ws = ps.filterMap (fun i => lw_tbl[i]?)) (hg : ws.all goodWord = true) : ∀ w ∈ ws, w ∈ lw_all := by
  intro w h
  have h1 := List.all_eq_true.mp hg w h
  rw [hp] at h
  obtain ⟨i, -, hi⟩ := List.mem_filterMap.mp h
  exact lw_w i hi h1
/-- the words of a contract for the method y with code b, L locals, answer r -/
abbrev ws_ (y : MethodName) (b : ByteArray) (L : Nat) (r : Option FieldType) : List Cond := Cond.code y b L r :: lw_all
theorem lw_meth {y : MethodName} {b : ByteArray} {L : Nat} {r : Option FieldType} (h : Cond.code y b L r ∈ lw_all) : GoodIn lw_all (ws_ y b L r) := by
  intro w hw
  rcases List.mem_cons.mp hw with e | e
  · rw [e]
    exact lw_self _ h
  · exact lw_self _ e
theorem lw_app {a c : List Cond} (ha : ∀ w ∈ a, w ∈ lw_all) (hc : GoodIn lw_all c) : GoodIn lw_all (a ++ c) := by
  intro w hw
  rcases List.mem_append.mp hw with e | e
  · exact lw_self w (ha w e)
  · exact hc w e
/-- what a call through an object asks: cwV n hts (lw_V ..) -/
theorem lw_V {own : String} {idx : Nat} {C : String} {y : MethodName} {b : ByteArray} {L : Nat} {r : Option FieldType} (h1 : Cond.methodLink own idx y ∈ lw_all) (h2 : Cond.instanceMethod y ∈ lw_all) (h3 : Cond.selects C y y ∈ lw_all) (h4 : Cond.initialized C ∈ lw_all) (h5 : Cond.code y b L r ∈ lw_all) : GoodIn lw_all (wsV own idx C y (ws_ y b L r)) := by
  refine lw_app ?_ (lw_meth h5)
  intro w hw
  simp only [List.mem_cons, List.not_mem_nil, or_false] at hw
  rcases hw with e | e | e | e
  · rw [e]; exact h1
  · rw [e]; exact h2
  · rw [e]; exact h3
  · rw [e]; exact h4
/-- what a static call asks: va_cwS n hts (lw_S ..) -/
theorem lw_S {own : String} {idx : Nat} {y : MethodName} {b : ByteArray} {L : Nat} {r : Option FieldType} (h1 : Cond.methodLink own idx y ∈ lw_all) (h2 : Cond.static y ∈ lw_all) (h3 : Cond.initialized y.cls ∈ lw_all) (h4 : Cond.code y b L r ∈ lw_all) : GoodIn lw_all (va_wsS own idx y (ws_ y b L r)) := by
  refine lw_app ?_ (lw_meth h4)
  intro w hw
  simp only [List.mem_cons, List.not_mem_nil, or_false] at hw
  rcases hw with e | e | e
  · rw [e]; exact h1
  · rw [e]; exact h2
  · rw [e]; exact h3
/-- the words of a contract for a method WITH HANDLERS (hh: its table) -/
abbrev wsW_ (y : MethodName) (b : ByteArray) (L : Nat) (r : Option FieldType) (hh : List (Nat × Nat × Nat × Nat)) : List Cond := Cond.codeWith y b L r hh :: lw_all
theorem lw_methW {y : MethodName} {b : ByteArray} {L : Nat} {r : Option FieldType} {hh : List (Nat × Nat × Nat × Nat)} (h : Cond.codeWith y b L r hh ∈ lw_all) : GoodIn lw_all (wsW_ y b L r hh) := by
  intro w hw
  rcases List.mem_cons.mp hw with e | e
  · rw [e]
    exact lw_self _ h
  · exact lw_self _ e
/-- any list of words by their places (lw_in), good -/
theorem lw_good {ws : List Cond} (h : ∀ w ∈ ws, w ∈ lw_all) : GoodIn lw_all ws := fun w hw => lw_self w (h w hw)
/-- what a call of a method with handlers asks: vx_cwVW n hts (lw_VW ..), vx_cwSW n hts (lw_SW ..) -/
theorem lw_VW {own : String} {idx : Nat} {C : String} {y : MethodName} {b : ByteArray} {L : Nat} {r : Option FieldType} {hh : List (Nat × Nat × Nat × Nat)} (h1 : Cond.methodLink own idx y ∈ lw_all) (h2 : Cond.instanceMethod y ∈ lw_all) (h3 : Cond.selects C y y ∈ lw_all) (h4 : Cond.initialized C ∈ lw_all) (h5 : Cond.codeWith y b L r hh ∈ lw_all) : GoodIn lw_all (wsV own idx C y (wsW_ y b L r hh)) := by
  refine lw_app ?_ (lw_methW h5)
  intro w hw
  simp only [List.mem_cons, List.not_mem_nil, or_false] at hw
  rcases hw with e | e | e | e
  · rw [e]; exact h1
  · rw [e]; exact h2
  · rw [e]; exact h3
  · rw [e]; exact h4
theorem lw_SW {own : String} {idx : Nat} {y : MethodName} {b : ByteArray} {L : Nat} {r : Option FieldType} {hh : List (Nat × Nat × Nat × Nat)} (h1 : Cond.methodLink own idx y ∈ lw_all) (h2 : Cond.static y ∈ lw_all) (h3 : Cond.initialized y.cls ∈ lw_all) (h4 : Cond.codeWith y b L r hh ∈ lw_all) : GoodIn lw_all (va_wsS own idx y (wsW_ y b L r hh)) := by
  refine lw_app ?_ (lw_methW h4)
  intro w hw
  simp only [List.mem_cons, List.not_mem_nil, or_false] at hw
  rcases hw with e | e | e
  · rw [e]; exact h1
  · rw [e]; exact h2
  · rw [e]; exact h3
/-- a word by its place in its run of the tables -/
theorem lw_at {r : List Cond} (hr : ∀ w ∈ r, w ∈ lw_tbl) {w : Cond} (i : Nat) (h : r[i]? = some w) : w ∈ lw_tbl := hr w (List.mem_of_getElem? h)
theorem lw_g {w : Cond} (h : w ∈ lw_tbl) (g : goodWord w = true) : w ∈ lw_all := List.mem_filter.mpr ⟨h, g⟩
theorem lw_ms : ∀ w ∈ k2_sels lw_privs, w ∈ lw_tbl := fun w h => show w ∈ k2_sels lw_privs ++ tables_1 from List.mem_append_left _ h
theorem lw_m0 : ∀ w ∈ tables_1, w ∈ lw_tbl := fun w h => show w ∈ k2_sels lw_privs ++ tables_1 from List.mem_append_right (k2_sels lw_privs) h
theorem qs0 : (Cond.selects "JobDesk" ⟨"JobDesk", "sort", "(I)I"⟩ ⟨"JobDesk", "sort", "(I)I"⟩) ∈ lw_all := lw_g (lw_at lw_ms 0 rfl) rfl
theorem qs1 : (Cond.selects "JobDesk" ⟨"JobDesk", "before", "(III)Z"⟩ ⟨"JobDesk", "before", "(III)Z"⟩) ∈ lw_all := lw_g (lw_at lw_ms 1 rfl) rfl
theorem qs2 : (Cond.selects "JobDeskModel" ⟨"JobDeskModel", "best", "(I)J"⟩ ⟨"JobDeskModel", "best", "(I)J"⟩) ∈ lw_all := lw_g (lw_at lw_ms 2 rfl) rfl
theorem qs3 : (Cond.selects "JobDeskModel" ⟨"JobDeskModel", "orders", "()I"⟩ ⟨"JobDeskModel", "orders", "()I"⟩) ∈ lw_all := lw_g (lw_at lw_ms 3 rfl) rfl
theorem qs4 : (Cond.selects "JobDeskModel" ⟨"JobDeskModel", "order", "(I)V"⟩ ⟨"JobDeskModel", "order", "(I)V"⟩) ∈ lw_all := lw_g (lw_at lw_ms 4 rfl) rfl
end
section
/-! JobDesk -/
set_option maxRecDepth 100000
def RX0 : String := "JobDesk"
def TX0 : u_T := fun k => match k with
  | 0 => ("JobDesk", "first", "[I", true)
  | 1 => ("JobDesk", "second", "[I", true)
  | 2 => ("JobDesk", "due", "[I", true)
  | 3 => ("JobDesk", "weight", "[I", true)
  | 4 => ("JobDesk", "order", "[I", true)
  | 5 => ("JobDesk", "made", "[Z", true)
  | _ => ("JobDesk", "n", "I", false)
def tyX0 : Nat → FieldType := fun k => match k with
  | 0 => .array .int
  | 1 => .array .int
  | 2 => .array .int
  | 3 => .array .int
  | 4 => .array .int
  | 5 => .array .boolean
  | _ => .int
abbrev wsX00 : List Cond := u_ws RX0 TX0 7
theorem nmX0 : ∀ a, a < 7 → ∀ b, b < 7 → a ≠ b → (TX0 a).2.1 ≠ (TX0 b).2.1 := by decide +kernel
theorem tyX0_ok : ∀ k, k < 7 → parseFieldDescriptor (TX0 k).2.2.1 = some (tyX0 k) := by decide +kernel
abbrev cX0_init : ByteArray := prog_1_method_1_code
def yX0_init : MethodName := ⟨RX0, "<init>", "()V"⟩
theorem dX0_init_0 : decode cX0_init 0 = .ok (.aload_n 0, 1) := by decide +kernel
theorem dX0_init_1 : decode cX0_init 1 = .ok (.invokespecial 1, 3) := by decide +kernel
theorem dX0_init_4 : decode cX0_init 4 = .ok (.aload_n 0, 1) := by decide +kernel
theorem dX0_init_5 : decode cX0_init 5 = .ok (.bipush 6, 2) := by decide +kernel
theorem dX0_init_7 : decode cX0_init 7 = .ok (.newarray .int, 2) := by decide +kernel
theorem dX0_init_9 : decode cX0_init 9 = .ok (.putfield 9, 3) := by decide +kernel
theorem dX0_init_12 : decode cX0_init 12 = .ok (.aload_n 0, 1) := by decide +kernel
theorem dX0_init_13 : decode cX0_init 13 = .ok (.bipush 6, 2) := by decide +kernel
theorem dX0_init_15 : decode cX0_init 15 = .ok (.newarray .int, 2) := by decide +kernel
theorem dX0_init_17 : decode cX0_init 17 = .ok (.putfield 13, 3) := by decide +kernel
theorem dX0_init_20 : decode cX0_init 20 = .ok (.aload_n 0, 1) := by decide +kernel
theorem dX0_init_21 : decode cX0_init 21 = .ok (.bipush 6, 2) := by decide +kernel
theorem dX0_init_23 : decode cX0_init 23 = .ok (.newarray .int, 2) := by decide +kernel
theorem dX0_init_25 : decode cX0_init 25 = .ok (.putfield 16, 3) := by decide +kernel
theorem dX0_init_28 : decode cX0_init 28 = .ok (.aload_n 0, 1) := by decide +kernel
theorem dX0_init_29 : decode cX0_init 29 = .ok (.bipush 6, 2) := by decide +kernel
theorem dX0_init_31 : decode cX0_init 31 = .ok (.newarray .int, 2) := by decide +kernel
theorem dX0_init_33 : decode cX0_init 33 = .ok (.putfield 19, 3) := by decide +kernel
theorem dX0_init_36 : decode cX0_init 36 = .ok (.aload_n 0, 1) := by decide +kernel
theorem dX0_init_37 : decode cX0_init 37 = .ok (.bipush 6, 2) := by decide +kernel
theorem dX0_init_39 : decode cX0_init 39 = .ok (.newarray .int, 2) := by decide +kernel
theorem dX0_init_41 : decode cX0_init 41 = .ok (.putfield 22, 3) := by decide +kernel
theorem dX0_init_44 : decode cX0_init 44 = .ok (.aload_n 0, 1) := by decide +kernel
theorem dX0_init_45 : decode cX0_init 45 = .ok (.sipush 1531, 3) := by decide +kernel
theorem dX0_init_48 : decode cX0_init 48 = .ok (.newarray .boolean, 2) := by decide +kernel
theorem dX0_init_50 : decode cX0_init 50 = .ok (.putfield 25, 3) := by decide +kernel
theorem dX0_init_53 : decode cX0_init 53 = .ok (.return_, 1) := by decide +kernel
abbrev cX0_job : ByteArray := prog_1_method_2_code
def yX0_job : MethodName := ⟨RX0, "job", "(IIII)Z"⟩
theorem dX0_job_0 : decode cX0_job 0 = .ok (.aload_n 0, 1) := by decide +kernel
theorem dX0_job_1 : decode cX0_job 1 = .ok (.getfield 29, 3) := by decide +kernel
theorem dX0_job_4 : decode cX0_job 4 = .ok (.bipush 6, 2) := by decide +kernel
theorem dX0_job_6 : decode cX0_job 6 = .ok (.if_icmp .ne 5, 3) := by decide +kernel
theorem dX0_job_9 : decode cX0_job 9 = .ok (.iconst 0, 1) := by decide +kernel
theorem dX0_job_10 : decode cX0_job 10 = .ok (.ireturn, 1) := by decide +kernel
theorem dX0_job_11 : decode cX0_job 11 = .ok (.aload_n 0, 1) := by decide +kernel
theorem dX0_job_12 : decode cX0_job 12 = .ok (.getfield 9, 3) := by decide +kernel
theorem dX0_job_15 : decode cX0_job 15 = .ok (.aload_n 0, 1) := by decide +kernel
theorem dX0_job_16 : decode cX0_job 16 = .ok (.getfield 29, 3) := by decide +kernel
theorem dX0_job_19 : decode cX0_job 19 = .ok (.iload_n 1, 1) := by decide +kernel
theorem dX0_job_20 : decode cX0_job 20 = .ok (.sipush 255, 3) := by decide +kernel
theorem dX0_job_23 : decode cX0_job 23 = .ok (.iand, 1) := by decide +kernel
theorem dX0_job_24 : decode cX0_job 24 = .ok (.iastore, 1) := by decide +kernel
theorem dX0_job_25 : decode cX0_job 25 = .ok (.aload_n 0, 1) := by decide +kernel
theorem dX0_job_26 : decode cX0_job 26 = .ok (.getfield 13, 3) := by decide +kernel
theorem dX0_job_29 : decode cX0_job 29 = .ok (.aload_n 0, 1) := by decide +kernel
theorem dX0_job_30 : decode cX0_job 30 = .ok (.getfield 29, 3) := by decide +kernel
theorem dX0_job_33 : decode cX0_job 33 = .ok (.iload_n 2, 1) := by decide +kernel
theorem dX0_job_34 : decode cX0_job 34 = .ok (.sipush 255, 3) := by decide +kernel
theorem dX0_job_37 : decode cX0_job 37 = .ok (.iand, 1) := by decide +kernel
theorem dX0_job_38 : decode cX0_job 38 = .ok (.iastore, 1) := by decide +kernel
theorem dX0_job_39 : decode cX0_job 39 = .ok (.aload_n 0, 1) := by decide +kernel
theorem dX0_job_40 : decode cX0_job 40 = .ok (.getfield 16, 3) := by decide +kernel
theorem dX0_job_43 : decode cX0_job 43 = .ok (.aload_n 0, 1) := by decide +kernel
theorem dX0_job_44 : decode cX0_job 44 = .ok (.getfield 29, 3) := by decide +kernel
theorem dX0_job_47 : decode cX0_job 47 = .ok (.iload_n 3, 1) := by decide +kernel
theorem dX0_job_48 : decode cX0_job 48 = .ok (.sipush 1023, 3) := by decide +kernel
theorem dX0_job_51 : decode cX0_job 51 = .ok (.iand, 1) := by decide +kernel
theorem dX0_job_52 : decode cX0_job 52 = .ok (.iastore, 1) := by decide +kernel
theorem dX0_job_53 : decode cX0_job 53 = .ok (.aload_n 0, 1) := by decide +kernel
theorem dX0_job_54 : decode cX0_job 54 = .ok (.getfield 19, 3) := by decide +kernel
theorem dX0_job_57 : decode cX0_job 57 = .ok (.aload_n 0, 1) := by decide +kernel
theorem dX0_job_58 : decode cX0_job 58 = .ok (.dup, 1) := by decide +kernel
theorem dX0_job_59 : decode cX0_job 59 = .ok (.getfield 29, 3) := by decide +kernel
theorem dX0_job_62 : decode cX0_job 62 = .ok (.dup_x1, 1) := by decide +kernel
theorem dX0_job_63 : decode cX0_job 63 = .ok (.iconst 1, 1) := by decide +kernel
theorem dX0_job_64 : decode cX0_job 64 = .ok (.iadd, 1) := by decide +kernel
theorem dX0_job_65 : decode cX0_job 65 = .ok (.putfield 29, 3) := by decide +kernel
theorem dX0_job_68 : decode cX0_job 68 = .ok (.iload 4, 2) := by decide +kernel
theorem dX0_job_70 : decode cX0_job 70 = .ok (.sipush 255, 3) := by decide +kernel
theorem dX0_job_73 : decode cX0_job 73 = .ok (.iand, 1) := by decide +kernel
theorem dX0_job_74 : decode cX0_job 74 = .ok (.iastore, 1) := by decide +kernel
theorem dX0_job_75 : decode cX0_job 75 = .ok (.iconst 1, 1) := by decide +kernel
theorem dX0_job_76 : decode cX0_job 76 = .ok (.ireturn, 1) := by decide +kernel
abbrev cX0_drop : ByteArray := prog_1_method_3_code
def yX0_drop : MethodName := ⟨RX0, "drop", "()Z"⟩
theorem dX0_drop_0 : decode cX0_drop 0 = .ok (.aload_n 0, 1) := by decide +kernel
theorem dX0_drop_1 : decode cX0_drop 1 = .ok (.getfield 29, 3) := by decide +kernel
theorem dX0_drop_4 : decode cX0_drop 4 = .ok (.ifCond .ne 5, 3) := by decide +kernel
theorem dX0_drop_7 : decode cX0_drop 7 = .ok (.iconst 0, 1) := by decide +kernel
theorem dX0_drop_8 : decode cX0_drop 8 = .ok (.ireturn, 1) := by decide +kernel
theorem dX0_drop_9 : decode cX0_drop 9 = .ok (.aload_n 0, 1) := by decide +kernel
theorem dX0_drop_10 : decode cX0_drop 10 = .ok (.dup, 1) := by decide +kernel
theorem dX0_drop_11 : decode cX0_drop 11 = .ok (.getfield 29, 3) := by decide +kernel
theorem dX0_drop_14 : decode cX0_drop 14 = .ok (.iconst 1, 1) := by decide +kernel
theorem dX0_drop_15 : decode cX0_drop 15 = .ok (.isub, 1) := by decide +kernel
theorem dX0_drop_16 : decode cX0_drop 16 = .ok (.putfield 29, 3) := by decide +kernel
theorem dX0_drop_19 : decode cX0_drop 19 = .ok (.iconst 1, 1) := by decide +kernel
theorem dX0_drop_20 : decode cX0_drop 20 = .ok (.ireturn, 1) := by decide +kernel
abbrev cX0_jobs : ByteArray := prog_1_method_4_code
def yX0_jobs : MethodName := ⟨RX0, "jobs", "()I"⟩
theorem dX0_jobs_0 : decode cX0_jobs 0 = .ok (.aload_n 0, 1) := by decide +kernel
theorem dX0_jobs_1 : decode cX0_jobs 1 = .ok (.getfield 29, 3) := by decide +kernel
theorem dX0_jobs_4 : decode cX0_jobs 4 = .ok (.ireturn, 1) := by decide +kernel
abbrev cX0_weighted : ByteArray := prog_1_method_7_code
def yX0_weighted : MethodName := ⟨RX0, "weighted", "()J"⟩
theorem dX0_weighted_0 : decode cX0_weighted 0 = .ok (.aload_n 0, 1) := by decide +kernel
theorem dX0_weighted_1 : decode cX0_weighted 1 = .ok (.iconst 0, 1) := by decide +kernel
theorem dX0_weighted_2 : decode cX0_weighted 2 = .ok (.invokevirtual 37, 3) := by decide +kernel
theorem dX0_weighted_5 : decode cX0_weighted 5 = .ok (.istore_n 1, 1) := by decide +kernel
theorem dX0_weighted_6 : decode cX0_weighted 6 = .ok (.iconst 0, 1) := by decide +kernel
theorem dX0_weighted_7 : decode cX0_weighted 7 = .ok (.istore_n 2, 1) := by decide +kernel
theorem dX0_weighted_8 : decode cX0_weighted 8 = .ok (.lconst 0, 1) := by decide +kernel
theorem dX0_weighted_9 : decode cX0_weighted 9 = .ok (.lstore_n 3, 1) := by decide +kernel
theorem dX0_weighted_10 : decode cX0_weighted 10 = .ok (.iconst 0, 1) := by decide +kernel
theorem dX0_weighted_11 : decode cX0_weighted 11 = .ok (.istore 5, 2) := by decide +kernel
theorem dX0_weighted_13 : decode cX0_weighted 13 = .ok (.iload 5, 2) := by decide +kernel
theorem dX0_weighted_15 : decode cX0_weighted 15 = .ok (.iload_n 1, 1) := by decide +kernel
theorem dX0_weighted_16 : decode cX0_weighted 16 = .ok (.if_icmp .ge 43, 3) := by decide +kernel
theorem dX0_weighted_19 : decode cX0_weighted 19 = .ok (.iload_n 2, 1) := by decide +kernel
theorem dX0_weighted_20 : decode cX0_weighted 20 = .ok (.aload_n 0, 1) := by decide +kernel
theorem dX0_weighted_21 : decode cX0_weighted 21 = .ok (.getfield 9, 3) := by decide +kernel
theorem dX0_weighted_24 : decode cX0_weighted 24 = .ok (.aload_n 0, 1) := by decide +kernel
theorem dX0_weighted_25 : decode cX0_weighted 25 = .ok (.getfield 22, 3) := by decide +kernel
theorem dX0_weighted_28 : decode cX0_weighted 28 = .ok (.iload 5, 2) := by decide +kernel
theorem dX0_weighted_30 : decode cX0_weighted 30 = .ok (.iaload, 1) := by decide +kernel
theorem dX0_weighted_31 : decode cX0_weighted 31 = .ok (.iaload, 1) := by decide +kernel
theorem dX0_weighted_32 : decode cX0_weighted 32 = .ok (.iadd, 1) := by decide +kernel
theorem dX0_weighted_33 : decode cX0_weighted 33 = .ok (.istore_n 2, 1) := by decide +kernel
theorem dX0_weighted_34 : decode cX0_weighted 34 = .ok (.lload_n 3, 1) := by decide +kernel
theorem dX0_weighted_35 : decode cX0_weighted 35 = .ok (.aload_n 0, 1) := by decide +kernel
theorem dX0_weighted_36 : decode cX0_weighted 36 = .ok (.getfield 19, 3) := by decide +kernel
theorem dX0_weighted_39 : decode cX0_weighted 39 = .ok (.aload_n 0, 1) := by decide +kernel
theorem dX0_weighted_40 : decode cX0_weighted 40 = .ok (.getfield 22, 3) := by decide +kernel
theorem dX0_weighted_43 : decode cX0_weighted 43 = .ok (.iload 5, 2) := by decide +kernel
theorem dX0_weighted_45 : decode cX0_weighted 45 = .ok (.iaload, 1) := by decide +kernel
theorem dX0_weighted_46 : decode cX0_weighted 46 = .ok (.iaload, 1) := by decide +kernel
theorem dX0_weighted_47 : decode cX0_weighted 47 = .ok (.i2l, 1) := by decide +kernel
theorem dX0_weighted_48 : decode cX0_weighted 48 = .ok (.iload_n 2, 1) := by decide +kernel
theorem dX0_weighted_49 : decode cX0_weighted 49 = .ok (.i2l, 1) := by decide +kernel
theorem dX0_weighted_50 : decode cX0_weighted 50 = .ok (.lmul, 1) := by decide +kernel
theorem dX0_weighted_51 : decode cX0_weighted 51 = .ok (.ladd, 1) := by decide +kernel
theorem dX0_weighted_52 : decode cX0_weighted 52 = .ok (.lstore_n 3, 1) := by decide +kernel
theorem dX0_weighted_53 : decode cX0_weighted 53 = .ok (.iinc 5 1, 3) := by decide +kernel
theorem dX0_weighted_56 : decode cX0_weighted 56 = .ok (.goto (-43), 3) := by decide +kernel
theorem dX0_weighted_59 : decode cX0_weighted 59 = .ok (.lload_n 3, 1) := by decide +kernel
theorem dX0_weighted_60 : decode cX0_weighted 60 = .ok (.lreturn, 1) := by decide +kernel
abbrev cX0_sort : ByteArray := prog_1_method_6_code
def yX0_sort : MethodName := ⟨RX0, "sort", "(I)I"⟩
theorem dX0_sort_0 : decode cX0_sort 0 = .ok (.iconst 0, 1) := by decide +kernel
theorem dX0_sort_1 : decode cX0_sort 1 = .ok (.istore_n 2, 1) := by decide +kernel
theorem dX0_sort_2 : decode cX0_sort 2 = .ok (.iconst 0, 1) := by decide +kernel
theorem dX0_sort_3 : decode cX0_sort 3 = .ok (.istore_n 3, 1) := by decide +kernel
theorem dX0_sort_4 : decode cX0_sort 4 = .ok (.iload_n 3, 1) := by decide +kernel
theorem dX0_sort_5 : decode cX0_sort 5 = .ok (.aload_n 0, 1) := by decide +kernel
theorem dX0_sort_6 : decode cX0_sort 6 = .ok (.getfield 29, 3) := by decide +kernel
theorem dX0_sort_9 : decode cX0_sort 9 = .ok (.if_icmp .ge 93, 3) := by decide +kernel
theorem dX0_sort_12 : decode cX0_sort 12 = .ok (.iload_n 1, 1) := by decide +kernel
theorem dX0_sort_13 : decode cX0_sort 13 = .ok (.ifCond .ne 24, 3) := by decide +kernel
theorem dX0_sort_16 : decode cX0_sort 16 = .ok (.aload_n 0, 1) := by decide +kernel
theorem dX0_sort_17 : decode cX0_sort 17 = .ok (.getfield 9, 3) := by decide +kernel
theorem dX0_sort_20 : decode cX0_sort 20 = .ok (.iload_n 3, 1) := by decide +kernel
theorem dX0_sort_21 : decode cX0_sort 21 = .ok (.iaload, 1) := by decide +kernel
theorem dX0_sort_22 : decode cX0_sort 22 = .ok (.ifCond .ne 15, 3) := by decide +kernel
theorem dX0_sort_25 : decode cX0_sort 25 = .ok (.aload_n 0, 1) := by decide +kernel
theorem dX0_sort_26 : decode cX0_sort 26 = .ok (.getfield 19, 3) := by decide +kernel
theorem dX0_sort_29 : decode cX0_sort 29 = .ok (.iload_n 3, 1) := by decide +kernel
theorem dX0_sort_30 : decode cX0_sort 30 = .ok (.iaload, 1) := by decide +kernel
theorem dX0_sort_31 : decode cX0_sort 31 = .ok (.ifCond .ne 6, 3) := by decide +kernel
theorem dX0_sort_34 : decode cX0_sort 34 = .ok (.goto 62, 3) := by decide +kernel
theorem dX0_sort_37 : decode cX0_sort 37 = .ok (.iload_n 2, 1) := by decide +kernel
theorem dX0_sort_38 : decode cX0_sort 38 = .ok (.iinc 2 1, 3) := by decide +kernel
theorem dX0_sort_41 : decode cX0_sort 41 = .ok (.istore 4, 2) := by decide +kernel
theorem dX0_sort_43 : decode cX0_sort 43 = .ok (.iload 4, 2) := by decide +kernel
theorem dX0_sort_45 : decode cX0_sort 45 = .ok (.ifCond .le 43, 3) := by decide +kernel
theorem dX0_sort_48 : decode cX0_sort 48 = .ok (.aload_n 0, 1) := by decide +kernel
theorem dX0_sort_49 : decode cX0_sort 49 = .ok (.iload_n 1, 1) := by decide +kernel
theorem dX0_sort_50 : decode cX0_sort 50 = .ok (.iload_n 3, 1) := by decide +kernel
theorem dX0_sort_51 : decode cX0_sort 51 = .ok (.aload_n 0, 1) := by decide +kernel
theorem dX0_sort_52 : decode cX0_sort 52 = .ok (.getfield 22, 3) := by decide +kernel
theorem dX0_sort_55 : decode cX0_sort 55 = .ok (.iload 4, 2) := by decide +kernel
theorem dX0_sort_57 : decode cX0_sort 57 = .ok (.iconst 1, 1) := by decide +kernel
theorem dX0_sort_58 : decode cX0_sort 58 = .ok (.isub, 1) := by decide +kernel
theorem dX0_sort_59 : decode cX0_sort 59 = .ok (.iaload, 1) := by decide +kernel
theorem dX0_sort_60 : decode cX0_sort 60 = .ok (.invokevirtual 33, 3) := by decide +kernel
theorem dX0_sort_63 : decode cX0_sort 63 = .ok (.ifCond .eq 25, 3) := by decide +kernel
theorem dX0_sort_66 : decode cX0_sort 66 = .ok (.aload_n 0, 1) := by decide +kernel
theorem dX0_sort_67 : decode cX0_sort 67 = .ok (.getfield 22, 3) := by decide +kernel
theorem dX0_sort_70 : decode cX0_sort 70 = .ok (.iload 4, 2) := by decide +kernel
theorem dX0_sort_72 : decode cX0_sort 72 = .ok (.aload_n 0, 1) := by decide +kernel
theorem dX0_sort_73 : decode cX0_sort 73 = .ok (.getfield 22, 3) := by decide +kernel
theorem dX0_sort_76 : decode cX0_sort 76 = .ok (.iload 4, 2) := by decide +kernel
theorem dX0_sort_78 : decode cX0_sort 78 = .ok (.iconst 1, 1) := by decide +kernel
theorem dX0_sort_79 : decode cX0_sort 79 = .ok (.isub, 1) := by decide +kernel
theorem dX0_sort_80 : decode cX0_sort 80 = .ok (.iaload, 1) := by decide +kernel
theorem dX0_sort_81 : decode cX0_sort 81 = .ok (.iastore, 1) := by decide +kernel
theorem dX0_sort_82 : decode cX0_sort 82 = .ok (.iinc 4 (-1), 3) := by decide +kernel
theorem dX0_sort_85 : decode cX0_sort 85 = .ok (.goto (-42), 3) := by decide +kernel
theorem dX0_sort_88 : decode cX0_sort 88 = .ok (.aload_n 0, 1) := by decide +kernel
theorem dX0_sort_89 : decode cX0_sort 89 = .ok (.getfield 22, 3) := by decide +kernel
theorem dX0_sort_92 : decode cX0_sort 92 = .ok (.iload 4, 2) := by decide +kernel
theorem dX0_sort_94 : decode cX0_sort 94 = .ok (.iload_n 3, 1) := by decide +kernel
theorem dX0_sort_95 : decode cX0_sort 95 = .ok (.iastore, 1) := by decide +kernel
theorem dX0_sort_96 : decode cX0_sort 96 = .ok (.iinc 3 1, 3) := by decide +kernel
theorem dX0_sort_99 : decode cX0_sort 99 = .ok (.goto (-95), 3) := by decide +kernel
theorem dX0_sort_102 : decode cX0_sort 102 = .ok (.iload_n 2, 1) := by decide +kernel
theorem dX0_sort_103 : decode cX0_sort 103 = .ok (.ireturn, 1) := by decide +kernel
abbrev cX0_before : ByteArray := prog_1_method_5_code
def yX0_before : MethodName := ⟨RX0, "before", "(III)Z"⟩
theorem dX0_before_0 : decode cX0_before 0 = .ok (.iload_n 1, 1) := by decide +kernel
theorem dX0_before_1 : decode cX0_before 1 = .ok (.lookupswitch 83 #[(0, 27), (1, 62)], 27) := by decide +kernel
theorem dX0_before_28 : decode cX0_before 28 = .ok (.aload_n 0, 1) := by decide +kernel
theorem dX0_before_29 : decode cX0_before 29 = .ok (.getfield 9, 3) := by decide +kernel
theorem dX0_before_32 : decode cX0_before 32 = .ok (.iload_n 2, 1) := by decide +kernel
theorem dX0_before_33 : decode cX0_before 33 = .ok (.iaload, 1) := by decide +kernel
theorem dX0_before_34 : decode cX0_before 34 = .ok (.aload_n 0, 1) := by decide +kernel
theorem dX0_before_35 : decode cX0_before 35 = .ok (.getfield 19, 3) := by decide +kernel
theorem dX0_before_38 : decode cX0_before 38 = .ok (.iload_n 3, 1) := by decide +kernel
theorem dX0_before_39 : decode cX0_before 39 = .ok (.iaload, 1) := by decide +kernel
theorem dX0_before_40 : decode cX0_before 40 = .ok (.imul, 1) := by decide +kernel
theorem dX0_before_41 : decode cX0_before 41 = .ok (.aload_n 0, 1) := by decide +kernel
theorem dX0_before_42 : decode cX0_before 42 = .ok (.getfield 9, 3) := by decide +kernel
theorem dX0_before_45 : decode cX0_before 45 = .ok (.iload_n 3, 1) := by decide +kernel
theorem dX0_before_46 : decode cX0_before 46 = .ok (.iaload, 1) := by decide +kernel
theorem dX0_before_47 : decode cX0_before 47 = .ok (.aload_n 0, 1) := by decide +kernel
theorem dX0_before_48 : decode cX0_before 48 = .ok (.getfield 19, 3) := by decide +kernel
theorem dX0_before_51 : decode cX0_before 51 = .ok (.iload_n 2, 1) := by decide +kernel
theorem dX0_before_52 : decode cX0_before 52 = .ok (.iaload, 1) := by decide +kernel
theorem dX0_before_53 : decode cX0_before 53 = .ok (.imul, 1) := by decide +kernel
theorem dX0_before_54 : decode cX0_before 54 = .ok (.if_icmp .ge 7, 3) := by decide +kernel
theorem dX0_before_57 : decode cX0_before 57 = .ok (.iconst 1, 1) := by decide +kernel
theorem dX0_before_58 : decode cX0_before 58 = .ok (.goto 4, 3) := by decide +kernel
theorem dX0_before_61 : decode cX0_before 61 = .ok (.iconst 0, 1) := by decide +kernel
theorem dX0_before_62 : decode cX0_before 62 = .ok (.ireturn, 1) := by decide +kernel
theorem dX0_before_63 : decode cX0_before 63 = .ok (.aload_n 0, 1) := by decide +kernel
theorem dX0_before_64 : decode cX0_before 64 = .ok (.getfield 16, 3) := by decide +kernel
theorem dX0_before_67 : decode cX0_before 67 = .ok (.iload_n 2, 1) := by decide +kernel
theorem dX0_before_68 : decode cX0_before 68 = .ok (.iaload, 1) := by decide +kernel
theorem dX0_before_69 : decode cX0_before 69 = .ok (.aload_n 0, 1) := by decide +kernel
theorem dX0_before_70 : decode cX0_before 70 = .ok (.getfield 16, 3) := by decide +kernel
theorem dX0_before_73 : decode cX0_before 73 = .ok (.iload_n 3, 1) := by decide +kernel
theorem dX0_before_74 : decode cX0_before 74 = .ok (.iaload, 1) := by decide +kernel
theorem dX0_before_75 : decode cX0_before 75 = .ok (.if_icmp .ge 7, 3) := by decide +kernel
theorem dX0_before_78 : decode cX0_before 78 = .ok (.iconst 1, 1) := by decide +kernel
theorem dX0_before_79 : decode cX0_before 79 = .ok (.goto 4, 3) := by decide +kernel
theorem dX0_before_82 : decode cX0_before 82 = .ok (.iconst 0, 1) := by decide +kernel
theorem dX0_before_83 : decode cX0_before 83 = .ok (.ireturn, 1) := by decide +kernel
theorem dX0_before_84 : decode cX0_before 84 = .ok (.aload_n 0, 1) := by decide +kernel
theorem dX0_before_85 : decode cX0_before 85 = .ok (.getfield 9, 3) := by decide +kernel
theorem dX0_before_88 : decode cX0_before 88 = .ok (.iload_n 2, 1) := by decide +kernel
theorem dX0_before_89 : decode cX0_before 89 = .ok (.iaload, 1) := by decide +kernel
theorem dX0_before_90 : decode cX0_before 90 = .ok (.aload_n 0, 1) := by decide +kernel
theorem dX0_before_91 : decode cX0_before 91 = .ok (.getfield 13, 3) := by decide +kernel
theorem dX0_before_94 : decode cX0_before 94 = .ok (.iload_n 2, 1) := by decide +kernel
theorem dX0_before_95 : decode cX0_before 95 = .ok (.iaload, 1) := by decide +kernel
theorem dX0_before_96 : decode cX0_before 96 = .ok (.if_icmp .ge 7, 3) := by decide +kernel
theorem dX0_before_99 : decode cX0_before 99 = .ok (.iconst 1, 1) := by decide +kernel
theorem dX0_before_100 : decode cX0_before 100 = .ok (.goto 4, 3) := by decide +kernel
theorem dX0_before_103 : decode cX0_before 103 = .ok (.iconst 0, 1) := by decide +kernel
theorem dX0_before_104 : decode cX0_before 104 = .ok (.istore 4, 2) := by decide +kernel
theorem dX0_before_106 : decode cX0_before 106 = .ok (.aload_n 0, 1) := by decide +kernel
theorem dX0_before_107 : decode cX0_before 107 = .ok (.getfield 9, 3) := by decide +kernel
theorem dX0_before_110 : decode cX0_before 110 = .ok (.iload_n 3, 1) := by decide +kernel
theorem dX0_before_111 : decode cX0_before 111 = .ok (.iaload, 1) := by decide +kernel
theorem dX0_before_112 : decode cX0_before 112 = .ok (.aload_n 0, 1) := by decide +kernel
theorem dX0_before_113 : decode cX0_before 113 = .ok (.getfield 13, 3) := by decide +kernel
theorem dX0_before_116 : decode cX0_before 116 = .ok (.iload_n 3, 1) := by decide +kernel
theorem dX0_before_117 : decode cX0_before 117 = .ok (.iaload, 1) := by decide +kernel
theorem dX0_before_118 : decode cX0_before 118 = .ok (.if_icmp .ge 7, 3) := by decide +kernel
theorem dX0_before_121 : decode cX0_before 121 = .ok (.iconst 1, 1) := by decide +kernel
theorem dX0_before_122 : decode cX0_before 122 = .ok (.goto 4, 3) := by decide +kernel
theorem dX0_before_125 : decode cX0_before 125 = .ok (.iconst 0, 1) := by decide +kernel
theorem dX0_before_126 : decode cX0_before 126 = .ok (.istore 5, 2) := by decide +kernel
theorem dX0_before_128 : decode cX0_before 128 = .ok (.iload 4, 2) := by decide +kernel
theorem dX0_before_130 : decode cX0_before 130 = .ok (.iload 5, 2) := by decide +kernel
theorem dX0_before_132 : decode cX0_before 132 = .ok (.if_icmp .eq 6, 3) := by decide +kernel
theorem dX0_before_135 : decode cX0_before 135 = .ok (.iload 4, 2) := by decide +kernel
theorem dX0_before_137 : decode cX0_before 137 = .ok (.ireturn, 1) := by decide +kernel
theorem dX0_before_138 : decode cX0_before 138 = .ok (.iload 4, 2) := by decide +kernel
theorem dX0_before_140 : decode cX0_before 140 = .ok (.ifCond .eq 26, 3) := by decide +kernel
theorem dX0_before_143 : decode cX0_before 143 = .ok (.aload_n 0, 1) := by decide +kernel
theorem dX0_before_144 : decode cX0_before 144 = .ok (.getfield 9, 3) := by decide +kernel
theorem dX0_before_147 : decode cX0_before 147 = .ok (.iload_n 2, 1) := by decide +kernel
theorem dX0_before_148 : decode cX0_before 148 = .ok (.iaload, 1) := by decide +kernel
theorem dX0_before_149 : decode cX0_before 149 = .ok (.aload_n 0, 1) := by decide +kernel
theorem dX0_before_150 : decode cX0_before 150 = .ok (.getfield 9, 3) := by decide +kernel
theorem dX0_before_153 : decode cX0_before 153 = .ok (.iload_n 3, 1) := by decide +kernel
theorem dX0_before_154 : decode cX0_before 154 = .ok (.iaload, 1) := by decide +kernel
theorem dX0_before_155 : decode cX0_before 155 = .ok (.if_icmp .ge 7, 3) := by decide +kernel
theorem dX0_before_158 : decode cX0_before 158 = .ok (.iconst 1, 1) := by decide +kernel
theorem dX0_before_159 : decode cX0_before 159 = .ok (.goto 27, 3) := by decide +kernel
theorem dX0_before_162 : decode cX0_before 162 = .ok (.iconst 0, 1) := by decide +kernel
theorem dX0_before_163 : decode cX0_before 163 = .ok (.goto 23, 3) := by decide +kernel
theorem dX0_before_166 : decode cX0_before 166 = .ok (.aload_n 0, 1) := by decide +kernel
theorem dX0_before_167 : decode cX0_before 167 = .ok (.getfield 13, 3) := by decide +kernel
theorem dX0_before_170 : decode cX0_before 170 = .ok (.iload_n 2, 1) := by decide +kernel
theorem dX0_before_171 : decode cX0_before 171 = .ok (.iaload, 1) := by decide +kernel
theorem dX0_before_172 : decode cX0_before 172 = .ok (.aload_n 0, 1) := by decide +kernel
theorem dX0_before_173 : decode cX0_before 173 = .ok (.getfield 13, 3) := by decide +kernel
theorem dX0_before_176 : decode cX0_before 176 = .ok (.iload_n 3, 1) := by decide +kernel
theorem dX0_before_177 : decode cX0_before 177 = .ok (.iaload, 1) := by decide +kernel
theorem dX0_before_178 : decode cX0_before 178 = .ok (.if_icmp .le 7, 3) := by decide +kernel
theorem dX0_before_181 : decode cX0_before 181 = .ok (.iconst 1, 1) := by decide +kernel
theorem dX0_before_182 : decode cX0_before 182 = .ok (.goto 4, 3) := by decide +kernel
theorem dX0_before_185 : decode cX0_before 185 = .ok (.iconst 0, 1) := by decide +kernel
theorem dX0_before_186 : decode cX0_before 186 = .ok (.ireturn, 1) := by decide +kernel
abbrev cX0_latest : ByteArray := prog_1_method_8_code
def yX0_latest : MethodName := ⟨RX0, "latest", "()J"⟩
theorem dX0_latest_0 : decode cX0_latest 0 = .ok (.aload_n 0, 1) := by decide +kernel
theorem dX0_latest_1 : decode cX0_latest 1 = .ok (.iconst 1, 1) := by decide +kernel
theorem dX0_latest_2 : decode cX0_latest 2 = .ok (.invokevirtual 37, 3) := by decide +kernel
theorem dX0_latest_5 : decode cX0_latest 5 = .ok (.istore_n 1, 1) := by decide +kernel
theorem dX0_latest_6 : decode cX0_latest 6 = .ok (.iconst 0, 1) := by decide +kernel
theorem dX0_latest_7 : decode cX0_latest 7 = .ok (.istore_n 2, 1) := by decide +kernel
theorem dX0_latest_8 : decode cX0_latest 8 = .ok (.aload_n 0, 1) := by decide +kernel
theorem dX0_latest_9 : decode cX0_latest 9 = .ok (.getfield 29, 3) := by decide +kernel
theorem dX0_latest_12 : decode cX0_latest 12 = .ok (.ifCond .ne 7, 3) := by decide +kernel
theorem dX0_latest_15 : decode cX0_latest 15 = .ok (.iconst 0, 1) := by decide +kernel
theorem dX0_latest_16 : decode cX0_latest 16 = .ok (.goto 5, 3) := by decide +kernel
theorem dX0_latest_19 : decode cX0_latest 19 = .ok (.ldc 43, 2) := by decide +kernel
theorem dX0_latest_21 : decode cX0_latest 21 = .ok (.istore_n 3, 1) := by decide +kernel
theorem dX0_latest_22 : decode cX0_latest 22 = .ok (.iconst 0, 1) := by decide +kernel
theorem dX0_latest_23 : decode cX0_latest 23 = .ok (.istore 4, 2) := by decide +kernel
theorem dX0_latest_25 : decode cX0_latest 25 = .ok (.iload 4, 2) := by decide +kernel
theorem dX0_latest_27 : decode cX0_latest 27 = .ok (.iload_n 1, 1) := by decide +kernel
theorem dX0_latest_28 : decode cX0_latest 28 = .ok (.if_icmp .ge 43, 3) := by decide +kernel
theorem dX0_latest_31 : decode cX0_latest 31 = .ok (.iload_n 2, 1) := by decide +kernel
theorem dX0_latest_32 : decode cX0_latest 32 = .ok (.aload_n 0, 1) := by decide +kernel
theorem dX0_latest_33 : decode cX0_latest 33 = .ok (.getfield 9, 3) := by decide +kernel
theorem dX0_latest_36 : decode cX0_latest 36 = .ok (.aload_n 0, 1) := by decide +kernel
theorem dX0_latest_37 : decode cX0_latest 37 = .ok (.getfield 22, 3) := by decide +kernel
theorem dX0_latest_40 : decode cX0_latest 40 = .ok (.iload 4, 2) := by decide +kernel
theorem dX0_latest_42 : decode cX0_latest 42 = .ok (.iaload, 1) := by decide +kernel
theorem dX0_latest_43 : decode cX0_latest 43 = .ok (.iaload, 1) := by decide +kernel
theorem dX0_latest_44 : decode cX0_latest 44 = .ok (.iadd, 1) := by decide +kernel
theorem dX0_latest_45 : decode cX0_latest 45 = .ok (.istore_n 2, 1) := by decide +kernel
theorem dX0_latest_46 : decode cX0_latest 46 = .ok (.iload_n 3, 1) := by decide +kernel
theorem dX0_latest_47 : decode cX0_latest 47 = .ok (.iload_n 2, 1) := by decide +kernel
theorem dX0_latest_48 : decode cX0_latest 48 = .ok (.aload_n 0, 1) := by decide +kernel
theorem dX0_latest_49 : decode cX0_latest 49 = .ok (.getfield 16, 3) := by decide +kernel
theorem dX0_latest_52 : decode cX0_latest 52 = .ok (.aload_n 0, 1) := by decide +kernel
theorem dX0_latest_53 : decode cX0_latest 53 = .ok (.getfield 22, 3) := by decide +kernel
theorem dX0_latest_56 : decode cX0_latest 56 = .ok (.iload 4, 2) := by decide +kernel
theorem dX0_latest_58 : decode cX0_latest 58 = .ok (.iaload, 1) := by decide +kernel
theorem dX0_latest_59 : decode cX0_latest 59 = .ok (.iaload, 1) := by decide +kernel
theorem dX0_latest_60 : decode cX0_latest 60 = .ok (.isub, 1) := by decide +kernel
theorem dX0_latest_61 : decode cX0_latest 61 = .ok (.invokestatic 44, 3) := by decide +kernel
theorem dX0_latest_64 : decode cX0_latest 64 = .ok (.istore_n 3, 1) := by decide +kernel
theorem dX0_latest_65 : decode cX0_latest 65 = .ok (.iinc 4 1, 3) := by decide +kernel
theorem dX0_latest_68 : decode cX0_latest 68 = .ok (.goto (-43), 3) := by decide +kernel
theorem dX0_latest_71 : decode cX0_latest 71 = .ok (.iload_n 3, 1) := by decide +kernel
theorem dX0_latest_72 : decode cX0_latest 72 = .ok (.i2l, 1) := by decide +kernel
theorem dX0_latest_73 : decode cX0_latest 73 = .ok (.lreturn, 1) := by decide +kernel
abbrev cX0_late : ByteArray := prog_1_method_9_code
def yX0_late : MethodName := ⟨RX0, "late", "()J"⟩
theorem dX0_late_0 : decode cX0_late 0 = .ok (.aload_n 0, 1) := by decide +kernel
theorem dX0_late_1 : decode cX0_late 1 = .ok (.iconst 1, 1) := by decide +kernel
theorem dX0_late_2 : decode cX0_late 2 = .ok (.invokevirtual 37, 3) := by decide +kernel
theorem dX0_late_5 : decode cX0_late 5 = .ok (.istore_n 1, 1) := by decide +kernel
theorem dX0_late_6 : decode cX0_late 6 = .ok (.iconst 0, 1) := by decide +kernel
theorem dX0_late_7 : decode cX0_late 7 = .ok (.istore_n 2, 1) := by decide +kernel
theorem dX0_late_8 : decode cX0_late 8 = .ok (.iconst 0, 1) := by decide +kernel
theorem dX0_late_9 : decode cX0_late 9 = .ok (.istore_n 3, 1) := by decide +kernel
theorem dX0_late_10 : decode cX0_late 10 = .ok (.iconst 0, 1) := by decide +kernel
theorem dX0_late_11 : decode cX0_late 11 = .ok (.istore 4, 2) := by decide +kernel
theorem dX0_late_13 : decode cX0_late 13 = .ok (.iconst 0, 1) := by decide +kernel
theorem dX0_late_14 : decode cX0_late 14 = .ok (.istore 5, 2) := by decide +kernel
theorem dX0_late_16 : decode cX0_late 16 = .ok (.iload 5, 2) := by decide +kernel
theorem dX0_late_18 : decode cX0_late 18 = .ok (.iload_n 1, 1) := by decide +kernel
theorem dX0_late_19 : decode cX0_late 19 = .ok (.if_icmp .ge 135, 3) := by decide +kernel
theorem dX0_late_22 : decode cX0_late 22 = .ok (.iload_n 2, 1) := by decide +kernel
theorem dX0_late_23 : decode cX0_late 23 = .ok (.aload_n 0, 1) := by decide +kernel
theorem dX0_late_24 : decode cX0_late 24 = .ok (.getfield 9, 3) := by decide +kernel
theorem dX0_late_27 : decode cX0_late 27 = .ok (.aload_n 0, 1) := by decide +kernel
theorem dX0_late_28 : decode cX0_late 28 = .ok (.getfield 22, 3) := by decide +kernel
theorem dX0_late_31 : decode cX0_late 31 = .ok (.iload 5, 2) := by decide +kernel
theorem dX0_late_33 : decode cX0_late 33 = .ok (.iaload, 1) := by decide +kernel
theorem dX0_late_34 : decode cX0_late 34 = .ok (.iaload, 1) := by decide +kernel
theorem dX0_late_35 : decode cX0_late 35 = .ok (.iadd, 1) := by decide +kernel
theorem dX0_late_36 : decode cX0_late 36 = .ok (.istore_n 2, 1) := by decide +kernel
theorem dX0_late_37 : decode cX0_late 37 = .ok (.iload_n 2, 1) := by decide +kernel
theorem dX0_late_38 : decode cX0_late 38 = .ok (.aload_n 0, 1) := by decide +kernel
theorem dX0_late_39 : decode cX0_late 39 = .ok (.getfield 16, 3) := by decide +kernel
theorem dX0_late_42 : decode cX0_late 42 = .ok (.aload_n 0, 1) := by decide +kernel
theorem dX0_late_43 : decode cX0_late 43 = .ok (.getfield 22, 3) := by decide +kernel
theorem dX0_late_46 : decode cX0_late 46 = .ok (.iload 5, 2) := by decide +kernel
theorem dX0_late_48 : decode cX0_late 48 = .ok (.iaload, 1) := by decide +kernel
theorem dX0_late_49 : decode cX0_late 49 = .ok (.iaload, 1) := by decide +kernel
theorem dX0_late_50 : decode cX0_late 50 = .ok (.if_icmp .gt 6, 3) := by decide +kernel
theorem dX0_late_53 : decode cX0_late 53 = .ok (.goto 95, 3) := by decide +kernel
theorem dX0_late_56 : decode cX0_late 56 = .ok (.iconst (-1), 1) := by decide +kernel
theorem dX0_late_57 : decode cX0_late 57 = .ok (.istore 6, 2) := by decide +kernel
theorem dX0_late_59 : decode cX0_late 59 = .ok (.iconst 0, 1) := by decide +kernel
theorem dX0_late_60 : decode cX0_late 60 = .ok (.istore 7, 2) := by decide +kernel
theorem dX0_late_62 : decode cX0_late 62 = .ok (.iload 7, 2) := by decide +kernel
theorem dX0_late_64 : decode cX0_late 64 = .ok (.iload 5, 2) := by decide +kernel
theorem dX0_late_66 : decode cX0_late 66 = .ok (.if_icmp .gt 60, 3) := by decide +kernel
theorem dX0_late_69 : decode cX0_late 69 = .ok (.iload 4, 2) := by decide +kernel
theorem dX0_late_71 : decode cX0_late 71 = .ok (.aload_n 0, 1) := by decide +kernel
theorem dX0_late_72 : decode cX0_late 72 = .ok (.getfield 22, 3) := by decide +kernel
theorem dX0_late_75 : decode cX0_late 75 = .ok (.iload 7, 2) := by decide +kernel
theorem dX0_late_77 : decode cX0_late 77 = .ok (.iaload, 1) := by decide +kernel
theorem dX0_late_78 : decode cX0_late 78 = .ok (.ishr, 1) := by decide +kernel
theorem dX0_late_79 : decode cX0_late 79 = .ok (.iconst 1, 1) := by decide +kernel
theorem dX0_late_80 : decode cX0_late 80 = .ok (.iand, 1) := by decide +kernel
theorem dX0_late_81 : decode cX0_late 81 = .ok (.ifCond .ne 39, 3) := by decide +kernel
theorem dX0_late_84 : decode cX0_late 84 = .ok (.iload 6, 2) := by decide +kernel
theorem dX0_late_86 : decode cX0_late 86 = .ok (.ifCond .lt 25, 3) := by decide +kernel
theorem dX0_late_89 : decode cX0_late 89 = .ok (.aload_n 0, 1) := by decide +kernel
theorem dX0_late_90 : decode cX0_late 90 = .ok (.getfield 9, 3) := by decide +kernel
theorem dX0_late_93 : decode cX0_late 93 = .ok (.aload_n 0, 1) := by decide +kernel
theorem dX0_late_94 : decode cX0_late 94 = .ok (.getfield 22, 3) := by decide +kernel
theorem dX0_late_97 : decode cX0_late 97 = .ok (.iload 7, 2) := by decide +kernel
theorem dX0_late_99 : decode cX0_late 99 = .ok (.iaload, 1) := by decide +kernel
theorem dX0_late_100 : decode cX0_late 100 = .ok (.iaload, 1) := by decide +kernel
theorem dX0_late_101 : decode cX0_late 101 = .ok (.aload_n 0, 1) := by decide +kernel
theorem dX0_late_102 : decode cX0_late 102 = .ok (.getfield 9, 3) := by decide +kernel
theorem dX0_late_105 : decode cX0_late 105 = .ok (.iload 6, 2) := by decide +kernel
theorem dX0_late_107 : decode cX0_late 107 = .ok (.iaload, 1) := by decide +kernel
theorem dX0_late_108 : decode cX0_late 108 = .ok (.if_icmp .le 12, 3) := by decide +kernel
theorem dX0_late_111 : decode cX0_late 111 = .ok (.aload_n 0, 1) := by decide +kernel
theorem dX0_late_112 : decode cX0_late 112 = .ok (.getfield 22, 3) := by decide +kernel
theorem dX0_late_115 : decode cX0_late 115 = .ok (.iload 7, 2) := by decide +kernel
theorem dX0_late_117 : decode cX0_late 117 = .ok (.iaload, 1) := by decide +kernel
theorem dX0_late_118 : decode cX0_late 118 = .ok (.istore 6, 2) := by decide +kernel
theorem dX0_late_120 : decode cX0_late 120 = .ok (.iinc 7 1, 3) := by decide +kernel
theorem dX0_late_123 : decode cX0_late 123 = .ok (.goto (-61), 3) := by decide +kernel
theorem dX0_late_126 : decode cX0_late 126 = .ok (.iload 4, 2) := by decide +kernel
theorem dX0_late_128 : decode cX0_late 128 = .ok (.iconst 1, 1) := by decide +kernel
theorem dX0_late_129 : decode cX0_late 129 = .ok (.iload 6, 2) := by decide +kernel
theorem dX0_late_131 : decode cX0_late 131 = .ok (.ishl, 1) := by decide +kernel
theorem dX0_late_132 : decode cX0_late 132 = .ok (.ior, 1) := by decide +kernel
theorem dX0_late_133 : decode cX0_late 133 = .ok (.istore 4, 2) := by decide +kernel
theorem dX0_late_135 : decode cX0_late 135 = .ok (.iload_n 2, 1) := by decide +kernel
theorem dX0_late_136 : decode cX0_late 136 = .ok (.aload_n 0, 1) := by decide +kernel
theorem dX0_late_137 : decode cX0_late 137 = .ok (.getfield 9, 3) := by decide +kernel
theorem dX0_late_140 : decode cX0_late 140 = .ok (.iload 6, 2) := by decide +kernel
theorem dX0_late_142 : decode cX0_late 142 = .ok (.iaload, 1) := by decide +kernel
theorem dX0_late_143 : decode cX0_late 143 = .ok (.isub, 1) := by decide +kernel
theorem dX0_late_144 : decode cX0_late 144 = .ok (.istore_n 2, 1) := by decide +kernel
theorem dX0_late_145 : decode cX0_late 145 = .ok (.iinc 3 1, 3) := by decide +kernel
theorem dX0_late_148 : decode cX0_late 148 = .ok (.iinc 5 1, 3) := by decide +kernel
theorem dX0_late_151 : decode cX0_late 151 = .ok (.goto (-135), 3) := by decide +kernel
theorem dX0_late_154 : decode cX0_late 154 = .ok (.iload_n 3, 1) := by decide +kernel
theorem dX0_late_155 : decode cX0_late 155 = .ok (.i2l, 1) := by decide +kernel
theorem dX0_late_156 : decode cX0_late 156 = .ok (.lreturn, 1) := by decide +kernel
abbrev cX0_both : ByteArray := prog_1_method_10_code
def yX0_both : MethodName := ⟨RX0, "both", "()J"⟩
theorem dX0_both_0 : decode cX0_both 0 = .ok (.aload_n 0, 1) := by decide +kernel
theorem dX0_both_1 : decode cX0_both 1 = .ok (.iconst 2, 1) := by decide +kernel
theorem dX0_both_2 : decode cX0_both 2 = .ok (.invokevirtual 37, 3) := by decide +kernel
theorem dX0_both_5 : decode cX0_both 5 = .ok (.istore_n 1, 1) := by decide +kernel
theorem dX0_both_6 : decode cX0_both 6 = .ok (.iconst 0, 1) := by decide +kernel
theorem dX0_both_7 : decode cX0_both 7 = .ok (.istore_n 2, 1) := by decide +kernel
theorem dX0_both_8 : decode cX0_both 8 = .ok (.iconst 0, 1) := by decide +kernel
theorem dX0_both_9 : decode cX0_both 9 = .ok (.istore_n 3, 1) := by decide +kernel
theorem dX0_both_10 : decode cX0_both 10 = .ok (.iconst 0, 1) := by decide +kernel
theorem dX0_both_11 : decode cX0_both 11 = .ok (.istore 4, 2) := by decide +kernel
theorem dX0_both_13 : decode cX0_both 13 = .ok (.iload 4, 2) := by decide +kernel
theorem dX0_both_15 : decode cX0_both 15 = .ok (.iload_n 1, 1) := by decide +kernel
theorem dX0_both_16 : decode cX0_both 16 = .ok (.if_icmp .ge 43, 3) := by decide +kernel
theorem dX0_both_19 : decode cX0_both 19 = .ok (.iload_n 2, 1) := by decide +kernel
theorem dX0_both_20 : decode cX0_both 20 = .ok (.aload_n 0, 1) := by decide +kernel
theorem dX0_both_21 : decode cX0_both 21 = .ok (.getfield 9, 3) := by decide +kernel
theorem dX0_both_24 : decode cX0_both 24 = .ok (.aload_n 0, 1) := by decide +kernel
theorem dX0_both_25 : decode cX0_both 25 = .ok (.getfield 22, 3) := by decide +kernel
theorem dX0_both_28 : decode cX0_both 28 = .ok (.iload 4, 2) := by decide +kernel
theorem dX0_both_30 : decode cX0_both 30 = .ok (.iaload, 1) := by decide +kernel
theorem dX0_both_31 : decode cX0_both 31 = .ok (.iaload, 1) := by decide +kernel
theorem dX0_both_32 : decode cX0_both 32 = .ok (.iadd, 1) := by decide +kernel
theorem dX0_both_33 : decode cX0_both 33 = .ok (.istore_n 2, 1) := by decide +kernel
theorem dX0_both_34 : decode cX0_both 34 = .ok (.iload_n 2, 1) := by decide +kernel
theorem dX0_both_35 : decode cX0_both 35 = .ok (.iload_n 3, 1) := by decide +kernel
theorem dX0_both_36 : decode cX0_both 36 = .ok (.invokestatic 44, 3) := by decide +kernel
theorem dX0_both_39 : decode cX0_both 39 = .ok (.aload_n 0, 1) := by decide +kernel
theorem dX0_both_40 : decode cX0_both 40 = .ok (.getfield 13, 3) := by decide +kernel
theorem dX0_both_43 : decode cX0_both 43 = .ok (.aload_n 0, 1) := by decide +kernel
theorem dX0_both_44 : decode cX0_both 44 = .ok (.getfield 22, 3) := by decide +kernel
theorem dX0_both_47 : decode cX0_both 47 = .ok (.iload 4, 2) := by decide +kernel
theorem dX0_both_49 : decode cX0_both 49 = .ok (.iaload, 1) := by decide +kernel
theorem dX0_both_50 : decode cX0_both 50 = .ok (.iaload, 1) := by decide +kernel
theorem dX0_both_51 : decode cX0_both 51 = .ok (.iadd, 1) := by decide +kernel
theorem dX0_both_52 : decode cX0_both 52 = .ok (.istore_n 3, 1) := by decide +kernel
theorem dX0_both_53 : decode cX0_both 53 = .ok (.iinc 4 1, 3) := by decide +kernel
theorem dX0_both_56 : decode cX0_both 56 = .ok (.goto (-43), 3) := by decide +kernel
theorem dX0_both_59 : decode cX0_both 59 = .ok (.iload_n 3, 1) := by decide +kernel
theorem dX0_both_60 : decode cX0_both 60 = .ok (.i2l, 1) := by decide +kernel
theorem dX0_both_61 : decode cX0_both 61 = .ok (.lreturn, 1) := by decide +kernel
abbrev cX0_shared : ByteArray := prog_1_method_11_code
def yX0_shared : MethodName := ⟨RX0, "shared", "()J"⟩
theorem dX0_shared_0 : decode cX0_shared 0 = .ok (.iconst 0, 1) := by decide +kernel
theorem dX0_shared_1 : decode cX0_shared 1 = .ok (.istore_n 1, 1) := by decide +kernel
theorem dX0_shared_2 : decode cX0_shared 2 = .ok (.iconst 0, 1) := by decide +kernel
theorem dX0_shared_3 : decode cX0_shared 3 = .ok (.istore_n 2, 1) := by decide +kernel
theorem dX0_shared_4 : decode cX0_shared 4 = .ok (.iload_n 2, 1) := by decide +kernel
theorem dX0_shared_5 : decode cX0_shared 5 = .ok (.aload_n 0, 1) := by decide +kernel
theorem dX0_shared_6 : decode cX0_shared 6 = .ok (.getfield 25, 3) := by decide +kernel
theorem dX0_shared_9 : decode cX0_shared 9 = .ok (.arraylength, 1) := by decide +kernel
theorem dX0_shared_10 : decode cX0_shared 10 = .ok (.if_icmp .ge 24, 3) := by decide +kernel
theorem dX0_shared_13 : decode cX0_shared 13 = .ok (.aload_n 0, 1) := by decide +kernel
theorem dX0_shared_14 : decode cX0_shared 14 = .ok (.getfield 25, 3) := by decide +kernel
theorem dX0_shared_17 : decode cX0_shared 17 = .ok (.iload_n 2, 1) := by decide +kernel
theorem dX0_shared_18 : decode cX0_shared 18 = .ok (.iload_n 2, 1) := by decide +kernel
theorem dX0_shared_19 : decode cX0_shared 19 = .ok (.ifCond .ne 7, 3) := by decide +kernel
theorem dX0_shared_22 : decode cX0_shared 22 = .ok (.iconst 1, 1) := by decide +kernel
theorem dX0_shared_23 : decode cX0_shared 23 = .ok (.goto 4, 3) := by decide +kernel
theorem dX0_shared_26 : decode cX0_shared 26 = .ok (.iconst 0, 1) := by decide +kernel
theorem dX0_shared_27 : decode cX0_shared 27 = .ok (.bastore, 1) := by decide +kernel
theorem dX0_shared_28 : decode cX0_shared 28 = .ok (.iinc 2 1, 3) := by decide +kernel
theorem dX0_shared_31 : decode cX0_shared 31 = .ok (.goto (-27), 3) := by decide +kernel
theorem dX0_shared_34 : decode cX0_shared 34 = .ok (.iconst 0, 1) := by decide +kernel
theorem dX0_shared_35 : decode cX0_shared 35 = .ok (.istore_n 2, 1) := by decide +kernel
theorem dX0_shared_36 : decode cX0_shared 36 = .ok (.iload_n 2, 1) := by decide +kernel
theorem dX0_shared_37 : decode cX0_shared 37 = .ok (.aload_n 0, 1) := by decide +kernel
theorem dX0_shared_38 : decode cX0_shared 38 = .ok (.getfield 29, 3) := by decide +kernel
theorem dX0_shared_41 : decode cX0_shared 41 = .ok (.if_icmp .ge 53, 3) := by decide +kernel
theorem dX0_shared_44 : decode cX0_shared 44 = .ok (.iload_n 1, 1) := by decide +kernel
theorem dX0_shared_45 : decode cX0_shared 45 = .ok (.istore_n 3, 1) := by decide +kernel
theorem dX0_shared_46 : decode cX0_shared 46 = .ok (.iload_n 3, 1) := by decide +kernel
theorem dX0_shared_47 : decode cX0_shared 47 = .ok (.ifCond .lt 32, 3) := by decide +kernel
theorem dX0_shared_50 : decode cX0_shared 50 = .ok (.aload_n 0, 1) := by decide +kernel
theorem dX0_shared_51 : decode cX0_shared 51 = .ok (.getfield 25, 3) := by decide +kernel
theorem dX0_shared_54 : decode cX0_shared 54 = .ok (.iload_n 3, 1) := by decide +kernel
theorem dX0_shared_55 : decode cX0_shared 55 = .ok (.baload, 1) := by decide +kernel
theorem dX0_shared_56 : decode cX0_shared 56 = .ok (.ifCond .eq 17, 3) := by decide +kernel
theorem dX0_shared_59 : decode cX0_shared 59 = .ok (.aload_n 0, 1) := by decide +kernel
theorem dX0_shared_60 : decode cX0_shared 60 = .ok (.getfield 25, 3) := by decide +kernel
theorem dX0_shared_63 : decode cX0_shared 63 = .ok (.iload_n 3, 1) := by decide +kernel
theorem dX0_shared_64 : decode cX0_shared 64 = .ok (.aload_n 0, 1) := by decide +kernel
theorem dX0_shared_65 : decode cX0_shared 65 = .ok (.getfield 9, 3) := by decide +kernel
theorem dX0_shared_68 : decode cX0_shared 68 = .ok (.iload_n 2, 1) := by decide +kernel
theorem dX0_shared_69 : decode cX0_shared 69 = .ok (.iaload, 1) := by decide +kernel
theorem dX0_shared_70 : decode cX0_shared 70 = .ok (.iadd, 1) := by decide +kernel
theorem dX0_shared_71 : decode cX0_shared 71 = .ok (.iconst 1, 1) := by decide +kernel
theorem dX0_shared_72 : decode cX0_shared 72 = .ok (.bastore, 1) := by decide +kernel
theorem dX0_shared_73 : decode cX0_shared 73 = .ok (.iinc 3 (-1), 3) := by decide +kernel
theorem dX0_shared_76 : decode cX0_shared 76 = .ok (.goto (-30), 3) := by decide +kernel
theorem dX0_shared_79 : decode cX0_shared 79 = .ok (.iload_n 1, 1) := by decide +kernel
theorem dX0_shared_80 : decode cX0_shared 80 = .ok (.aload_n 0, 1) := by decide +kernel
theorem dX0_shared_81 : decode cX0_shared 81 = .ok (.getfield 9, 3) := by decide +kernel
theorem dX0_shared_84 : decode cX0_shared 84 = .ok (.iload_n 2, 1) := by decide +kernel
theorem dX0_shared_85 : decode cX0_shared 85 = .ok (.iaload, 1) := by decide +kernel
theorem dX0_shared_86 : decode cX0_shared 86 = .ok (.iadd, 1) := by decide +kernel
theorem dX0_shared_87 : decode cX0_shared 87 = .ok (.istore_n 1, 1) := by decide +kernel
theorem dX0_shared_88 : decode cX0_shared 88 = .ok (.iinc 2 1, 3) := by decide +kernel
theorem dX0_shared_91 : decode cX0_shared 91 = .ok (.goto (-55), 3) := by decide +kernel
theorem dX0_shared_94 : decode cX0_shared 94 = .ok (.iload_n 1, 1) := by decide +kernel
theorem dX0_shared_95 : decode cX0_shared 95 = .ok (.iconst 2, 1) := by decide +kernel
theorem dX0_shared_96 : decode cX0_shared 96 = .ok (.idiv, 1) := by decide +kernel
theorem dX0_shared_97 : decode cX0_shared 97 = .ok (.istore_n 2, 1) := by decide +kernel
theorem dX0_shared_98 : decode cX0_shared 98 = .ok (.aload_n 0, 1) := by decide +kernel
theorem dX0_shared_99 : decode cX0_shared 99 = .ok (.getfield 25, 3) := by decide +kernel
theorem dX0_shared_102 : decode cX0_shared 102 = .ok (.iload_n 2, 1) := by decide +kernel
theorem dX0_shared_103 : decode cX0_shared 103 = .ok (.baload, 1) := by decide +kernel
theorem dX0_shared_104 : decode cX0_shared 104 = .ok (.ifCond .ne 9, 3) := by decide +kernel
theorem dX0_shared_107 : decode cX0_shared 107 = .ok (.iinc 2 (-1), 3) := by decide +kernel
theorem dX0_shared_110 : decode cX0_shared 110 = .ok (.goto (-12), 3) := by decide +kernel
theorem dX0_shared_113 : decode cX0_shared 113 = .ok (.iload_n 1, 1) := by decide +kernel
theorem dX0_shared_114 : decode cX0_shared 114 = .ok (.iload_n 2, 1) := by decide +kernel
theorem dX0_shared_115 : decode cX0_shared 115 = .ok (.isub, 1) := by decide +kernel
theorem dX0_shared_116 : decode cX0_shared 116 = .ok (.i2l, 1) := by decide +kernel
theorem dX0_shared_117 : decode cX0_shared 117 = .ok (.lreturn, 1) := by decide +kernel
theorem q6 : (Jvm.Cond.initialized "JobDesk") ∈ lw_all := lw_g (lw_at lw_m0 1 rfl) rfl
theorem q10 : (Jvm.Cond.instantiable "JobDesk" (7 : Nat)) ∈ lw_all := lw_g (lw_at lw_m0 5 rfl) rfl
theorem q12 : (Jvm.Cond.instanceMethod ({ cls := "JobDesk", name := "<init>", desc := "()V" } : Jvm.MethodName)) ∈ lw_all := lw_g (lw_at lw_m0 7 rfl) rfl
theorem q13 : (Jvm.Cond.code ({ cls := "JobDesk", name := "<init>", desc := "()V" } : Jvm.MethodName) prog_1_method_1_code (1 : Nat) (Option.none : Option Jvm.ClassFile.FieldType)) ∈ lw_all := lw_g (lw_at lw_m0 8 rfl) rfl
theorem q14 : (Jvm.Cond.methodLink "JobDesk" (1 : Nat) ({ cls := "java/lang/Object", name := "<init>", desc := "()V" } : Jvm.MethodName)) ∈ lw_all := lw_g (lw_at lw_m0 9 rfl) rfl
theorem q17 : (Jvm.Cond.fieldLink "JobDesk" (9 : Nat) "JobDesk" "first" "[I") ∈ lw_all := lw_g (lw_at lw_m0 12 rfl) rfl
theorem q18 : (Jvm.Cond.fieldLink "JobDesk" (13 : Nat) "JobDesk" "second" "[I") ∈ lw_all := lw_g (lw_at lw_m0 13 rfl) rfl
theorem q19 : (Jvm.Cond.fieldLink "JobDesk" (16 : Nat) "JobDesk" "due" "[I") ∈ lw_all := lw_g (lw_at lw_m0 14 rfl) rfl
theorem q20 : (Jvm.Cond.fieldLink "JobDesk" (19 : Nat) "JobDesk" "weight" "[I") ∈ lw_all := lw_g (lw_at lw_m0 15 rfl) rfl
theorem q21 : (Jvm.Cond.fieldLink "JobDesk" (22 : Nat) "JobDesk" "order" "[I") ∈ lw_all := lw_g (lw_at lw_m0 16 rfl) rfl
theorem q22 : (Jvm.Cond.fieldLink "JobDesk" (25 : Nat) "JobDesk" "made" "[Z") ∈ lw_all := lw_g (lw_at lw_m0 17 rfl) rfl
theorem q23 : (Jvm.Cond.fieldLink "JobDesk" (29 : Nat) "JobDesk" "n" "I") ∈ lw_all := lw_g (lw_at lw_m0 18 rfl) rfl
theorem q24 : (Jvm.Cond.laysFinal "JobDesk" "JobDesk" "first" "[I") ∈ lw_all := lw_g (lw_at lw_m0 19 rfl) rfl
theorem q25 : (Jvm.Cond.soleField "JobDesk" "first") ∈ lw_all := lw_g (lw_at lw_m0 20 rfl) rfl
theorem q26 : (Jvm.Cond.laysFinal "JobDesk" "JobDesk" "second" "[I") ∈ lw_all := lw_g (lw_at lw_m0 21 rfl) rfl
theorem q27 : (Jvm.Cond.soleField "JobDesk" "second") ∈ lw_all := lw_g (lw_at lw_m0 22 rfl) rfl
theorem q28 : (Jvm.Cond.laysFinal "JobDesk" "JobDesk" "due" "[I") ∈ lw_all := lw_g (lw_at lw_m0 23 rfl) rfl
theorem q29 : (Jvm.Cond.soleField "JobDesk" "due") ∈ lw_all := lw_g (lw_at lw_m0 24 rfl) rfl
theorem q30 : (Jvm.Cond.laysFinal "JobDesk" "JobDesk" "weight" "[I") ∈ lw_all := lw_g (lw_at lw_m0 25 rfl) rfl
theorem q31 : (Jvm.Cond.soleField "JobDesk" "weight") ∈ lw_all := lw_g (lw_at lw_m0 26 rfl) rfl
theorem q32 : (Jvm.Cond.laysFinal "JobDesk" "JobDesk" "order" "[I") ∈ lw_all := lw_g (lw_at lw_m0 27 rfl) rfl
theorem q33 : (Jvm.Cond.soleField "JobDesk" "order") ∈ lw_all := lw_g (lw_at lw_m0 28 rfl) rfl
theorem q34 : (Jvm.Cond.laysFinal "JobDesk" "JobDesk" "made" "[Z") ∈ lw_all := lw_g (lw_at lw_m0 29 rfl) rfl
theorem q35 : (Jvm.Cond.soleField "JobDesk" "made") ∈ lw_all := lw_g (lw_at lw_m0 30 rfl) rfl
theorem q36 : (Jvm.Cond.lays "JobDesk" "JobDesk" "n" "I") ∈ lw_all := lw_g (lw_at lw_m0 31 rfl) rfl
theorem q37 : (Jvm.Cond.soleField "JobDesk" "n") ∈ lw_all := lw_g (lw_at lw_m0 32 rfl) rfl
theorem q38 : (Jvm.Cond.superclass "JobDesk" "java/lang/Object") ∈ lw_all := lw_g (lw_at lw_m0 33 rfl) rfl
theorem q42 : (Jvm.Cond.instanceMethod ({ cls := "JobDesk", name := "job", desc := "(IIII)Z" } : Jvm.MethodName)) ∈ lw_all := lw_g (lw_at lw_m0 37 rfl) rfl
theorem q43 : (Jvm.Cond.selects "JobDesk" ({ cls := "JobDesk", name := "job", desc := "(IIII)Z" } : Jvm.MethodName) ({ cls := "JobDesk", name := "job", desc := "(IIII)Z" } : Jvm.MethodName)) ∈ lw_all := lw_g (lw_at lw_m0 38 rfl) rfl
theorem q44 : (Jvm.Cond.code ({ cls := "JobDesk", name := "job", desc := "(IIII)Z" } : Jvm.MethodName) prog_1_method_2_code (5 : Nat) (Option.some Jvm.ClassFile.FieldType.boolean)) ∈ lw_all := lw_g (lw_at lw_m0 39 rfl) rfl
theorem q46 : (Jvm.Cond.instanceMethod ({ cls := "JobDesk", name := "drop", desc := "()Z" } : Jvm.MethodName)) ∈ lw_all := lw_g (lw_at lw_m0 41 rfl) rfl
theorem q47 : (Jvm.Cond.selects "JobDesk" ({ cls := "JobDesk", name := "drop", desc := "()Z" } : Jvm.MethodName) ({ cls := "JobDesk", name := "drop", desc := "()Z" } : Jvm.MethodName)) ∈ lw_all := lw_g (lw_at lw_m0 42 rfl) rfl
theorem q48 : (Jvm.Cond.code ({ cls := "JobDesk", name := "drop", desc := "()Z" } : Jvm.MethodName) prog_1_method_3_code (1 : Nat) (Option.some Jvm.ClassFile.FieldType.boolean)) ∈ lw_all := lw_g (lw_at lw_m0 43 rfl) rfl
theorem q50 : (Jvm.Cond.instanceMethod ({ cls := "JobDesk", name := "jobs", desc := "()I" } : Jvm.MethodName)) ∈ lw_all := lw_g (lw_at lw_m0 45 rfl) rfl
theorem q51 : (Jvm.Cond.selects "JobDesk" ({ cls := "JobDesk", name := "jobs", desc := "()I" } : Jvm.MethodName) ({ cls := "JobDesk", name := "jobs", desc := "()I" } : Jvm.MethodName)) ∈ lw_all := lw_g (lw_at lw_m0 46 rfl) rfl
theorem q52 : (Jvm.Cond.code ({ cls := "JobDesk", name := "jobs", desc := "()I" } : Jvm.MethodName) prog_1_method_4_code (1 : Nat) (Option.some Jvm.ClassFile.FieldType.int)) ∈ lw_all := lw_g (lw_at lw_m0 47 rfl) rfl
theorem q54 : (Jvm.Cond.instanceMethod ({ cls := "JobDesk", name := "weighted", desc := "()J" } : Jvm.MethodName)) ∈ lw_all := lw_g (lw_at lw_m0 49 rfl) rfl
theorem q55 : (Jvm.Cond.selects "JobDesk" ({ cls := "JobDesk", name := "weighted", desc := "()J" } : Jvm.MethodName) ({ cls := "JobDesk", name := "weighted", desc := "()J" } : Jvm.MethodName)) ∈ lw_all := lw_g (lw_at lw_m0 50 rfl) rfl
theorem q56 : (Jvm.Cond.code ({ cls := "JobDesk", name := "weighted", desc := "()J" } : Jvm.MethodName) prog_1_method_7_code (6 : Nat) (Option.some Jvm.ClassFile.FieldType.long)) ∈ lw_all := lw_g (lw_at lw_m0 51 rfl) rfl
theorem q57 : (Jvm.Cond.methodLink "JobDesk" (37 : Nat) ({ cls := "JobDesk", name := "sort", desc := "(I)I" } : Jvm.MethodName)) ∈ lw_all := lw_g (lw_at lw_m0 52 rfl) rfl
theorem q58 : (Jvm.Cond.privateMethod ({ cls := "JobDesk", name := "sort", desc := "(I)I" } : Jvm.MethodName)) ∈ lw_tbl := lw_at lw_m0 53 rfl
theorem q59 : (Jvm.Cond.instanceMethod ({ cls := "JobDesk", name := "sort", desc := "(I)I" } : Jvm.MethodName)) ∈ lw_all := lw_g (lw_at lw_m0 54 rfl) rfl
theorem q60 : (Jvm.Cond.code ({ cls := "JobDesk", name := "sort", desc := "(I)I" } : Jvm.MethodName) prog_1_method_6_code (5 : Nat) (Option.some Jvm.ClassFile.FieldType.int)) ∈ lw_all := lw_g (lw_at lw_m0 55 rfl) rfl
theorem q61 : (Jvm.Cond.methodLink "JobDesk" (33 : Nat) ({ cls := "JobDesk", name := "before", desc := "(III)Z" } : Jvm.MethodName)) ∈ lw_all := lw_g (lw_at lw_m0 56 rfl) rfl
theorem q62 : (Jvm.Cond.privateMethod ({ cls := "JobDesk", name := "before", desc := "(III)Z" } : Jvm.MethodName)) ∈ lw_tbl := lw_at lw_m0 57 rfl
theorem q63 : (Jvm.Cond.instanceMethod ({ cls := "JobDesk", name := "before", desc := "(III)Z" } : Jvm.MethodName)) ∈ lw_all := lw_g (lw_at lw_m0 58 rfl) rfl
theorem q64 : (Jvm.Cond.code ({ cls := "JobDesk", name := "before", desc := "(III)Z" } : Jvm.MethodName) prog_1_method_5_code (6 : Nat) (Option.some Jvm.ClassFile.FieldType.boolean)) ∈ lw_all := lw_g (lw_at lw_m0 59 rfl) rfl
theorem q66 : (Jvm.Cond.instanceMethod ({ cls := "JobDesk", name := "latest", desc := "()J" } : Jvm.MethodName)) ∈ lw_all := lw_g (lw_at lw_m0 61 rfl) rfl
theorem q67 : (Jvm.Cond.selects "JobDesk" ({ cls := "JobDesk", name := "latest", desc := "()J" } : Jvm.MethodName) ({ cls := "JobDesk", name := "latest", desc := "()J" } : Jvm.MethodName)) ∈ lw_all := lw_g (lw_at lw_m0 62 rfl) rfl
theorem q68 : (Jvm.Cond.code ({ cls := "JobDesk", name := "latest", desc := "()J" } : Jvm.MethodName) prog_1_method_8_code (5 : Nat) (Option.some Jvm.ClassFile.FieldType.long)) ∈ lw_all := lw_g (lw_at lw_m0 63 rfl) rfl
theorem q69 : (Jvm.Cond.constant "JobDesk" (43 : Nat) (-2147483648 : Int32)) ∈ lw_all := lw_g (lw_at lw_m0 64 rfl) rfl
theorem q70 : (Jvm.Cond.methodLink "JobDesk" (44 : Nat) ({ cls := "java/lang/Math", name := "max", desc := "(II)I" } : Jvm.MethodName)) ∈ lw_all := lw_g (lw_at lw_m0 65 rfl) rfl
theorem q74 : (Jvm.Cond.instanceMethod ({ cls := "JobDesk", name := "late", desc := "()J" } : Jvm.MethodName)) ∈ lw_all := lw_g (lw_at lw_m0 69 rfl) rfl
theorem q75 : (Jvm.Cond.selects "JobDesk" ({ cls := "JobDesk", name := "late", desc := "()J" } : Jvm.MethodName) ({ cls := "JobDesk", name := "late", desc := "()J" } : Jvm.MethodName)) ∈ lw_all := lw_g (lw_at lw_m0 70 rfl) rfl
theorem q76 : (Jvm.Cond.code ({ cls := "JobDesk", name := "late", desc := "()J" } : Jvm.MethodName) prog_1_method_9_code (8 : Nat) (Option.some Jvm.ClassFile.FieldType.long)) ∈ lw_all := lw_g (lw_at lw_m0 71 rfl) rfl
theorem q78 : (Jvm.Cond.instanceMethod ({ cls := "JobDesk", name := "both", desc := "()J" } : Jvm.MethodName)) ∈ lw_all := lw_g (lw_at lw_m0 73 rfl) rfl
theorem q79 : (Jvm.Cond.selects "JobDesk" ({ cls := "JobDesk", name := "both", desc := "()J" } : Jvm.MethodName) ({ cls := "JobDesk", name := "both", desc := "()J" } : Jvm.MethodName)) ∈ lw_all := lw_g (lw_at lw_m0 74 rfl) rfl
theorem q80 : (Jvm.Cond.code ({ cls := "JobDesk", name := "both", desc := "()J" } : Jvm.MethodName) prog_1_method_10_code (5 : Nat) (Option.some Jvm.ClassFile.FieldType.long)) ∈ lw_all := lw_g (lw_at lw_m0 75 rfl) rfl
theorem q82 : (Jvm.Cond.instanceMethod ({ cls := "JobDesk", name := "shared", desc := "()J" } : Jvm.MethodName)) ∈ lw_all := lw_g (lw_at lw_m0 77 rfl) rfl
theorem q83 : (Jvm.Cond.selects "JobDesk" ({ cls := "JobDesk", name := "shared", desc := "()J" } : Jvm.MethodName) ({ cls := "JobDesk", name := "shared", desc := "()J" } : Jvm.MethodName)) ∈ lw_all := lw_g (lw_at lw_m0 78 rfl) rfl
theorem q84 : (Jvm.Cond.code ({ cls := "JobDesk", name := "shared", desc := "()J" } : Jvm.MethodName) prog_1_method_11_code (4 : Nat) (Option.some Jvm.ClassFile.FieldType.long)) ∈ lw_all := lw_g (lw_at lw_m0 79 rfl) rfl
theorem in_X0 : ∀ w ∈ wsX00, w ∈ lw_all := lw_in wsX00 [24, 26, 28, 30, 32, 34, 36] (by decide +kernel) (by decide +kernel)
end
section
/-! JobDeskModel -/
set_option maxRecDepth 100000
def RX1 : String := "JobDeskModel"
def TX1 : u_T := fun k => match k with
  | 0 => ("JobDeskModel", "a", "[I", true)
  | 1 => ("JobDeskModel", "b", "[I", true)
  | 2 => ("JobDeskModel", "due", "[I", true)
  | 3 => ("JobDeskModel", "weight", "[I", true)
  | 4 => ("JobDeskModel", "n", "I", false)
  | 5 => ("JobDeskModel", "p", "[I", true)
  | _ => ("JobDeskModel", "left", "[I", true)
def tyX1 : Nat → FieldType := fun k => match k with
  | 0 => .array .int
  | 1 => .array .int
  | 2 => .array .int
  | 3 => .array .int
  | 4 => .int
  | 5 => .array .int
  | _ => .array .int
abbrev wsX10 : List Cond := u_ws RX1 TX1 7
theorem nmX1 : ∀ a, a < 7 → ∀ b, b < 7 → a ≠ b → (TX1 a).2.1 ≠ (TX1 b).2.1 := by decide +kernel
theorem tyX1_ok : ∀ k, k < 7 → parseFieldDescriptor (TX1 k).2.2.1 = some (tyX1 k) := by decide +kernel
abbrev cX1_init : ByteArray := prog_3_method_1_code
def yX1_init : MethodName := ⟨RX1, "<init>", "()V"⟩
theorem dX1_init_0 : decode cX1_init 0 = .ok (.aload_n 0, 1) := by decide +kernel
theorem dX1_init_1 : decode cX1_init 1 = .ok (.invokespecial 1, 3) := by decide +kernel
theorem dX1_init_4 : decode cX1_init 4 = .ok (.aload_n 0, 1) := by decide +kernel
theorem dX1_init_5 : decode cX1_init 5 = .ok (.bipush 8, 2) := by decide +kernel
theorem dX1_init_7 : decode cX1_init 7 = .ok (.newarray .int, 2) := by decide +kernel
theorem dX1_init_9 : decode cX1_init 9 = .ok (.putfield 7, 3) := by decide +kernel
theorem dX1_init_12 : decode cX1_init 12 = .ok (.aload_n 0, 1) := by decide +kernel
theorem dX1_init_13 : decode cX1_init 13 = .ok (.bipush 8, 2) := by decide +kernel
theorem dX1_init_15 : decode cX1_init 15 = .ok (.newarray .int, 2) := by decide +kernel
theorem dX1_init_17 : decode cX1_init 17 = .ok (.putfield 13, 3) := by decide +kernel
theorem dX1_init_20 : decode cX1_init 20 = .ok (.aload_n 0, 1) := by decide +kernel
theorem dX1_init_21 : decode cX1_init 21 = .ok (.bipush 8, 2) := by decide +kernel
theorem dX1_init_23 : decode cX1_init 23 = .ok (.newarray .int, 2) := by decide +kernel
theorem dX1_init_25 : decode cX1_init 25 = .ok (.putfield 16, 3) := by decide +kernel
theorem dX1_init_28 : decode cX1_init 28 = .ok (.aload_n 0, 1) := by decide +kernel
theorem dX1_init_29 : decode cX1_init 29 = .ok (.bipush 8, 2) := by decide +kernel
theorem dX1_init_31 : decode cX1_init 31 = .ok (.newarray .int, 2) := by decide +kernel
theorem dX1_init_33 : decode cX1_init 33 = .ok (.putfield 19, 3) := by decide +kernel
theorem dX1_init_36 : decode cX1_init 36 = .ok (.aload_n 0, 1) := by decide +kernel
theorem dX1_init_37 : decode cX1_init 37 = .ok (.bipush 8, 2) := by decide +kernel
theorem dX1_init_39 : decode cX1_init 39 = .ok (.newarray .int, 2) := by decide +kernel
theorem dX1_init_41 : decode cX1_init 41 = .ok (.putfield 22, 3) := by decide +kernel
theorem dX1_init_44 : decode cX1_init 44 = .ok (.aload_n 0, 1) := by decide +kernel
theorem dX1_init_45 : decode cX1_init 45 = .ok (.bipush 8, 2) := by decide +kernel
theorem dX1_init_47 : decode cX1_init 47 = .ok (.newarray .int, 2) := by decide +kernel
theorem dX1_init_49 : decode cX1_init 49 = .ok (.putfield 25, 3) := by decide +kernel
theorem dX1_init_52 : decode cX1_init 52 = .ok (.return_, 1) := by decide +kernel
abbrev cX1_job : ByteArray := prog_3_method_2_code
def yX1_job : MethodName := ⟨RX1, "job", "(IIII)Z"⟩
theorem dX1_job_0 : decode cX1_job 0 = .ok (.aload_n 0, 1) := by decide +kernel
theorem dX1_job_1 : decode cX1_job 1 = .ok (.getfield 28, 3) := by decide +kernel
theorem dX1_job_4 : decode cX1_job 4 = .ok (.bipush 6, 2) := by decide +kernel
theorem dX1_job_6 : decode cX1_job 6 = .ok (.if_icmp .ne 5, 3) := by decide +kernel
theorem dX1_job_9 : decode cX1_job 9 = .ok (.iconst 0, 1) := by decide +kernel
theorem dX1_job_10 : decode cX1_job 10 = .ok (.ireturn, 1) := by decide +kernel
theorem dX1_job_11 : decode cX1_job 11 = .ok (.aload_n 0, 1) := by decide +kernel
theorem dX1_job_12 : decode cX1_job 12 = .ok (.getfield 7, 3) := by decide +kernel
theorem dX1_job_15 : decode cX1_job 15 = .ok (.aload_n 0, 1) := by decide +kernel
theorem dX1_job_16 : decode cX1_job 16 = .ok (.getfield 28, 3) := by decide +kernel
theorem dX1_job_19 : decode cX1_job 19 = .ok (.iload_n 1, 1) := by decide +kernel
theorem dX1_job_20 : decode cX1_job 20 = .ok (.sipush 255, 3) := by decide +kernel
theorem dX1_job_23 : decode cX1_job 23 = .ok (.iand, 1) := by decide +kernel
theorem dX1_job_24 : decode cX1_job 24 = .ok (.iastore, 1) := by decide +kernel
theorem dX1_job_25 : decode cX1_job 25 = .ok (.aload_n 0, 1) := by decide +kernel
theorem dX1_job_26 : decode cX1_job 26 = .ok (.getfield 13, 3) := by decide +kernel
theorem dX1_job_29 : decode cX1_job 29 = .ok (.aload_n 0, 1) := by decide +kernel
theorem dX1_job_30 : decode cX1_job 30 = .ok (.getfield 28, 3) := by decide +kernel
theorem dX1_job_33 : decode cX1_job 33 = .ok (.iload_n 2, 1) := by decide +kernel
theorem dX1_job_34 : decode cX1_job 34 = .ok (.sipush 255, 3) := by decide +kernel
theorem dX1_job_37 : decode cX1_job 37 = .ok (.iand, 1) := by decide +kernel
theorem dX1_job_38 : decode cX1_job 38 = .ok (.iastore, 1) := by decide +kernel
theorem dX1_job_39 : decode cX1_job 39 = .ok (.aload_n 0, 1) := by decide +kernel
theorem dX1_job_40 : decode cX1_job 40 = .ok (.getfield 16, 3) := by decide +kernel
theorem dX1_job_43 : decode cX1_job 43 = .ok (.aload_n 0, 1) := by decide +kernel
theorem dX1_job_44 : decode cX1_job 44 = .ok (.getfield 28, 3) := by decide +kernel
theorem dX1_job_47 : decode cX1_job 47 = .ok (.iload_n 3, 1) := by decide +kernel
theorem dX1_job_48 : decode cX1_job 48 = .ok (.sipush 1023, 3) := by decide +kernel
theorem dX1_job_51 : decode cX1_job 51 = .ok (.iand, 1) := by decide +kernel
theorem dX1_job_52 : decode cX1_job 52 = .ok (.iastore, 1) := by decide +kernel
theorem dX1_job_53 : decode cX1_job 53 = .ok (.aload_n 0, 1) := by decide +kernel
theorem dX1_job_54 : decode cX1_job 54 = .ok (.getfield 19, 3) := by decide +kernel
theorem dX1_job_57 : decode cX1_job 57 = .ok (.aload_n 0, 1) := by decide +kernel
theorem dX1_job_58 : decode cX1_job 58 = .ok (.getfield 28, 3) := by decide +kernel
theorem dX1_job_61 : decode cX1_job 61 = .ok (.iload 4, 2) := by decide +kernel
theorem dX1_job_63 : decode cX1_job 63 = .ok (.sipush 255, 3) := by decide +kernel
theorem dX1_job_66 : decode cX1_job 66 = .ok (.iand, 1) := by decide +kernel
theorem dX1_job_67 : decode cX1_job 67 = .ok (.iastore, 1) := by decide +kernel
theorem dX1_job_68 : decode cX1_job 68 = .ok (.aload_n 0, 1) := by decide +kernel
theorem dX1_job_69 : decode cX1_job 69 = .ok (.aload_n 0, 1) := by decide +kernel
theorem dX1_job_70 : decode cX1_job 70 = .ok (.getfield 28, 3) := by decide +kernel
theorem dX1_job_73 : decode cX1_job 73 = .ok (.iconst 1, 1) := by decide +kernel
theorem dX1_job_74 : decode cX1_job 74 = .ok (.iadd, 1) := by decide +kernel
theorem dX1_job_75 : decode cX1_job 75 = .ok (.putfield 28, 3) := by decide +kernel
theorem dX1_job_78 : decode cX1_job 78 = .ok (.iconst 1, 1) := by decide +kernel
theorem dX1_job_79 : decode cX1_job 79 = .ok (.ireturn, 1) := by decide +kernel
abbrev cX1_drop : ByteArray := prog_3_method_3_code
def yX1_drop : MethodName := ⟨RX1, "drop", "()Z"⟩
theorem dX1_drop_0 : decode cX1_drop 0 = .ok (.aload_n 0, 1) := by decide +kernel
theorem dX1_drop_1 : decode cX1_drop 1 = .ok (.getfield 28, 3) := by decide +kernel
theorem dX1_drop_4 : decode cX1_drop 4 = .ok (.ifCond .ne 5, 3) := by decide +kernel
theorem dX1_drop_7 : decode cX1_drop 7 = .ok (.iconst 0, 1) := by decide +kernel
theorem dX1_drop_8 : decode cX1_drop 8 = .ok (.ireturn, 1) := by decide +kernel
theorem dX1_drop_9 : decode cX1_drop 9 = .ok (.aload_n 0, 1) := by decide +kernel
theorem dX1_drop_10 : decode cX1_drop 10 = .ok (.aload_n 0, 1) := by decide +kernel
theorem dX1_drop_11 : decode cX1_drop 11 = .ok (.getfield 28, 3) := by decide +kernel
theorem dX1_drop_14 : decode cX1_drop 14 = .ok (.iconst 1, 1) := by decide +kernel
theorem dX1_drop_15 : decode cX1_drop 15 = .ok (.isub, 1) := by decide +kernel
theorem dX1_drop_16 : decode cX1_drop 16 = .ok (.putfield 28, 3) := by decide +kernel
theorem dX1_drop_19 : decode cX1_drop 19 = .ok (.iconst 1, 1) := by decide +kernel
theorem dX1_drop_20 : decode cX1_drop 20 = .ok (.ireturn, 1) := by decide +kernel
abbrev cX1_weighted : ByteArray := prog_3_method_7_code
def yX1_weighted : MethodName := ⟨RX1, "weighted", "()J"⟩
theorem dX1_weighted_0 : decode cX1_weighted 0 = .ok (.aload_n 0, 1) := by decide +kernel
theorem dX1_weighted_1 : decode cX1_weighted 1 = .ok (.getfield 28, 3) := by decide +kernel
theorem dX1_weighted_4 : decode cX1_weighted 4 = .ok (.ifCond .ne 7, 3) := by decide +kernel
theorem dX1_weighted_7 : decode cX1_weighted 7 = .ok (.lconst 0, 1) := by decide +kernel
theorem dX1_weighted_8 : decode cX1_weighted 8 = .ok (.goto 8, 3) := by decide +kernel
theorem dX1_weighted_11 : decode cX1_weighted 11 = .ok (.aload_n 0, 1) := by decide +kernel
theorem dX1_weighted_12 : decode cX1_weighted 12 = .ok (.iconst 0, 1) := by decide +kernel
theorem dX1_weighted_13 : decode cX1_weighted 13 = .ok (.invokevirtual 44, 3) := by decide +kernel
theorem dX1_weighted_16 : decode cX1_weighted 16 = .ok (.lreturn, 1) := by decide +kernel
abbrev cX1_best : ByteArray := prog_3_method_6_code
def yX1_best : MethodName := ⟨RX1, "best", "(I)J"⟩
theorem dX1_best_0 : decode cX1_best 0 = .ok (.ldc2_w 32, 3) := by decide +kernel
theorem dX1_best_3 : decode cX1_best 3 = .ok (.lstore_n 2, 1) := by decide +kernel
theorem dX1_best_4 : decode cX1_best 4 = .ok (.iconst 0, 1) := by decide +kernel
theorem dX1_best_5 : decode cX1_best 5 = .ok (.istore 4, 2) := by decide +kernel
theorem dX1_best_7 : decode cX1_best 7 = .ok (.iload 4, 2) := by decide +kernel
theorem dX1_best_9 : decode cX1_best 9 = .ok (.aload_n 0, 1) := by decide +kernel
theorem dX1_best_10 : decode cX1_best 10 = .ok (.invokevirtual 34, 3) := by decide +kernel
theorem dX1_best_13 : decode cX1_best 13 = .ok (.if_icmp .ge 227, 3) := by decide +kernel
theorem dX1_best_16 : decode cX1_best 16 = .ok (.aload_n 0, 1) := by decide +kernel
theorem dX1_best_17 : decode cX1_best 17 = .ok (.iload 4, 2) := by decide +kernel
theorem dX1_best_19 : decode cX1_best 19 = .ok (.invokevirtual 38, 3) := by decide +kernel
theorem dX1_best_22 : decode cX1_best 22 = .ok (.lconst 0, 1) := by decide +kernel
theorem dX1_best_23 : decode cX1_best 23 = .ok (.lstore 5, 2) := by decide +kernel
theorem dX1_best_25 : decode cX1_best 25 = .ok (.lconst 0, 1) := by decide +kernel
theorem dX1_best_26 : decode cX1_best 26 = .ok (.lstore 7, 2) := by decide +kernel
theorem dX1_best_28 : decode cX1_best 28 = .ok (.iload_n 1, 1) := by decide +kernel
theorem dX1_best_29 : decode cX1_best 29 = .ok (.iconst 1, 1) := by decide +kernel
theorem dX1_best_30 : decode cX1_best 30 = .ok (.if_icmp .ne 9, 3) := by decide +kernel
theorem dX1_best_33 : decode cX1_best 33 = .ok (.ldc2_w 42, 3) := by decide +kernel
theorem dX1_best_36 : decode cX1_best 36 = .ok (.goto 4, 3) := by decide +kernel
theorem dX1_best_39 : decode cX1_best 39 = .ok (.lconst 0, 1) := by decide +kernel
theorem dX1_best_40 : decode cX1_best 40 = .ok (.lstore 9, 2) := by decide +kernel
theorem dX1_best_42 : decode cX1_best 42 = .ok (.iconst 0, 1) := by decide +kernel
theorem dX1_best_43 : decode cX1_best 43 = .ok (.istore 11, 2) := by decide +kernel
theorem dX1_best_45 : decode cX1_best 45 = .ok (.iload 11, 2) := by decide +kernel
theorem dX1_best_47 : decode cX1_best 47 = .ok (.aload_n 0, 1) := by decide +kernel
theorem dX1_best_48 : decode cX1_best 48 = .ok (.getfield 28, 3) := by decide +kernel
theorem dX1_best_51 : decode cX1_best 51 = .ok (.if_icmp .ge 160, 3) := by decide +kernel
theorem dX1_best_54 : decode cX1_best 54 = .ok (.aload_n 0, 1) := by decide +kernel
theorem dX1_best_55 : decode cX1_best 55 = .ok (.getfield 22, 3) := by decide +kernel
theorem dX1_best_58 : decode cX1_best 58 = .ok (.iload 11, 2) := by decide +kernel
theorem dX1_best_60 : decode cX1_best 60 = .ok (.iaload, 1) := by decide +kernel
theorem dX1_best_61 : decode cX1_best 61 = .ok (.istore 12, 2) := by decide +kernel
theorem dX1_best_63 : decode cX1_best 63 = .ok (.lload 5, 2) := by decide +kernel
theorem dX1_best_65 : decode cX1_best 65 = .ok (.aload_n 0, 1) := by decide +kernel
theorem dX1_best_66 : decode cX1_best 66 = .ok (.getfield 7, 3) := by decide +kernel
theorem dX1_best_69 : decode cX1_best 69 = .ok (.iload 12, 2) := by decide +kernel
theorem dX1_best_71 : decode cX1_best 71 = .ok (.iaload, 1) := by decide +kernel
theorem dX1_best_72 : decode cX1_best 72 = .ok (.i2l, 1) := by decide +kernel
theorem dX1_best_73 : decode cX1_best 73 = .ok (.ladd, 1) := by decide +kernel
theorem dX1_best_74 : decode cX1_best 74 = .ok (.lstore 5, 2) := by decide +kernel
theorem dX1_best_76 : decode cX1_best 76 = .ok (.iload_n 1, 1) := by decide +kernel
theorem dX1_best_77 : decode cX1_best 77 = .ok (.ifCond .ne 22, 3) := by decide +kernel
theorem dX1_best_80 : decode cX1_best 80 = .ok (.lload 9, 2) := by decide +kernel
theorem dX1_best_82 : decode cX1_best 82 = .ok (.aload_n 0, 1) := by decide +kernel
theorem dX1_best_83 : decode cX1_best 83 = .ok (.getfield 19, 3) := by decide +kernel
theorem dX1_best_86 : decode cX1_best 86 = .ok (.iload 12, 2) := by decide +kernel
theorem dX1_best_88 : decode cX1_best 88 = .ok (.iaload, 1) := by decide +kernel
theorem dX1_best_89 : decode cX1_best 89 = .ok (.i2l, 1) := by decide +kernel
theorem dX1_best_90 : decode cX1_best 90 = .ok (.lload 5, 2) := by decide +kernel
theorem dX1_best_92 : decode cX1_best 92 = .ok (.lmul, 1) := by decide +kernel
theorem dX1_best_93 : decode cX1_best 93 = .ok (.ladd, 1) := by decide +kernel
theorem dX1_best_94 : decode cX1_best 94 = .ok (.lstore 9, 2) := by decide +kernel
theorem dX1_best_96 : decode cX1_best 96 = .ok (.goto 109, 3) := by decide +kernel
theorem dX1_best_99 : decode cX1_best 99 = .ok (.iload_n 1, 1) := by decide +kernel
theorem dX1_best_100 : decode cX1_best 100 = .ok (.iconst 1, 1) := by decide +kernel
theorem dX1_best_101 : decode cX1_best 101 = .ok (.if_icmp .ne 41, 3) := by decide +kernel
theorem dX1_best_104 : decode cX1_best 104 = .ok (.lload 5, 2) := by decide +kernel
theorem dX1_best_106 : decode cX1_best 106 = .ok (.aload_n 0, 1) := by decide +kernel
theorem dX1_best_107 : decode cX1_best 107 = .ok (.getfield 16, 3) := by decide +kernel
theorem dX1_best_110 : decode cX1_best 110 = .ok (.iload 12, 2) := by decide +kernel
theorem dX1_best_112 : decode cX1_best 112 = .ok (.iaload, 1) := by decide +kernel
theorem dX1_best_113 : decode cX1_best 113 = .ok (.i2l, 1) := by decide +kernel
theorem dX1_best_114 : decode cX1_best 114 = .ok (.lsub, 1) := by decide +kernel
theorem dX1_best_115 : decode cX1_best 115 = .ok (.lload 9, 2) := by decide +kernel
theorem dX1_best_117 : decode cX1_best 117 = .ok (.lcmp, 1) := by decide +kernel
theorem dX1_best_118 : decode cX1_best 118 = .ok (.ifCond .le 17, 3) := by decide +kernel
theorem dX1_best_121 : decode cX1_best 121 = .ok (.lload 5, 2) := by decide +kernel
theorem dX1_best_123 : decode cX1_best 123 = .ok (.aload_n 0, 1) := by decide +kernel
theorem dX1_best_124 : decode cX1_best 124 = .ok (.getfield 16, 3) := by decide +kernel
theorem dX1_best_127 : decode cX1_best 127 = .ok (.iload 12, 2) := by decide +kernel
theorem dX1_best_129 : decode cX1_best 129 = .ok (.iaload, 1) := by decide +kernel
theorem dX1_best_130 : decode cX1_best 130 = .ok (.i2l, 1) := by decide +kernel
theorem dX1_best_131 : decode cX1_best 131 = .ok (.lsub, 1) := by decide +kernel
theorem dX1_best_132 : decode cX1_best 132 = .ok (.goto 5, 3) := by decide +kernel
theorem dX1_best_135 : decode cX1_best 135 = .ok (.lload 9, 2) := by decide +kernel
theorem dX1_best_137 : decode cX1_best 137 = .ok (.lstore 9, 2) := by decide +kernel
theorem dX1_best_139 : decode cX1_best 139 = .ok (.goto 66, 3) := by decide +kernel
theorem dX1_best_142 : decode cX1_best 142 = .ok (.iload_n 1, 1) := by decide +kernel
theorem dX1_best_143 : decode cX1_best 143 = .ok (.iconst 2, 1) := by decide +kernel
theorem dX1_best_144 : decode cX1_best 144 = .ok (.if_icmp .ne 31, 3) := by decide +kernel
theorem dX1_best_147 : decode cX1_best 147 = .ok (.lload 9, 2) := by decide +kernel
theorem dX1_best_149 : decode cX1_best 149 = .ok (.lload 5, 2) := by decide +kernel
theorem dX1_best_151 : decode cX1_best 151 = .ok (.aload_n 0, 1) := by decide +kernel
theorem dX1_best_152 : decode cX1_best 152 = .ok (.getfield 16, 3) := by decide +kernel
theorem dX1_best_155 : decode cX1_best 155 = .ok (.iload 12, 2) := by decide +kernel
theorem dX1_best_157 : decode cX1_best 157 = .ok (.iaload, 1) := by decide +kernel
theorem dX1_best_158 : decode cX1_best 158 = .ok (.i2l, 1) := by decide +kernel
theorem dX1_best_159 : decode cX1_best 159 = .ok (.lcmp, 1) := by decide +kernel
theorem dX1_best_160 : decode cX1_best 160 = .ok (.ifCond .le 7, 3) := by decide +kernel
theorem dX1_best_163 : decode cX1_best 163 = .ok (.iconst 1, 1) := by decide +kernel
theorem dX1_best_164 : decode cX1_best 164 = .ok (.goto 4, 3) := by decide +kernel
theorem dX1_best_167 : decode cX1_best 167 = .ok (.iconst 0, 1) := by decide +kernel
theorem dX1_best_168 : decode cX1_best 168 = .ok (.i2l, 1) := by decide +kernel
theorem dX1_best_169 : decode cX1_best 169 = .ok (.ladd, 1) := by decide +kernel
theorem dX1_best_170 : decode cX1_best 170 = .ok (.lstore 9, 2) := by decide +kernel
theorem dX1_best_172 : decode cX1_best 172 = .ok (.goto 33, 3) := by decide +kernel
theorem dX1_best_175 : decode cX1_best 175 = .ok (.lload 5, 2) := by decide +kernel
theorem dX1_best_177 : decode cX1_best 177 = .ok (.lload 7, 2) := by decide +kernel
theorem dX1_best_179 : decode cX1_best 179 = .ok (.lcmp, 1) := by decide +kernel
theorem dX1_best_180 : decode cX1_best 180 = .ok (.ifCond .le 8, 3) := by decide +kernel
theorem dX1_best_183 : decode cX1_best 183 = .ok (.lload 5, 2) := by decide +kernel
theorem dX1_best_185 : decode cX1_best 185 = .ok (.goto 5, 3) := by decide +kernel
theorem dX1_best_188 : decode cX1_best 188 = .ok (.lload 7, 2) := by decide +kernel
theorem dX1_best_190 : decode cX1_best 190 = .ok (.aload_n 0, 1) := by decide +kernel
theorem dX1_best_191 : decode cX1_best 191 = .ok (.getfield 13, 3) := by decide +kernel
theorem dX1_best_194 : decode cX1_best 194 = .ok (.iload 12, 2) := by decide +kernel
theorem dX1_best_196 : decode cX1_best 196 = .ok (.iaload, 1) := by decide +kernel
theorem dX1_best_197 : decode cX1_best 197 = .ok (.i2l, 1) := by decide +kernel
theorem dX1_best_198 : decode cX1_best 198 = .ok (.ladd, 1) := by decide +kernel
theorem dX1_best_199 : decode cX1_best 199 = .ok (.lstore 7, 2) := by decide +kernel
theorem dX1_best_201 : decode cX1_best 201 = .ok (.lload 7, 2) := by decide +kernel
theorem dX1_best_203 : decode cX1_best 203 = .ok (.lstore 9, 2) := by decide +kernel
theorem dX1_best_205 : decode cX1_best 205 = .ok (.iinc 11 1, 3) := by decide +kernel
theorem dX1_best_208 : decode cX1_best 208 = .ok (.goto (-163), 3) := by decide +kernel
theorem dX1_best_211 : decode cX1_best 211 = .ok (.lload_n 2, 1) := by decide +kernel
theorem dX1_best_212 : decode cX1_best 212 = .ok (.ldc2_w 32, 3) := by decide +kernel
theorem dX1_best_215 : decode cX1_best 215 = .ok (.lcmp, 1) := by decide +kernel
theorem dX1_best_216 : decode cX1_best 216 = .ok (.ifCond .ne 8, 3) := by decide +kernel
theorem dX1_best_219 : decode cX1_best 219 = .ok (.iload 4, 2) := by decide +kernel
theorem dX1_best_221 : decode cX1_best 221 = .ok (.ifCond .eq 10, 3) := by decide +kernel
theorem dX1_best_224 : decode cX1_best 224 = .ok (.lload 9, 2) := by decide +kernel
theorem dX1_best_226 : decode cX1_best 226 = .ok (.lload_n 2, 1) := by decide +kernel
theorem dX1_best_227 : decode cX1_best 227 = .ok (.lcmp, 1) := by decide +kernel
theorem dX1_best_228 : decode cX1_best 228 = .ok (.ifCond .ge 6, 3) := by decide +kernel
theorem dX1_best_231 : decode cX1_best 231 = .ok (.lload 9, 2) := by decide +kernel
theorem dX1_best_233 : decode cX1_best 233 = .ok (.lstore_n 2, 1) := by decide +kernel
theorem dX1_best_234 : decode cX1_best 234 = .ok (.iinc 4 1, 3) := by decide +kernel
theorem dX1_best_237 : decode cX1_best 237 = .ok (.goto (-230), 3) := by decide +kernel
theorem dX1_best_240 : decode cX1_best 240 = .ok (.lload_n 2, 1) := by decide +kernel
theorem dX1_best_241 : decode cX1_best 241 = .ok (.lreturn, 1) := by decide +kernel
abbrev cX1_orders : ByteArray := prog_3_method_5_code
def yX1_orders : MethodName := ⟨RX1, "orders", "()I"⟩
theorem dX1_orders_0 : decode cX1_orders 0 = .ok (.iconst 1, 1) := by decide +kernel
theorem dX1_orders_1 : decode cX1_orders 1 = .ok (.istore_n 1, 1) := by decide +kernel
theorem dX1_orders_2 : decode cX1_orders 2 = .ok (.iconst 2, 1) := by decide +kernel
theorem dX1_orders_3 : decode cX1_orders 3 = .ok (.istore_n 2, 1) := by decide +kernel
theorem dX1_orders_4 : decode cX1_orders 4 = .ok (.iload_n 2, 1) := by decide +kernel
theorem dX1_orders_5 : decode cX1_orders 5 = .ok (.aload_n 0, 1) := by decide +kernel
theorem dX1_orders_6 : decode cX1_orders 6 = .ok (.getfield 28, 3) := by decide +kernel
theorem dX1_orders_9 : decode cX1_orders 9 = .ok (.if_icmp .gt 13, 3) := by decide +kernel
theorem dX1_orders_12 : decode cX1_orders 12 = .ok (.iload_n 1, 1) := by decide +kernel
theorem dX1_orders_13 : decode cX1_orders 13 = .ok (.iload_n 2, 1) := by decide +kernel
theorem dX1_orders_14 : decode cX1_orders 14 = .ok (.imul, 1) := by decide +kernel
theorem dX1_orders_15 : decode cX1_orders 15 = .ok (.istore_n 1, 1) := by decide +kernel
theorem dX1_orders_16 : decode cX1_orders 16 = .ok (.iinc 2 1, 3) := by decide +kernel
theorem dX1_orders_19 : decode cX1_orders 19 = .ok (.goto (-15), 3) := by decide +kernel
theorem dX1_orders_22 : decode cX1_orders 22 = .ok (.iload_n 1, 1) := by decide +kernel
theorem dX1_orders_23 : decode cX1_orders 23 = .ok (.ireturn, 1) := by decide +kernel
abbrev cX1_order : ByteArray := prog_3_method_4_code
def yX1_order : MethodName := ⟨RX1, "order", "(I)V"⟩
theorem dX1_order_0 : decode cX1_order 0 = .ok (.iload_n 1, 1) := by decide +kernel
theorem dX1_order_1 : decode cX1_order 1 = .ok (.istore_n 2, 1) := by decide +kernel
theorem dX1_order_2 : decode cX1_order 2 = .ok (.iconst 0, 1) := by decide +kernel
theorem dX1_order_3 : decode cX1_order 3 = .ok (.istore_n 3, 1) := by decide +kernel
theorem dX1_order_4 : decode cX1_order 4 = .ok (.iload_n 3, 1) := by decide +kernel
theorem dX1_order_5 : decode cX1_order 5 = .ok (.aload_n 0, 1) := by decide +kernel
theorem dX1_order_6 : decode cX1_order 6 = .ok (.getfield 28, 3) := by decide +kernel
theorem dX1_order_9 : decode cX1_order 9 = .ok (.if_icmp .ge 16, 3) := by decide +kernel
theorem dX1_order_12 : decode cX1_order 12 = .ok (.aload_n 0, 1) := by decide +kernel
theorem dX1_order_13 : decode cX1_order 13 = .ok (.getfield 25, 3) := by decide +kernel
theorem dX1_order_16 : decode cX1_order 16 = .ok (.iload_n 3, 1) := by decide +kernel
theorem dX1_order_17 : decode cX1_order 17 = .ok (.iload_n 3, 1) := by decide +kernel
theorem dX1_order_18 : decode cX1_order 18 = .ok (.iastore, 1) := by decide +kernel
theorem dX1_order_19 : decode cX1_order 19 = .ok (.iinc 3 1, 3) := by decide +kernel
theorem dX1_order_22 : decode cX1_order 22 = .ok (.goto (-18), 3) := by decide +kernel
theorem dX1_order_25 : decode cX1_order 25 = .ok (.iconst 0, 1) := by decide +kernel
theorem dX1_order_26 : decode cX1_order 26 = .ok (.istore_n 3, 1) := by decide +kernel
theorem dX1_order_27 : decode cX1_order 27 = .ok (.iload_n 3, 1) := by decide +kernel
theorem dX1_order_28 : decode cX1_order 28 = .ok (.aload_n 0, 1) := by decide +kernel
theorem dX1_order_29 : decode cX1_order 29 = .ok (.getfield 28, 3) := by decide +kernel
theorem dX1_order_32 : decode cX1_order 32 = .ok (.if_icmp .ge 76, 3) := by decide +kernel
theorem dX1_order_35 : decode cX1_order 35 = .ok (.aload_n 0, 1) := by decide +kernel
theorem dX1_order_36 : decode cX1_order 36 = .ok (.getfield 28, 3) := by decide +kernel
theorem dX1_order_39 : decode cX1_order 39 = .ok (.iload_n 3, 1) := by decide +kernel
theorem dX1_order_40 : decode cX1_order 40 = .ok (.isub, 1) := by decide +kernel
theorem dX1_order_41 : decode cX1_order 41 = .ok (.istore 4, 2) := by decide +kernel
theorem dX1_order_43 : decode cX1_order 43 = .ok (.iload_n 2, 1) := by decide +kernel
theorem dX1_order_44 : decode cX1_order 44 = .ok (.iload 4, 2) := by decide +kernel
theorem dX1_order_46 : decode cX1_order 46 = .ok (.irem, 1) := by decide +kernel
theorem dX1_order_47 : decode cX1_order 47 = .ok (.istore 5, 2) := by decide +kernel
theorem dX1_order_49 : decode cX1_order 49 = .ok (.iload_n 2, 1) := by decide +kernel
theorem dX1_order_50 : decode cX1_order 50 = .ok (.iload 4, 2) := by decide +kernel
theorem dX1_order_52 : decode cX1_order 52 = .ok (.idiv, 1) := by decide +kernel
theorem dX1_order_53 : decode cX1_order 53 = .ok (.istore_n 2, 1) := by decide +kernel
theorem dX1_order_54 : decode cX1_order 54 = .ok (.aload_n 0, 1) := by decide +kernel
theorem dX1_order_55 : decode cX1_order 55 = .ok (.getfield 22, 3) := by decide +kernel
theorem dX1_order_58 : decode cX1_order 58 = .ok (.iload_n 3, 1) := by decide +kernel
theorem dX1_order_59 : decode cX1_order 59 = .ok (.aload_n 0, 1) := by decide +kernel
theorem dX1_order_60 : decode cX1_order 60 = .ok (.getfield 25, 3) := by decide +kernel
theorem dX1_order_63 : decode cX1_order 63 = .ok (.iload 5, 2) := by decide +kernel
theorem dX1_order_65 : decode cX1_order 65 = .ok (.iaload, 1) := by decide +kernel
theorem dX1_order_66 : decode cX1_order 66 = .ok (.iastore, 1) := by decide +kernel
theorem dX1_order_67 : decode cX1_order 67 = .ok (.iload 5, 2) := by decide +kernel
theorem dX1_order_69 : decode cX1_order 69 = .ok (.istore 6, 2) := by decide +kernel
theorem dX1_order_71 : decode cX1_order 71 = .ok (.iload 6, 2) := by decide +kernel
theorem dX1_order_73 : decode cX1_order 73 = .ok (.iconst 1, 1) := by decide +kernel
theorem dX1_order_74 : decode cX1_order 74 = .ok (.iadd, 1) := by decide +kernel
theorem dX1_order_75 : decode cX1_order 75 = .ok (.iload 4, 2) := by decide +kernel
theorem dX1_order_77 : decode cX1_order 77 = .ok (.if_icmp .ge 25, 3) := by decide +kernel
theorem dX1_order_80 : decode cX1_order 80 = .ok (.aload_n 0, 1) := by decide +kernel
theorem dX1_order_81 : decode cX1_order 81 = .ok (.getfield 25, 3) := by decide +kernel
theorem dX1_order_84 : decode cX1_order 84 = .ok (.iload 6, 2) := by decide +kernel
theorem dX1_order_86 : decode cX1_order 86 = .ok (.aload_n 0, 1) := by decide +kernel
theorem dX1_order_87 : decode cX1_order 87 = .ok (.getfield 25, 3) := by decide +kernel
theorem dX1_order_90 : decode cX1_order 90 = .ok (.iload 6, 2) := by decide +kernel
theorem dX1_order_92 : decode cX1_order 92 = .ok (.iconst 1, 1) := by decide +kernel
theorem dX1_order_93 : decode cX1_order 93 = .ok (.iadd, 1) := by decide +kernel
theorem dX1_order_94 : decode cX1_order 94 = .ok (.iaload, 1) := by decide +kernel
theorem dX1_order_95 : decode cX1_order 95 = .ok (.iastore, 1) := by decide +kernel
theorem dX1_order_96 : decode cX1_order 96 = .ok (.iinc 6 1, 3) := by decide +kernel
theorem dX1_order_99 : decode cX1_order 99 = .ok (.goto (-28), 3) := by decide +kernel
theorem dX1_order_102 : decode cX1_order 102 = .ok (.iinc 3 1, 3) := by decide +kernel
theorem dX1_order_105 : decode cX1_order 105 = .ok (.goto (-78), 3) := by decide +kernel
theorem dX1_order_108 : decode cX1_order 108 = .ok (.return_, 1) := by decide +kernel
abbrev cX1_latest : ByteArray := prog_3_method_8_code
def yX1_latest : MethodName := ⟨RX1, "latest", "()J"⟩
theorem dX1_latest_0 : decode cX1_latest 0 = .ok (.aload_n 0, 1) := by decide +kernel
theorem dX1_latest_1 : decode cX1_latest 1 = .ok (.getfield 28, 3) := by decide +kernel
theorem dX1_latest_4 : decode cX1_latest 4 = .ok (.ifCond .ne 7, 3) := by decide +kernel
theorem dX1_latest_7 : decode cX1_latest 7 = .ok (.lconst 0, 1) := by decide +kernel
theorem dX1_latest_8 : decode cX1_latest 8 = .ok (.goto 8, 3) := by decide +kernel
theorem dX1_latest_11 : decode cX1_latest 11 = .ok (.aload_n 0, 1) := by decide +kernel
theorem dX1_latest_12 : decode cX1_latest 12 = .ok (.iconst 1, 1) := by decide +kernel
theorem dX1_latest_13 : decode cX1_latest 13 = .ok (.invokevirtual 44, 3) := by decide +kernel
theorem dX1_latest_16 : decode cX1_latest 16 = .ok (.lreturn, 1) := by decide +kernel
abbrev cX1_late : ByteArray := prog_3_method_9_code
def yX1_late : MethodName := ⟨RX1, "late", "()J"⟩
theorem dX1_late_0 : decode cX1_late 0 = .ok (.aload_n 0, 1) := by decide +kernel
theorem dX1_late_1 : decode cX1_late 1 = .ok (.getfield 28, 3) := by decide +kernel
theorem dX1_late_4 : decode cX1_late 4 = .ok (.ifCond .ne 7, 3) := by decide +kernel
theorem dX1_late_7 : decode cX1_late 7 = .ok (.lconst 0, 1) := by decide +kernel
theorem dX1_late_8 : decode cX1_late 8 = .ok (.goto 8, 3) := by decide +kernel
theorem dX1_late_11 : decode cX1_late 11 = .ok (.aload_n 0, 1) := by decide +kernel
theorem dX1_late_12 : decode cX1_late 12 = .ok (.iconst 2, 1) := by decide +kernel
theorem dX1_late_13 : decode cX1_late 13 = .ok (.invokevirtual 44, 3) := by decide +kernel
theorem dX1_late_16 : decode cX1_late 16 = .ok (.lreturn, 1) := by decide +kernel
abbrev cX1_both : ByteArray := prog_3_method_10_code
def yX1_both : MethodName := ⟨RX1, "both", "()J"⟩
theorem dX1_both_0 : decode cX1_both 0 = .ok (.aload_n 0, 1) := by decide +kernel
theorem dX1_both_1 : decode cX1_both 1 = .ok (.getfield 28, 3) := by decide +kernel
theorem dX1_both_4 : decode cX1_both 4 = .ok (.ifCond .ne 7, 3) := by decide +kernel
theorem dX1_both_7 : decode cX1_both 7 = .ok (.lconst 0, 1) := by decide +kernel
theorem dX1_both_8 : decode cX1_both 8 = .ok (.goto 8, 3) := by decide +kernel
theorem dX1_both_11 : decode cX1_both 11 = .ok (.aload_n 0, 1) := by decide +kernel
theorem dX1_both_12 : decode cX1_both 12 = .ok (.iconst 3, 1) := by decide +kernel
theorem dX1_both_13 : decode cX1_both 13 = .ok (.invokevirtual 44, 3) := by decide +kernel
theorem dX1_both_16 : decode cX1_both 16 = .ok (.lreturn, 1) := by decide +kernel
abbrev cX1_shared : ByteArray := prog_3_method_11_code
def yX1_shared : MethodName := ⟨RX1, "shared", "()J"⟩
theorem dX1_shared_0 : decode cX1_shared 0 = .ok (.lconst 0, 1) := by decide +kernel
theorem dX1_shared_1 : decode cX1_shared 1 = .ok (.lstore_n 1, 1) := by decide +kernel
theorem dX1_shared_2 : decode cX1_shared 2 = .ok (.ldc2_w 32, 3) := by decide +kernel
theorem dX1_shared_5 : decode cX1_shared 5 = .ok (.lstore_n 3, 1) := by decide +kernel
theorem dX1_shared_6 : decode cX1_shared 6 = .ok (.iconst 0, 1) := by decide +kernel
theorem dX1_shared_7 : decode cX1_shared 7 = .ok (.istore 5, 2) := by decide +kernel
theorem dX1_shared_9 : decode cX1_shared 9 = .ok (.iload 5, 2) := by decide +kernel
theorem dX1_shared_11 : decode cX1_shared 11 = .ok (.aload_n 0, 1) := by decide +kernel
theorem dX1_shared_12 : decode cX1_shared 12 = .ok (.getfield 28, 3) := by decide +kernel
theorem dX1_shared_15 : decode cX1_shared 15 = .ok (.if_icmp .ge 20, 3) := by decide +kernel
theorem dX1_shared_18 : decode cX1_shared 18 = .ok (.lload_n 1, 1) := by decide +kernel
theorem dX1_shared_19 : decode cX1_shared 19 = .ok (.aload_n 0, 1) := by decide +kernel
theorem dX1_shared_20 : decode cX1_shared 20 = .ok (.getfield 7, 3) := by decide +kernel
theorem dX1_shared_23 : decode cX1_shared 23 = .ok (.iload 5, 2) := by decide +kernel
theorem dX1_shared_25 : decode cX1_shared 25 = .ok (.iaload, 1) := by decide +kernel
theorem dX1_shared_26 : decode cX1_shared 26 = .ok (.i2l, 1) := by decide +kernel
theorem dX1_shared_27 : decode cX1_shared 27 = .ok (.ladd, 1) := by decide +kernel
theorem dX1_shared_28 : decode cX1_shared 28 = .ok (.lstore_n 1, 1) := by decide +kernel
theorem dX1_shared_29 : decode cX1_shared 29 = .ok (.iinc 5 1, 3) := by decide +kernel
theorem dX1_shared_32 : decode cX1_shared 32 = .ok (.goto (-23), 3) := by decide +kernel
theorem dX1_shared_35 : decode cX1_shared 35 = .ok (.iconst 0, 1) := by decide +kernel
theorem dX1_shared_36 : decode cX1_shared 36 = .ok (.istore 5, 2) := by decide +kernel
theorem dX1_shared_38 : decode cX1_shared 38 = .ok (.iload 5, 2) := by decide +kernel
theorem dX1_shared_40 : decode cX1_shared 40 = .ok (.iconst 1, 1) := by decide +kernel
theorem dX1_shared_41 : decode cX1_shared 41 = .ok (.aload_n 0, 1) := by decide +kernel
theorem dX1_shared_42 : decode cX1_shared 42 = .ok (.getfield 28, 3) := by decide +kernel
theorem dX1_shared_45 : decode cX1_shared 45 = .ok (.ishl, 1) := by decide +kernel
theorem dX1_shared_46 : decode cX1_shared 46 = .ok (.if_icmp .ge 90, 3) := by decide +kernel
theorem dX1_shared_49 : decode cX1_shared 49 = .ok (.lconst 0, 1) := by decide +kernel
theorem dX1_shared_50 : decode cX1_shared 50 = .ok (.lstore 6, 2) := by decide +kernel
theorem dX1_shared_52 : decode cX1_shared 52 = .ok (.iconst 0, 1) := by decide +kernel
theorem dX1_shared_53 : decode cX1_shared 53 = .ok (.istore 8, 2) := by decide +kernel
theorem dX1_shared_55 : decode cX1_shared 55 = .ok (.iload 8, 2) := by decide +kernel
theorem dX1_shared_57 : decode cX1_shared 57 = .ok (.aload_n 0, 1) := by decide +kernel
theorem dX1_shared_58 : decode cX1_shared 58 = .ok (.getfield 28, 3) := by decide +kernel
theorem dX1_shared_61 : decode cX1_shared 61 = .ok (.if_icmp .ge 32, 3) := by decide +kernel
theorem dX1_shared_64 : decode cX1_shared 64 = .ok (.iload 5, 2) := by decide +kernel
theorem dX1_shared_66 : decode cX1_shared 66 = .ok (.iload 8, 2) := by decide +kernel
theorem dX1_shared_68 : decode cX1_shared 68 = .ok (.ishr, 1) := by decide +kernel
theorem dX1_shared_69 : decode cX1_shared 69 = .ok (.iconst 1, 1) := by decide +kernel
theorem dX1_shared_70 : decode cX1_shared 70 = .ok (.iand, 1) := by decide +kernel
theorem dX1_shared_71 : decode cX1_shared 71 = .ok (.ifCond .eq 16, 3) := by decide +kernel
theorem dX1_shared_74 : decode cX1_shared 74 = .ok (.lload 6, 2) := by decide +kernel
theorem dX1_shared_76 : decode cX1_shared 76 = .ok (.aload_n 0, 1) := by decide +kernel
theorem dX1_shared_77 : decode cX1_shared 77 = .ok (.getfield 7, 3) := by decide +kernel
theorem dX1_shared_80 : decode cX1_shared 80 = .ok (.iload 8, 2) := by decide +kernel
theorem dX1_shared_82 : decode cX1_shared 82 = .ok (.iaload, 1) := by decide +kernel
theorem dX1_shared_83 : decode cX1_shared 83 = .ok (.i2l, 1) := by decide +kernel
theorem dX1_shared_84 : decode cX1_shared 84 = .ok (.ladd, 1) := by decide +kernel
theorem dX1_shared_85 : decode cX1_shared 85 = .ok (.lstore 6, 2) := by decide +kernel
theorem dX1_shared_87 : decode cX1_shared 87 = .ok (.iinc 8 1, 3) := by decide +kernel
theorem dX1_shared_90 : decode cX1_shared 90 = .ok (.goto (-35), 3) := by decide +kernel
theorem dX1_shared_93 : decode cX1_shared 93 = .ok (.lload 6, 2) := by decide +kernel
theorem dX1_shared_95 : decode cX1_shared 95 = .ok (.lload_n 1, 1) := by decide +kernel
theorem dX1_shared_96 : decode cX1_shared 96 = .ok (.lload 6, 2) := by decide +kernel
theorem dX1_shared_98 : decode cX1_shared 98 = .ok (.lsub, 1) := by decide +kernel
theorem dX1_shared_99 : decode cX1_shared 99 = .ok (.lcmp, 1) := by decide +kernel
theorem dX1_shared_100 : decode cX1_shared 100 = .ok (.ifCond .le 8, 3) := by decide +kernel
theorem dX1_shared_103 : decode cX1_shared 103 = .ok (.lload 6, 2) := by decide +kernel
theorem dX1_shared_105 : decode cX1_shared 105 = .ok (.goto 7, 3) := by decide +kernel
theorem dX1_shared_108 : decode cX1_shared 108 = .ok (.lload_n 1, 1) := by decide +kernel
theorem dX1_shared_109 : decode cX1_shared 109 = .ok (.lload 6, 2) := by decide +kernel
theorem dX1_shared_111 : decode cX1_shared 111 = .ok (.lsub, 1) := by decide +kernel
theorem dX1_shared_112 : decode cX1_shared 112 = .ok (.lstore 8, 2) := by decide +kernel
theorem dX1_shared_114 : decode cX1_shared 114 = .ok (.lload_n 3, 1) := by decide +kernel
theorem dX1_shared_115 : decode cX1_shared 115 = .ok (.lconst 0, 1) := by decide +kernel
theorem dX1_shared_116 : decode cX1_shared 116 = .ok (.lcmp, 1) := by decide +kernel
theorem dX1_shared_117 : decode cX1_shared 117 = .ok (.ifCond .lt 10, 3) := by decide +kernel
theorem dX1_shared_120 : decode cX1_shared 120 = .ok (.lload 8, 2) := by decide +kernel
theorem dX1_shared_122 : decode cX1_shared 122 = .ok (.lload_n 3, 1) := by decide +kernel
theorem dX1_shared_123 : decode cX1_shared 123 = .ok (.lcmp, 1) := by decide +kernel
theorem dX1_shared_124 : decode cX1_shared 124 = .ok (.ifCond .ge 6, 3) := by decide +kernel
theorem dX1_shared_127 : decode cX1_shared 127 = .ok (.lload 8, 2) := by decide +kernel
theorem dX1_shared_129 : decode cX1_shared 129 = .ok (.lstore_n 3, 1) := by decide +kernel
theorem dX1_shared_130 : decode cX1_shared 130 = .ok (.iinc 5 1, 3) := by decide +kernel
theorem dX1_shared_133 : decode cX1_shared 133 = .ok (.goto (-95), 3) := by decide +kernel
theorem dX1_shared_136 : decode cX1_shared 136 = .ok (.lload_n 3, 1) := by decide +kernel
theorem dX1_shared_137 : decode cX1_shared 137 = .ok (.lreturn, 1) := by decide +kernel
abbrev cX1_jobs : ByteArray := prog_3_method_12_code
def yX1_jobs : MethodName := ⟨RX1, "jobs", "()I"⟩
theorem dX1_jobs_0 : decode cX1_jobs 0 = .ok (.aload_n 0, 1) := by decide +kernel
theorem dX1_jobs_1 : decode cX1_jobs 1 = .ok (.getfield 28, 3) := by decide +kernel
theorem dX1_jobs_4 : decode cX1_jobs 4 = .ok (.ireturn, 1) := by decide +kernel
theorem q7 : (Jvm.Cond.initialized "JobDeskModel") ∈ lw_all := lw_g (lw_at lw_m0 2 rfl) rfl
theorem q86 : (Jvm.Cond.instantiable "JobDeskModel" (7 : Nat)) ∈ lw_all := lw_g (lw_at lw_m0 81 rfl) rfl
theorem q88 : (Jvm.Cond.instanceMethod ({ cls := "JobDeskModel", name := "<init>", desc := "()V" } : Jvm.MethodName)) ∈ lw_all := lw_g (lw_at lw_m0 83 rfl) rfl
theorem q89 : (Jvm.Cond.code ({ cls := "JobDeskModel", name := "<init>", desc := "()V" } : Jvm.MethodName) prog_3_method_1_code (1 : Nat) (Option.none : Option Jvm.ClassFile.FieldType)) ∈ lw_all := lw_g (lw_at lw_m0 84 rfl) rfl
theorem q90 : (Jvm.Cond.methodLink "JobDeskModel" (1 : Nat) ({ cls := "java/lang/Object", name := "<init>", desc := "()V" } : Jvm.MethodName)) ∈ lw_all := lw_g (lw_at lw_m0 85 rfl) rfl
theorem q91 : (Jvm.Cond.fieldLink "JobDeskModel" (7 : Nat) "JobDeskModel" "a" "[I") ∈ lw_all := lw_g (lw_at lw_m0 86 rfl) rfl
theorem q92 : (Jvm.Cond.fieldLink "JobDeskModel" (13 : Nat) "JobDeskModel" "b" "[I") ∈ lw_all := lw_g (lw_at lw_m0 87 rfl) rfl
theorem q93 : (Jvm.Cond.fieldLink "JobDeskModel" (16 : Nat) "JobDeskModel" "due" "[I") ∈ lw_all := lw_g (lw_at lw_m0 88 rfl) rfl
theorem q94 : (Jvm.Cond.fieldLink "JobDeskModel" (19 : Nat) "JobDeskModel" "weight" "[I") ∈ lw_all := lw_g (lw_at lw_m0 89 rfl) rfl
theorem q95 : (Jvm.Cond.fieldLink "JobDeskModel" (28 : Nat) "JobDeskModel" "n" "I") ∈ lw_all := lw_g (lw_at lw_m0 90 rfl) rfl
theorem q96 : (Jvm.Cond.fieldLink "JobDeskModel" (22 : Nat) "JobDeskModel" "p" "[I") ∈ lw_all := lw_g (lw_at lw_m0 91 rfl) rfl
theorem q97 : (Jvm.Cond.fieldLink "JobDeskModel" (25 : Nat) "JobDeskModel" "left" "[I") ∈ lw_all := lw_g (lw_at lw_m0 92 rfl) rfl
theorem q98 : (Jvm.Cond.laysFinal "JobDeskModel" "JobDeskModel" "a" "[I") ∈ lw_all := lw_g (lw_at lw_m0 93 rfl) rfl
theorem q99 : (Jvm.Cond.soleField "JobDeskModel" "a") ∈ lw_all := lw_g (lw_at lw_m0 94 rfl) rfl
theorem q100 : (Jvm.Cond.laysFinal "JobDeskModel" "JobDeskModel" "b" "[I") ∈ lw_all := lw_g (lw_at lw_m0 95 rfl) rfl
theorem q101 : (Jvm.Cond.soleField "JobDeskModel" "b") ∈ lw_all := lw_g (lw_at lw_m0 96 rfl) rfl
theorem q102 : (Jvm.Cond.laysFinal "JobDeskModel" "JobDeskModel" "due" "[I") ∈ lw_all := lw_g (lw_at lw_m0 97 rfl) rfl
theorem q103 : (Jvm.Cond.soleField "JobDeskModel" "due") ∈ lw_all := lw_g (lw_at lw_m0 98 rfl) rfl
theorem q104 : (Jvm.Cond.laysFinal "JobDeskModel" "JobDeskModel" "weight" "[I") ∈ lw_all := lw_g (lw_at lw_m0 99 rfl) rfl
theorem q105 : (Jvm.Cond.soleField "JobDeskModel" "weight") ∈ lw_all := lw_g (lw_at lw_m0 100 rfl) rfl
theorem q106 : (Jvm.Cond.lays "JobDeskModel" "JobDeskModel" "n" "I") ∈ lw_all := lw_g (lw_at lw_m0 101 rfl) rfl
theorem q107 : (Jvm.Cond.soleField "JobDeskModel" "n") ∈ lw_all := lw_g (lw_at lw_m0 102 rfl) rfl
theorem q108 : (Jvm.Cond.laysFinal "JobDeskModel" "JobDeskModel" "p" "[I") ∈ lw_all := lw_g (lw_at lw_m0 103 rfl) rfl
theorem q109 : (Jvm.Cond.soleField "JobDeskModel" "p") ∈ lw_all := lw_g (lw_at lw_m0 104 rfl) rfl
theorem q110 : (Jvm.Cond.laysFinal "JobDeskModel" "JobDeskModel" "left" "[I") ∈ lw_all := lw_g (lw_at lw_m0 105 rfl) rfl
theorem q111 : (Jvm.Cond.soleField "JobDeskModel" "left") ∈ lw_all := lw_g (lw_at lw_m0 106 rfl) rfl
theorem q112 : (Jvm.Cond.superclass "JobDeskModel" "java/lang/Object") ∈ lw_all := lw_g (lw_at lw_m0 107 rfl) rfl
theorem q114 : (Jvm.Cond.instanceMethod ({ cls := "JobDeskModel", name := "job", desc := "(IIII)Z" } : Jvm.MethodName)) ∈ lw_all := lw_g (lw_at lw_m0 109 rfl) rfl
theorem q115 : (Jvm.Cond.selects "JobDeskModel" ({ cls := "JobDeskModel", name := "job", desc := "(IIII)Z" } : Jvm.MethodName) ({ cls := "JobDeskModel", name := "job", desc := "(IIII)Z" } : Jvm.MethodName)) ∈ lw_all := lw_g (lw_at lw_m0 110 rfl) rfl
theorem q116 : (Jvm.Cond.code ({ cls := "JobDeskModel", name := "job", desc := "(IIII)Z" } : Jvm.MethodName) prog_3_method_2_code (5 : Nat) (Option.some Jvm.ClassFile.FieldType.boolean)) ∈ lw_all := lw_g (lw_at lw_m0 111 rfl) rfl
theorem q118 : (Jvm.Cond.instanceMethod ({ cls := "JobDeskModel", name := "drop", desc := "()Z" } : Jvm.MethodName)) ∈ lw_all := lw_g (lw_at lw_m0 113 rfl) rfl
theorem q119 : (Jvm.Cond.selects "JobDeskModel" ({ cls := "JobDeskModel", name := "drop", desc := "()Z" } : Jvm.MethodName) ({ cls := "JobDeskModel", name := "drop", desc := "()Z" } : Jvm.MethodName)) ∈ lw_all := lw_g (lw_at lw_m0 114 rfl) rfl
theorem q120 : (Jvm.Cond.code ({ cls := "JobDeskModel", name := "drop", desc := "()Z" } : Jvm.MethodName) prog_3_method_3_code (1 : Nat) (Option.some Jvm.ClassFile.FieldType.boolean)) ∈ lw_all := lw_g (lw_at lw_m0 115 rfl) rfl
theorem q122 : (Jvm.Cond.instanceMethod ({ cls := "JobDeskModel", name := "weighted", desc := "()J" } : Jvm.MethodName)) ∈ lw_all := lw_g (lw_at lw_m0 117 rfl) rfl
theorem q123 : (Jvm.Cond.selects "JobDeskModel" ({ cls := "JobDeskModel", name := "weighted", desc := "()J" } : Jvm.MethodName) ({ cls := "JobDeskModel", name := "weighted", desc := "()J" } : Jvm.MethodName)) ∈ lw_all := lw_g (lw_at lw_m0 118 rfl) rfl
theorem q124 : (Jvm.Cond.code ({ cls := "JobDeskModel", name := "weighted", desc := "()J" } : Jvm.MethodName) prog_3_method_7_code (1 : Nat) (Option.some Jvm.ClassFile.FieldType.long)) ∈ lw_all := lw_g (lw_at lw_m0 119 rfl) rfl
theorem q125 : (Jvm.Cond.methodLink "JobDeskModel" (44 : Nat) ({ cls := "JobDeskModel", name := "best", desc := "(I)J" } : Jvm.MethodName)) ∈ lw_all := lw_g (lw_at lw_m0 120 rfl) rfl
theorem q126 : (Jvm.Cond.privateMethod ({ cls := "JobDeskModel", name := "best", desc := "(I)J" } : Jvm.MethodName)) ∈ lw_tbl := lw_at lw_m0 121 rfl
theorem q127 : (Jvm.Cond.instanceMethod ({ cls := "JobDeskModel", name := "best", desc := "(I)J" } : Jvm.MethodName)) ∈ lw_all := lw_g (lw_at lw_m0 122 rfl) rfl
theorem q128 : (Jvm.Cond.code ({ cls := "JobDeskModel", name := "best", desc := "(I)J" } : Jvm.MethodName) prog_3_method_6_code (13 : Nat) (Option.some Jvm.ClassFile.FieldType.long)) ∈ lw_all := lw_g (lw_at lw_m0 123 rfl) rfl
theorem q129 : (Jvm.Cond.constantLong "JobDeskModel" (32 : Nat) (-1 : Int64)) ∈ lw_all := lw_g (lw_at lw_m0 124 rfl) rfl
theorem q130 : (Jvm.Cond.methodLink "JobDeskModel" (34 : Nat) ({ cls := "JobDeskModel", name := "orders", desc := "()I" } : Jvm.MethodName)) ∈ lw_all := lw_g (lw_at lw_m0 125 rfl) rfl
theorem q131 : (Jvm.Cond.privateMethod ({ cls := "JobDeskModel", name := "orders", desc := "()I" } : Jvm.MethodName)) ∈ lw_tbl := lw_at lw_m0 126 rfl
theorem q132 : (Jvm.Cond.instanceMethod ({ cls := "JobDeskModel", name := "orders", desc := "()I" } : Jvm.MethodName)) ∈ lw_all := lw_g (lw_at lw_m0 127 rfl) rfl
theorem q133 : (Jvm.Cond.code ({ cls := "JobDeskModel", name := "orders", desc := "()I" } : Jvm.MethodName) prog_3_method_5_code (3 : Nat) (Option.some Jvm.ClassFile.FieldType.int)) ∈ lw_all := lw_g (lw_at lw_m0 128 rfl) rfl
theorem q134 : (Jvm.Cond.methodLink "JobDeskModel" (38 : Nat) ({ cls := "JobDeskModel", name := "order", desc := "(I)V" } : Jvm.MethodName)) ∈ lw_all := lw_g (lw_at lw_m0 129 rfl) rfl
theorem q135 : (Jvm.Cond.privateMethod ({ cls := "JobDeskModel", name := "order", desc := "(I)V" } : Jvm.MethodName)) ∈ lw_tbl := lw_at lw_m0 130 rfl
theorem q136 : (Jvm.Cond.instanceMethod ({ cls := "JobDeskModel", name := "order", desc := "(I)V" } : Jvm.MethodName)) ∈ lw_all := lw_g (lw_at lw_m0 131 rfl) rfl
theorem q137 : (Jvm.Cond.code ({ cls := "JobDeskModel", name := "order", desc := "(I)V" } : Jvm.MethodName) prog_3_method_4_code (7 : Nat) (Option.none : Option Jvm.ClassFile.FieldType)) ∈ lw_all := lw_g (lw_at lw_m0 132 rfl) rfl
theorem q138 : (Jvm.Cond.constantLong "JobDeskModel" (42 : Nat) (-1024 : Int64)) ∈ lw_all := lw_g (lw_at lw_m0 133 rfl) rfl
theorem q140 : (Jvm.Cond.instanceMethod ({ cls := "JobDeskModel", name := "latest", desc := "()J" } : Jvm.MethodName)) ∈ lw_all := lw_g (lw_at lw_m0 135 rfl) rfl
theorem q141 : (Jvm.Cond.selects "JobDeskModel" ({ cls := "JobDeskModel", name := "latest", desc := "()J" } : Jvm.MethodName) ({ cls := "JobDeskModel", name := "latest", desc := "()J" } : Jvm.MethodName)) ∈ lw_all := lw_g (lw_at lw_m0 136 rfl) rfl
theorem q142 : (Jvm.Cond.code ({ cls := "JobDeskModel", name := "latest", desc := "()J" } : Jvm.MethodName) prog_3_method_8_code (1 : Nat) (Option.some Jvm.ClassFile.FieldType.long)) ∈ lw_all := lw_g (lw_at lw_m0 137 rfl) rfl
theorem q144 : (Jvm.Cond.instanceMethod ({ cls := "JobDeskModel", name := "late", desc := "()J" } : Jvm.MethodName)) ∈ lw_all := lw_g (lw_at lw_m0 139 rfl) rfl
theorem q145 : (Jvm.Cond.selects "JobDeskModel" ({ cls := "JobDeskModel", name := "late", desc := "()J" } : Jvm.MethodName) ({ cls := "JobDeskModel", name := "late", desc := "()J" } : Jvm.MethodName)) ∈ lw_all := lw_g (lw_at lw_m0 140 rfl) rfl
theorem q146 : (Jvm.Cond.code ({ cls := "JobDeskModel", name := "late", desc := "()J" } : Jvm.MethodName) prog_3_method_9_code (1 : Nat) (Option.some Jvm.ClassFile.FieldType.long)) ∈ lw_all := lw_g (lw_at lw_m0 141 rfl) rfl
theorem q148 : (Jvm.Cond.instanceMethod ({ cls := "JobDeskModel", name := "both", desc := "()J" } : Jvm.MethodName)) ∈ lw_all := lw_g (lw_at lw_m0 143 rfl) rfl
theorem q149 : (Jvm.Cond.selects "JobDeskModel" ({ cls := "JobDeskModel", name := "both", desc := "()J" } : Jvm.MethodName) ({ cls := "JobDeskModel", name := "both", desc := "()J" } : Jvm.MethodName)) ∈ lw_all := lw_g (lw_at lw_m0 144 rfl) rfl
theorem q150 : (Jvm.Cond.code ({ cls := "JobDeskModel", name := "both", desc := "()J" } : Jvm.MethodName) prog_3_method_10_code (1 : Nat) (Option.some Jvm.ClassFile.FieldType.long)) ∈ lw_all := lw_g (lw_at lw_m0 145 rfl) rfl
theorem q152 : (Jvm.Cond.instanceMethod ({ cls := "JobDeskModel", name := "shared", desc := "()J" } : Jvm.MethodName)) ∈ lw_all := lw_g (lw_at lw_m0 147 rfl) rfl
theorem q153 : (Jvm.Cond.selects "JobDeskModel" ({ cls := "JobDeskModel", name := "shared", desc := "()J" } : Jvm.MethodName) ({ cls := "JobDeskModel", name := "shared", desc := "()J" } : Jvm.MethodName)) ∈ lw_all := lw_g (lw_at lw_m0 148 rfl) rfl
theorem q154 : (Jvm.Cond.code ({ cls := "JobDeskModel", name := "shared", desc := "()J" } : Jvm.MethodName) prog_3_method_11_code (10 : Nat) (Option.some Jvm.ClassFile.FieldType.long)) ∈ lw_all := lw_g (lw_at lw_m0 149 rfl) rfl
theorem q156 : (Jvm.Cond.instanceMethod ({ cls := "JobDeskModel", name := "jobs", desc := "()I" } : Jvm.MethodName)) ∈ lw_all := lw_g (lw_at lw_m0 151 rfl) rfl
theorem q157 : (Jvm.Cond.selects "JobDeskModel" ({ cls := "JobDeskModel", name := "jobs", desc := "()I" } : Jvm.MethodName) ({ cls := "JobDeskModel", name := "jobs", desc := "()I" } : Jvm.MethodName)) ∈ lw_all := lw_g (lw_at lw_m0 152 rfl) rfl
theorem q158 : (Jvm.Cond.code ({ cls := "JobDeskModel", name := "jobs", desc := "()I" } : Jvm.MethodName) prog_3_method_12_code (1 : Nat) (Option.some Jvm.ClassFile.FieldType.int)) ∈ lw_all := lw_g (lw_at lw_m0 153 rfl) rfl
theorem in_X1 : ∀ w ∈ wsX10, w ∈ lw_all := lw_in wsX10 [98, 100, 102, 104, 106, 108, 110] (by decide +kernel) (by decide +kernel)
end
section
/-! java/lang/Math -/
set_option maxRecDepth 100000
def RJ0 : String := "java/lang/Math"
abbrev cJ0_max : ByteArray := prog_4_method_65_code
def yJ0_max : MethodName := ⟨RJ0, "max", "(II)I"⟩
theorem dJ0_max_0 : decode cJ0_max 0 = .ok (.iload_n 0, 1) := by decide +kernel
theorem dJ0_max_1 : decode cJ0_max 1 = .ok (.iload_n 1, 1) := by decide +kernel
theorem dJ0_max_2 : decode cJ0_max 2 = .ok (.if_icmp .lt 7, 3) := by decide +kernel
theorem dJ0_max_5 : decode cJ0_max 5 = .ok (.iload_n 0, 1) := by decide +kernel
theorem dJ0_max_6 : decode cJ0_max 6 = .ok (.goto 4, 3) := by decide +kernel
theorem dJ0_max_9 : decode cJ0_max 9 = .ok (.iload_n 1, 1) := by decide +kernel
theorem dJ0_max_10 : decode cJ0_max 10 = .ok (.ireturn, 1) := by decide +kernel
theorem q8 : (Jvm.Cond.initialized "java/lang/Math") ∈ lw_all := lw_g (lw_at lw_m0 3 rfl) rfl
theorem q71 : (Jvm.Cond.static ({ cls := "java/lang/Math", name := "max", desc := "(II)I" } : Jvm.MethodName)) ∈ lw_all := lw_g (lw_at lw_m0 66 rfl) rfl
theorem q72 : (Jvm.Cond.code ({ cls := "java/lang/Math", name := "max", desc := "(II)I" } : Jvm.MethodName) prog_4_method_65_code (2 : Nat) (Option.some Jvm.ClassFile.FieldType.int)) ∈ lw_all := lw_g (lw_at lw_m0 67 rfl) rfl
/-! java/lang/Object -/
set_option maxRecDepth 100000
def RJ1 : String := "java/lang/Object"
abbrev cJ1_init : ByteArray := object_method_1_code
def yJ1_init : MethodName := ⟨RJ1, "<init>", "()V"⟩
theorem dJ1_init_0 : decode cJ1_init 0 = .ok (.return_, 1) := by decide +kernel
theorem q15 : (Jvm.Cond.instanceMethod ({ cls := "java/lang/Object", name := "<init>", desc := "()V" } : Jvm.MethodName)) ∈ lw_all := lw_g (lw_at lw_m0 10 rfl) rfl
theorem q16 : (Jvm.Cond.code ({ cls := "java/lang/Object", name := "<init>", desc := "()V" } : Jvm.MethodName) object_method_1_code (1 : Nat) (Option.none : Option Jvm.ClassFile.FieldType)) ∈ lw_all := lw_g (lw_at lw_m0 11 rfl) rfl
theorem q39 : (Jvm.Cond.arrayClass Jvm.ClassFile.FieldType.int) ∈ lw_all := lw_g (lw_at lw_m0 34 rfl) rfl
set_option maxRecDepth 100000
theorem q40 : (Jvm.Cond.arrayClass Jvm.ClassFile.FieldType.boolean) ∈ lw_all := lw_g (lw_at lw_m0 35 rfl) rfl
theorem q5 : (Jvm.Cond.initialized "JobDeskLaw") ∈ lw_all := lw_g (lw_at lw_m0 0 rfl) rfl
set_option maxRecDepth 100000
theorem q9 : (Jvm.Cond.classLink "JobDeskLaw" (7 : Nat) "JobDesk") ∈ lw_all := lw_g (lw_at lw_m0 4 rfl) rfl
theorem q11 : (Jvm.Cond.methodLink "JobDeskLaw" (9 : Nat) ({ cls := "JobDesk", name := "<init>", desc := "()V" } : Jvm.MethodName)) ∈ lw_all := lw_g (lw_at lw_m0 6 rfl) rfl
theorem q41 : (Jvm.Cond.methodLink "JobDeskLaw" (13 : Nat) ({ cls := "JobDesk", name := "job", desc := "(IIII)Z" } : Jvm.MethodName)) ∈ lw_all := lw_g (lw_at lw_m0 36 rfl) rfl
theorem q45 : (Jvm.Cond.methodLink "JobDeskLaw" (18 : Nat) ({ cls := "JobDesk", name := "drop", desc := "()Z" } : Jvm.MethodName)) ∈ lw_all := lw_g (lw_at lw_m0 40 rfl) rfl
theorem q49 : (Jvm.Cond.methodLink "JobDeskLaw" (44 : Nat) ({ cls := "JobDesk", name := "jobs", desc := "()I" } : Jvm.MethodName)) ∈ lw_all := lw_g (lw_at lw_m0 44 rfl) rfl
theorem q53 : (Jvm.Cond.methodLink "JobDeskLaw" (23 : Nat) ({ cls := "JobDesk", name := "weighted", desc := "()J" } : Jvm.MethodName)) ∈ lw_all := lw_g (lw_at lw_m0 48 rfl) rfl
theorem q65 : (Jvm.Cond.methodLink "JobDeskLaw" (28 : Nat) ({ cls := "JobDesk", name := "latest", desc := "()J" } : Jvm.MethodName)) ∈ lw_all := lw_g (lw_at lw_m0 60 rfl) rfl
theorem q73 : (Jvm.Cond.methodLink "JobDeskLaw" (32 : Nat) ({ cls := "JobDesk", name := "late", desc := "()J" } : Jvm.MethodName)) ∈ lw_all := lw_g (lw_at lw_m0 68 rfl) rfl
theorem q77 : (Jvm.Cond.methodLink "JobDeskLaw" (36 : Nat) ({ cls := "JobDesk", name := "both", desc := "()J" } : Jvm.MethodName)) ∈ lw_all := lw_g (lw_at lw_m0 72 rfl) rfl
theorem q81 : (Jvm.Cond.methodLink "JobDeskLaw" (40 : Nat) ({ cls := "JobDesk", name := "shared", desc := "()J" } : Jvm.MethodName)) ∈ lw_all := lw_g (lw_at lw_m0 76 rfl) rfl
theorem q85 : (Jvm.Cond.classLink "JobDeskLaw" (10 : Nat) "JobDeskModel") ∈ lw_all := lw_g (lw_at lw_m0 80 rfl) rfl
theorem q87 : (Jvm.Cond.methodLink "JobDeskLaw" (12 : Nat) ({ cls := "JobDeskModel", name := "<init>", desc := "()V" } : Jvm.MethodName)) ∈ lw_all := lw_g (lw_at lw_m0 82 rfl) rfl
theorem q113 : (Jvm.Cond.methodLink "JobDeskLaw" (17 : Nat) ({ cls := "JobDeskModel", name := "job", desc := "(IIII)Z" } : Jvm.MethodName)) ∈ lw_all := lw_g (lw_at lw_m0 108 rfl) rfl
theorem q117 : (Jvm.Cond.methodLink "JobDeskLaw" (22 : Nat) ({ cls := "JobDeskModel", name := "drop", desc := "()Z" } : Jvm.MethodName)) ∈ lw_all := lw_g (lw_at lw_m0 112 rfl) rfl
theorem q121 : (Jvm.Cond.methodLink "JobDeskLaw" (27 : Nat) ({ cls := "JobDeskModel", name := "weighted", desc := "()J" } : Jvm.MethodName)) ∈ lw_all := lw_g (lw_at lw_m0 116 rfl) rfl
theorem q139 : (Jvm.Cond.methodLink "JobDeskLaw" (31 : Nat) ({ cls := "JobDeskModel", name := "latest", desc := "()J" } : Jvm.MethodName)) ∈ lw_all := lw_g (lw_at lw_m0 134 rfl) rfl
theorem q143 : (Jvm.Cond.methodLink "JobDeskLaw" (35 : Nat) ({ cls := "JobDeskModel", name := "late", desc := "()J" } : Jvm.MethodName)) ∈ lw_all := lw_g (lw_at lw_m0 138 rfl) rfl
theorem q147 : (Jvm.Cond.methodLink "JobDeskLaw" (39 : Nat) ({ cls := "JobDeskModel", name := "both", desc := "()J" } : Jvm.MethodName)) ∈ lw_all := lw_g (lw_at lw_m0 142 rfl) rfl
theorem q151 : (Jvm.Cond.methodLink "JobDeskLaw" (43 : Nat) ({ cls := "JobDeskModel", name := "shared", desc := "()J" } : Jvm.MethodName)) ∈ lw_all := lw_g (lw_at lw_m0 146 rfl) rfl
theorem q155 : (Jvm.Cond.methodLink "JobDeskLaw" (48 : Nat) ({ cls := "JobDeskModel", name := "jobs", desc := "()I" } : Jvm.MethodName)) ∈ lw_all := lw_g (lw_at lw_m0 150 rfl) rfl
end
section
/-! the law's own entry -/
set_option maxRecDepth 100000
abbrev cL_law : ByteArray := code
theorem dL_law_0 : decode cL_law 0 = .ok (.new 7, 3) := by decide +kernel
theorem dL_law_3 : decode cL_law 3 = .ok (.dup, 1) := by decide +kernel
theorem dL_law_4 : decode cL_law 4 = .ok (.invokespecial 9, 3) := by decide +kernel
theorem dL_law_7 : decode cL_law 7 = .ok (.astore_n 1, 1) := by decide +kernel
theorem dL_law_8 : decode cL_law 8 = .ok (.new 10, 3) := by decide +kernel
theorem dL_law_11 : decode cL_law 11 = .ok (.dup, 1) := by decide +kernel
theorem dL_law_12 : decode cL_law 12 = .ok (.invokespecial 12, 3) := by decide +kernel
theorem dL_law_15 : decode cL_law 15 = .ok (.astore_n 2, 1) := by decide +kernel
theorem dL_law_16 : decode cL_law 16 = .ok (.iconst 0, 1) := by decide +kernel
theorem dL_law_17 : decode cL_law 17 = .ok (.istore_n 3, 1) := by decide +kernel
theorem dL_law_18 : decode cL_law 18 = .ok (.iload_n 3, 1) := by decide +kernel
theorem dL_law_19 : decode cL_law 19 = .ok (.aload_n 0, 1) := by decide +kernel
theorem dL_law_20 : decode cL_law 20 = .ok (.arraylength, 1) := by decide +kernel
theorem dL_law_21 : decode cL_law 21 = .ok (.iconst 5, 1) := by decide +kernel
theorem dL_law_22 : decode cL_law 22 = .ok (.isub, 1) := by decide +kernel
theorem dL_law_23 : decode cL_law 23 = .ok (.if_icmp .gt 212, 3) := by decide +kernel
theorem dL_law_26 : decode cL_law 26 = .ok (.aload_n 0, 1) := by decide +kernel
theorem dL_law_27 : decode cL_law 27 = .ok (.iload_n 3, 1) := by decide +kernel
theorem dL_law_28 : decode cL_law 28 = .ok (.iaload, 1) := by decide +kernel
theorem dL_law_29 : decode cL_law 29 = .ok (.bipush 7, 2) := by decide +kernel
theorem dL_law_31 : decode cL_law 31 = .ok (.iand, 1) := by decide +kernel
theorem dL_law_32 : decode cL_law 32 = .ok (.tableswitch 197 0 7 #[48, 101, 114, 128, 142, 156, 170, 184], 48) := by decide +kernel
theorem dL_law_80 : decode cL_law 80 = .ok (.aload_n 1, 1) := by decide +kernel
theorem dL_law_81 : decode cL_law 81 = .ok (.aload_n 0, 1) := by decide +kernel
theorem dL_law_82 : decode cL_law 82 = .ok (.iload_n 3, 1) := by decide +kernel
theorem dL_law_83 : decode cL_law 83 = .ok (.iconst 1, 1) := by decide +kernel
theorem dL_law_84 : decode cL_law 84 = .ok (.iadd, 1) := by decide +kernel
theorem dL_law_85 : decode cL_law 85 = .ok (.iaload, 1) := by decide +kernel
theorem dL_law_86 : decode cL_law 86 = .ok (.aload_n 0, 1) := by decide +kernel
theorem dL_law_87 : decode cL_law 87 = .ok (.iload_n 3, 1) := by decide +kernel
theorem dL_law_88 : decode cL_law 88 = .ok (.iconst 2, 1) := by decide +kernel
theorem dL_law_89 : decode cL_law 89 = .ok (.iadd, 1) := by decide +kernel
theorem dL_law_90 : decode cL_law 90 = .ok (.iaload, 1) := by decide +kernel
theorem dL_law_91 : decode cL_law 91 = .ok (.aload_n 0, 1) := by decide +kernel
theorem dL_law_92 : decode cL_law 92 = .ok (.iload_n 3, 1) := by decide +kernel
theorem dL_law_93 : decode cL_law 93 = .ok (.iconst 3, 1) := by decide +kernel
theorem dL_law_94 : decode cL_law 94 = .ok (.iadd, 1) := by decide +kernel
theorem dL_law_95 : decode cL_law 95 = .ok (.iaload, 1) := by decide +kernel
theorem dL_law_96 : decode cL_law 96 = .ok (.aload_n 0, 1) := by decide +kernel
theorem dL_law_97 : decode cL_law 97 = .ok (.iload_n 3, 1) := by decide +kernel
theorem dL_law_98 : decode cL_law 98 = .ok (.iconst 4, 1) := by decide +kernel
theorem dL_law_99 : decode cL_law 99 = .ok (.iadd, 1) := by decide +kernel
theorem dL_law_100 : decode cL_law 100 = .ok (.iaload, 1) := by decide +kernel
theorem dL_law_101 : decode cL_law 101 = .ok (.invokevirtual 13, 3) := by decide +kernel
theorem dL_law_104 : decode cL_law 104 = .ok (.aload_n 2, 1) := by decide +kernel
theorem dL_law_105 : decode cL_law 105 = .ok (.aload_n 0, 1) := by decide +kernel
theorem dL_law_106 : decode cL_law 106 = .ok (.iload_n 3, 1) := by decide +kernel
theorem dL_law_107 : decode cL_law 107 = .ok (.iconst 1, 1) := by decide +kernel
theorem dL_law_108 : decode cL_law 108 = .ok (.iadd, 1) := by decide +kernel
theorem dL_law_109 : decode cL_law 109 = .ok (.iaload, 1) := by decide +kernel
theorem dL_law_110 : decode cL_law 110 = .ok (.aload_n 0, 1) := by decide +kernel
theorem dL_law_111 : decode cL_law 111 = .ok (.iload_n 3, 1) := by decide +kernel
theorem dL_law_112 : decode cL_law 112 = .ok (.iconst 2, 1) := by decide +kernel
theorem dL_law_113 : decode cL_law 113 = .ok (.iadd, 1) := by decide +kernel
theorem dL_law_114 : decode cL_law 114 = .ok (.iaload, 1) := by decide +kernel
theorem dL_law_115 : decode cL_law 115 = .ok (.aload_n 0, 1) := by decide +kernel
theorem dL_law_116 : decode cL_law 116 = .ok (.iload_n 3, 1) := by decide +kernel
theorem dL_law_117 : decode cL_law 117 = .ok (.iconst 3, 1) := by decide +kernel
theorem dL_law_118 : decode cL_law 118 = .ok (.iadd, 1) := by decide +kernel
theorem dL_law_119 : decode cL_law 119 = .ok (.iaload, 1) := by decide +kernel
theorem dL_law_120 : decode cL_law 120 = .ok (.aload_n 0, 1) := by decide +kernel
theorem dL_law_121 : decode cL_law 121 = .ok (.iload_n 3, 1) := by decide +kernel
theorem dL_law_122 : decode cL_law 122 = .ok (.iconst 4, 1) := by decide +kernel
theorem dL_law_123 : decode cL_law 123 = .ok (.iadd, 1) := by decide +kernel
theorem dL_law_124 : decode cL_law 124 = .ok (.iaload, 1) := by decide +kernel
theorem dL_law_125 : decode cL_law 125 = .ok (.invokevirtual 17, 3) := by decide +kernel
theorem dL_law_128 : decode cL_law 128 = .ok (.if_icmp .eq 101, 3) := by decide +kernel
theorem dL_law_131 : decode cL_law 131 = .ok (.iconst 0, 1) := by decide +kernel
theorem dL_law_132 : decode cL_law 132 = .ok (.ireturn, 1) := by decide +kernel
theorem dL_law_133 : decode cL_law 133 = .ok (.aload_n 1, 1) := by decide +kernel
theorem dL_law_134 : decode cL_law 134 = .ok (.invokevirtual 18, 3) := by decide +kernel
theorem dL_law_137 : decode cL_law 137 = .ok (.aload_n 2, 1) := by decide +kernel
theorem dL_law_138 : decode cL_law 138 = .ok (.invokevirtual 22, 3) := by decide +kernel
theorem dL_law_141 : decode cL_law 141 = .ok (.if_icmp .eq 88, 3) := by decide +kernel
theorem dL_law_144 : decode cL_law 144 = .ok (.iconst 0, 1) := by decide +kernel
theorem dL_law_145 : decode cL_law 145 = .ok (.ireturn, 1) := by decide +kernel
theorem dL_law_146 : decode cL_law 146 = .ok (.aload_n 1, 1) := by decide +kernel
theorem dL_law_147 : decode cL_law 147 = .ok (.invokevirtual 23, 3) := by decide +kernel
theorem dL_law_150 : decode cL_law 150 = .ok (.aload_n 2, 1) := by decide +kernel
theorem dL_law_151 : decode cL_law 151 = .ok (.invokevirtual 27, 3) := by decide +kernel
theorem dL_law_154 : decode cL_law 154 = .ok (.lcmp, 1) := by decide +kernel
theorem dL_law_155 : decode cL_law 155 = .ok (.ifCond .eq 74, 3) := by decide +kernel
theorem dL_law_158 : decode cL_law 158 = .ok (.iconst 0, 1) := by decide +kernel
theorem dL_law_159 : decode cL_law 159 = .ok (.ireturn, 1) := by decide +kernel
theorem dL_law_160 : decode cL_law 160 = .ok (.aload_n 1, 1) := by decide +kernel
theorem dL_law_161 : decode cL_law 161 = .ok (.invokevirtual 28, 3) := by decide +kernel
theorem dL_law_164 : decode cL_law 164 = .ok (.aload_n 2, 1) := by decide +kernel
theorem dL_law_165 : decode cL_law 165 = .ok (.invokevirtual 31, 3) := by decide +kernel
theorem dL_law_168 : decode cL_law 168 = .ok (.lcmp, 1) := by decide +kernel
theorem dL_law_169 : decode cL_law 169 = .ok (.ifCond .eq 60, 3) := by decide +kernel
theorem dL_law_172 : decode cL_law 172 = .ok (.iconst 0, 1) := by decide +kernel
theorem dL_law_173 : decode cL_law 173 = .ok (.ireturn, 1) := by decide +kernel
theorem dL_law_174 : decode cL_law 174 = .ok (.aload_n 1, 1) := by decide +kernel
theorem dL_law_175 : decode cL_law 175 = .ok (.invokevirtual 32, 3) := by decide +kernel
theorem dL_law_178 : decode cL_law 178 = .ok (.aload_n 2, 1) := by decide +kernel
theorem dL_law_179 : decode cL_law 179 = .ok (.invokevirtual 35, 3) := by decide +kernel
theorem dL_law_182 : decode cL_law 182 = .ok (.lcmp, 1) := by decide +kernel
theorem dL_law_183 : decode cL_law 183 = .ok (.ifCond .eq 46, 3) := by decide +kernel
theorem dL_law_186 : decode cL_law 186 = .ok (.iconst 0, 1) := by decide +kernel
theorem dL_law_187 : decode cL_law 187 = .ok (.ireturn, 1) := by decide +kernel
theorem dL_law_188 : decode cL_law 188 = .ok (.aload_n 1, 1) := by decide +kernel
theorem dL_law_189 : decode cL_law 189 = .ok (.invokevirtual 36, 3) := by decide +kernel
theorem dL_law_192 : decode cL_law 192 = .ok (.aload_n 2, 1) := by decide +kernel
theorem dL_law_193 : decode cL_law 193 = .ok (.invokevirtual 39, 3) := by decide +kernel
theorem dL_law_196 : decode cL_law 196 = .ok (.lcmp, 1) := by decide +kernel
theorem dL_law_197 : decode cL_law 197 = .ok (.ifCond .eq 32, 3) := by decide +kernel
theorem dL_law_200 : decode cL_law 200 = .ok (.iconst 0, 1) := by decide +kernel
theorem dL_law_201 : decode cL_law 201 = .ok (.ireturn, 1) := by decide +kernel
theorem dL_law_202 : decode cL_law 202 = .ok (.aload_n 1, 1) := by decide +kernel
theorem dL_law_203 : decode cL_law 203 = .ok (.invokevirtual 40, 3) := by decide +kernel
theorem dL_law_206 : decode cL_law 206 = .ok (.aload_n 2, 1) := by decide +kernel
theorem dL_law_207 : decode cL_law 207 = .ok (.invokevirtual 43, 3) := by decide +kernel
theorem dL_law_210 : decode cL_law 210 = .ok (.lcmp, 1) := by decide +kernel
theorem dL_law_211 : decode cL_law 211 = .ok (.ifCond .eq 18, 3) := by decide +kernel
theorem dL_law_214 : decode cL_law 214 = .ok (.iconst 0, 1) := by decide +kernel
theorem dL_law_215 : decode cL_law 215 = .ok (.ireturn, 1) := by decide +kernel
theorem dL_law_216 : decode cL_law 216 = .ok (.aload_n 1, 1) := by decide +kernel
theorem dL_law_217 : decode cL_law 217 = .ok (.invokevirtual 44, 3) := by decide +kernel
theorem dL_law_220 : decode cL_law 220 = .ok (.aload_n 2, 1) := by decide +kernel
theorem dL_law_221 : decode cL_law 221 = .ok (.invokevirtual 48, 3) := by decide +kernel
theorem dL_law_224 : decode cL_law 224 = .ok (.if_icmp .eq 5, 3) := by decide +kernel
theorem dL_law_227 : decode cL_law 227 = .ok (.iconst 0, 1) := by decide +kernel
theorem dL_law_228 : decode cL_law 228 = .ok (.ireturn, 1) := by decide +kernel
theorem dL_law_229 : decode cL_law 229 = .ok (.iinc 3 5, 3) := by decide +kernel
theorem dL_law_232 : decode cL_law 232 = .ok (.goto (-214), 3) := by decide +kernel
theorem dL_law_235 : decode cL_law 235 = .ok (.iconst 1, 1) := by decide +kernel
theorem dL_law_236 : decode cL_law 236 = .ok (.ireturn, 1) := by decide +kernel
end
section
/-! rows in Nat words: ints are nI of a Nat, longs lI of an Int, arrays hold aN of a function -/
set_option maxRecDepth 100000
def aN (f : Nat → Nat) : Nat → Int32 := fun i => nI (f i)
def jr_up (f : Nat → Nat) (k y : Nat) : Nat → Nat := fun i => if i = k then y else f i
theorem jr_up_eq (f : Nat → Nat) (k y : Nat) : jr_up f k y k = y := by simp [jr_up]
theorem jr_up_ne (f : Nat → Nat) {k i : Nat} (y : Nat) (h : i ≠ k) : jr_up f k y i = f i := by simp [jr_up, h]
theorem aN_up (f : Nat → Nat) (k y : Nat) : upd (aN f) k (nI y) = aN (jr_up f k y) := by
  funext i
  by_cases h : i = k
  · subst h; simp [upd, aN, jr_up]
  · simp [upd, aN, jr_up, h]
def lI (z : Int) : Int64 := Int64.ofInt z
theorem lI_add (a b : Int) : lI a + lI b = lI (a + b) := (Int64.ofInt_add a b).symm
theorem lI_sub (a b : Int) : lI a - lI b = lI (a - b) := (Int64.ofInt_sub a b).symm
theorem lI_mul (a b : Int) : lI a * lI b = lI (a * b) := (Int64.ofInt_mul a b).symm
theorem lI_T {a : Int} (h1 : -4611686018427387904 ≤ a) (h2 : a < 4611686018427387904) : (lI a).toInt = a := Int64.toInt_ofInt_of_le (by omega) (by omega)
theorem lI_le {a b : Int} (a1 : -4611686018427387904 ≤ a) (a2 : a < 4611686018427387904) (b1 : -4611686018427387904 ≤ b) (b2 : b < 4611686018427387904) : lI a ≤ lI b ↔ a ≤ b := by
  rw [Int64.le_iff_toInt_le, lI_T a1 a2, lI_T b1 b2]
theorem lI_lt {a b : Int} (a1 : -4611686018427387904 ≤ a) (a2 : a < 4611686018427387904) (b1 : -4611686018427387904 ≤ b) (b2 : b < 4611686018427387904) : lI a < lI b ↔ a < b := by
  rw [Int64.lt_iff_toInt_lt, lI_T a1 a2, lI_T b1 b2]
theorem lI_eq {a b : Int} (a1 : -4611686018427387904 ≤ a) (a2 : a < 4611686018427387904) (b1 : -4611686018427387904 ≤ b) (b2 : b < 4611686018427387904) : lI a = lI b ↔ a = b := by
  rw [← Int64.toInt_inj, lI_T a1 a2, lI_T b1 b2]
theorem nI_lI {n : Nat} (h : n < 2 ^ 31) : (nI n).toInt64 = lI (n : Int) := by
  rw [nI_l h]
  exact Int64.ofInt_eq_ofNat.symm
/-- an int that may be below zero -/
def iI (z : Int) : Int32 := Int32.ofInt z
theorem iI_T {a : Int} (h1 : -2147483648 ≤ a) (h2 : a < 2147483648) : (iI a).toInt = a := Int32.toInt_ofInt_of_le (by omega) (by omega)
theorem iI_nat (n : Nat) : nI n = iI (n : Int) := Int32.ofInt_eq_ofNat.symm
theorem iI_sub (a b : Nat) : nI a - nI b = iI ((a : Int) - (b : Int)) := by
  rw [iI_nat, iI_nat]
  exact (Int32.ofInt_sub _ _).symm
theorem iI_l {a : Int} (h1 : -2147483648 ≤ a) (h2 : a < 2147483648) : (iI a).toInt64 = lI a := by
  rw [← Int64.ofInt_int32ToInt, iI_T h1 h2]
  rfl
theorem iI_lt {a b : Int} (a1 : -2147483648 ≤ a) (a2 : a < 2147483648) (b1 : -2147483648 ≤ b) (b2 : b < 2147483648) : iI a < iI b ↔ a < b := by
  rw [Int32.lt_iff_toInt_lt, iI_T a1 a2, iI_T b1 b2]
theorem iI_le {a b : Int} (a1 : -2147483648 ≤ a) (a2 : a < 2147483648) (b1 : -2147483648 ≤ b) (b2 : b < 2147483648) : iI a ≤ iI b ↔ a ≤ b := by
  rw [Int32.le_iff_toInt_le, iI_T a1 a2, iI_T b1 b2]
theorem nI_or (a b : Nat) : nI a ||| nI b = nI (a ||| b) := by
  apply Int32.toBitVec_inj.mp
  show BitVec.ofNat 32 a ||| BitVec.ofNat 32 b = BitVec.ofNat 32 (a ||| b)
  apply BitVec.eq_of_getLsbD_eq
  intro i hi
  simp [BitVec.getLsbD_ofNat, Nat.testBit_or]

theorem nI_sh : ∀ n, n < 32 → ((nI n &&& 31).toBitVec.smod 32).toNat = n := by decide +kernel
abbrev vwCl : List vw_C := [(RX0, TX0, 7), (RX1, TX1, 7)]
/-- the world of a walk: the cells ws, apart, and nothing but A changed since the start -/
def Wd (G : va_G) (A : Nat → Prop) (s : State) (ws : va_W) (H : Heap) (locs : List Loc) : Prop := va_P G vwCl ws H ∧ va_D A ws ∧ va_S A s.heap H locs
section JR
variable {p : Program} {l : Launch} {e : Env} {R : Room} {s : State} {m : MethodId} {args : Array Value} {below : List Frame} {meth : Method} {c : Code} {H : Heap} {locs : List Loc} {cells slots : Nat} {Z : State → Prop}
variable {cc : ByteArray} {pc nL : Nat} {ls : Array Slot} {rest : List Value} {G : va_G} {A : Nat → Prop} {ws : va_W} {own : String}
theorem jr_iadd (hx : p.tables.exec = Jvm.exec) (hb : c.code = cc) {i j : Nat} (hdg : decode cc pc = .ok (.iadd, 1)) (k : W p l e R s m args below meth c H locs cells slots Z (F0 m (pc + 1) ls (.int (nI (i + j)) :: rest))) : W p l e R s m args below meth c H locs cells slots Z (F0 m pc ls (.int (nI j) :: .int (nI i) :: rest)) := lv_iadd hx hb hdg (by rw [nI_add]; exact k)
theorem jr_isub (hx : p.tables.exec = Jvm.exec) (hb : c.code = cc) {i j : Nat} (h : j ≤ i) (hdg : decode cc pc = .ok (.isub, 1)) (k : W p l e R s m args below meth c H locs cells slots Z (F0 m (pc + 1) ls (.int (nI (i - j)) :: rest))) : W p l e R s m args below meth c H locs cells slots Z (F0 m pc ls (.int (nI j) :: .int (nI i) :: rest)) := lv_isub hx hb hdg (by rw [pk_sub h]; exact k)
theorem jr_imul (hx : p.tables.exec = Jvm.exec) (hb : c.code = cc) {i j : Nat} (hdg : decode cc pc = .ok (.imul, 1)) (k : W p l e R s m args below meth c H locs cells slots Z (F0 m (pc + 1) ls (.int (nI (i * j)) :: rest))) : W p l e R s m args below meth c H locs cells slots Z (F0 m pc ls (.int (nI j) :: .int (nI i) :: rest)) := lv_imul hx hb hdg (by rw [pk_mul]; exact k)
theorem jr_idiv (hx : p.tables.exec = Jvm.exec) (hb : c.code = cc) {i j : Nat} (hi : i < 2 ^ 31) (h0 : 0 < j) (hj : j < 2 ^ 31) (hdg : decode cc pc = .ok (.idiv, 1)) (k : W p l e R s m args below meth c H locs cells slots Z (F0 m (pc + 1) ls (.int (nI (i / j)) :: rest))) : W p l e R s m args below meth c H locs cells slots Z (F0 m pc ls (.int (nI j) :: .int (nI i) :: rest)) := lv_idiv hx hb hdg (nI_ne0 h0 hj) (by rw [pk_div hi h0 hj]; exact k)
theorem jr_irem (hx : p.tables.exec = Jvm.exec) (hb : c.code = cc) {i j : Nat} (hi : i < 2 ^ 31) (h0 : 0 < j) (hj : j < 2 ^ 31) (hdg : decode cc pc = .ok (.irem, 1)) (k : W p l e R s m args below meth c H locs cells slots Z (F0 m (pc + 1) ls (.int (nI (i % j)) :: rest))) : W p l e R s m args below meth c H locs cells slots Z (F0 m pc ls (.int (nI j) :: .int (nI i) :: rest)) := lv_irem hx hb hdg (nI_ne0 h0 hj) (by rw [pk_rem hi h0 hj]; exact k)
theorem jr_ior (hx : p.tables.exec = Jvm.exec) (hb : c.code = cc) {i j : Nat} (hdg : decode cc pc = .ok (.ior, 1)) (k : W p l e R s m args below meth c H locs cells slots Z (F0 m (pc + 1) ls (.int (nI (i ||| j)) :: rest))) : W p l e R s m args below meth c H locs cells slots Z (F0 m pc ls (.int (nI j) :: .int (nI i) :: rest)) := lv_ior hx hb hdg (by rw [nI_or]; exact k)
theorem jr_ishr (hx : p.tables.exec = Jvm.exec) (hb : c.code = cc) {i j : Nat} (hi : i < 2 ^ 31) (hj : j < 32) (hdg : decode cc pc = .ok (.ishr, 1)) (k : W p l e R s m args below meth c H locs cells slots Z (F0 m (pc + 1) ls (.int (nI (i / 2 ^ j)) :: rest))) : W p l e R s m args below meth c H locs cells slots Z (F0 m pc ls (.int (nI j) :: .int (nI i) :: rest)) := lv_ishr hx hb hdg (by rw [pk_shrN hi _ j (nI_sh j hj)]; exact k)
theorem jr_ishl (hx : p.tables.exec = Jvm.exec) (hb : c.code = cc) {i j : Nat} (hj : j < 32) (hi : i * 2 ^ j < 2 ^ 32) (hdg : decode cc pc = .ok (.ishl, 1)) (k : W p l e R s m args below meth c H locs cells slots Z (F0 m (pc + 1) ls (.int (nI (i * 2 ^ j)) :: rest))) : W p l e R s m args below meth c H locs cells slots Z (F0 m pc ls (.int (nI j) :: .int (nI i) :: rest)) := lv_ishl hx hb hdg (by rw [pk_shlN _ j (nI_sh j hj) hi]; exact k)
theorem jr_isub1 (hx : p.tables.exec = Jvm.exec) (hb : c.code = cc) {i : Nat} (hdg : decode cc pc = .ok (.isub, 1)) (k : W p l e R s m args below meth c H locs cells slots Z (F0 m (pc + 1) ls (.int (nI i) :: rest))) : W p l e R s m args below meth c H locs cells slots Z (F0 m pc ls (.int (nI 1) :: .int (nI (i + 1)) :: rest)) := lv_isub hx hb hdg (by rw [pk_sub (Nat.le_add_left 1 i)]; exact k)
theorem jr_iand1 (hx : p.tables.exec = Jvm.exec) (hb : c.code = cc) {i : Nat} (hi : i < 2 ^ 31) (hdg : decode cc pc = .ok (.iand, 1)) (k : W p l e R s m args below meth c H locs cells slots Z (F0 m (pc + 1) ls (.int (nI (i % 2)) :: rest))) : W p l e R s m args below meth c H locs cells slots Z (F0 m pc ls (.int (nI 1) :: .int (nI i) :: rest)) := lv_iand hx hb hdg (by rw [pk_andN (Nat.lt_of_lt_of_le hi (by decide)) 1 (m := nI 1) (by decide)]; exact k)
theorem jr_iandx (hx : p.tables.exec = Jvm.exec) (hb : c.code = cc) {y v : Int32} (b : Nat) (hv : v.toBitVec.toNat = 2 ^ b - 1) (hdg : decode cc pc = .ok (.iand, 1)) (k : W p l e R s m args below meth c H locs cells slots Z (F0 m (pc + 1) ls (.int (nI (y.toBitVec.toNat % 2 ^ b)) :: rest))) : W p l e R s m args below meth c H locs cells slots Z (F0 m pc ls (.int v :: .int y :: rest)) := lv_iand hx hb hdg (by rw [pk_and y b hv]; exact k)
theorem jr_i2l (hx : p.tables.exec = Jvm.exec) (hb : c.code = cc) {i : Nat} (hi : i < 2 ^ 31) (hdg : decode cc pc = .ok (.i2l, 1)) (k : W p l e R s m args below meth c H locs cells slots Z (F0 m (pc + 1) ls (.long (lI (i : Int)) :: rest))) : W p l e R s m args below meth c H locs cells slots Z (F0 m pc ls (.int (nI i) :: rest)) := lv_i2l (v := lI (i : Int)) hx hb hdg (nI_lI hi) k
theorem jr_i2lz (hx : p.tables.exec = Jvm.exec) (hb : c.code = cc) {z : Int} (h1 : -2147483648 ≤ z) (h2 : z < 2147483648) (hdg : decode cc pc = .ok (.i2l, 1)) (k : W p l e R s m args below meth c H locs cells slots Z (F0 m (pc + 1) ls (.long (lI z) :: rest))) : W p l e R s m args below meth c H locs cells slots Z (F0 m pc ls (.int (iI z) :: rest)) := lv_i2l (v := lI z) hx hb hdg (iI_l h1 h2) k
theorem jr_isubz (hx : p.tables.exec = Jvm.exec) (hb : c.code = cc) {i j : Nat} (hdg : decode cc pc = .ok (.isub, 1)) (k : W p l e R s m args below meth c H locs cells slots Z (F0 m (pc + 1) ls (.int (iI ((i : Int) - (j : Int))) :: rest))) : W p l e R s m args below meth c H locs cells slots Z (F0 m pc ls (.int (nI j) :: .int (nI i) :: rest)) := lv_isub hx hb hdg (by rw [iI_sub]; exact k)
theorem jr_ladd (hx : p.tables.exec = Jvm.exec) (hb : c.code = cc) {y z : Int} (hdg : decode cc pc = .ok (.ladd, 1)) (k : W p l e R s m args below meth c H locs cells slots Z (F0 m (pc + 1) ls (.long (lI (y + z)) :: rest))) : W p l e R s m args below meth c H locs cells slots Z (F0 m pc ls (.long (lI z) :: .long (lI y) :: rest)) := lv_ladd hx hb hdg (by rw [lI_add]; exact k)
theorem jr_lsub (hx : p.tables.exec = Jvm.exec) (hb : c.code = cc) {y z : Int} (hdg : decode cc pc = .ok (.lsub, 1)) (k : W p l e R s m args below meth c H locs cells slots Z (F0 m (pc + 1) ls (.long (lI (y - z)) :: rest))) : W p l e R s m args below meth c H locs cells slots Z (F0 m pc ls (.long (lI z) :: .long (lI y) :: rest)) := lv_lsub hx hb hdg (by rw [lI_sub]; exact k)
theorem jr_lmul (hx : p.tables.exec = Jvm.exec) (hb : c.code = cc) {y z : Int} (hdg : decode cc pc = .ok (.lmul, 1)) (k : W p l e R s m args below meth c H locs cells slots Z (F0 m (pc + 1) ls (.long (lI (y * z)) :: rest))) : W p l e R s m args below meth c H locs cells slots Z (F0 m pc ls (.long (lI z) :: .long (lI y) :: rest)) := lv_lmul hx hb hdg (by rw [lI_mul]; exact k)
theorem jr_icmp_ge (hx : p.tables.exec = Jvm.exec) (hb : c.code = cc) {i j : Nat} {off : Int} (tgt : Nat) (hi : i < 2 ^ 31) (hj : j < 2 ^ 31) (hdg : decode cc pc = .ok (.if_icmp .ge off, 3)) (ht : (pc : Int) + off = (tgt : Int)) (kt : j ≤ i → W p l e R s m args below meth c H locs cells slots Z (F0 m tgt ls (rest))) (kf : i < j → W p l e R s m args below meth c H locs cells slots Z (F0 m (pc + 3) ls (rest))) : W p l e R s m args below meth c H locs cells slots Z (F0 m pc ls (.int (nI j) :: .int (nI i) :: rest)) := lv_icmp_ge hx hb hdg ht (fun q => (kt ((nI_leI hj hi).mp q))) (fun q => (kf (Nat.not_le.mp (fun z => q ((nI_leI hj hi).mpr z)))))
theorem jr_icmp_gt (hx : p.tables.exec = Jvm.exec) (hb : c.code = cc) {i j : Nat} {off : Int} (tgt : Nat) (hi : i < 2 ^ 31) (hj : j < 2 ^ 31) (hdg : decode cc pc = .ok (.if_icmp .gt off, 3)) (ht : (pc : Int) + off = (tgt : Int)) (kt : j < i → W p l e R s m args below meth c H locs cells slots Z (F0 m tgt ls (rest))) (kf : i ≤ j → W p l e R s m args below meth c H locs cells slots Z (F0 m (pc + 3) ls (rest))) : W p l e R s m args below meth c H locs cells slots Z (F0 m pc ls (.int (nI j) :: .int (nI i) :: rest)) := lv_icmp_gt hx hb hdg ht (fun q => (kt ((nI_ltI hj hi).mp q))) (fun q => (kf (Nat.not_lt.mp (fun z => q ((nI_ltI hj hi).mpr z)))))
theorem jr_icmp_le (hx : p.tables.exec = Jvm.exec) (hb : c.code = cc) {i j : Nat} {off : Int} (tgt : Nat) (hi : i < 2 ^ 31) (hj : j < 2 ^ 31) (hdg : decode cc pc = .ok (.if_icmp .le off, 3)) (ht : (pc : Int) + off = (tgt : Int)) (kt : i ≤ j → W p l e R s m args below meth c H locs cells slots Z (F0 m tgt ls (rest))) (kf : j < i → W p l e R s m args below meth c H locs cells slots Z (F0 m (pc + 3) ls (rest))) : W p l e R s m args below meth c H locs cells slots Z (F0 m pc ls (.int (nI j) :: .int (nI i) :: rest)) := lv_icmp_le hx hb hdg ht (fun q => (kt ((nI_leI hi hj).mp q))) (fun q => (kf (Nat.not_le.mp (fun z => q ((nI_leI hi hj).mpr z)))))
theorem jr_icmp_lt (hx : p.tables.exec = Jvm.exec) (hb : c.code = cc) {i j : Nat} {off : Int} (tgt : Nat) (hi : i < 2 ^ 31) (hj : j < 2 ^ 31) (hdg : decode cc pc = .ok (.if_icmp .lt off, 3)) (ht : (pc : Int) + off = (tgt : Int)) (kt : i < j → W p l e R s m args below meth c H locs cells slots Z (F0 m tgt ls (rest))) (kf : j ≤ i → W p l e R s m args below meth c H locs cells slots Z (F0 m (pc + 3) ls (rest))) : W p l e R s m args below meth c H locs cells slots Z (F0 m pc ls (.int (nI j) :: .int (nI i) :: rest)) := lv_icmp_lt hx hb hdg ht (fun q => (kt ((nI_ltI hi hj).mp q))) (fun q => (kf (Nat.not_lt.mp (fun z => q ((nI_ltI hi hj).mpr z)))))
theorem jr_icmp_eq (hx : p.tables.exec = Jvm.exec) (hb : c.code = cc) {i j : Nat} {off : Int} (tgt : Nat) (hi : i < 2 ^ 31) (hj : j < 2 ^ 31) (hdg : decode cc pc = .ok (.if_icmp .eq off, 3)) (ht : (pc : Int) + off = (tgt : Int)) (kt : i = j → W p l e R s m args below meth c H locs cells slots Z (F0 m tgt ls (rest))) (kf : i ≠ j → W p l e R s m args below meth c H locs cells slots Z (F0 m (pc + 3) ls (rest))) : W p l e R s m args below meth c H locs cells slots Z (F0 m pc ls (.int (nI j) :: .int (nI i) :: rest)) := lv_icmp_eq hx hb hdg ht (fun q => (kt ((nI_eq hi hj).mp q))) (fun q => (kf (fun z => q ((nI_eq hi hj).mpr z))))
theorem jr_icmp_ne (hx : p.tables.exec = Jvm.exec) (hb : c.code = cc) {i j : Nat} {off : Int} (tgt : Nat) (hi : i < 2 ^ 31) (hj : j < 2 ^ 31) (hdg : decode cc pc = .ok (.if_icmp .ne off, 3)) (ht : (pc : Int) + off = (tgt : Int)) (kt : i ≠ j → W p l e R s m args below meth c H locs cells slots Z (F0 m tgt ls (rest))) (kf : i = j → W p l e R s m args below meth c H locs cells slots Z (F0 m (pc + 3) ls (rest))) : W p l e R s m args below meth c H locs cells slots Z (F0 m pc ls (.int (nI j) :: .int (nI i) :: rest)) := lv_icmp_ne hx hb hdg ht (fun q => (kt (fun z => q ((nI_eq hi hj).mpr z)))) (fun q => (kf ((nI_eq hi hj).mp q)))
theorem jr_if_ne (hx : p.tables.exec = Jvm.exec) (hb : c.code = cc) {i : Nat} {off : Int} (tgt : Nat) (hi : i < 2 ^ 31) (hdg : decode cc pc = .ok (.ifCond .ne off, 3)) (ht : (pc : Int) + off = (tgt : Int)) (kt : i ≠ 0 → W p l e R s m args below meth c H locs cells slots Z (F0 m tgt ls (rest))) (kf : i = 0 → W p l e R s m args below meth c H locs cells slots Z (F0 m (pc + 3) ls (rest))) : W p l e R s m args below meth c H locs cells slots Z (F0 m pc ls (.int (nI i) :: rest)) := lv_if_ne hx hb hdg ht (fun q => kt (fun z => q (by rw [z]; rfl))) (fun q => kf ((nI_eq (b := 0) hi (by decide)).mp q))
theorem jr_if_eq (hx : p.tables.exec = Jvm.exec) (hb : c.code = cc) {i : Nat} {off : Int} (tgt : Nat) (hi : i < 2 ^ 31) (hdg : decode cc pc = .ok (.ifCond .eq off, 3)) (ht : (pc : Int) + off = (tgt : Int)) (kt : i = 0 → W p l e R s m args below meth c H locs cells slots Z (F0 m tgt ls (rest))) (kf : i ≠ 0 → W p l e R s m args below meth c H locs cells slots Z (F0 m (pc + 3) ls (rest))) : W p l e R s m args below meth c H locs cells slots Z (F0 m pc ls (.int (nI i) :: rest)) := lv_if_eq hx hb hdg ht (fun q => kt ((nI_eq (b := 0) hi (by decide)).mp q)) (fun q => kf (fun z => q (by rw [z]; rfl)))
theorem jr_if_le (hx : p.tables.exec = Jvm.exec) (hb : c.code = cc) {i : Nat} {off : Int} (tgt : Nat) (hi : i < 2 ^ 31) (hdg : decode cc pc = .ok (.ifCond .le off, 3)) (ht : (pc : Int) + off = (tgt : Int)) (kt : i = 0 → W p l e R s m args below meth c H locs cells slots Z (F0 m tgt ls (rest))) (kf : 0 < i → W p l e R s m args below meth c H locs cells slots Z (F0 m (pc + 3) ls (rest))) : W p l e R s m args below meth c H locs cells slots Z (F0 m pc ls (.int (nI i) :: rest)) := lv_if_le hx hb hdg ht (fun q => kt (Nat.le_zero.mp ((nI_leI (b := 0) hi (by decide)).mp q))) (fun q => kf (Nat.pos_of_ne_zero (fun z => q (by rw [z]; exact (nI_leI (a := 0) (b := 0) (by decide) (by decide)).mpr (Nat.le_refl 0)))))
theorem jr_lcmp_le (hx : p.tables.exec = Jvm.exec) (hb : c.code = cc) {y z : Int} {off : Int} (tgt : Nat) (y1 : -4611686018427387904 ≤ y) (y2 : y < 4611686018427387904) (z1 : -4611686018427387904 ≤ z) (z2 : z < 4611686018427387904) (hdg : decode cc pc = .ok (.lcmp, 1)) (hdg2 : decode cc (pc + 1) = .ok (.ifCond .le off, 3)) (ht : ((pc + 1 : Nat) : Int) + off = (tgt : Int)) (kt : y ≤ z → W p l e R s m args below meth c H locs cells slots Z (F0 m tgt ls (rest))) (kf : z < y → W p l e R s m args below meth c H locs cells slots Z (F0 m (pc + 1 + 3) ls (rest))) : W p l e R s m args below meth c H locs cells slots Z (F0 m pc ls (.long (lI z) :: .long (lI y) :: rest)) := W.lcmp hx hb hdg (lv_if_le hx hb hdg2 ht (fun q => kt (((lg_cmp_le (lI y) (lI z)).trans (lI_le y1 y2 z1 z2)).mp q)) (fun q => kf (Int.not_le.mp (fun w => q (((lg_cmp_le (lI y) (lI z)).trans (lI_le y1 y2 z1 z2)).mpr w)))))
theorem jr_lcmp_ge (hx : p.tables.exec = Jvm.exec) (hb : c.code = cc) {y z : Int} {off : Int} (tgt : Nat) (y1 : -4611686018427387904 ≤ y) (y2 : y < 4611686018427387904) (z1 : -4611686018427387904 ≤ z) (z2 : z < 4611686018427387904) (hdg : decode cc pc = .ok (.lcmp, 1)) (hdg2 : decode cc (pc + 1) = .ok (.ifCond .ge off, 3)) (ht : ((pc + 1 : Nat) : Int) + off = (tgt : Int)) (kt : z ≤ y → W p l e R s m args below meth c H locs cells slots Z (F0 m tgt ls (rest))) (kf : y < z → W p l e R s m args below meth c H locs cells slots Z (F0 m (pc + 1 + 3) ls (rest))) : W p l e R s m args below meth c H locs cells slots Z (F0 m pc ls (.long (lI z) :: .long (lI y) :: rest)) := W.lcmp hx hb hdg (lv_if_ge hx hb hdg2 ht (fun q => kt (((lg_cmp_ge (lI y) (lI z)).trans (lI_le z1 z2 y1 y2)).mp q)) (fun q => kf (Int.not_le.mp (fun w => q (((lg_cmp_ge (lI y) (lI z)).trans (lI_le z1 z2 y1 y2)).mpr w)))))
theorem jr_lcmp_lt (hx : p.tables.exec = Jvm.exec) (hb : c.code = cc) {y z : Int} {off : Int} (tgt : Nat) (y1 : -4611686018427387904 ≤ y) (y2 : y < 4611686018427387904) (z1 : -4611686018427387904 ≤ z) (z2 : z < 4611686018427387904) (hdg : decode cc pc = .ok (.lcmp, 1)) (hdg2 : decode cc (pc + 1) = .ok (.ifCond .lt off, 3)) (ht : ((pc + 1 : Nat) : Int) + off = (tgt : Int)) (kt : y < z → W p l e R s m args below meth c H locs cells slots Z (F0 m tgt ls (rest))) (kf : z ≤ y → W p l e R s m args below meth c H locs cells slots Z (F0 m (pc + 1 + 3) ls (rest))) : W p l e R s m args below meth c H locs cells slots Z (F0 m pc ls (.long (lI z) :: .long (lI y) :: rest)) := W.lcmp hx hb hdg (lv_if_lt hx hb hdg2 ht (fun q => kt (((lg_cmp_lt (lI y) (lI z)).trans (lI_lt y1 y2 z1 z2)).mp q)) (fun q => kf (Int.not_lt.mp (fun w => q (((lg_cmp_lt (lI y) (lI z)).trans (lI_lt y1 y2 z1 z2)).mpr w)))))
theorem jr_lcmp_eq (hx : p.tables.exec = Jvm.exec) (hb : c.code = cc) {y z : Int} {off : Int} (tgt : Nat) (y1 : -4611686018427387904 ≤ y) (y2 : y < 4611686018427387904) (z1 : -4611686018427387904 ≤ z) (z2 : z < 4611686018427387904) (hdg : decode cc pc = .ok (.lcmp, 1)) (hdg2 : decode cc (pc + 1) = .ok (.ifCond .eq off, 3)) (ht : ((pc + 1 : Nat) : Int) + off = (tgt : Int)) (kt : y = z → W p l e R s m args below meth c H locs cells slots Z (F0 m tgt ls (rest))) (kf : y ≠ z → W p l e R s m args below meth c H locs cells slots Z (F0 m (pc + 1 + 3) ls (rest))) : W p l e R s m args below meth c H locs cells slots Z (F0 m pc ls (.long (lI z) :: .long (lI y) :: rest)) := W.lcmp hx hb hdg (lv_if_eq hx hb hdg2 ht (fun q => kt (((lg_cmp_eq (lI y) (lI z)).trans (lI_eq y1 y2 z1 z2)).mp q)) (fun q => kf (fun w => q (((lg_cmp_eq (lI y) (lI z)).trans (lI_eq y1 y2 z1 z2)).mpr w))))
theorem jr_lcmp_ne (hx : p.tables.exec = Jvm.exec) (hb : c.code = cc) {y z : Int} {off : Int} (tgt : Nat) (y1 : -4611686018427387904 ≤ y) (y2 : y < 4611686018427387904) (z1 : -4611686018427387904 ≤ z) (z2 : z < 4611686018427387904) (hdg : decode cc pc = .ok (.lcmp, 1)) (hdg2 : decode cc (pc + 1) = .ok (.ifCond .ne off, 3)) (ht : ((pc + 1 : Nat) : Int) + off = (tgt : Int)) (kt : y ≠ z → W p l e R s m args below meth c H locs cells slots Z (F0 m tgt ls (rest))) (kf : y = z → W p l e R s m args below meth c H locs cells slots Z (F0 m (pc + 1 + 3) ls (rest))) : W p l e R s m args below meth c H locs cells slots Z (F0 m pc ls (.long (lI z) :: .long (lI y) :: rest)) := W.lcmp hx hb hdg (lv_if_ne hx hb hdg2 ht (fun q => kt (fun w => q (((lg_cmp_eq (lI y) (lI z)).trans (lI_eq y1 y2 z1 z2)).mpr w))) (fun q => kf (((lg_cmp_eq (lI y) (lI z)).trans (lI_eq y1 y2 z1 z2)).mp q)))
theorem jr_ald (hx : p.tables.exec = Jvm.exec) (hb : c.code = cc) {tys : List (ClassId × FieldType)} (hK : va_K G vwCl tys s) (hw : Wd G A s ws H locs) (q0 t0 : Nat) {a0 : Nat} {cA : ClassId} {N : Nat} {f : Nat → Nat} (ha : ws[q0]? = some (a0, .inl (cA, N, .inl (aN f)))) (ht : tys[t0]? = some (cA, .int)) {k : Nat} (hN : N < 2 ^ 31) (hk : k < N) (hdg : decode cc pc = .ok (.iaload, 1)) (kk : W p l e R s m args below meth c H locs cells slots Z (F0 m (pc + 1) ls (.int (nI (f k)) :: rest))) : W p l e R s m args below meth c H locs cells slots Z (F0 m pc ls (.int (nI k) :: .ref a0 :: rest)) := va_iald hx hb hK hw.1 q0 t0 ha ht (vp_in_nI hk hN) hdg (by rw [nI_clamp (Nat.lt_trans hk hN)]; exact kk)
theorem jr_zald (hx : p.tables.exec = Jvm.exec) (hb : c.code = cc) {tys : List (ClassId × FieldType)} (hK : va_K G vwCl tys s) (hw : Wd G A s ws H locs) (q0 t0 : Nat) {a0 : Nat} {cA : ClassId} {N : Nat} {f : Nat → Nat} (ha : ws[q0]? = some (a0, .inl (cA, N, .inl (aN f)))) (ht : tys[t0]? = some (cA, .boolean)) {k : Nat} (hN : N < 2 ^ 31) (hk : k < N) (hdg : decode cc pc = .ok (.baload, 1)) (kk : W p l e R s m args below meth c H locs cells slots Z (F0 m (pc + 1) ls (.int (nI (f k)) :: rest))) : W p l e R s m args below meth c H locs cells slots Z (F0 m pc ls (.int (nI k) :: .ref a0 :: rest)) := va_zald hx hb hK hw.1 q0 t0 ha ht (vp_in_nI hk hN) hdg (by rw [nI_clamp (Nat.lt_trans hk hN)]; exact kk)
theorem jr_ast (hx : p.tables.exec = Jvm.exec) (hb : c.code = cc) {tys : List (ClassId × FieldType)} (hK : va_K G vwCl tys s) (hw : Wd G A s ws H locs) (q0 t0 : Nat) {a0 : Nat} {cA : ClassId} {N : Nat} {f : Nat → Nat} (ha : ws[q0]? = some (a0, .inl (cA, N, .inl (aN f)))) (ht : tys[t0]? = some (cA, .int)) {k y : Nat} (hN : N < 2 ^ 31) (hk : k < N) (hdg : decode cc pc = .ok (.iastore, 1)) (kk : ∀ (H1 : Heap) (locs1 : List Loc), Wd G A s (ws.set q0 (a0, .inl (cA, N, .inl (aN (jr_up f k y))))) H1 locs1 → W p l e R s m args below meth c H1 locs1 cells slots Z (F0 m (pc + 1) ls (rest))) : W p l e R s m args below meth c H locs cells slots Z (F0 m pc ls (.int (nI y) :: .int (nI k) :: .ref a0 :: rest)) := by
  refine va_iast hx hb hK hw.1 hw.2.1 hw.2.2 q0 t0 ha ht (vp_in_nI hk hN) hdg (fun H1 locs1 h1 h2 h3 => ?_)
  rw [nI_clamp (Nat.lt_trans hk hN), aN_up] at h1 h2
  exact kk H1 locs1 ⟨h1, h2, h3⟩
theorem jr_nz {y : Nat} (h : y < 2) : vp_nar .boolean (nI y) = nI y := by
  rcases (show y = 0 ∨ y = 1 by omega) with rfl | rfl <;> decide
theorem jr_zast (hx : p.tables.exec = Jvm.exec) (hb : c.code = cc) {tys : List (ClassId × FieldType)} (hK : va_K G vwCl tys s) (hw : Wd G A s ws H locs) (q0 t0 : Nat) {a0 : Nat} {cA : ClassId} {N : Nat} {f : Nat → Nat} (ha : ws[q0]? = some (a0, .inl (cA, N, .inl (aN f)))) (ht : tys[t0]? = some (cA, .boolean)) {k y : Nat} (hN : N < 2 ^ 31) (hk : k < N) (hy : y < 2) (hdg : decode cc pc = .ok (.bastore, 1)) (kk : ∀ (H1 : Heap) (locs1 : List Loc), Wd G A s (ws.set q0 (a0, .inl (cA, N, .inl (aN (jr_up f k y))))) H1 locs1 → W p l e R s m args below meth c H1 locs1 cells slots Z (F0 m (pc + 1) ls (rest))) : W p l e R s m args below meth c H locs cells slots Z (F0 m pc ls (.int (nI y) :: .int (nI k) :: .ref a0 :: rest)) := by
  refine va_zast hx hb hK hw.1 hw.2.1 hw.2.2 q0 t0 ha ht (vp_in_nI hk hN) hdg (fun H1 locs1 h1 h2 h3 => ?_)
  rw [jr_nz hy, nI_clamp (Nat.lt_trans hk hN), aN_up] at h1 h2
  exact kk H1 locs1 ⟨h1, h2, h3⟩
/-- JobDesk at a 0: first second due weight order (6 each), made (1531), n -/
abbrev dkW (a : Nat → Nat) (cI cZ : ClassId) (P Q D V O M : Nat → Nat) (n : Nat) : va_W := [(a 0, .inr (0, [.ref (a 1), .ref (a 2), .ref (a 3), .ref (a 4), .ref (a 5), .ref (a 6), .int (nI n)])), (a 1, .inl (cI, 6, .inl (aN P))), (a 2, .inl (cI, 6, .inl (aN Q))), (a 3, .inl (cI, 6, .inl (aN D))), (a 4, .inl (cI, 6, .inl (aN V))), (a 5, .inl (cI, 6, .inl (aN O))), (a 6, .inl (cZ, 1531, .inl (aN M)))]
/-- JobDeskModel at a 0: a b due weight (8 each), n, p, left (8 each) -/
abbrev dmW (a : Nat → Nat) (cI : ClassId) (P Q D V O M : Nat → Nat) (n : Nat) : va_W := [(a 0, .inr (1, [.ref (a 1), .ref (a 2), .ref (a 3), .ref (a 4), .int (nI n), .ref (a 5), .ref (a 6)])), (a 1, .inl (cI, 8, .inl (aN P))), (a 2, .inl (cI, 8, .inl (aN Q))), (a 3, .inl (cI, 8, .inl (aN D))), (a 4, .inl (cI, 8, .inl (aN V))), (a 5, .inl (cI, 8, .inl (aN O))), (a 6, .inl (cI, 8, .inl (aN M)))]
abbrev dkT (cI cZ : ClassId) : List (ClassId × FieldType) := [(cI, .int), (cZ, .boolean)]
variable {a : Nat → Nat} {cI cZ : ClassId} {P Q D V O M : Nat → Nat} {n : Nat}
theorem dk_first (S : CallFix p m c cc nL s args lw_all RX0) (hK : va_K G vwCl (dkT cI cZ) s) (hw : Wd G A s (dkW a cI cZ P Q D V O M n) H locs) (hdg : decode cc pc = .ok (.getfield 9, 3)) (kk : W p l e R s m args below meth c H locs cells slots Z (F0 m (pc + 3) ls (.ref (a 1) :: rest))) : W p l e R s m args below meth c H locs cells slots Z (F0 m pc ls (.ref (a 0) :: rest)) := va_get (D := G) (ci := 0) (v := .ref (a 1)) (C := RX0) (T := TX0) (N := 7) S.1 S.2.1 S.2.2.2.2 in_X0 S.2.2.2.1 hK hw.1 0 rfl rfl 0 (by decide) (S.2.2.2.2 _ q17) (fun _ h9 => h9) rfl hdg kk
theorem dk_second (S : CallFix p m c cc nL s args lw_all RX0) (hK : va_K G vwCl (dkT cI cZ) s) (hw : Wd G A s (dkW a cI cZ P Q D V O M n) H locs) (hdg : decode cc pc = .ok (.getfield 13, 3)) (kk : W p l e R s m args below meth c H locs cells slots Z (F0 m (pc + 3) ls (.ref (a 2) :: rest))) : W p l e R s m args below meth c H locs cells slots Z (F0 m pc ls (.ref (a 0) :: rest)) := va_get (D := G) (ci := 0) (v := .ref (a 2)) (C := RX0) (T := TX0) (N := 7) S.1 S.2.1 S.2.2.2.2 in_X0 S.2.2.2.1 hK hw.1 0 rfl rfl 1 (by decide) (S.2.2.2.2 _ q18) (fun _ h9 => h9) rfl hdg kk
theorem dk_due (S : CallFix p m c cc nL s args lw_all RX0) (hK : va_K G vwCl (dkT cI cZ) s) (hw : Wd G A s (dkW a cI cZ P Q D V O M n) H locs) (hdg : decode cc pc = .ok (.getfield 16, 3)) (kk : W p l e R s m args below meth c H locs cells slots Z (F0 m (pc + 3) ls (.ref (a 3) :: rest))) : W p l e R s m args below meth c H locs cells slots Z (F0 m pc ls (.ref (a 0) :: rest)) := va_get (D := G) (ci := 0) (v := .ref (a 3)) (C := RX0) (T := TX0) (N := 7) S.1 S.2.1 S.2.2.2.2 in_X0 S.2.2.2.1 hK hw.1 0 rfl rfl 2 (by decide) (S.2.2.2.2 _ q19) (fun _ h9 => h9) rfl hdg kk
theorem dk_weight (S : CallFix p m c cc nL s args lw_all RX0) (hK : va_K G vwCl (dkT cI cZ) s) (hw : Wd G A s (dkW a cI cZ P Q D V O M n) H locs) (hdg : decode cc pc = .ok (.getfield 19, 3)) (kk : W p l e R s m args below meth c H locs cells slots Z (F0 m (pc + 3) ls (.ref (a 4) :: rest))) : W p l e R s m args below meth c H locs cells slots Z (F0 m pc ls (.ref (a 0) :: rest)) := va_get (D := G) (ci := 0) (v := .ref (a 4)) (C := RX0) (T := TX0) (N := 7) S.1 S.2.1 S.2.2.2.2 in_X0 S.2.2.2.1 hK hw.1 0 rfl rfl 3 (by decide) (S.2.2.2.2 _ q20) (fun _ h9 => h9) rfl hdg kk
theorem dk_order (S : CallFix p m c cc nL s args lw_all RX0) (hK : va_K G vwCl (dkT cI cZ) s) (hw : Wd G A s (dkW a cI cZ P Q D V O M n) H locs) (hdg : decode cc pc = .ok (.getfield 22, 3)) (kk : W p l e R s m args below meth c H locs cells slots Z (F0 m (pc + 3) ls (.ref (a 5) :: rest))) : W p l e R s m args below meth c H locs cells slots Z (F0 m pc ls (.ref (a 0) :: rest)) := va_get (D := G) (ci := 0) (v := .ref (a 5)) (C := RX0) (T := TX0) (N := 7) S.1 S.2.1 S.2.2.2.2 in_X0 S.2.2.2.1 hK hw.1 0 rfl rfl 4 (by decide) (S.2.2.2.2 _ q21) (fun _ h9 => h9) rfl hdg kk
theorem dk_made (S : CallFix p m c cc nL s args lw_all RX0) (hK : va_K G vwCl (dkT cI cZ) s) (hw : Wd G A s (dkW a cI cZ P Q D V O M n) H locs) (hdg : decode cc pc = .ok (.getfield 25, 3)) (kk : W p l e R s m args below meth c H locs cells slots Z (F0 m (pc + 3) ls (.ref (a 6) :: rest))) : W p l e R s m args below meth c H locs cells slots Z (F0 m pc ls (.ref (a 0) :: rest)) := va_get (D := G) (ci := 0) (v := .ref (a 6)) (C := RX0) (T := TX0) (N := 7) S.1 S.2.1 S.2.2.2.2 in_X0 S.2.2.2.1 hK hw.1 0 rfl rfl 5 (by decide) (S.2.2.2.2 _ q22) (fun _ h9 => h9) rfl hdg kk
theorem dk_n (S : CallFix p m c cc nL s args lw_all RX0) (hK : va_K G vwCl (dkT cI cZ) s) (hw : Wd G A s (dkW a cI cZ P Q D V O M n) H locs) (hdg : decode cc pc = .ok (.getfield 29, 3)) (kk : W p l e R s m args below meth c H locs cells slots Z (F0 m (pc + 3) ls (.int (nI n) :: rest))) : W p l e R s m args below meth c H locs cells slots Z (F0 m pc ls (.ref (a 0) :: rest)) := va_get (D := G) (ci := 0) (v := .int (nI n)) (C := RX0) (T := TX0) (N := 7) S.1 S.2.1 S.2.2.2.2 in_X0 S.2.2.2.1 hK hw.1 0 rfl rfl 6 (by decide) (S.2.2.2.2 _ q23) (fun _ h9 => h9) rfl hdg kk
theorem dm_a (S : CallFix p m c cc nL s args lw_all RX1) (hK : va_K G vwCl (dkT cI cZ) s) (hw : Wd G A s (dmW a cI P Q D V O M n) H locs) (hdg : decode cc pc = .ok (.getfield 7, 3)) (kk : W p l e R s m args below meth c H locs cells slots Z (F0 m (pc + 3) ls (.ref (a 1) :: rest))) : W p l e R s m args below meth c H locs cells slots Z (F0 m pc ls (.ref (a 0) :: rest)) := va_get (D := G) (ci := 1) (v := .ref (a 1)) (C := RX1) (T := TX1) (N := 7) S.1 S.2.1 S.2.2.2.2 in_X1 S.2.2.2.1 hK hw.1 0 rfl rfl 0 (by decide) (S.2.2.2.2 _ q91) (fun _ h9 => h9) rfl hdg kk
theorem dm_b (S : CallFix p m c cc nL s args lw_all RX1) (hK : va_K G vwCl (dkT cI cZ) s) (hw : Wd G A s (dmW a cI P Q D V O M n) H locs) (hdg : decode cc pc = .ok (.getfield 13, 3)) (kk : W p l e R s m args below meth c H locs cells slots Z (F0 m (pc + 3) ls (.ref (a 2) :: rest))) : W p l e R s m args below meth c H locs cells slots Z (F0 m pc ls (.ref (a 0) :: rest)) := va_get (D := G) (ci := 1) (v := .ref (a 2)) (C := RX1) (T := TX1) (N := 7) S.1 S.2.1 S.2.2.2.2 in_X1 S.2.2.2.1 hK hw.1 0 rfl rfl 1 (by decide) (S.2.2.2.2 _ q92) (fun _ h9 => h9) rfl hdg kk
theorem dm_due (S : CallFix p m c cc nL s args lw_all RX1) (hK : va_K G vwCl (dkT cI cZ) s) (hw : Wd G A s (dmW a cI P Q D V O M n) H locs) (hdg : decode cc pc = .ok (.getfield 16, 3)) (kk : W p l e R s m args below meth c H locs cells slots Z (F0 m (pc + 3) ls (.ref (a 3) :: rest))) : W p l e R s m args below meth c H locs cells slots Z (F0 m pc ls (.ref (a 0) :: rest)) := va_get (D := G) (ci := 1) (v := .ref (a 3)) (C := RX1) (T := TX1) (N := 7) S.1 S.2.1 S.2.2.2.2 in_X1 S.2.2.2.1 hK hw.1 0 rfl rfl 2 (by decide) (S.2.2.2.2 _ q93) (fun _ h9 => h9) rfl hdg kk
theorem dm_weight (S : CallFix p m c cc nL s args lw_all RX1) (hK : va_K G vwCl (dkT cI cZ) s) (hw : Wd G A s (dmW a cI P Q D V O M n) H locs) (hdg : decode cc pc = .ok (.getfield 19, 3)) (kk : W p l e R s m args below meth c H locs cells slots Z (F0 m (pc + 3) ls (.ref (a 4) :: rest))) : W p l e R s m args below meth c H locs cells slots Z (F0 m pc ls (.ref (a 0) :: rest)) := va_get (D := G) (ci := 1) (v := .ref (a 4)) (C := RX1) (T := TX1) (N := 7) S.1 S.2.1 S.2.2.2.2 in_X1 S.2.2.2.1 hK hw.1 0 rfl rfl 3 (by decide) (S.2.2.2.2 _ q94) (fun _ h9 => h9) rfl hdg kk
theorem dm_n (S : CallFix p m c cc nL s args lw_all RX1) (hK : va_K G vwCl (dkT cI cZ) s) (hw : Wd G A s (dmW a cI P Q D V O M n) H locs) (hdg : decode cc pc = .ok (.getfield 28, 3)) (kk : W p l e R s m args below meth c H locs cells slots Z (F0 m (pc + 3) ls (.int (nI n) :: rest))) : W p l e R s m args below meth c H locs cells slots Z (F0 m pc ls (.ref (a 0) :: rest)) := va_get (D := G) (ci := 1) (v := .int (nI n)) (C := RX1) (T := TX1) (N := 7) S.1 S.2.1 S.2.2.2.2 in_X1 S.2.2.2.1 hK hw.1 0 rfl rfl 4 (by decide) (S.2.2.2.2 _ q95) (fun _ h9 => h9) rfl hdg kk
theorem dm_p (S : CallFix p m c cc nL s args lw_all RX1) (hK : va_K G vwCl (dkT cI cZ) s) (hw : Wd G A s (dmW a cI P Q D V O M n) H locs) (hdg : decode cc pc = .ok (.getfield 22, 3)) (kk : W p l e R s m args below meth c H locs cells slots Z (F0 m (pc + 3) ls (.ref (a 5) :: rest))) : W p l e R s m args below meth c H locs cells slots Z (F0 m pc ls (.ref (a 0) :: rest)) := va_get (D := G) (ci := 1) (v := .ref (a 5)) (C := RX1) (T := TX1) (N := 7) S.1 S.2.1 S.2.2.2.2 in_X1 S.2.2.2.1 hK hw.1 0 rfl rfl 5 (by decide) (S.2.2.2.2 _ q96) (fun _ h9 => h9) rfl hdg kk
theorem dm_left (S : CallFix p m c cc nL s args lw_all RX1) (hK : va_K G vwCl (dkT cI cZ) s) (hw : Wd G A s (dmW a cI P Q D V O M n) H locs) (hdg : decode cc pc = .ok (.getfield 25, 3)) (kk : W p l e R s m args below meth c H locs cells slots Z (F0 m (pc + 3) ls (.ref (a 6) :: rest))) : W p l e R s m args below meth c H locs cells slots Z (F0 m pc ls (.ref (a 0) :: rest)) := va_get (D := G) (ci := 1) (v := .ref (a 6)) (C := RX1) (T := TX1) (N := 7) S.1 S.2.1 S.2.2.2.2 in_X1 S.2.2.2.1 hK hw.1 0 rfl rfl 6 (by decide) (S.2.2.2.2 _ q97) (fun _ h9 => h9) rfl hdg kk
theorem dk_putn (S : CallFix p m c cc nL s args lw_all RX0) (hK : va_K G vwCl (dkT cI cZ) s) (hw : Wd G A s (dkW a cI cZ P Q D V O M n) H locs) {y : Nat} (hdg : decode cc pc = .ok (.putfield 29, 3)) (kk : ∀ (H1 : Heap) (locs1 : List Loc), Wd G A s (dkW a cI cZ P Q D V O M y) H1 locs1 → W p l e R s m args below meth c H1 locs1 cells slots Z (F0 m (pc + 3) ls (rest))) : W p l e R s m args below meth c H locs cells slots Z (F0 m pc ls (.int (nI y) :: .ref (a 0) :: rest)) := va_put (D := G) (ci := 0) (v := .int (nI y)) (ty := .int) (C := RX0) (T := TX0) (N := 7) S.1 S.2.1 S.2.2.2.2 in_X0 tyX0 tyX0_ok nmX0 S.2.2.2.1 hK hw.1 hw.2.1 hw.2.2 0 rfl rfl 6 (by decide) (S.2.2.2.2 _ q23) (fun _ h9 => h9) rfl (by decide +kernel) rfl rfl (Nat.le_of_ble_eq_true rfl) hdg (fun H1 locs1 h1 h2 h3 => kk H1 locs1 ⟨h1, h2, h3⟩)
theorem dm_putn (S : CallFix p m c cc nL s args lw_all RX1) (hK : va_K G vwCl (dkT cI cZ) s) (hw : Wd G A s (dmW a cI P Q D V O M n) H locs) {y : Nat} (hdg : decode cc pc = .ok (.putfield 28, 3)) (kk : ∀ (H1 : Heap) (locs1 : List Loc), Wd G A s (dmW a cI P Q D V O M y) H1 locs1 → W p l e R s m args below meth c H1 locs1 cells slots Z (F0 m (pc + 3) ls (rest))) : W p l e R s m args below meth c H locs cells slots Z (F0 m pc ls (.int (nI y) :: .ref (a 0) :: rest)) := va_put (D := G) (ci := 1) (v := .int (nI y)) (ty := .int) (C := RX1) (T := TX1) (N := 7) S.1 S.2.1 S.2.2.2.2 in_X1 tyX1 tyX1_ok nmX1 S.2.2.2.1 hK hw.1 hw.2.1 hw.2.2 0 rfl rfl 4 (by decide) (S.2.2.2.2 _ q95) (fun _ h9 => h9) rfl (by decide +kernel) rfl rfl (Nat.le_of_ble_eq_true rfl) hdg (fun H1 locs1 h1 h2 h3 => kk H1 locs1 ⟨h1, h2, h3⟩)
end JR
end
section
/-! a contract's start and end over a world; entering, leaving, calling -/
set_option maxRecDepth 100000
def wPc (G : va_G) (tys : List (ClassId × FieldType)) (ws : va_W) (sz : Nat) (av : List Value) : Array Value → State → Prop := va_Pc av (fun U => U.heap.size = sz ∧ va_P G vwCl ws U.heap ∧ va_K G vwCl tys U ∧ va_D (fun _ => True) ws)
def wB (G : va_G) (tys : List (ClassId × FieldType)) (A : Nat → Prop) (ws : va_W) (t : State) : Prop := va_P G vwCl ws t.heap ∧ va_K G vwCl tys t ∧ va_D A ws
theorem wPc_blind (G : va_G) (tys : List (ClassId × FieldType)) (ws : va_W) (sz : Nat) (av : List Value) : FrameBlind (wPc G tys ws sz av) := by
  intro a U g mk q
  obtain ⟨q0, q1, qP, qK, qD⟩ := q
  exact ⟨q0, q1, qP, va_K.moved (u := U) (U := U.calling g mk a) (Vm.Alike.refl U.vm) qK, qD⟩
theorem jw_enter {l : Launch} {y : MethodName} {cc : ByteArray} {nL : Nat} {ret : Option FieldType} {rm : Room} {G : va_G} {tys : List (ClassId × FieldType)} {ws : va_W} {sz : Nat} {av : List Value} {Qc : Array Value → State → Outcome → State → Prop} {mc ms : Nat} (hy : plainName y.cls = true) (hlen : (lg_sl av).length ≤ nL)
    (body : ∀ (p : Program) (e : Env) (s : State) (m : MethodId) (below : List Frame) (meth : Method) (c : Code), CallFix p m c cc nL s av.toArray lw_all y.cls → meth.sig.returnType = ret → meth.locks = false → meth.name = y.name → (∀ q : Nat, s.heap.size ≤ q → va_A ws sz q) → va_K G vwCl tys s → Wd G (va_A ws sz) s ws s.heap [] → ∀ ls : Array Slot, lv_has ls nL (lv_args 0 av) → W p l e rm s m av.toArray below meth c s.heap [] 0 0 (MQ below Qc av.toArray s mc ms (va_A ws sz)) (F0 m 0 ls [])) :
    Met l y (ws_ y cc nL ret) rm (wPc G tys ws sz av) Qc mc ms (va_A ws sz) := by
  refine Met.ofW (cc := cc) (maxL := nL) (ret := ret) hy rfl ?_
  intro p e s m args below meth c s₁ B hml hv
  obtain ⟨rfl, hsz, hP, hK, hD0⟩ := hv
  have hx := B.exec
  have hb := B.bytes
  have hr := B.returns
  have hts := atoms_spec (ws := ws_ y cc nL ret) B.pre
  have hts : ∀ w ∈ lw_all, w.before _ s = true := fun w h => hts w (List.mem_cons_of_mem _ h)
  have hown : s.vm.findClass y.cls = some m.cls := findClass_of_methodNamed B.named
  have hlocks := B.notSynchronized
  have hin : meth.name = y.name := (name_of_methodNamed B.named B.method).1
  subst hsz
  have hl := lv_entry av (n := nL) hlen
  rw [lg_entry_eq]
  exact body p e s m below meth c ⟨hx, hb, hml, hown, hts⟩ hr hlocks hin (fun q h => Or.inr h) hK ⟨hP, hD0.self, va_S.rf⟩ _ hl

section JW
variable {p : Program} {l : Launch} {e : Env} {R : Room} {s : State} {m : MethodId} {args : Array Value} {below : List Frame} {meth : Method} {c : Code} {H : Heap} {locs : List Loc} {cells slots : Nat} {Z : State → Prop}
variable {cc : ByteArray} {pc nL : Nat} {ls : Array Slot} {rest : List Value} {G : va_G} {A : Nat → Prop} {ws : va_W} {own : String} {tys : List (ClassId × FieldType)}
theorem Wd.sub {ws' : va_W} (h : Wd G A s ws H locs) (is : List Nat) (hn : va_nd is = true) (hm : is.map (fun i => ws[i]?) = ws'.map some) (hf : is.filterMap (fun i => ws[i]?) = ws') : Wd G A s ws' H locs := ⟨h.1.sub is hf, h.2.1.sub is hn hm, h.2.2⟩
theorem jw_iret {S : Type} {post : Int32 → S → Prop} {wf : S → va_W} {v : Int32} (u : S) (hx : p.tables.exec = Jvm.exec) (hb : c.code = cc) (hr : meth.sig.returnType = some .int) (hlocks : meth.locks = false) (hK : va_K G vwCl tys s) (hw : Wd G A s (wf u) H locs) (hp : post v u) (hdg : decode cc pc = .ok (.ireturn, 1)) : W p l e R s m args below meth c H locs cells slots (MQ below (va_Qi post (fun u => wB G tys A (wf u)) A) args s cells slots A) (F0 m pc ls [.int v]) :=
  W.iret (v := v) hx hb hr (fun t ht hW => ⟨⟨v, u, rfl, hp, by rw [ht]; exact hw.1, va_K.moved hW.alike hK, hw.2.1⟩, hw.2.2.F ht⟩) hw.2.2.2.2 hdg hlocks
theorem jw_lret {S : Type} {post : Int64 → S → Prop} {wf : S → va_W} {v : Int64} (u : S) (hx : p.tables.exec = Jvm.exec) (hb : c.code = cc) (hr : meth.sig.returnType = some .long) (hlocks : meth.locks = false) (hK : va_K G vwCl tys s) (hw : Wd G A s (wf u) H locs) (hp : post v u) (hdg : decode cc pc = .ok (.lreturn, 1)) : W p l e R s m args below meth c H locs cells slots (MQ below (va_Ql post (fun u => wB G tys A (wf u)) A) args s cells slots A) (F0 m pc ls [.long v]) :=
  W.lret (v := v) hx hb hr (fun t ht hW => ⟨⟨v, u, rfl, hp, by rw [ht]; exact hw.1, va_K.moved hW.alike hK, hw.2.1⟩, hw.2.2.F ht⟩) hw.2.2.2.2 hdg hlocks
theorem jw_zret {S : Type} {post : Int32 → S → Prop} {wf : S → va_W} {v : Int32} (u : S) (hx : p.tables.exec = Jvm.exec) (hb : c.code = cc) (hr : meth.sig.returnType = some .boolean) (hlocks : meth.locks = false) (hK : va_K G vwCl tys s) (hw : Wd G A s (wf u) H locs) (hn : narrow .boolean (.int v) = .int v) (hp : post v u) (hdg : decode cc pc = .ok (.ireturn, 1)) : W p l e R s m args below meth c H locs cells slots (MQ below (va_Qi post (fun u => wB G tys A (wf u)) A) args s cells slots A) (F0 m pc ls [.int v]) :=
  W.zret (v := v) hx hb hr hn (fun t ht hW => ⟨⟨v, u, rfl, hp, by rw [ht]; exact hw.1, va_K.moved hW.alike hK, hw.2.1⟩, hw.2.2.F ht⟩) hw.2.2.2.2 hdg hlocks
theorem jw_vret {S : Type} {post : S → Prop} {wf : S → va_W} (u : S) (hx : p.tables.exec = Jvm.exec) (hb : c.code = cc) (hr : meth.sig.returnType = none) (hlocks : meth.locks = false) (hK : va_K G vwCl tys s) (hw : Wd G A s (wf u) H locs) (hp : post u) (hdg : decode cc pc = .ok (.return_, 1)) : W p l e R s m args below meth c H locs cells slots (MQ below (va_Qv post (fun u => wB G tys A (wf u)) A) args s cells slots A) (F0 m pc ls []) :=
  W.vret hx hb hr (fun t ht hW => ⟨⟨u, rfl, hp, by rw [ht]; exact hw.1, va_K.moved hW.alike hK, hw.2.1⟩, hw.2.2.F ht⟩) hw.2.2.2.2 hdg hlocks
theorem jw_calli {S : Type} {post : Int32 → S → Prop} {wf : S → va_W} {y : MethodName} {bytes : ByteArray} {maxL n index : Nat} {ret : Option FieldType} {rm : Room} {As : List Value} {b ci : Nat} {fs : List Value} {wc wr : va_W} {qc : vw_C} (S0 : CallFix p m c cc nL s args lw_all own) (hK : va_K G vwCl tys s) (hw : Wd G A s ws H locs) (hA : ∀ q : Nat, s.heap.size ≤ q → A q) (hsize : ls.size = nL)
    (hM : Met l y (ws_ y bytes maxL ret) rm (wPc G tys wc H.size (.ref b :: As)) (va_Qi post (fun u => wB G tys (va_A wc H.size) (wf u)) (va_A wc H.size)) 0 0 (va_A wc H.size)) (cw : CallW R s args own qc.1 index y bytes maxL ret (ws_ y bytes maxL ret) rm 0 0 n) (hn : As.length = n)
    (isC isR : List Nat) (hC : isC.map (fun i => ws[i]?) = wc.map some) (hCf : isC.filterMap (fun i => ws[i]?) = wc) (hCn : va_nd isC = true) (hR : isR.map (fun i => ws[i]?) = wr.map some) (hRn : va_nd isR = true) (hdis : ∀ i ∈ isR, i ∉ isC) (hrc : wc[0]? = some (b, .inr (ci, fs))) (hci : vwCl[ci]? = some qc) (hroom : (rest.map fun v => v.category).sum ≤ 8) (hf : cells ≤ R.cells ∧ slots ≤ R.slots) (hdg : decode cc pc = .ok (.invokevirtual index, 3))
    (kk : ∀ (r : Int32) (u : S) (H1 : Heap) (locs1 : List Loc), post r u → Wd G A s (wr ++ wf u) H1 locs1 → W p l e R s m args below meth c H1 locs1 cells slots Z (F0 m (pc + 3) ls (.int r :: rest))) : W p l e R s m args below meth c H locs cells slots Z (F0 m pc ls (As.reverse ++ .ref b :: rest)) := by
  have hPc := hw.1.sub isC hCf
  have hDc := hw.2.1.sub isC hCn hC
  have hFc := va_free hw.2.1 hw.2.2 hA isC hC
  refine va_calli (va_runV (As := As) (rest := rest) S0 hM cw ⟨wPc_blind _ _ _ _ _, va_recv hK hPc hci hrc, fun U hU hW => ⟨rfl, by rw [hU], by rw [hU]; exact hPc, va_K.moved hW.alike hK, hDc.weaken (fun _ _ _ _ => trivial)⟩⟩ rfl hn hsize rfl (lv_room hroom) hdg hf) hw.2.2 (fun q _ h => hFc q h) hFc (fun r u t H1 locs1 ht hvm hq hB hz1 hk1 hS1 => ?_)
  obtain ⟨hP1, hK1, hD1⟩ := hB
  rw [ht] at hP1
  obtain ⟨hP, hD⟩ := va_join hw.1 hw.2.1 isC isR hC hR hRn hdis hk1 hFc hP1 hD1
  exact kk r u H1 locs1 hq ⟨hP, hD, hS1⟩
theorem jw_calll {S : Type} {post : Int64 → S → Prop} {wf : S → va_W} {y : MethodName} {bytes : ByteArray} {maxL n index : Nat} {ret : Option FieldType} {rm : Room} {As : List Value} {b ci : Nat} {fs : List Value} {wc wr : va_W} {qc : vw_C} (S0 : CallFix p m c cc nL s args lw_all own) (hK : va_K G vwCl tys s) (hw : Wd G A s ws H locs) (hA : ∀ q : Nat, s.heap.size ≤ q → A q) (hsize : ls.size = nL)
    (hM : Met l y (ws_ y bytes maxL ret) rm (wPc G tys wc H.size (.ref b :: As)) (va_Ql post (fun u => wB G tys (va_A wc H.size) (wf u)) (va_A wc H.size)) 0 0 (va_A wc H.size)) (cw : CallW R s args own qc.1 index y bytes maxL ret (ws_ y bytes maxL ret) rm 0 0 n) (hn : As.length = n)
    (isC isR : List Nat) (hC : isC.map (fun i => ws[i]?) = wc.map some) (hCf : isC.filterMap (fun i => ws[i]?) = wc) (hCn : va_nd isC = true) (hR : isR.map (fun i => ws[i]?) = wr.map some) (hRn : va_nd isR = true) (hdis : ∀ i ∈ isR, i ∉ isC) (hrc : wc[0]? = some (b, .inr (ci, fs))) (hci : vwCl[ci]? = some qc) (hroom : (rest.map fun v => v.category).sum ≤ 8) (hf : cells ≤ R.cells ∧ slots ≤ R.slots) (hdg : decode cc pc = .ok (.invokevirtual index, 3))
    (kk : ∀ (r : Int64) (u : S) (H1 : Heap) (locs1 : List Loc), post r u → Wd G A s (wr ++ wf u) H1 locs1 → W p l e R s m args below meth c H1 locs1 cells slots Z (F0 m (pc + 3) ls (.long r :: rest))) : W p l e R s m args below meth c H locs cells slots Z (F0 m pc ls (As.reverse ++ .ref b :: rest)) := by
  have hPc := hw.1.sub isC hCf
  have hDc := hw.2.1.sub isC hCn hC
  have hFc := va_free hw.2.1 hw.2.2 hA isC hC
  refine va_calll (va_runV (As := As) (rest := rest) S0 hM cw ⟨wPc_blind _ _ _ _ _, va_recv hK hPc hci hrc, fun U hU hW => ⟨rfl, by rw [hU], by rw [hU]; exact hPc, va_K.moved hW.alike hK, hDc.weaken (fun _ _ _ _ => trivial)⟩⟩ rfl hn hsize rfl (lv_room hroom) hdg hf) hw.2.2 (fun q _ h => hFc q h) hFc (fun r u t H1 locs1 ht hvm hq hB hz1 hk1 hS1 => ?_)
  obtain ⟨hP1, hK1, hD1⟩ := hB
  rw [ht] at hP1
  obtain ⟨hP, hD⟩ := va_join hw.1 hw.2.1 isC isR hC hR hRn hdis hk1 hFc hP1 hD1
  exact kk r u H1 locs1 hq ⟨hP, hD, hS1⟩
theorem jw_callv {S : Type} {post : S → Prop} {wf : S → va_W} {y : MethodName} {bytes : ByteArray} {maxL n index : Nat} {ret : Option FieldType} {rm : Room} {As : List Value} {b ci : Nat} {fs : List Value} {wc wr : va_W} {qc : vw_C} (S0 : CallFix p m c cc nL s args lw_all own) (hK : va_K G vwCl tys s) (hw : Wd G A s ws H locs) (hA : ∀ q : Nat, s.heap.size ≤ q → A q) (hsize : ls.size = nL)
    (hM : Met l y (ws_ y bytes maxL ret) rm (wPc G tys wc H.size (.ref b :: As)) (va_Qv post (fun u => wB G tys (va_A wc H.size) (wf u)) (va_A wc H.size)) 0 0 (va_A wc H.size)) (cw : CallW R s args own qc.1 index y bytes maxL ret (ws_ y bytes maxL ret) rm 0 0 n) (hn : As.length = n)
    (isC isR : List Nat) (hC : isC.map (fun i => ws[i]?) = wc.map some) (hCf : isC.filterMap (fun i => ws[i]?) = wc) (hCn : va_nd isC = true) (hR : isR.map (fun i => ws[i]?) = wr.map some) (hRn : va_nd isR = true) (hdis : ∀ i ∈ isR, i ∉ isC) (hrc : wc[0]? = some (b, .inr (ci, fs))) (hci : vwCl[ci]? = some qc) (hroom : (rest.map fun v => v.category).sum ≤ 8) (hf : cells ≤ R.cells ∧ slots ≤ R.slots) (hdg : decode cc pc = .ok (.invokevirtual index, 3))
    (kk : ∀ (u : S) (H1 : Heap) (locs1 : List Loc), post u → Wd G A s (wr ++ wf u) H1 locs1 → W p l e R s m args below meth c H1 locs1 cells slots Z (F0 m (pc + 3) ls rest)) : W p l e R s m args below meth c H locs cells slots Z (F0 m pc ls (As.reverse ++ .ref b :: rest)) := by
  have hPc := hw.1.sub isC hCf
  have hDc := hw.2.1.sub isC hCn hC
  have hFc := va_free hw.2.1 hw.2.2 hA isC hC
  refine va_callv (va_runV (As := As) (rest := rest) S0 hM cw ⟨wPc_blind _ _ _ _ _, va_recv hK hPc hci hrc, fun U hU hW => ⟨rfl, by rw [hU], by rw [hU]; exact hPc, va_K.moved hW.alike hK, hDc.weaken (fun _ _ _ _ => trivial)⟩⟩ rfl hn hsize rfl (lv_room hroom) hdg hf) hw.2.2 (fun q _ h => hFc q h) hFc (fun u t H1 locs1 ht hvm hq hB hz1 hk1 hS1 => ?_)
  obtain ⟨hP1, hK1, hD1⟩ := hB
  rw [ht] at hP1
  obtain ⟨hP, hD⟩ := va_join hw.1 hw.2.1 isC isR hC hR hRn hdis hk1 hFc hP1 hD1
  exact kk u H1 locs1 hq ⟨hP, hD, hS1⟩
end JW
end
section
/-! JobDesk: the small methods -/
set_option maxRecDepth 100000
def jk_Bd (P Q D V : Nat → Nat) : Prop := (∀ j, P j ≤ 255) ∧ (∀ j, Q j ≤ 255) ∧ (∀ j, D j ≤ 1023) ∧ (∀ j, V j ≤ 255)
set_option maxHeartbeats 4000000 in
set_option maxRecDepth 100000 in
/-- jobs(): n -/
theorem c_X0_jobs (l : Launch) (G : va_G) (a : Nat → Nat) (cI cZ : ClassId) (P Q D V O M : Nat → Nat) (n sz : Nat)  : Met l yX0_jobs (ws_ yX0_jobs cX0_jobs 1 (some .int)) ({ frames := 0, cells := 0, slots := 0, locals := 0 }) (wPc G (dkT cI cZ) (dkW a cI cZ P Q D V O M n) sz [.ref (a 0)]) (va_Qi (fun (r : Int32) (_ : Unit) => r = nI n) (fun u : Unit => wB G (dkT cI cZ) (va_A (dkW a cI cZ P Q D V O M n) sz) (dkW a cI cZ P Q D V O M n)) (va_A (dkW a cI cZ P Q D V O M n) sz)) 0 0 (va_A (dkW a cI cZ P Q D V O M n) sz) := by
  refine jw_enter (by decide) (Nat.le_of_ble_eq_true rfl) ?_
  intro p e s m below meth c S hr hlocks _ hA hK hw ls hl
  have S : CallFix p m c cX0_jobs 1 s _ lw_all RX0 := S
  obtain ⟨hx, hb, hml, hown, hts⟩ := id S
  generalize hAe : va_A (dkW a cI cZ P Q D V O M n) sz = A at hw hA ⊢
  have hl : lv_has ls 1 [(0, .ref (a 0))] := hl
  refine lv_aload_n hx hb dX0_jobs_0 rfl (lv_at hl 0 rfl) ?_
  refine dk_n S hK hw dX0_jobs_1 ?_
  exact jw_iret (wf := fun _ : Unit => dkW a cI cZ P Q D V O M n) () hx hb hr hlocks hK hw rfl dX0_jobs_4
set_option maxHeartbeats 4000000 in
set_option maxRecDepth 100000 in
/-- drop(): one job less -/
theorem c_X0_drop (l : Launch) (G : va_G) (a : Nat → Nat) (cI cZ : ClassId) (P Q D V O M : Nat → Nat) (n sz : Nat) (hn : n ≤ 6) : Met l yX0_drop (ws_ yX0_drop cX0_drop 1 (some .boolean)) ({ frames := 0, cells := 0, slots := 0, locals := 0 }) (wPc G (dkT cI cZ) (dkW a cI cZ P Q D V O M n) sz [.ref (a 0)]) (va_Qi (fun (r : Int32) (u : Nat) => (n = 0 ∧ r = 0 ∧ u = 0) ∨ (0 < n ∧ r = 1 ∧ u = n - 1)) (fun u : Nat => wB G (dkT cI cZ) (va_A (dkW a cI cZ P Q D V O M n) sz) (dkW a cI cZ P Q D V O M u)) (va_A (dkW a cI cZ P Q D V O M n) sz)) 0 0 (va_A (dkW a cI cZ P Q D V O M n) sz) := by
  refine jw_enter (by decide) (Nat.le_of_ble_eq_true rfl) ?_
  intro p e s m below meth c S hr hlocks _ hA hK hw ls hl
  have S : CallFix p m c cX0_drop 1 s _ lw_all RX0 := S
  obtain ⟨hx, hb, hml, hown, hts⟩ := id S
  generalize hAe : va_A (dkW a cI cZ P Q D V O M n) sz = A at hw hA ⊢
  have hl : lv_has ls 1 [(0, .ref (a 0))] := hl
  refine lv_aload_n hx hb dX0_drop_0 rfl (lv_at hl 0 rfl) ?_
  refine dk_n S hK hw dX0_drop_1 ?_
  refine jr_if_ne hx hb 9 (by omega) dX0_drop_4 (by decide) (fun h0 => ?_) (fun h0 => ?_)
  · refine lv_aload_n hx hb dX0_drop_9 rfl (lv_at hl 0 rfl) ?_
    refine lv_dup hx hb dX0_drop_10 rfl ?_
    refine dk_n S hK hw dX0_drop_11 ?_
    refine lv_iconst (v := nI 1) hx hb dX0_drop_14 (by decide) ?_
    refine jr_isub hx hb (by omega) dX0_drop_15 ?_
    refine dk_putn S hK hw dX0_drop_16 (fun H locs hw => ?_)
    have hw : Wd G A s (dkW a cI cZ P Q D V O M (n - 1)) H locs := hw
    refine lv_iconst (v := nI 1) hx hb dX0_drop_19 (by decide) ?_
    exact jw_zret (wf := fun u : Nat => dkW a cI cZ P Q D V O M u) (n - 1) hx hb hr hlocks hK hw rfl (Or.inr ⟨by omega, rfl, rfl⟩) dX0_drop_20
  · refine lv_iconst (v := nI 0) hx hb dX0_drop_7 (by decide) ?_
    exact jw_zret (wf := fun u : Nat => dkW a cI cZ P Q D V O M u) n hx hb hr hlocks hK hw rfl (Or.inl ⟨h0, rfl, h0⟩) dX0_drop_8
set_option maxHeartbeats 4000000 in
set_option maxRecDepth 100000 in
/-- job(x, y, d, w): one job more, if there are fewer than 6 -/
theorem c_X0_job (l : Launch) (G : va_G) (a : Nat → Nat) (cI cZ : ClassId) (P Q D V O M : Nat → Nat) (n sz : Nat) (hn : n ≤ 6) (p1 p2 p3 p4 : Int32) : Met l yX0_job (ws_ yX0_job cX0_job 5 (some .boolean)) ({ frames := 0, cells := 0, slots := 0, locals := 0 }) (wPc G (dkT cI cZ) (dkW a cI cZ P Q D V O M n) sz [.ref (a 0), .int p1, .int p2, .int p3, .int p4]) (va_Qi (fun (r : Int32) (u : (Nat → Nat) × (Nat → Nat) × (Nat → Nat) × (Nat → Nat) × Nat) => (n = 6 ∧ r = 0 ∧ u = (P, Q, D, V, n)) ∨ (n ≠ 6 ∧ r = 1 ∧ u = (jr_up P n (p1.toBitVec.toNat % 2 ^ 8), jr_up Q n (p2.toBitVec.toNat % 2 ^ 8), jr_up D n (p3.toBitVec.toNat % 2 ^ 10), jr_up V n (p4.toBitVec.toNat % 2 ^ 8), n + 1))) (fun u : (Nat → Nat) × (Nat → Nat) × (Nat → Nat) × (Nat → Nat) × Nat => wB G (dkT cI cZ) (va_A (dkW a cI cZ P Q D V O M n) sz) (dkW a cI cZ (u.1) (u.2.1) (u.2.2.1) (u.2.2.2.1) O M (u.2.2.2.2))) (va_A (dkW a cI cZ P Q D V O M n) sz)) 0 0 (va_A (dkW a cI cZ P Q D V O M n) sz) := by
  refine jw_enter (by decide) (Nat.le_of_ble_eq_true rfl) ?_
  intro p e s m below meth c S hr hlocks _ hA hK hw ls hl
  have S : CallFix p m c cX0_job 5 s _ lw_all RX0 := S
  obtain ⟨hx, hb, hml, hown, hts⟩ := id S
  generalize hAe : va_A (dkW a cI cZ P Q D V O M n) sz = A at hw hA ⊢
  have hl : lv_has ls 5 [(0, .ref (a 0)), (1, .int (p1)), (2, .int (p2)), (3, .int (p3)), (4, .int (p4))] := hl
  refine lv_aload_n hx hb dX0_job_0 rfl (lv_at hl 0 rfl) ?_
  refine dk_n S hK hw dX0_job_1 ?_
  refine lv_bipush (v := nI 6) hx hb dX0_job_4 (by decide) ?_
  refine jr_icmp_ne hx hb 11 (by omega) (by omega) dX0_job_6 (by decide) (fun h0 => ?_) (fun h0 => ?_)
  · refine lv_aload_n hx hb dX0_job_11 rfl (lv_at hl 0 rfl) ?_
    refine dk_first S hK hw dX0_job_12 ?_
    refine lv_aload_n hx hb dX0_job_15 rfl (lv_at hl 0 rfl) ?_
    refine dk_n S hK hw dX0_job_16 ?_
    refine lv_iload_n hx hb dX0_job_19 rfl (lv_at hl 1 rfl) ?_
    refine lv_sipush (v := nI 255) hx hb dX0_job_20 (by decide) ?_
    refine jr_iandx hx hb 8 (by decide) dX0_job_23 ?_
    refine jr_ast hx hb hK hw 1 0 rfl rfl (by decide) (by omega) dX0_job_24 (fun H locs hw => ?_)
    have hw : Wd G A s (dkW a cI cZ (jr_up P n ((p1).toBitVec.toNat % 2 ^ 8)) Q D V O M n) H locs := hw
    refine lv_aload_n hx hb dX0_job_25 rfl (lv_at hl 0 rfl) ?_
    refine dk_second S hK hw dX0_job_26 ?_
    refine lv_aload_n hx hb dX0_job_29 rfl (lv_at hl 0 rfl) ?_
    refine dk_n S hK hw dX0_job_30 ?_
    refine lv_iload_n hx hb dX0_job_33 rfl (lv_at hl 2 rfl) ?_
    refine lv_sipush (v := nI 255) hx hb dX0_job_34 (by decide) ?_
    refine jr_iandx hx hb 8 (by decide) dX0_job_37 ?_
    refine jr_ast hx hb hK hw 2 0 rfl rfl (by decide) (by omega) dX0_job_38 (fun H locs hw => ?_)
    have hw : Wd G A s (dkW a cI cZ (jr_up P n ((p1).toBitVec.toNat % 2 ^ 8)) (jr_up Q n ((p2).toBitVec.toNat % 2 ^ 8)) D V O M n) H locs := hw
    refine lv_aload_n hx hb dX0_job_39 rfl (lv_at hl 0 rfl) ?_
    refine dk_due S hK hw dX0_job_40 ?_
    refine lv_aload_n hx hb dX0_job_43 rfl (lv_at hl 0 rfl) ?_
    refine dk_n S hK hw dX0_job_44 ?_
    refine lv_iload_n hx hb dX0_job_47 rfl (lv_at hl 3 rfl) ?_
    refine lv_sipush (v := nI 1023) hx hb dX0_job_48 (by decide) ?_
    refine jr_iandx hx hb 10 (by decide) dX0_job_51 ?_
    refine jr_ast hx hb hK hw 3 0 rfl rfl (by decide) (by omega) dX0_job_52 (fun H locs hw => ?_)
    have hw : Wd G A s (dkW a cI cZ (jr_up P n ((p1).toBitVec.toNat % 2 ^ 8)) (jr_up Q n ((p2).toBitVec.toNat % 2 ^ 8)) (jr_up D n ((p3).toBitVec.toNat % 2 ^ 10)) V O M n) H locs := hw
    refine lv_aload_n hx hb dX0_job_53 rfl (lv_at hl 0 rfl) ?_
    refine dk_weight S hK hw dX0_job_54 ?_
    refine lv_aload_n hx hb dX0_job_57 rfl (lv_at hl 0 rfl) ?_
    refine lv_dup hx hb dX0_job_58 rfl ?_
    refine dk_n S hK hw dX0_job_59 ?_
    refine lv_dup_x1 hx hb dX0_job_62 rfl rfl ?_
    refine lv_iconst (v := nI 1) hx hb dX0_job_63 (by decide) ?_
    refine jr_iadd hx hb dX0_job_64 ?_
    refine dk_putn S hK hw dX0_job_65 (fun H locs hw => ?_)
    have hw : Wd G A s (dkW a cI cZ (jr_up P n ((p1).toBitVec.toNat % 2 ^ 8)) (jr_up Q n ((p2).toBitVec.toNat % 2 ^ 8)) (jr_up D n ((p3).toBitVec.toNat % 2 ^ 10)) V O M (n + 1)) H locs := hw
    refine lv_iload hx hb dX0_job_68 (lv_at hl 4 rfl) ?_
    refine lv_sipush (v := nI 255) hx hb dX0_job_70 (by decide) ?_
    refine jr_iandx hx hb 8 (by decide) dX0_job_73 ?_
    refine jr_ast hx hb hK hw 4 0 rfl rfl (by decide) (by omega) dX0_job_74 (fun H locs hw => ?_)
    have hw : Wd G A s (dkW a cI cZ (jr_up P n ((p1).toBitVec.toNat % 2 ^ 8)) (jr_up Q n ((p2).toBitVec.toNat % 2 ^ 8)) (jr_up D n ((p3).toBitVec.toNat % 2 ^ 10)) (jr_up V n ((p4).toBitVec.toNat % 2 ^ 8)) O M (n + 1)) H locs := hw
    refine lv_iconst (v := nI 1) hx hb dX0_job_75 (by decide) ?_
    exact jw_zret (wf := fun u : (Nat → Nat) × (Nat → Nat) × (Nat → Nat) × (Nat → Nat) × Nat => dkW a cI cZ (u.1) (u.2.1) (u.2.2.1) (u.2.2.2.1) O M (u.2.2.2.2)) (jr_up P n (p1.toBitVec.toNat % 2 ^ 8), jr_up Q n (p2.toBitVec.toNat % 2 ^ 8), jr_up D n (p3.toBitVec.toNat % 2 ^ 10), jr_up V n (p4.toBitVec.toNat % 2 ^ 8), n + 1) hx hb hr hlocks hK hw rfl (Or.inr ⟨h0, rfl, rfl⟩) dX0_job_76
  · refine lv_iconst (v := nI 0) hx hb dX0_job_9 (by decide) ?_
    exact jw_zret (wf := fun u : (Nat → Nat) × (Nat → Nat) × (Nat → Nat) × (Nat → Nat) × Nat => dkW a cI cZ (u.1) (u.2.1) (u.2.2.1) (u.2.2.2.1) O M (u.2.2.2.2)) (P, Q, D, V, n) hx hb hr hlocks hK hw rfl (Or.inl ⟨h0, rfl, rfl⟩) dX0_job_10
set_option maxHeartbeats 4000000 in
set_option maxRecDepth 100000 in
/-- jobs(): n -/
theorem c_X1_jobs (l : Launch) (G : va_G) (a : Nat → Nat) (cI cZ : ClassId) (P Q D V O M : Nat → Nat) (n sz : Nat)  : Met l yX1_jobs (ws_ yX1_jobs cX1_jobs 1 (some .int)) ({ frames := 0, cells := 0, slots := 0, locals := 0 }) (wPc G (dkT cI cZ) (dmW a cI P Q D V O M n) sz [.ref (a 0)]) (va_Qi (fun (r : Int32) (_ : Unit) => r = nI n) (fun u : Unit => wB G (dkT cI cZ) (va_A (dmW a cI P Q D V O M n) sz) (dmW a cI P Q D V O M n)) (va_A (dmW a cI P Q D V O M n) sz)) 0 0 (va_A (dmW a cI P Q D V O M n) sz) := by
  refine jw_enter (by decide) (Nat.le_of_ble_eq_true rfl) ?_
  intro p e s m below meth c S hr hlocks _ hA hK hw ls hl
  have S : CallFix p m c cX1_jobs 1 s _ lw_all RX1 := S
  obtain ⟨hx, hb, hml, hown, hts⟩ := id S
  generalize hAe : va_A (dmW a cI P Q D V O M n) sz = A at hw hA ⊢
  have hl : lv_has ls 1 [(0, .ref (a 0))] := hl
  refine lv_aload_n hx hb dX1_jobs_0 rfl (lv_at hl 0 rfl) ?_
  refine dm_n S hK hw dX1_jobs_1 ?_
  exact jw_iret (wf := fun _ : Unit => dmW a cI P Q D V O M n) () hx hb hr hlocks hK hw rfl dX1_jobs_4
set_option maxHeartbeats 4000000 in
set_option maxRecDepth 100000 in
/-- drop(): one job less -/
theorem c_X1_drop (l : Launch) (G : va_G) (a : Nat → Nat) (cI cZ : ClassId) (P Q D V O M : Nat → Nat) (n sz : Nat) (hn : n ≤ 6) : Met l yX1_drop (ws_ yX1_drop cX1_drop 1 (some .boolean)) ({ frames := 0, cells := 0, slots := 0, locals := 0 }) (wPc G (dkT cI cZ) (dmW a cI P Q D V O M n) sz [.ref (a 0)]) (va_Qi (fun (r : Int32) (u : Nat) => (n = 0 ∧ r = 0 ∧ u = 0) ∨ (0 < n ∧ r = 1 ∧ u = n - 1)) (fun u : Nat => wB G (dkT cI cZ) (va_A (dmW a cI P Q D V O M n) sz) (dmW a cI P Q D V O M u)) (va_A (dmW a cI P Q D V O M n) sz)) 0 0 (va_A (dmW a cI P Q D V O M n) sz) := by
  refine jw_enter (by decide) (Nat.le_of_ble_eq_true rfl) ?_
  intro p e s m below meth c S hr hlocks _ hA hK hw ls hl
  have S : CallFix p m c cX1_drop 1 s _ lw_all RX1 := S
  obtain ⟨hx, hb, hml, hown, hts⟩ := id S
  generalize hAe : va_A (dmW a cI P Q D V O M n) sz = A at hw hA ⊢
  have hl : lv_has ls 1 [(0, .ref (a 0))] := hl
  refine lv_aload_n hx hb dX1_drop_0 rfl (lv_at hl 0 rfl) ?_
  refine dm_n S hK hw dX1_drop_1 ?_
  refine jr_if_ne hx hb 9 (by omega) dX1_drop_4 (by decide) (fun h0 => ?_) (fun h0 => ?_)
  · refine lv_aload_n hx hb dX1_drop_9 rfl (lv_at hl 0 rfl) ?_
    refine lv_aload_n hx hb dX1_drop_10 rfl (lv_at hl 0 rfl) ?_
    refine dm_n S hK hw dX1_drop_11 ?_
    refine lv_iconst (v := nI 1) hx hb dX1_drop_14 (by decide) ?_
    refine jr_isub hx hb (by omega) dX1_drop_15 ?_
    refine dm_putn S hK hw dX1_drop_16 (fun H locs hw => ?_)
    have hw : Wd G A s (dmW a cI P Q D V O M (n - 1)) H locs := hw
    refine lv_iconst (v := nI 1) hx hb dX1_drop_19 (by decide) ?_
    exact jw_zret (wf := fun u : Nat => dmW a cI P Q D V O M u) (n - 1) hx hb hr hlocks hK hw rfl (Or.inr ⟨by omega, rfl, rfl⟩) dX1_drop_20
  · refine lv_iconst (v := nI 0) hx hb dX1_drop_7 (by decide) ?_
    exact jw_zret (wf := fun u : Nat => dmW a cI P Q D V O M u) n hx hb hr hlocks hK hw rfl (Or.inl ⟨h0, rfl, h0⟩) dX1_drop_8
set_option maxHeartbeats 4000000 in
set_option maxRecDepth 100000 in
/-- job(x, y, d, w): one job more, if there are fewer than 6 -/
theorem c_X1_job (l : Launch) (G : va_G) (a : Nat → Nat) (cI cZ : ClassId) (P Q D V O M : Nat → Nat) (n sz : Nat) (hn : n ≤ 6) (p1 p2 p3 p4 : Int32) : Met l yX1_job (ws_ yX1_job cX1_job 5 (some .boolean)) ({ frames := 0, cells := 0, slots := 0, locals := 0 }) (wPc G (dkT cI cZ) (dmW a cI P Q D V O M n) sz [.ref (a 0), .int p1, .int p2, .int p3, .int p4]) (va_Qi (fun (r : Int32) (u : (Nat → Nat) × (Nat → Nat) × (Nat → Nat) × (Nat → Nat) × Nat) => (n = 6 ∧ r = 0 ∧ u = (P, Q, D, V, n)) ∨ (n ≠ 6 ∧ r = 1 ∧ u = (jr_up P n (p1.toBitVec.toNat % 2 ^ 8), jr_up Q n (p2.toBitVec.toNat % 2 ^ 8), jr_up D n (p3.toBitVec.toNat % 2 ^ 10), jr_up V n (p4.toBitVec.toNat % 2 ^ 8), n + 1))) (fun u : (Nat → Nat) × (Nat → Nat) × (Nat → Nat) × (Nat → Nat) × Nat => wB G (dkT cI cZ) (va_A (dmW a cI P Q D V O M n) sz) (dmW a cI (u.1) (u.2.1) (u.2.2.1) (u.2.2.2.1) O M (u.2.2.2.2))) (va_A (dmW a cI P Q D V O M n) sz)) 0 0 (va_A (dmW a cI P Q D V O M n) sz) := by
  refine jw_enter (by decide) (Nat.le_of_ble_eq_true rfl) ?_
  intro p e s m below meth c S hr hlocks _ hA hK hw ls hl
  have S : CallFix p m c cX1_job 5 s _ lw_all RX1 := S
  obtain ⟨hx, hb, hml, hown, hts⟩ := id S
  generalize hAe : va_A (dmW a cI P Q D V O M n) sz = A at hw hA ⊢
  have hl : lv_has ls 5 [(0, .ref (a 0)), (1, .int (p1)), (2, .int (p2)), (3, .int (p3)), (4, .int (p4))] := hl
  refine lv_aload_n hx hb dX1_job_0 rfl (lv_at hl 0 rfl) ?_
  refine dm_n S hK hw dX1_job_1 ?_
  refine lv_bipush (v := nI 6) hx hb dX1_job_4 (by decide) ?_
  refine jr_icmp_ne hx hb 11 (by omega) (by omega) dX1_job_6 (by decide) (fun h0 => ?_) (fun h0 => ?_)
  · refine lv_aload_n hx hb dX1_job_11 rfl (lv_at hl 0 rfl) ?_
    refine dm_a S hK hw dX1_job_12 ?_
    refine lv_aload_n hx hb dX1_job_15 rfl (lv_at hl 0 rfl) ?_
    refine dm_n S hK hw dX1_job_16 ?_
    refine lv_iload_n hx hb dX1_job_19 rfl (lv_at hl 1 rfl) ?_
    refine lv_sipush (v := nI 255) hx hb dX1_job_20 (by decide) ?_
    refine jr_iandx hx hb 8 (by decide) dX1_job_23 ?_
    refine jr_ast hx hb hK hw 1 0 rfl rfl (by decide) (by omega) dX1_job_24 (fun H locs hw => ?_)
    have hw : Wd G A s (dmW a cI (jr_up P n ((p1).toBitVec.toNat % 2 ^ 8)) Q D V O M n) H locs := hw
    refine lv_aload_n hx hb dX1_job_25 rfl (lv_at hl 0 rfl) ?_
    refine dm_b S hK hw dX1_job_26 ?_
    refine lv_aload_n hx hb dX1_job_29 rfl (lv_at hl 0 rfl) ?_
    refine dm_n S hK hw dX1_job_30 ?_
    refine lv_iload_n hx hb dX1_job_33 rfl (lv_at hl 2 rfl) ?_
    refine lv_sipush (v := nI 255) hx hb dX1_job_34 (by decide) ?_
    refine jr_iandx hx hb 8 (by decide) dX1_job_37 ?_
    refine jr_ast hx hb hK hw 2 0 rfl rfl (by decide) (by omega) dX1_job_38 (fun H locs hw => ?_)
    have hw : Wd G A s (dmW a cI (jr_up P n ((p1).toBitVec.toNat % 2 ^ 8)) (jr_up Q n ((p2).toBitVec.toNat % 2 ^ 8)) D V O M n) H locs := hw
    refine lv_aload_n hx hb dX1_job_39 rfl (lv_at hl 0 rfl) ?_
    refine dm_due S hK hw dX1_job_40 ?_
    refine lv_aload_n hx hb dX1_job_43 rfl (lv_at hl 0 rfl) ?_
    refine dm_n S hK hw dX1_job_44 ?_
    refine lv_iload_n hx hb dX1_job_47 rfl (lv_at hl 3 rfl) ?_
    refine lv_sipush (v := nI 1023) hx hb dX1_job_48 (by decide) ?_
    refine jr_iandx hx hb 10 (by decide) dX1_job_51 ?_
    refine jr_ast hx hb hK hw 3 0 rfl rfl (by decide) (by omega) dX1_job_52 (fun H locs hw => ?_)
    have hw : Wd G A s (dmW a cI (jr_up P n ((p1).toBitVec.toNat % 2 ^ 8)) (jr_up Q n ((p2).toBitVec.toNat % 2 ^ 8)) (jr_up D n ((p3).toBitVec.toNat % 2 ^ 10)) V O M n) H locs := hw
    refine lv_aload_n hx hb dX1_job_53 rfl (lv_at hl 0 rfl) ?_
    refine dm_weight S hK hw dX1_job_54 ?_
    refine lv_aload_n hx hb dX1_job_57 rfl (lv_at hl 0 rfl) ?_
    refine dm_n S hK hw dX1_job_58 ?_
    refine lv_iload hx hb dX1_job_61 (lv_at hl 4 rfl) ?_
    refine lv_sipush (v := nI 255) hx hb dX1_job_63 (by decide) ?_
    refine jr_iandx hx hb 8 (by decide) dX1_job_66 ?_
    refine jr_ast hx hb hK hw 4 0 rfl rfl (by decide) (by omega) dX1_job_67 (fun H locs hw => ?_)
    have hw : Wd G A s (dmW a cI (jr_up P n ((p1).toBitVec.toNat % 2 ^ 8)) (jr_up Q n ((p2).toBitVec.toNat % 2 ^ 8)) (jr_up D n ((p3).toBitVec.toNat % 2 ^ 10)) (jr_up V n ((p4).toBitVec.toNat % 2 ^ 8)) O M n) H locs := hw
    refine lv_aload_n hx hb dX1_job_68 rfl (lv_at hl 0 rfl) ?_
    refine lv_aload_n hx hb dX1_job_69 rfl (lv_at hl 0 rfl) ?_
    refine dm_n S hK hw dX1_job_70 ?_
    refine lv_iconst (v := nI 1) hx hb dX1_job_73 (by decide) ?_
    refine jr_iadd hx hb dX1_job_74 ?_
    refine dm_putn S hK hw dX1_job_75 (fun H locs hw => ?_)
    have hw : Wd G A s (dmW a cI (jr_up P n ((p1).toBitVec.toNat % 2 ^ 8)) (jr_up Q n ((p2).toBitVec.toNat % 2 ^ 8)) (jr_up D n ((p3).toBitVec.toNat % 2 ^ 10)) (jr_up V n ((p4).toBitVec.toNat % 2 ^ 8)) O M (n + 1)) H locs := hw
    refine lv_iconst (v := nI 1) hx hb dX1_job_78 (by decide) ?_
    exact jw_zret (wf := fun u : (Nat → Nat) × (Nat → Nat) × (Nat → Nat) × (Nat → Nat) × Nat => dmW a cI (u.1) (u.2.1) (u.2.2.1) (u.2.2.2.1) O M (u.2.2.2.2)) (jr_up P n (p1.toBitVec.toNat % 2 ^ 8), jr_up Q n (p2.toBitVec.toNat % 2 ^ 8), jr_up D n (p3.toBitVec.toNat % 2 ^ 10), jr_up V n (p4.toBitVec.toNat % 2 ^ 8), n + 1) hx hb hr hlocks hK hw rfl (Or.inr ⟨h0, rfl, rfl⟩) dX1_job_79
  · refine lv_iconst (v := nI 0) hx hb dX1_job_9 (by decide) ?_
    exact jw_zret (wf := fun u : (Nat → Nat) × (Nat → Nat) × (Nat → Nat) × (Nat → Nat) × Nat => dmW a cI (u.1) (u.2.1) (u.2.2.1) (u.2.2.2.1) O M (u.2.2.2.2)) (P, Q, D, V, n) hx hb hr hlocks hK hw rfl (Or.inl ⟨h0, rfl, rfl⟩) dX1_job_10
end
section
/-! JobDesk.before -/
set_option maxRecDepth 100000
set_option maxHeartbeats 4000000 in
set_option maxRecDepth 100000 in
/-- before(how, i, j): shall i stand ahead of j -/
theorem c_X0_before (l : Launch) (G : va_G) (a : Nat → Nat) (cI cZ : ClassId) (P Q D V O M : Nat → Nat) (n sz : Nat) (hB : jk_Bd P Q D V) (how i j : Nat) (hh : how ≤ 2) (hi : i < 6) (hj : j < 6) : Met l yX0_before (ws_ yX0_before cX0_before 6 (some .boolean)) ({ frames := 0, cells := 0, slots := 0, locals := 0 }) (wPc G (dkT cI cZ) (dkW a cI cZ P Q D V O M n) sz [.ref (a 0), .int (nI how), .int (nI i), .int (nI j)]) (va_Qi (fun (r : Int32) (_ : Unit) => (r = 1 ∧ jk_bef P Q D V how i j) ∨ (r = 0 ∧ ¬ jk_bef P Q D V how i j)) (fun u : Unit => wB G (dkT cI cZ) (va_A (dkW a cI cZ P Q D V O M n) sz) (dkW a cI cZ P Q D V O M n)) (va_A (dkW a cI cZ P Q D V O M n) sz)) 0 0 (va_A (dkW a cI cZ P Q D V O M n) sz) := by
  refine jw_enter (by decide) (Nat.le_of_ble_eq_true rfl) ?_
  intro p e s m below meth c S hr hlocks _ hA hK hw ls hl
  have S : CallFix p m c cX0_before 6 s _ lw_all RX0 := S
  obtain ⟨hx, hb, hml, hown, hts⟩ := id S
  generalize hAe : va_A (dkW a cI cZ P Q D V O M n) sz = A at hw hA ⊢
  have hl : lv_has ls 6 [(0, .ref (a 0)), (1, .int (nI (how))), (2, .int (nI (i))), (3, .int (nI (j)))] := hl
  obtain ⟨bP, bQ, bD, bV⟩ := hB
  have pi := bP i
  have pj := bP j
  have qi := bQ i
  have qj := bQ j
  have di := bD i
  have dj := bD j
  have vi := bV i
  have vj := bV j
  have m1 : P i * V j ≤ 255 * 255 := Nat.mul_le_mul pi vj
  have m2 : P j * V i ≤ 255 * 255 := Nat.mul_le_mul pj vi
  refine lv_iload_n hx hb dX0_before_0 rfl (lv_at hl 1 rfl) ?_
  rcases (show how = 0 ∨ how = 1 ∨ how = 2 by omega) with rfl | rfl | rfl
  · refine lv_lookup (tgt := 28) hx hb dX0_before_1 (by decide) (off := 27) (by decide) (by decide) ?_
    refine lv_aload_n hx hb dX0_before_28 rfl (lv_at hl 0 rfl) ?_
    refine dk_first S hK hw dX0_before_29 ?_
    refine lv_iload_n hx hb dX0_before_32 rfl (lv_at hl 2 rfl) ?_
    refine jr_ald hx hb hK hw 1 0 rfl rfl (by decide) (by omega) dX0_before_33 ?_
    refine lv_aload_n hx hb dX0_before_34 rfl (lv_at hl 0 rfl) ?_
    refine dk_weight S hK hw dX0_before_35 ?_
    refine lv_iload_n hx hb dX0_before_38 rfl (lv_at hl 3 rfl) ?_
    refine jr_ald hx hb hK hw 4 0 rfl rfl (by decide) (by omega) dX0_before_39 ?_
    refine jr_imul hx hb dX0_before_40 ?_
    refine lv_aload_n hx hb dX0_before_41 rfl (lv_at hl 0 rfl) ?_
    refine dk_first S hK hw dX0_before_42 ?_
    refine lv_iload_n hx hb dX0_before_45 rfl (lv_at hl 3 rfl) ?_
    refine jr_ald hx hb hK hw 1 0 rfl rfl (by decide) (by omega) dX0_before_46 ?_
    refine lv_aload_n hx hb dX0_before_47 rfl (lv_at hl 0 rfl) ?_
    refine dk_weight S hK hw dX0_before_48 ?_
    refine lv_iload_n hx hb dX0_before_51 rfl (lv_at hl 2 rfl) ?_
    refine jr_ald hx hb hK hw 4 0 rfl rfl (by decide) (by omega) dX0_before_52 ?_
    refine jr_imul hx hb dX0_before_53 ?_
    refine jr_icmp_ge hx hb 61 (by omega) (by omega) dX0_before_54 (by decide) (fun hc => ?_) (fun hc => ?_)
    · refine lv_iconst (v := nI 0) hx hb dX0_before_61 (by decide) ?_
      exact jw_zret (v := 0) (wf := fun _ : Unit => dkW a cI cZ P Q D V O M n) () hx hb hr hlocks hK hw rfl (Or.inr ⟨rfl, by unfold jk_bef; omega⟩) dX0_before_62
    · refine lv_iconst (v := nI 1) hx hb dX0_before_57 (by decide) ?_
      refine lv_goto (tgt := 62) hx hb dX0_before_58 (by decide) ?_
      exact jw_zret (v := 1) (wf := fun _ : Unit => dkW a cI cZ P Q D V O M n) () hx hb hr hlocks hK hw rfl (Or.inl ⟨rfl, by unfold jk_bef; omega⟩) dX0_before_62
  · refine lv_lookup (tgt := 63) hx hb dX0_before_1 (by decide) (off := 62) (by decide) (by decide) ?_
    refine lv_aload_n hx hb dX0_before_63 rfl (lv_at hl 0 rfl) ?_
    refine dk_due S hK hw dX0_before_64 ?_
    refine lv_iload_n hx hb dX0_before_67 rfl (lv_at hl 2 rfl) ?_
    refine jr_ald hx hb hK hw 3 0 rfl rfl (by decide) (by omega) dX0_before_68 ?_
    refine lv_aload_n hx hb dX0_before_69 rfl (lv_at hl 0 rfl) ?_
    refine dk_due S hK hw dX0_before_70 ?_
    refine lv_iload_n hx hb dX0_before_73 rfl (lv_at hl 3 rfl) ?_
    refine jr_ald hx hb hK hw 3 0 rfl rfl (by decide) (by omega) dX0_before_74 ?_
    refine jr_icmp_ge hx hb 82 (by omega) (by omega) dX0_before_75 (by decide) (fun hc => ?_) (fun hc => ?_)
    · refine lv_iconst (v := nI 0) hx hb dX0_before_82 (by decide) ?_
      exact jw_zret (v := 0) (wf := fun _ : Unit => dkW a cI cZ P Q D V O M n) () hx hb hr hlocks hK hw rfl (Or.inr ⟨rfl, by unfold jk_bef; omega⟩) dX0_before_83
    · refine lv_iconst (v := nI 1) hx hb dX0_before_78 (by decide) ?_
      refine lv_goto (tgt := 83) hx hb dX0_before_79 (by decide) ?_
      exact jw_zret (v := 1) (wf := fun _ : Unit => dkW a cI cZ P Q D V O M n) () hx hb hr hlocks hK hw rfl (Or.inl ⟨rfl, by unfold jk_bef; omega⟩) dX0_before_83
  · refine lv_lookup (tgt := 84) hx hb dX0_before_1 (by decide) (off := 83) (by decide) (by decide) ?_
    refine lv_aload_n hx hb dX0_before_84 rfl (lv_at hl 0 rfl) ?_
    refine dk_first S hK hw dX0_before_85 ?_
    refine lv_iload_n hx hb dX0_before_88 rfl (lv_at hl 2 rfl) ?_
    refine jr_ald hx hb hK hw 1 0 rfl rfl (by decide) (by omega) dX0_before_89 ?_
    refine lv_aload_n hx hb dX0_before_90 rfl (lv_at hl 0 rfl) ?_
    refine dk_second S hK hw dX0_before_91 ?_
    refine lv_iload_n hx hb dX0_before_94 rfl (lv_at hl 2 rfl) ?_
    refine jr_ald hx hb hK hw 2 0 rfl rfl (by decide) (by omega) dX0_before_95 ?_
    refine jr_icmp_ge hx hb 103 (by omega) (by omega) dX0_before_96 (by decide) (fun h1 => ?_) (fun h1 => ?_)
    · refine lv_iconst (v := nI 0) hx hb dX0_before_103 (by decide) ?_
      refine lv_istore (lv' := [(4, .int (nI (0))), (0, .ref (a 0)), (1, .int (nI (2))), (2, .int (nI (i))), (3, .int (nI (j)))]) hx hb dX0_before_104 hl (by decide) rfl (fun ls hl => ?_)
      refine lv_aload_n hx hb dX0_before_106 rfl (lv_at hl 1 rfl) ?_
      refine dk_first S hK hw dX0_before_107 ?_
      refine lv_iload_n hx hb dX0_before_110 rfl (lv_at hl 4 rfl) ?_
      refine jr_ald hx hb hK hw 1 0 rfl rfl (by decide) (by omega) dX0_before_111 ?_
      refine lv_aload_n hx hb dX0_before_112 rfl (lv_at hl 1 rfl) ?_
      refine dk_second S hK hw dX0_before_113 ?_
      refine lv_iload_n hx hb dX0_before_116 rfl (lv_at hl 4 rfl) ?_
      refine jr_ald hx hb hK hw 2 0 rfl rfl (by decide) (by omega) dX0_before_117 ?_
      refine jr_icmp_ge hx hb 125 (by omega) (by omega) dX0_before_118 (by decide) (fun h2 => ?_) (fun h2 => ?_)
      · refine lv_iconst (v := nI 0) hx hb dX0_before_125 (by decide) ?_
        refine lv_istore (lv' := [(5, .int (nI (0))), (4, .int (nI (0))), (0, .ref (a 0)), (1, .int (nI (2))), (2, .int (nI (i))), (3, .int (nI (j)))]) hx hb dX0_before_126 hl (by decide) rfl (fun ls hl => ?_)
        refine lv_iload hx hb dX0_before_128 (lv_at hl 1 rfl) ?_
        refine lv_iload hx hb dX0_before_130 (lv_at hl 0 rfl) ?_
        refine jr_icmp_eq hx hb 138 (by decide) (by decide) dX0_before_132 (by decide) (fun _ => ?_) (fun q => absurd rfl q)
        refine lv_iload hx hb dX0_before_138 (lv_at hl 1 rfl) ?_
        refine jr_if_eq hx hb 166 (by decide) dX0_before_140 (by decide) (fun _ => ?_) (fun q => absurd rfl q)
        refine lv_aload_n hx hb dX0_before_166 rfl (lv_at hl 2 rfl) ?_
        refine dk_second S hK hw dX0_before_167 ?_
        refine lv_iload_n hx hb dX0_before_170 rfl (lv_at hl 4 rfl) ?_
        refine jr_ald hx hb hK hw 2 0 rfl rfl (by decide) (by omega) dX0_before_171 ?_
        refine lv_aload_n hx hb dX0_before_172 rfl (lv_at hl 2 rfl) ?_
        refine dk_second S hK hw dX0_before_173 ?_
        refine lv_iload_n hx hb dX0_before_176 rfl (lv_at hl 5 rfl) ?_
        refine jr_ald hx hb hK hw 2 0 rfl rfl (by decide) (by omega) dX0_before_177 ?_
        refine jr_icmp_le hx hb 185 (by omega) (by omega) dX0_before_178 (by decide) (fun hc => ?_) (fun hc => ?_)
        · refine lv_iconst (v := nI 0) hx hb dX0_before_185 (by decide) ?_
          exact jw_zret (v := 0) (wf := fun _ : Unit => dkW a cI cZ P Q D V O M n) () hx hb hr hlocks hK hw rfl (Or.inr ⟨rfl, by unfold jk_bef; omega⟩) dX0_before_186
        · refine lv_iconst (v := nI 1) hx hb dX0_before_181 (by decide) ?_
          refine lv_goto (tgt := 186) hx hb dX0_before_182 (by decide) ?_
          exact jw_zret (v := 1) (wf := fun _ : Unit => dkW a cI cZ P Q D V O M n) () hx hb hr hlocks hK hw rfl (Or.inl ⟨rfl, by unfold jk_bef; omega⟩) dX0_before_186
      · refine lv_iconst (v := nI 1) hx hb dX0_before_121 (by decide) ?_
        refine lv_goto (tgt := 126) hx hb dX0_before_122 (by decide) ?_
        refine lv_istore (lv' := [(5, .int (nI (1))), (4, .int (nI (0))), (0, .ref (a 0)), (1, .int (nI (2))), (2, .int (nI (i))), (3, .int (nI (j)))]) hx hb dX0_before_126 hl (by decide) rfl (fun ls hl => ?_)
        refine lv_iload hx hb dX0_before_128 (lv_at hl 1 rfl) ?_
        refine lv_iload hx hb dX0_before_130 (lv_at hl 0 rfl) ?_
        refine jr_icmp_eq hx hb 138 (by decide) (by decide) dX0_before_132 (by decide) (fun q => absurd q (by decide)) (fun _ => ?_)
        refine lv_iload hx hb dX0_before_135 (lv_at hl 1 rfl) ?_
        exact jw_zret (v := 0) (wf := fun _ : Unit => dkW a cI cZ P Q D V O M n) () hx hb hr hlocks hK hw rfl (Or.inr ⟨rfl, by unfold jk_bef; omega⟩) dX0_before_137
    · refine lv_iconst (v := nI 1) hx hb dX0_before_99 (by decide) ?_
      refine lv_goto (tgt := 104) hx hb dX0_before_100 (by decide) ?_
      refine lv_istore (lv' := [(4, .int (nI (1))), (0, .ref (a 0)), (1, .int (nI (2))), (2, .int (nI (i))), (3, .int (nI (j)))]) hx hb dX0_before_104 hl (by decide) rfl (fun ls hl => ?_)
      refine lv_aload_n hx hb dX0_before_106 rfl (lv_at hl 1 rfl) ?_
      refine dk_first S hK hw dX0_before_107 ?_
      refine lv_iload_n hx hb dX0_before_110 rfl (lv_at hl 4 rfl) ?_
      refine jr_ald hx hb hK hw 1 0 rfl rfl (by decide) (by omega) dX0_before_111 ?_
      refine lv_aload_n hx hb dX0_before_112 rfl (lv_at hl 1 rfl) ?_
      refine dk_second S hK hw dX0_before_113 ?_
      refine lv_iload_n hx hb dX0_before_116 rfl (lv_at hl 4 rfl) ?_
      refine jr_ald hx hb hK hw 2 0 rfl rfl (by decide) (by omega) dX0_before_117 ?_
      refine jr_icmp_ge hx hb 125 (by omega) (by omega) dX0_before_118 (by decide) (fun h2 => ?_) (fun h2 => ?_)
      · refine lv_iconst (v := nI 0) hx hb dX0_before_125 (by decide) ?_
        refine lv_istore (lv' := [(5, .int (nI (0))), (4, .int (nI (1))), (0, .ref (a 0)), (1, .int (nI (2))), (2, .int (nI (i))), (3, .int (nI (j)))]) hx hb dX0_before_126 hl (by decide) rfl (fun ls hl => ?_)
        refine lv_iload hx hb dX0_before_128 (lv_at hl 1 rfl) ?_
        refine lv_iload hx hb dX0_before_130 (lv_at hl 0 rfl) ?_
        refine jr_icmp_eq hx hb 138 (by decide) (by decide) dX0_before_132 (by decide) (fun q => absurd q (by decide)) (fun _ => ?_)
        refine lv_iload hx hb dX0_before_135 (lv_at hl 1 rfl) ?_
        exact jw_zret (v := 1) (wf := fun _ : Unit => dkW a cI cZ P Q D V O M n) () hx hb hr hlocks hK hw rfl (Or.inl ⟨rfl, by unfold jk_bef; omega⟩) dX0_before_137
      · refine lv_iconst (v := nI 1) hx hb dX0_before_121 (by decide) ?_
        refine lv_goto (tgt := 126) hx hb dX0_before_122 (by decide) ?_
        refine lv_istore (lv' := [(5, .int (nI (1))), (4, .int (nI (1))), (0, .ref (a 0)), (1, .int (nI (2))), (2, .int (nI (i))), (3, .int (nI (j)))]) hx hb dX0_before_126 hl (by decide) rfl (fun ls hl => ?_)
        refine lv_iload hx hb dX0_before_128 (lv_at hl 1 rfl) ?_
        refine lv_iload hx hb dX0_before_130 (lv_at hl 0 rfl) ?_
        refine jr_icmp_eq hx hb 138 (by decide) (by decide) dX0_before_132 (by decide) (fun _ => ?_) (fun q => absurd rfl q)
        refine lv_iload hx hb dX0_before_138 (lv_at hl 1 rfl) ?_
        refine jr_if_eq hx hb 166 (by decide) dX0_before_140 (by decide) (fun q => absurd q (by decide)) (fun _ => ?_)
        refine lv_aload_n hx hb dX0_before_143 rfl (lv_at hl 2 rfl) ?_
        refine dk_first S hK hw dX0_before_144 ?_
        refine lv_iload_n hx hb dX0_before_147 rfl (lv_at hl 4 rfl) ?_
        refine jr_ald hx hb hK hw 1 0 rfl rfl (by decide) (by omega) dX0_before_148 ?_
        refine lv_aload_n hx hb dX0_before_149 rfl (lv_at hl 2 rfl) ?_
        refine dk_first S hK hw dX0_before_150 ?_
        refine lv_iload_n hx hb dX0_before_153 rfl (lv_at hl 5 rfl) ?_
        refine jr_ald hx hb hK hw 1 0 rfl rfl (by decide) (by omega) dX0_before_154 ?_
        refine jr_icmp_ge hx hb 162 (by omega) (by omega) dX0_before_155 (by decide) (fun hc => ?_) (fun hc => ?_)
        · refine lv_iconst (v := nI 0) hx hb dX0_before_162 (by decide) ?_
          refine lv_goto (tgt := 186) hx hb dX0_before_163 (by decide) ?_
          exact jw_zret (v := 0) (wf := fun _ : Unit => dkW a cI cZ P Q D V O M n) () hx hb hr hlocks hK hw rfl (Or.inr ⟨rfl, by unfold jk_bef; omega⟩) dX0_before_186
        · refine lv_iconst (v := nI 1) hx hb dX0_before_158 (by decide) ?_
          refine lv_goto (tgt := 186) hx hb dX0_before_159 (by decide) ?_
          exact jw_zret (v := 1) (wf := fun _ : Unit => dkW a cI cZ P Q D V O M n) () hx hb hr hlocks hK hw rfl (Or.inl ⟨rfl, by unfold jk_bef; omega⟩) dX0_before_186
end
section
/-! JobDesk.sort -/
set_option maxRecDepth 100000
theorem jk_Sorted_lt {P Q D V : Nat → Nat} {how n many : Nat} {O : Nat → Nat} (h : jk_Sorted P Q D V how n O many) {i : Nat} (hi : i < many) : O i < n := by
  have h1 : O i ∈ (List.range n).filter (jk_keep P V how) := h.1.subset (jk_fl_mem.mpr ⟨i, hi, rfl⟩)
  exact List.mem_range.mp (List.mem_filter.mp h1).1
set_option maxHeartbeats 4000000 in
set_option maxRecDepth 100000 in
/-- the place of job jb among the many that are sorted -/
theorem sort_in {p : Program} {l : Launch} {e : Env} {R : Room} {s : State} {m : MethodId} {args : Array Value} {below : List Frame} {meth : Method} {c : Code} {Z : State → Prop} {G : va_G} {A : Nat → Prop} {a : Nat → Nat} {cI cZ : ClassId} {P Q D V : Nat → Nat} {n : Nat} {cells slots : Nat} (S : CallFix p m c cX0_sort 5 s args lw_all RX0) (hK : va_K G vwCl (dkT cI cZ) s) (hA : ∀ q : Nat, s.heap.size ≤ q → A q) (hB : jk_Bd P Q D V) (hR1 : 1 ≤ R.frames) (hR2 : 25 ≤ R.locals) (hcs : cells ≤ R.cells ∧ slots ≤ R.slots) (hn : n ≤ 6) (M : Nat → Nat) (how : Nat) (hh : how ≤ 2) (jb many : Nat) (he : jb < n) (hm : many ≤ jb) (O : Nat → Nat) (hO : ∀ i, i < many → O i < 6)
    (K : ∀ (k : Nat) (O' : Nat → Nat) (H : Heap) (locs : List Loc) (ls : Array Slot), k ≤ many → (∀ i, i < k → O' i = O i) → (∀ i, k ≤ i → i < many → O' (i + 1) = O i ∧ jk_bef P Q D V how jb (O i)) → (k = 0 ∨ ¬ jk_bef P Q D V how jb (O (k - 1))) → Wd G A s (dkW a cI cZ P Q D V O' M n) H locs → lv_has ls 5 [(0, .ref (a 0)), (1, .int (nI (how))), (2, .int (nI (many + 1))), (3, .int (nI (jb))), (4, .int (nI (k)))] → W p l e R s m args below meth c H locs cells slots Z (F0 m 88 ls [])) :
    ∀ (k : Nat) (O' : Nat → Nat) (H : Heap) (locs : List Loc) (ls : Array Slot), k ≤ many → (∀ i, i < k → O' i = O i) → (∀ i, k ≤ i → i < many → O' (i + 1) = O i ∧ jk_bef P Q D V how jb (O i)) → Wd G A s (dkW a cI cZ P Q D V O' M n) H locs → lv_has ls 5 [(0, .ref (a 0)), (1, .int (nI (how))), (2, .int (nI (many + 1))), (3, .int (nI (jb))), (4, .int (nI (k)))] → W p l e R s m args below meth c H locs cells slots Z (F0 m 43 ls []) := by
  obtain ⟨hx, hb, hml, hown, hts⟩ := id S
  intro k
  induction k with
  | zero =>
    intro O' H locs ls hk h1 h2 hw hl
    refine lv_iload hx hb dX0_sort_43 (lv_at hl 4 rfl) ?_
    refine jr_if_le hx hb 88 (by omega) dX0_sort_45 (by decide) (fun hc => ?_) (fun hc => ?_)
    · exact K 0 O' H locs ls hk h1 h2 (Or.inl rfl) hw hl
    · exact absurd hc (by decide)
  | succ k ih =>
    intro O' H locs ls hk h1 h2 hw hl
    have hok : O' k = O k := h1 k (by omega)
    have ho6 : O' k < 6 := by rw [hok]; exact hO k (by omega)
    refine lv_iload hx hb dX0_sort_43 (lv_at hl 4 rfl) ?_
    refine jr_if_le hx hb 88 (by omega) dX0_sort_45 (by decide) (fun hc => ?_) (fun hc => ?_)
    · exact absurd hc (by omega)
    · refine lv_aload_n hx hb dX0_sort_48 rfl (lv_at hl 0 rfl) ?_
      refine lv_iload_n hx hb dX0_sort_49 rfl (lv_at hl 1 rfl) ?_
      refine lv_iload_n hx hb dX0_sort_50 rfl (lv_at hl 3 rfl) ?_
      refine lv_aload_n hx hb dX0_sort_51 rfl (lv_at hl 0 rfl) ?_
      refine dk_order S hK hw dX0_sort_52 ?_
      refine lv_iload hx hb dX0_sort_55 (lv_at hl 4 rfl) ?_
      refine lv_iconst (v := nI 1) hx hb dX0_sort_57 (by decide) ?_
      refine jr_isub1 hx hb dX0_sort_58 ?_
      refine jr_ald hx hb hK hw 5 0 rfl rfl (by decide) (by omega) dX0_sort_59 ?_
      refine jw_calli (As := [.int (nI how), .int (nI jb), .int (nI (O' k))]) (rest := []) (wr := []) S hK hw hA hl.1 (c_X0_before l G a cI cZ P Q D V O' M n H.size hB how jb (O' k) hh (by omega) ho6) (cwV 3 hts (lw_V q61 q63 qs1 q6 q64) rfl rfl rfl (by decide +kernel) ⟨hR1, hR2⟩) rfl [0, 1, 2, 3, 4, 5, 6] [] rfl rfl (by decide) rfl (by decide) (by decide) rfl rfl (by decide) hcs dX0_sort_60 (fun r u H locs hq hw => ?_)
      have hw : Wd G A s (dkW a cI cZ P Q D V (O') M n) H locs := hw
      rw [hok] at hq
      rcases hq with ⟨rfl, hq⟩ | ⟨rfl, hq⟩
      · refine lv_if_eq (tgt := 88) hx hb dX0_sort_63 (by decide) (fun q => absurd q (by decide)) (fun _ => ?_)
        refine lv_aload_n hx hb dX0_sort_66 rfl (lv_at hl 0 rfl) ?_
        refine dk_order S hK hw dX0_sort_67 ?_
        refine lv_iload hx hb dX0_sort_70 (lv_at hl 4 rfl) ?_
        refine lv_aload_n hx hb dX0_sort_72 rfl (lv_at hl 0 rfl) ?_
        refine dk_order S hK hw dX0_sort_73 ?_
        refine lv_iload hx hb dX0_sort_76 (lv_at hl 4 rfl) ?_
        refine lv_iconst (v := nI 1) hx hb dX0_sort_78 (by decide) ?_
        refine jr_isub1 hx hb dX0_sort_79 ?_
        refine jr_ald hx hb hK hw 5 0 rfl rfl (by decide) (by omega) dX0_sort_80 ?_
        refine jr_ast hx hb hK hw 5 0 rfl rfl (by decide) (by omega) dX0_sort_81 (fun H locs hw => ?_)
        have hw : Wd G A s (dkW a cI cZ P Q D V (jr_up (O') (k + 1) ((O') k)) M n) H locs := hw
        refine lv_iinc (v := (nI (k))) (lv' := [(4, .int (nI (k))), (0, .ref (a 0)), (1, .int (nI (how))), (2, .int (nI (many + 1))), (3, .int (nI (jb)))]) hx hb dX0_sort_82 hl (k := 4) rfl (pk_m1 k) (by decide) rfl (fun ls hl => ?_)
        refine lv_goto (tgt := 43) hx hb dX0_sort_85 (by decide) ?_
        refine ih (jr_up O' (k + 1) (O' k)) H locs ls (by omega) ?_ ?_ hw (lv_sub hl [1, 2, 3, 4, 0] rfl)
        · intro i hi
          rw [jr_up_ne _ _ (by omega)]
          exact h1 i (by omega)
        · intro i hi hi2
          by_cases hik : i = k
          · subst hik
            rw [jr_up_eq]
            exact ⟨hok, hq⟩
          · rw [jr_up_ne _ _ (by omega)]
            exact h2 i (by omega) hi2
      · refine lv_if_eq (tgt := 88) hx hb dX0_sort_63 (by decide) (fun _ => ?_) (fun q => absurd rfl q)
        exact K (k + 1) O' H locs ls hk h1 h2 (Or.inr hq) hw hl
set_option maxHeartbeats 4000000 in
set_option maxRecDepth 100000 in
/-- the jobs that count, in order -/
theorem sort_out {p : Program} {l : Launch} {e : Env} {R : Room} {s : State} {m : MethodId} {args : Array Value} {below : List Frame} {meth : Method} {c : Code} {Z : State → Prop} {G : va_G} {A : Nat → Prop} {a : Nat → Nat} {cI cZ : ClassId} {P Q D V : Nat → Nat} {n : Nat} {cells slots : Nat} (S : CallFix p m c cX0_sort 5 s args lw_all RX0) (hK : va_K G vwCl (dkT cI cZ) s) (hA : ∀ q : Nat, s.heap.size ≤ q → A q) (hB : jk_Bd P Q D V) (hR1 : 1 ≤ R.frames) (hR2 : 25 ≤ R.locals) (hcs : cells ≤ R.cells ∧ slots ≤ R.slots) (hn : n ≤ 6) (M : Nat → Nat) (how : Nat) (hh : how ≤ 2)
    (K : ∀ (many : Nat) (O : Nat → Nat) (H : Heap) (locs : List Loc) (ls : Array Slot), many ≤ n → jk_Sorted P Q D V how n O many → Wd G A s (dkW a cI cZ P Q D V O M n) H locs → lv_has ls 5 [(2, .int (nI (many)))] → W p l e R s m args below meth c H locs cells slots Z (F0 m 102 ls [])) :
    ∀ (f jb many : Nat) (O : Nat → Nat) (H : Heap) (locs : List Loc) (ls : Array Slot), jb + f = n → many ≤ jb → jk_Sorted P Q D V how jb O many → Wd G A s (dkW a cI cZ P Q D V O M n) H locs → lv_has ls 5 [(0, .ref (a 0)), (1, .int (nI (how))), (2, .int (nI (many))), (3, .int (nI (jb)))] → W p l e R s m args below meth c H locs cells slots Z (F0 m 4 ls []) := by
  obtain ⟨hx, hb, hml, hown, hts⟩ := id S
  have bP := hB.1
  have bV := hB.2.2.2
  intro f
  induction f with
  | zero =>
    intro jb many O H locs ls hf hm hs hw hl
    refine lv_iload_n hx hb dX0_sort_4 rfl (lv_at hl 3 rfl) ?_
    refine lv_aload_n hx hb dX0_sort_5 rfl (lv_at hl 0 rfl) ?_
    refine dk_n S hK hw dX0_sort_6 ?_
    refine jr_icmp_ge hx hb 102 (by omega) (by omega) dX0_sort_9 (by decide) (fun hc => ?_) (fun hc => ?_)
    · have e1 : jb = n := by omega
      subst e1
      exact K many O H locs ls hm hs hw (lv_sub hl [2] rfl)
    · exact absurd hc (by omega)
  | succ f ih =>
    intro jb many O H locs ls hf hm hs hw hl
    have X37 : jk_keep P V how jb = true → W p l e R s m args below meth c H locs cells slots Z (F0 m 37 ls []) := by
      intro hk
      refine lv_iload_n hx hb dX0_sort_37 rfl (lv_at hl 2 rfl) ?_
      refine lv_iinc (v := (nI (many + 1))) (lv' := [(2, .int (nI (many + 1))), (0, .ref (a 0)), (1, .int (nI (how))), (3, .int (nI (jb)))]) hx hb dX0_sort_38 hl (k := 2) rfl (nI_1 _) (by decide) rfl (fun ls hl => ?_)
      refine lv_istore (lv' := [(4, .int (nI (many))), (2, .int (nI (many + 1))), (0, .ref (a 0)), (1, .int (nI (how))), (3, .int (nI (jb)))]) hx hb dX0_sort_41 hl (by decide) rfl (fun ls hl => ?_)
      refine sort_in S hK hA hB hR1 hR2 hcs hn M how hh jb many (by omega) hm O (fun i hi => Nat.lt_of_lt_of_le (jk_Sorted_lt hs hi) (by omega)) (fun k O' H locs ls hk1 hk2 hk3 hk4 hw hl => ?_) many O H locs ls (Nat.le_refl _) (fun _ _ => rfl) (fun i h1 h2 => absurd h2 (by omega)) hw (lv_sub hl [2, 3, 1, 4, 0] rfl)
      refine lv_aload_n hx hb dX0_sort_88 rfl (lv_at hl 0 rfl) ?_
      refine dk_order S hK hw dX0_sort_89 ?_
      refine lv_iload hx hb dX0_sort_92 (lv_at hl 4 rfl) ?_
      refine lv_iload_n hx hb dX0_sort_94 rfl (lv_at hl 3 rfl) ?_
      refine jr_ast hx hb hK hw 5 0 rfl rfl (by decide) (by omega) dX0_sort_95 (fun H locs hw => ?_)
      have hw : Wd G A s (dkW a cI cZ P Q D V (jr_up (O') k jb) M n) H locs := hw
      refine lv_iinc (v := (nI (jb + 1))) (lv' := [(3, .int (nI (jb + 1))), (0, .ref (a 0)), (1, .int (nI (how))), (2, .int (nI (many + 1))), (4, .int (nI (k)))]) hx hb dX0_sort_96 hl (k := 3) rfl (nI_1 _) (by decide) rfl (fun ls hl => ?_)
      refine lv_goto (tgt := 4) hx hb dX0_sort_99 (by decide) ?_
      refine ih (jb + 1) (many + 1) (jr_up O' k jb) H locs ls (by omega) (by omega) ?_ hw (lv_sub hl [1, 2, 3, 0] rfl)
      refine jk_Sorted_put hs hk1 hk ?_ (jr_up_eq _ _ _) ?_ (fun i h1 h2 => (hk3 i h1 h2).2) hk4
      · intro i hi
        rw [jr_up_ne _ _ (by omega)]
        exact hk2 i hi
      · intro i h1 h2
        rw [jr_up_ne _ _ (by omega)]
        exact (hk3 i h1 h2).1
    have pj := bP jb
    have vj := bV jb
    refine lv_iload_n hx hb dX0_sort_4 rfl (lv_at hl 3 rfl) ?_
    refine lv_aload_n hx hb dX0_sort_5 rfl (lv_at hl 0 rfl) ?_
    refine dk_n S hK hw dX0_sort_6 ?_
    refine jr_icmp_ge hx hb 102 (by omega) (by omega) dX0_sort_9 (by decide) (fun hc => ?_) (fun hc => ?_)
    · exact absurd hc (by omega)
    · refine lv_iload_n hx hb dX0_sort_12 rfl (lv_at hl 1 rfl) ?_
      refine jr_if_ne hx hb 37 (by omega) dX0_sort_13 (by decide) (fun h0 => ?_) (fun h0 => ?_)
      · exact X37 (jk_keep_n0 h0 jb)
      · subst h0
        refine lv_aload_n hx hb dX0_sort_16 rfl (lv_at hl 0 rfl) ?_
        refine dk_first S hK hw dX0_sort_17 ?_
        refine lv_iload_n hx hb dX0_sort_20 rfl (lv_at hl 3 rfl) ?_
        refine jr_ald hx hb hK hw 1 0 rfl rfl (by decide) (by omega) dX0_sort_21 ?_
        refine jr_if_ne hx hb 37 (by omega) dX0_sort_22 (by decide) (fun h1 => ?_) (fun h1 => ?_)
        · exact X37 (jk_keep_0.mpr (by omega))
        · refine lv_aload_n hx hb dX0_sort_25 rfl (lv_at hl 0 rfl) ?_
          refine dk_weight S hK hw dX0_sort_26 ?_
          refine lv_iload_n hx hb dX0_sort_29 rfl (lv_at hl 3 rfl) ?_
          refine jr_ald hx hb hK hw 4 0 rfl rfl (by decide) (by omega) dX0_sort_30 ?_
          refine jr_if_ne hx hb 37 (by omega) dX0_sort_31 (by decide) (fun h2 => ?_) (fun h2 => ?_)
          · exact X37 (jk_keep_0.mpr (by omega))
          · refine lv_goto (tgt := 96) hx hb dX0_sort_34 (by decide) ?_
            refine lv_iinc (v := (nI (jb + 1))) (lv' := [(3, .int (nI (jb + 1))), (0, .ref (a 0)), (1, .int (nI (0))), (2, .int (nI (many)))]) hx hb dX0_sort_96 hl (k := 3) rfl (nI_1 _) (by decide) rfl (fun ls hl => ?_)
            refine lv_goto (tgt := 4) hx hb dX0_sort_99 (by decide) ?_
            refine ih (jb + 1) many O H locs ls (by omega) (by omega) (jk_Sorted_skip hs ?_) hw (lv_sub hl [1, 2, 3, 0] rfl)
            simp [jk_keep, h1, h2]
set_option maxHeartbeats 4000000 in
set_option maxRecDepth 100000 in
/-- sort(how): the jobs that count, in order: how many -/
theorem c_X0_sort (l : Launch) (G : va_G) (a : Nat → Nat) (cI cZ : ClassId) (P Q D V O M : Nat → Nat) (n sz : Nat) (hB : jk_Bd P Q D V) (hn : n ≤ 6) (how : Nat) (hh : how ≤ 2) : Met l yX0_sort (ws_ yX0_sort cX0_sort 5 (some .int)) ({ frames := 1, cells := 0, slots := 0, locals := 25 }) (wPc G (dkT cI cZ) (dkW a cI cZ P Q D V O M n) sz [.ref (a 0), .int (nI how)]) (va_Qi (fun (r : Int32) (u : Nat → Nat) => ∃ many : Nat, many ≤ n ∧ r = nI many ∧ jk_Sorted P Q D V how n u many) (fun u : Nat → Nat => wB G (dkT cI cZ) (va_A (dkW a cI cZ P Q D V O M n) sz) (dkW a cI cZ P Q D V u M n)) (va_A (dkW a cI cZ P Q D V O M n) sz)) 0 0 (va_A (dkW a cI cZ P Q D V O M n) sz) := by
  refine jw_enter (by decide) (Nat.le_of_ble_eq_true rfl) ?_
  intro p e s m below meth c S hr hlocks _ hA hK hw ls hl
  have S : CallFix p m c cX0_sort 5 s _ lw_all RX0 := S
  obtain ⟨hx, hb, hml, hown, hts⟩ := id S
  generalize hAe : va_A (dkW a cI cZ P Q D V O M n) sz = A at hw hA ⊢
  have hl : lv_has ls 5 [(0, .ref (a 0)), (1, .int (nI (how)))] := hl
  refine lv_iconst (v := nI 0) hx hb dX0_sort_0 (by decide) ?_
  refine lv_istore_n (lv' := [(2, .int (nI (0))), (0, .ref (a 0)), (1, .int (nI (how)))]) hx hb dX0_sort_1 rfl hl (by decide) rfl (fun ls hl => ?_)
  refine lv_iconst (v := nI 0) hx hb dX0_sort_2 (by decide) ?_
  refine lv_istore_n (lv' := [(3, .int (nI (0))), (2, .int (nI (0))), (0, .ref (a 0)), (1, .int (nI (how)))]) hx hb dX0_sort_3 rfl hl (by decide) rfl (fun ls hl => ?_)
  refine sort_out S hK hA hB (Nat.le_refl _) (Nat.le_refl _) ⟨Nat.le_refl _, Nat.le_refl _⟩ hn M how hh (fun many O H locs ls hm hs hw hl => ?_) n 0 0 O s.heap [] ls (by omega) (Nat.le_refl _) (jk_Sorted_0 P Q D V how O) hw (lv_sub hl [2, 3, 1, 0] rfl)
  refine lv_iload_n hx hb dX0_sort_102 rfl (lv_at hl 0 rfl) ?_
  exact jw_iret (wf := fun u : Nat → Nat => dkW a cI cZ P Q D V u M n) O hx hb hr hlocks hK hw ⟨many, hm, rfl, hs⟩ dX0_sort_103
end
section
/-! JobDesk.weighted, latest, both -/
set_option maxRecDepth 100000
section JM
variable {p : Program} {l : Launch} {e : Env} {R : Room} {s : State} {m : MethodId} {args : Array Value} {below : List Frame} {meth : Method} {c : Code} {H : Heap} {locs : List Loc} {cells slots : Nat} {Z : State → Prop}
variable {cc : ByteArray} {pc nL : Nat} {ls : Array Slot} {rest : List Value}
theorem jr_mmax (S : CallFix p m c cc nL s args lw_all RX0) (hsz : ls.size = nL) (hR1 : 1 ≤ R.frames) (hR2 : 25 ≤ R.locals) (hcs : cells ≤ R.cells ∧ slots ≤ R.slots) (hr : (rest.map fun v => v.category).sum ≤ 8) {x y : Int32} (hdg : decode cc pc = .ok (.invokestatic 44, 3)) (kk : W p l e R s m args below meth c H locs cells slots Z (F0 m (pc + 3) ls (.int (if x < y then y else x) :: rest))) : W p l e R s m args below meth c H locs cells slots Z (F0 m pc ls (.int y :: .int x :: rest)) :=
  va_mmax S.1 S.2.1 (by rw [S.2.2.1, hsz]) S.2.2.2.1 (S.2.2.2.2 _ q70) (S.2.2.2.2 _ q71) (S.2.2.2.2 _ q8) (S.2.2.2.2 _ q72) hR1 (by omega) hcs.1 hcs.2 hdg kk
theorem jr_mmaxn (S : CallFix p m c cc nL s args lw_all RX0) (hsz : ls.size = nL) (hR1 : 1 ≤ R.frames) (hR2 : 25 ≤ R.locals) (hcs : cells ≤ R.cells ∧ slots ≤ R.slots) (hr : (rest.map fun v => v.category).sum ≤ 8) {i j : Nat} (hi : i < 2 ^ 31) (hj : j < 2 ^ 31) (hdg : decode cc pc = .ok (.invokestatic 44, 3)) (kk : W p l e R s m args below meth c H locs cells slots Z (F0 m (pc + 3) ls (.int (nI (if j < i then i else j)) :: rest))) : W p l e R s m args below meth c H locs cells slots Z (F0 m pc ls (.int (nI j) :: .int (nI i) :: rest)) := by
  refine jr_mmax S hsz hR1 hR2 hcs hr hdg ?_
  rw [show (if nI i < nI j then nI j else nI i) = nI (if j < i then i else j) by
    by_cases h : i < j
    · rw [if_pos ((nI_ltI hi hj).mpr h), if_neg (by omega)]
    · rw [if_neg (fun q => h ((nI_ltI hi hj).mp q))]
      by_cases h2 : j < i
      · rw [if_pos h2]
      · rw [if_neg h2, show i = j by omega]]
  exact kk
theorem jr_mmaxz (S : CallFix p m c cc nL s args lw_all RX0) (hsz : ls.size = nL) (hR1 : 1 ≤ R.frames) (hR2 : 25 ≤ R.locals) (hcs : cells ≤ R.cells ∧ slots ≤ R.slots) (hr : (rest.map fun v => v.category).sum ≤ 8) {y z : Int} (y1 : -2147483648 ≤ y) (y2 : y < 2147483648) (z1 : -2147483648 ≤ z) (z2 : z < 2147483648) (hdg : decode cc pc = .ok (.invokestatic 44, 3)) (kk : W p l e R s m args below meth c H locs cells slots Z (F0 m (pc + 3) ls (.int (iI (if y < z then z else y)) :: rest))) : W p l e R s m args below meth c H locs cells slots Z (F0 m pc ls (.int (iI z) :: .int (iI y) :: rest)) := by
  refine jr_mmax S hsz hR1 hR2 hcs hr hdg ?_
  rw [show (if iI y < iI z then iI z else iI y) = iI (if y < z then z else y) by
    by_cases h : y < z
    · rw [if_pos ((iI_lt y1 y2 z1 z2).mpr h), if_pos h]
    · rw [if_neg (fun q => h ((iI_lt y1 y2 z1 z2).mp q)), if_neg h]]
  exact kk
end JM
set_option maxHeartbeats 4000000 in
set_option maxRecDepth 100000 in
/-- the loop of weighted -/
theorem wt_loop {p : Program} {l : Launch} {e : Env} {R : Room} {s : State} {m : MethodId} {args : Array Value} {below : List Frame} {meth : Method} {c : Code} {Z : State → Prop} {G : va_G} {A : Nat → Prop} {a : Nat → Nat} {cI cZ : ClassId} {P Q D V : Nat → Nat} {n : Nat} {cells slots : Nat} (S : CallFix p m c cX0_weighted 6 s args lw_all RX0) (hK : va_K G vwCl (dkT cI cZ) s) (hB : jk_Bd P Q D V) (hR1 : 1 ≤ R.frames) (hR2 : 25 ≤ R.locals) (hcs : cells ≤ R.cells ∧ slots ≤ R.slots) (O M : Nat → Nat) (many : Nat) (hm : many ≤ 6) (hO : ∀ i, i < many → O i < 6)  (H : Heap) (locs : List Loc) (hw : Wd G A s (dkW a cI cZ P Q D V O M n) H locs)
    (K : ∀ (t u : Nat) (v : Int) (ls : Array Slot), jk_fold P Q D V 0 (0, 0, 0) (jk_fl O many) = (t, u, v) → lv_has ls 6 [(0, .ref (a 0)), (1, .int (nI (many))), (2, .int (nI (t))), (3, .long (lI (v)))] → W p l e R s m args below meth c H locs cells slots Z (F0 m 59 ls [])) :
    ∀ (f k t u : Nat) (v : Int) (ls : Array Slot), k + f = many → jk_fold P Q D V 0 (0, 0, 0) (jk_fl O k) = (t, u, v) → lv_has ls 6 [(0, .ref (a 0)), (1, .int (nI (many))), (2, .int (nI (t))), (3, .long (lI (v))), (5, .int (nI (k)))] → W p l e R s m args below meth c H locs cells slots Z (F0 m 13 ls []) := by
  obtain ⟨hx, hb, hml, hown, hts⟩ := id S
  obtain ⟨bP, bQ, bD, bV⟩ := id hB
  intro f
  induction f with
  | zero =>
    intro k t u v ls hf hv hl
    refine lv_iload hx hb dX0_weighted_13 (lv_at hl 4 rfl) ?_
    refine lv_iload_n hx hb dX0_weighted_15 rfl (lv_at hl 1 rfl) ?_
    refine jr_icmp_ge hx hb 59 (by omega) (by omega) dX0_weighted_16 (by decide) (fun hc => ?_) (fun hc => ?_)
    · have e1 : k = many := by omega
      subst e1
      exact K t u v ls hv (lv_sub hl [0, 1, 2, 3] rfl)
    · exact absurd hc (by omega)
  | succ f ih =>
    intro k t u v ls hf hv hl
    have hO6 : O k < 6 := hO k (by omega)
    have pj := bP (O k)
    have qj := bQ (O k)
    have dj := bD (O k)
    have vj := bV (O k)
    have hbd := jk_bound bP bQ bD bV 0 (jk_fl O k) (0, 0, 0) 0 (by rw [jk_fl_len]; omega) (Nat.le_refl 0) (Nat.le_refl 0) (by decide) (by decide)
    rw [hv, jk_fl_len] at hbd
    obtain ⟨b1, b2, b3, b4⟩ := hbd
    dsimp only at b1 b2 b3 b4
    have hv1 : jk_fold P Q D V 0 (0, 0, 0) (jk_fl O (k + 1)) = jk_st P Q D V 0 (t, u, v) (O k) := by rw [jk_fl_succ, jk_fold_snoc, hv]
    refine lv_iload hx hb dX0_weighted_13 (lv_at hl 4 rfl) ?_
    refine lv_iload_n hx hb dX0_weighted_15 rfl (lv_at hl 1 rfl) ?_
    refine jr_icmp_ge hx hb 59 (by omega) (by omega) dX0_weighted_16 (by decide) (fun hc => ?_) (fun hc => ?_)
    · exact absurd hc (by omega)
    · refine lv_iload_n hx hb dX0_weighted_19 rfl (lv_at hl 2 rfl) ?_
      refine lv_aload_n hx hb dX0_weighted_20 rfl (lv_at hl 0 rfl) ?_
      refine dk_first S hK hw dX0_weighted_21 ?_
      refine lv_aload_n hx hb dX0_weighted_24 rfl (lv_at hl 0 rfl) ?_
      refine dk_order S hK hw dX0_weighted_25 ?_
      refine lv_iload hx hb dX0_weighted_28 (lv_at hl 4 rfl) ?_
      refine jr_ald hx hb hK hw 5 0 rfl rfl (by decide) (by omega) dX0_weighted_30 ?_
      refine jr_ald hx hb hK hw 1 0 rfl rfl (by decide) (by omega) dX0_weighted_31 ?_
      refine jr_iadd hx hb dX0_weighted_32 ?_
      refine lv_istore_n (lv' := [(2, .int (nI (t + (P (O k))))), (0, .ref (a 0)), (1, .int (nI (many))), (3, .long (lI (v))), (5, .int (nI (k)))]) hx hb dX0_weighted_33 rfl hl (by decide) rfl (fun ls hl => ?_)
      refine lv_lload_n hx hb dX0_weighted_34 rfl (lv_at hl 3 rfl) ?_
      refine lv_aload_n hx hb dX0_weighted_35 rfl (lv_at hl 1 rfl) ?_
      refine dk_weight S hK hw dX0_weighted_36 ?_
      refine lv_aload_n hx hb dX0_weighted_39 rfl (lv_at hl 1 rfl) ?_
      refine dk_order S hK hw dX0_weighted_40 ?_
      refine lv_iload hx hb dX0_weighted_43 (lv_at hl 4 rfl) ?_
      refine jr_ald hx hb hK hw 5 0 rfl rfl (by decide) (by omega) dX0_weighted_45 ?_
      refine jr_ald hx hb hK hw 4 0 rfl rfl (by decide) (by omega) dX0_weighted_46 ?_
      refine jr_i2l hx hb (by omega) dX0_weighted_47 ?_
      refine lv_iload_n hx hb dX0_weighted_48 rfl (lv_at hl 0 rfl) ?_
      refine jr_i2l hx hb (by omega) dX0_weighted_49 ?_
      refine jr_lmul hx hb dX0_weighted_50 ?_
      refine jr_ladd hx hb dX0_weighted_51 ?_
      refine lv_lstore_n (lv' := [(3, .long (lI ((v) + ((((V (O k) : Nat) : Int)) * (((t + (P (O k)) : Nat) : Int)))))), (2, .int (nI (t + (P (O k))))), (0, .ref (a 0)), (1, .int (nI (many))), (5, .int (nI (k)))]) hx hb dX0_weighted_52 rfl hl (by decide) rfl (fun ls hl => ?_)
      refine lv_iinc (v := (nI (k + 1))) (lv' := [(5, .int (nI (k + 1))), (3, .long (lI ((v) + ((((V (O k) : Nat) : Int)) * (((t + (P (O k)) : Nat) : Int)))))), (2, .int (nI (t + (P (O k))))), (0, .ref (a 0)), (1, .int (nI (many)))]) hx hb dX0_weighted_53 hl (k := 4) rfl (nI_1 _) (by decide) rfl (fun ls hl => ?_)
      refine lv_goto (tgt := 13) hx hb dX0_weighted_56 (by decide) ?_
      rw [show v + (((V (O k) : Nat) : Int)) * (((t + P (O k) : Nat) : Int)) = v + ((V (O k) * (t + P (O k)) : Nat) : Int) by rw [Int.natCast_mul]] at hl
      exact ih (k + 1) (t + P (O k)) u (v + ((V (O k) * (t + P (O k)) : Nat) : Int)) ls (by omega) (by rw [hv1]; simp [jk_st]) (lv_sub hl [3, 4, 2, 1, 0] rfl)
set_option maxHeartbeats 4000000 in
set_option maxRecDepth 100000 in
/-- the loop of latest -/
theorem la_loop {p : Program} {l : Launch} {e : Env} {R : Room} {s : State} {m : MethodId} {args : Array Value} {below : List Frame} {meth : Method} {c : Code} {Z : State → Prop} {G : va_G} {A : Nat → Prop} {a : Nat → Nat} {cI cZ : ClassId} {P Q D V : Nat → Nat} {n : Nat} {cells slots : Nat} (S : CallFix p m c cX0_latest 5 s args lw_all RX0) (hK : va_K G vwCl (dkT cI cZ) s) (hB : jk_Bd P Q D V) (hR1 : 1 ≤ R.frames) (hR2 : 25 ≤ R.locals) (hcs : cells ≤ R.cells ∧ slots ≤ R.slots) (O M : Nat → Nat) (many : Nat) (hm : many ≤ 6) (hO : ∀ i, i < many → O i < 6) (v0 : Int) (hv0 : -2147483648 ≤ v0 ∧ v0 ≤ 0) (H : Heap) (locs : List Loc) (hw : Wd G A s (dkW a cI cZ P Q D V O M n) H locs)
    (K : ∀ (t u : Nat) (v : Int) (ls : Array Slot), jk_fold P Q D V 1 (0, 0, v0) (jk_fl O many) = (t, u, v) → lv_has ls 5 [(0, .ref (a 0)), (1, .int (nI (many))), (2, .int (nI (t))), (3, .int (iI (v)))] → W p l e R s m args below meth c H locs cells slots Z (F0 m 71 ls [])) :
    ∀ (f k t u : Nat) (v : Int) (ls : Array Slot), k + f = many → jk_fold P Q D V 1 (0, 0, v0) (jk_fl O k) = (t, u, v) → lv_has ls 5 [(0, .ref (a 0)), (1, .int (nI (many))), (2, .int (nI (t))), (3, .int (iI (v))), (4, .int (nI (k)))] → W p l e R s m args below meth c H locs cells slots Z (F0 m 25 ls []) := by
  obtain ⟨hx, hb, hml, hown, hts⟩ := id S
  obtain ⟨bP, bQ, bD, bV⟩ := id hB
  intro f
  induction f with
  | zero =>
    intro k t u v ls hf hv hl
    refine lv_iload hx hb dX0_latest_25 (lv_at hl 4 rfl) ?_
    refine lv_iload_n hx hb dX0_latest_27 rfl (lv_at hl 1 rfl) ?_
    refine jr_icmp_ge hx hb 71 (by omega) (by omega) dX0_latest_28 (by decide) (fun hc => ?_) (fun hc => ?_)
    · have e1 : k = many := by omega
      subst e1
      exact K t u v ls hv (lv_sub hl [0, 1, 2, 3] rfl)
    · exact absurd hc (by omega)
  | succ f ih =>
    intro k t u v ls hf hv hl
    have hO6 : O k < 6 := hO k (by omega)
    have pj := bP (O k)
    have qj := bQ (O k)
    have dj := bD (O k)
    have vj := bV (O k)
    have hbd := jk_bound bP bQ bD bV 1 (jk_fl O k) (0, 0, v0) 0 (by rw [jk_fl_len]; omega) (Nat.le_refl 0) (Nat.le_refl 0) (by dsimp only; omega) (by dsimp only; omega)
    rw [hv, jk_fl_len] at hbd
    obtain ⟨b1, b2, b3, b4⟩ := hbd
    dsimp only at b1 b2 b3 b4
    have hv1 : jk_fold P Q D V 1 (0, 0, v0) (jk_fl O (k + 1)) = jk_st P Q D V 1 (t, u, v) (O k) := by rw [jk_fl_succ, jk_fold_snoc, hv]
    refine lv_iload hx hb dX0_latest_25 (lv_at hl 4 rfl) ?_
    refine lv_iload_n hx hb dX0_latest_27 rfl (lv_at hl 1 rfl) ?_
    refine jr_icmp_ge hx hb 71 (by omega) (by omega) dX0_latest_28 (by decide) (fun hc => ?_) (fun hc => ?_)
    · exact absurd hc (by omega)
    · refine lv_iload_n hx hb dX0_latest_31 rfl (lv_at hl 2 rfl) ?_
      refine lv_aload_n hx hb dX0_latest_32 rfl (lv_at hl 0 rfl) ?_
      refine dk_first S hK hw dX0_latest_33 ?_
      refine lv_aload_n hx hb dX0_latest_36 rfl (lv_at hl 0 rfl) ?_
      refine dk_order S hK hw dX0_latest_37 ?_
      refine lv_iload hx hb dX0_latest_40 (lv_at hl 4 rfl) ?_
      refine jr_ald hx hb hK hw 5 0 rfl rfl (by decide) (by omega) dX0_latest_42 ?_
      refine jr_ald hx hb hK hw 1 0 rfl rfl (by decide) (by omega) dX0_latest_43 ?_
      refine jr_iadd hx hb dX0_latest_44 ?_
      refine lv_istore_n (lv' := [(2, .int (nI (t + (P (O k))))), (0, .ref (a 0)), (1, .int (nI (many))), (3, .int (iI (v))), (4, .int (nI (k)))]) hx hb dX0_latest_45 rfl hl (by decide) rfl (fun ls hl => ?_)
      refine lv_iload_n hx hb dX0_latest_46 rfl (lv_at hl 3 rfl) ?_
      refine lv_iload_n hx hb dX0_latest_47 rfl (lv_at hl 0 rfl) ?_
      refine lv_aload_n hx hb dX0_latest_48 rfl (lv_at hl 1 rfl) ?_
      refine dk_due S hK hw dX0_latest_49 ?_
      refine lv_aload_n hx hb dX0_latest_52 rfl (lv_at hl 1 rfl) ?_
      refine dk_order S hK hw dX0_latest_53 ?_
      refine lv_iload hx hb dX0_latest_56 (lv_at hl 4 rfl) ?_
      refine jr_ald hx hb hK hw 5 0 rfl rfl (by decide) (by omega) dX0_latest_58 ?_
      refine jr_ald hx hb hK hw 3 0 rfl rfl (by decide) (by omega) dX0_latest_59 ?_
      refine jr_isubz hx hb dX0_latest_60 ?_
      refine jr_mmaxz S hl.1 hR1 hR2 hcs (by decide) (by omega) (by omega) (by omega) (by omega) dX0_latest_61 ?_
      refine lv_istore_n (lv' := [(3, .int (iI (if v < ((t + (P (O k)) : Nat) : Int) - ((D (O k) : Nat) : Int) then ((t + (P (O k)) : Nat) : Int) - ((D (O k) : Nat) : Int) else v))), (2, .int (nI (t + (P (O k))))), (0, .ref (a 0)), (1, .int (nI (many))), (4, .int (nI (k)))]) hx hb dX0_latest_64 rfl hl (by decide) rfl (fun ls hl => ?_)
      refine lv_iinc (v := (nI (k + 1))) (lv' := [(4, .int (nI (k + 1))), (3, .int (iI (if v < ((t + (P (O k)) : Nat) : Int) - ((D (O k) : Nat) : Int) then ((t + (P (O k)) : Nat) : Int) - ((D (O k) : Nat) : Int) else v))), (2, .int (nI (t + (P (O k))))), (0, .ref (a 0)), (1, .int (nI (many)))]) hx hb dX0_latest_65 hl (k := 4) rfl (nI_1 _) (by decide) rfl (fun ls hl => ?_)
      refine lv_goto (tgt := 25) hx hb dX0_latest_68 (by decide) ?_
      exact ih (k + 1) (t + P (O k)) u _ ls (by omega) (by rw [hv1]; simp [jk_st]) (lv_sub hl [3, 4, 2, 1, 0] rfl)
set_option maxHeartbeats 4000000 in
set_option maxRecDepth 100000 in
/-- the loop of both -/
theorem bo_loop {p : Program} {l : Launch} {e : Env} {R : Room} {s : State} {m : MethodId} {args : Array Value} {below : List Frame} {meth : Method} {c : Code} {Z : State → Prop} {G : va_G} {A : Nat → Prop} {a : Nat → Nat} {cI cZ : ClassId} {P Q D V : Nat → Nat} {n : Nat} {cells slots : Nat} (S : CallFix p m c cX0_both 5 s args lw_all RX0) (hK : va_K G vwCl (dkT cI cZ) s) (hB : jk_Bd P Q D V) (hR1 : 1 ≤ R.frames) (hR2 : 25 ≤ R.locals) (hcs : cells ≤ R.cells ∧ slots ≤ R.slots) (O M : Nat → Nat) (many : Nat) (hm : many ≤ 6) (hO : ∀ i, i < many → O i < 6)  (H : Heap) (locs : List Loc) (hw : Wd G A s (dkW a cI cZ P Q D V O M n) H locs)
    (K : ∀ (t u : Nat) (v : Int) (ls : Array Slot), jk_fold P Q D V 3 (0, 0, 0) (jk_fl O many) = (t, u, v) → v = (u : Int) → lv_has ls 5 [(0, .ref (a 0)), (1, .int (nI (many))), (2, .int (nI (t))), (3, .int (nI (u)))] → W p l e R s m args below meth c H locs cells slots Z (F0 m 59 ls [])) :
    ∀ (f k t u : Nat) (v : Int) (ls : Array Slot), k + f = many → jk_fold P Q D V 3 (0, 0, 0) (jk_fl O k) = (t, u, v) → v = (u : Int) → lv_has ls 5 [(0, .ref (a 0)), (1, .int (nI (many))), (2, .int (nI (t))), (3, .int (nI (u))), (4, .int (nI (k)))] → W p l e R s m args below meth c H locs cells slots Z (F0 m 13 ls []) := by
  obtain ⟨hx, hb, hml, hown, hts⟩ := id S
  obtain ⟨bP, bQ, bD, bV⟩ := id hB
  intro f
  induction f with
  | zero =>
    intro k t u v ls hf hv hi hl
    refine lv_iload hx hb dX0_both_13 (lv_at hl 4 rfl) ?_
    refine lv_iload_n hx hb dX0_both_15 rfl (lv_at hl 1 rfl) ?_
    refine jr_icmp_ge hx hb 59 (by omega) (by omega) dX0_both_16 (by decide) (fun hc => ?_) (fun hc => ?_)
    · have e1 : k = many := by omega
      subst e1
      exact K t u v ls hv hi (lv_sub hl [0, 1, 2, 3] rfl)
    · exact absurd hc (by omega)
  | succ f ih =>
    intro k t u v ls hf hv hi hl
    have hO6 : O k < 6 := hO k (by omega)
    have pj := bP (O k)
    have qj := bQ (O k)
    have dj := bD (O k)
    have vj := bV (O k)
    have hbd := jk_bound bP bQ bD bV 3 (jk_fl O k) (0, 0, 0) 0 (by rw [jk_fl_len]; omega) (Nat.le_refl 0) (Nat.le_refl 0) (by decide) (by decide)
    rw [hv, jk_fl_len] at hbd
    obtain ⟨b1, b2, b3, b4⟩ := hbd
    dsimp only at b1 b2 b3 b4
    have hv1 : jk_fold P Q D V 3 (0, 0, 0) (jk_fl O (k + 1)) = jk_st P Q D V 3 (t, u, v) (O k) := by rw [jk_fl_succ, jk_fold_snoc, hv]
    refine lv_iload hx hb dX0_both_13 (lv_at hl 4 rfl) ?_
    refine lv_iload_n hx hb dX0_both_15 rfl (lv_at hl 1 rfl) ?_
    refine jr_icmp_ge hx hb 59 (by omega) (by omega) dX0_both_16 (by decide) (fun hc => ?_) (fun hc => ?_)
    · exact absurd hc (by omega)
    · refine lv_iload_n hx hb dX0_both_19 rfl (lv_at hl 2 rfl) ?_
      refine lv_aload_n hx hb dX0_both_20 rfl (lv_at hl 0 rfl) ?_
      refine dk_first S hK hw dX0_both_21 ?_
      refine lv_aload_n hx hb dX0_both_24 rfl (lv_at hl 0 rfl) ?_
      refine dk_order S hK hw dX0_both_25 ?_
      refine lv_iload hx hb dX0_both_28 (lv_at hl 4 rfl) ?_
      refine jr_ald hx hb hK hw 5 0 rfl rfl (by decide) (by omega) dX0_both_30 ?_
      refine jr_ald hx hb hK hw 1 0 rfl rfl (by decide) (by omega) dX0_both_31 ?_
      refine jr_iadd hx hb dX0_both_32 ?_
      refine lv_istore_n (lv' := [(2, .int (nI (t + (P (O k))))), (0, .ref (a 0)), (1, .int (nI (many))), (3, .int (nI (u))), (4, .int (nI (k)))]) hx hb dX0_both_33 rfl hl (by decide) rfl (fun ls hl => ?_)
      refine lv_iload_n hx hb dX0_both_34 rfl (lv_at hl 0 rfl) ?_
      refine lv_iload_n hx hb dX0_both_35 rfl (lv_at hl 3 rfl) ?_
      refine jr_mmaxn S hl.1 hR1 hR2 hcs (by decide) (by omega) (by omega) dX0_both_36 ?_
      refine lv_aload_n hx hb dX0_both_39 rfl (lv_at hl 1 rfl) ?_
      refine dk_second S hK hw dX0_both_40 ?_
      refine lv_aload_n hx hb dX0_both_43 rfl (lv_at hl 1 rfl) ?_
      refine dk_order S hK hw dX0_both_44 ?_
      refine lv_iload hx hb dX0_both_47 (lv_at hl 4 rfl) ?_
      refine jr_ald hx hb hK hw 5 0 rfl rfl (by decide) (by omega) dX0_both_49 ?_
      refine jr_ald hx hb hK hw 2 0 rfl rfl (by decide) (by omega) dX0_both_50 ?_
      refine jr_iadd hx hb dX0_both_51 ?_
      refine lv_istore_n (lv' := [(3, .int (nI ((if u < t + P (O k) then t + P (O k) else u) + (Q (O k))))), (2, .int (nI (t + (P (O k))))), (0, .ref (a 0)), (1, .int (nI (many))), (4, .int (nI (k)))]) hx hb dX0_both_52 rfl hl (by decide) rfl (fun ls hl => ?_)
      refine lv_iinc (v := (nI (k + 1))) (lv' := [(4, .int (nI (k + 1))), (3, .int (nI ((if u < t + P (O k) then t + P (O k) else u) + (Q (O k))))), (2, .int (nI (t + (P (O k))))), (0, .ref (a 0)), (1, .int (nI (many)))]) hx hb dX0_both_53 hl (k := 4) rfl (nI_1 _) (by decide) rfl (fun ls hl => ?_)
      refine lv_goto (tgt := 13) hx hb dX0_both_56 (by decide) ?_
      exact ih (k + 1) (t + P (O k)) ((if u < t + P (O k) then t + P (O k) else u) + Q (O k)) _ ls (by omega) (by rw [hv1]; simp [jk_st]) rfl (lv_sub hl [3, 4, 2, 1, 0] rfl)
set_option maxHeartbeats 4000000 in
set_option maxRecDepth 100000 in
/-- weighted(): the sum over the sorted jobs -/
theorem c_X0_weighted (l : Launch) (G : va_G) (a : Nat → Nat) (cI cZ : ClassId) (P Q D V O M : Nat → Nat) (n sz : Nat) (hB : jk_Bd P Q D V) (hn : n ≤ 6) : Met l yX0_weighted (ws_ yX0_weighted cX0_weighted 6 (some .long)) ({ frames := 2, cells := 0, slots := 0, locals := 49 }) (wPc G (dkT cI cZ) (dkW a cI cZ P Q D V O M n) sz [.ref (a 0)]) (va_Ql (fun (r : Int64) (u : Nat → Nat) => ∃ many : Nat, many ≤ n ∧ jk_Sorted P Q D V 0 n u many ∧ r = lI (jk_fold P Q D V 0 (0, 0, 0) (jk_fl u many)).2.2) (fun u : Nat → Nat => wB G (dkT cI cZ) (va_A (dkW a cI cZ P Q D V O M n) sz) (dkW a cI cZ P Q D V u M n)) (va_A (dkW a cI cZ P Q D V O M n) sz)) 0 0 (va_A (dkW a cI cZ P Q D V O M n) sz) := by
  refine jw_enter (by decide) (Nat.le_of_ble_eq_true rfl) ?_
  intro p e s m below meth c S hr hlocks _ hA hK hw ls hl
  have S : CallFix p m c cX0_weighted 6 s _ lw_all RX0 := S
  obtain ⟨hx, hb, hml, hown, hts⟩ := id S
  generalize hAe : va_A (dkW a cI cZ P Q D V O M n) sz = A at hw hA ⊢
  have hl : lv_has ls 6 [(0, .ref (a 0))] := hl
  refine lv_aload_n hx hb dX0_weighted_0 rfl (lv_at hl 0 rfl) ?_
  refine lv_iconst (v := nI 0) hx hb dX0_weighted_1 (by decide) ?_
  refine jw_calli (As := [.int (nI 0)]) (rest := []) (wr := []) S hK hw hA hl.1 (c_X0_sort l G a cI cZ P Q D V O M n s.heap.size hB hn 0 (by decide)) (cwV 1 hts (lw_V q57 q59 qs0 q6 q60) rfl rfl rfl (by decide +kernel) ⟨Nat.le_refl _, Nat.le_refl _⟩) rfl [0, 1, 2, 3, 4, 5, 6] [] rfl rfl (by decide) rfl (by decide) (by decide) rfl rfl (by decide) ⟨Nat.le_refl _, Nat.le_refl _⟩ dX0_weighted_2 (fun r O H locs hq hw => ?_)
  have hw : Wd G A s (dkW a cI cZ P Q D V O M n) H locs := hw
  obtain ⟨many, hm, rfl, hs⟩ := hq
  have hO : ∀ i, i < many → O i < 6 := fun i hi => Nat.lt_of_lt_of_le (jk_Sorted_lt hs hi) hn
  refine lv_istore_n (lv' := [(1, .int (nI (many))), (0, .ref (a 0))]) hx hb dX0_weighted_5 rfl hl (by decide) rfl (fun ls hl => ?_)
  refine lv_iconst (v := nI 0) hx hb dX0_weighted_6 (by decide) ?_
  refine lv_istore_n (lv' := [(2, .int (nI (0))), (1, .int (nI (many))), (0, .ref (a 0))]) hx hb dX0_weighted_7 rfl hl (by decide) rfl (fun ls hl => ?_)
  refine lv_lconst (v := lI 0) hx hb dX0_weighted_8 (by decide) ?_
  refine lv_lstore_n (lv' := [(3, .long (lI (0))), (2, .int (nI (0))), (1, .int (nI (many))), (0, .ref (a 0))]) hx hb dX0_weighted_9 rfl hl (by decide) rfl (fun ls hl => ?_)
  refine lv_iconst (v := nI 0) hx hb dX0_weighted_10 (by decide) ?_
  refine lv_istore (lv' := [(5, .int (nI (0))), (3, .long (lI (0))), (2, .int (nI (0))), (1, .int (nI (many))), (0, .ref (a 0))]) hx hb dX0_weighted_11 hl (by decide) rfl (fun ls hl => ?_)
  refine wt_loop S hK hB (by decide) (by decide) ⟨Nat.le_refl _, Nat.le_refl _⟩ O M many (by omega) hO H locs hw (fun t u v ls hv hl => ?_) many 0 0 0 0 ls (by omega) rfl (lv_sub hl [4, 3, 2, 1, 0] rfl)
  refine lv_lload_n hx hb dX0_weighted_59 rfl (lv_at hl 3 rfl) ?_
  exact jw_lret (wf := fun u : Nat → Nat => dkW a cI cZ P Q D V u M n) O hx hb hr hlocks hK hw ⟨many, hm, hs, by rw [hv]⟩ dX0_weighted_60
set_option maxHeartbeats 4000000 in
set_option maxRecDepth 100000 in
/-- latest(): the greatest lateness of the sorted jobs -/
theorem c_X0_latest (l : Launch) (G : va_G) (a : Nat → Nat) (cI cZ : ClassId) (P Q D V O M : Nat → Nat) (n sz : Nat) (hB : jk_Bd P Q D V) (hn : n ≤ 6) : Met l yX0_latest (ws_ yX0_latest cX0_latest 5 (some .long)) ({ frames := 2, cells := 0, slots := 0, locals := 49 }) (wPc G (dkT cI cZ) (dkW a cI cZ P Q D V O M n) sz [.ref (a 0)]) (va_Ql (fun (r : Int64) (u : Nat → Nat) => ∃ many : Nat, many ≤ n ∧ jk_Sorted P Q D V 1 n u many ∧ r = lI (jk_fold P Q D V 1 (0, 0, if n = 0 then 0 else -2147483648) (jk_fl u many)).2.2) (fun u : Nat → Nat => wB G (dkT cI cZ) (va_A (dkW a cI cZ P Q D V O M n) sz) (dkW a cI cZ P Q D V u M n)) (va_A (dkW a cI cZ P Q D V O M n) sz)) 0 0 (va_A (dkW a cI cZ P Q D V O M n) sz) := by
  refine jw_enter (by decide) (Nat.le_of_ble_eq_true rfl) ?_
  intro p e s m below meth c S hr hlocks _ hA hK hw ls hl
  have S : CallFix p m c cX0_latest 5 s _ lw_all RX0 := S
  obtain ⟨hx, hb, hml, hown, hts⟩ := id S
  generalize hAe : va_A (dkW a cI cZ P Q D V O M n) sz = A at hw hA ⊢
  have hl : lv_has ls 5 [(0, .ref (a 0))] := hl
  refine lv_aload_n hx hb dX0_latest_0 rfl (lv_at hl 0 rfl) ?_
  refine lv_iconst (v := nI 1) hx hb dX0_latest_1 (by decide) ?_
  refine jw_calli (As := [.int (nI 1)]) (rest := []) (wr := []) S hK hw hA hl.1 (c_X0_sort l G a cI cZ P Q D V O M n s.heap.size hB hn 1 (by decide)) (cwV 1 hts (lw_V q57 q59 qs0 q6 q60) rfl rfl rfl (by decide +kernel) ⟨Nat.le_refl _, Nat.le_refl _⟩) rfl [0, 1, 2, 3, 4, 5, 6] [] rfl rfl (by decide) rfl (by decide) (by decide) rfl rfl (by decide) ⟨Nat.le_refl _, Nat.le_refl _⟩ dX0_latest_2 (fun r O H locs hq hw => ?_)
  have hw : Wd G A s (dkW a cI cZ P Q D V O M n) H locs := hw
  obtain ⟨many, hm, rfl, hs⟩ := hq
  have hO : ∀ i, i < many → O i < 6 := fun i hi => Nat.lt_of_lt_of_le (jk_Sorted_lt hs hi) hn
  refine lv_istore_n (lv' := [(1, .int (nI (many))), (0, .ref (a 0))]) hx hb dX0_latest_5 rfl hl (by decide) rfl (fun ls hl => ?_)
  refine lv_iconst (v := nI 0) hx hb dX0_latest_6 (by decide) ?_
  refine lv_istore_n (lv' := [(2, .int (nI (0))), (1, .int (nI (many))), (0, .ref (a 0))]) hx hb dX0_latest_7 rfl hl (by decide) rfl (fun ls hl => ?_)
  refine lv_aload_n hx hb dX0_latest_8 rfl (lv_at hl 2 rfl) ?_
  refine dk_n S hK hw dX0_latest_9 ?_
  refine jr_if_ne hx hb 19 (by omega) dX0_latest_12 (by decide) (fun h0 => ?_) (fun h0 => ?_)
  · refine lv_ldc hx hb hown (hts _ q69) dX0_latest_19 ?_
    rw [show (-2147483648 : Int32) = iI (-2147483648) by decide]
    refine lv_istore_n (lv' := [(3, .int (iI (-2147483648))), (2, .int (nI (0))), (1, .int (nI (many))), (0, .ref (a 0))]) hx hb dX0_latest_21 rfl hl (by decide) rfl (fun ls hl => ?_)
    refine lv_iconst (v := nI 0) hx hb dX0_latest_22 (by decide) ?_
    refine lv_istore (lv' := [(4, .int (nI (0))), (3, .int (iI (-2147483648))), (2, .int (nI (0))), (1, .int (nI (many))), (0, .ref (a 0))]) hx hb dX0_latest_23 hl (by decide) rfl (fun ls hl => ?_)
    refine la_loop S hK hB (by decide) (by decide) ⟨Nat.le_refl _, Nat.le_refl _⟩ O M many (by omega) hO (-2147483648) (by decide) H locs hw (fun t u v ls hv hl => ?_) many 0 0 0 (-2147483648) ls (by omega) rfl (lv_sub hl [4, 3, 2, 1, 0] rfl)
    have hbd := jk_bound hB.1 hB.2.1 hB.2.2.1 hB.2.2.2 1 (jk_fl O many) (0, 0, -2147483648) 0 (by rw [jk_fl_len]; omega) (Nat.le_refl 0) (Nat.le_refl 0) (by decide) (by decide)
    rw [hv, jk_fl_len] at hbd
    obtain ⟨b1, b2, b3, b4⟩ := hbd
    dsimp only at b1 b2 b3 b4
    refine lv_iload_n hx hb dX0_latest_71 rfl (lv_at hl 3 rfl) ?_
    refine jr_i2lz hx hb (by omega) (by omega) dX0_latest_72 ?_
    exact jw_lret (wf := fun u : Nat → Nat => dkW a cI cZ P Q D V u M n) O hx hb hr hlocks hK hw ⟨many, hm, hs, by rw [if_neg h0, hv]⟩ dX0_latest_73
  · refine lv_iconst (v := nI 0) hx hb dX0_latest_15 (by decide) ?_
    refine lv_goto (tgt := 21) hx hb dX0_latest_16 (by decide) ?_
    rw [show nI 0 = iI 0 by decide]
    refine lv_istore_n (lv' := [(3, .int (iI (0))), (2, .int (nI (0))), (1, .int (nI (many))), (0, .ref (a 0))]) hx hb dX0_latest_21 rfl hl (by decide) rfl (fun ls hl => ?_)
    refine lv_iconst (v := nI 0) hx hb dX0_latest_22 (by decide) ?_
    refine lv_istore (lv' := [(4, .int (nI (0))), (3, .int (iI (0))), (2, .int (nI (0))), (1, .int (nI (many))), (0, .ref (a 0))]) hx hb dX0_latest_23 hl (by decide) rfl (fun ls hl => ?_)
    refine la_loop S hK hB (by decide) (by decide) ⟨Nat.le_refl _, Nat.le_refl _⟩ O M many (by omega) hO (0) (by decide) H locs hw (fun t u v ls hv hl => ?_) many 0 0 0 (0) ls (by omega) rfl (lv_sub hl [4, 3, 2, 1, 0] rfl)
    have hbd := jk_bound hB.1 hB.2.1 hB.2.2.1 hB.2.2.2 1 (jk_fl O many) (0, 0, 0) 0 (by rw [jk_fl_len]; omega) (Nat.le_refl 0) (Nat.le_refl 0) (by decide) (by decide)
    rw [hv, jk_fl_len] at hbd
    obtain ⟨b1, b2, b3, b4⟩ := hbd
    dsimp only at b1 b2 b3 b4
    refine lv_iload_n hx hb dX0_latest_71 rfl (lv_at hl 3 rfl) ?_
    refine jr_i2lz hx hb (by omega) (by omega) dX0_latest_72 ?_
    exact jw_lret (wf := fun u : Nat → Nat => dkW a cI cZ P Q D V u M n) O hx hb hr hlocks hK hw ⟨many, hm, hs, by rw [if_pos h0, hv]⟩ dX0_latest_73
set_option maxHeartbeats 4000000 in
set_option maxRecDepth 100000 in
/-- both(): the end of the sorted jobs on two machines -/
theorem c_X0_both (l : Launch) (G : va_G) (a : Nat → Nat) (cI cZ : ClassId) (P Q D V O M : Nat → Nat) (n sz : Nat) (hB : jk_Bd P Q D V) (hn : n ≤ 6) : Met l yX0_both (ws_ yX0_both cX0_both 5 (some .long)) ({ frames := 2, cells := 0, slots := 0, locals := 49 }) (wPc G (dkT cI cZ) (dkW a cI cZ P Q D V O M n) sz [.ref (a 0)]) (va_Ql (fun (r : Int64) (u : Nat → Nat) => ∃ many : Nat, many ≤ n ∧ jk_Sorted P Q D V 2 n u many ∧ r = lI (jk_fold P Q D V 3 (0, 0, 0) (jk_fl u many)).2.2) (fun u : Nat → Nat => wB G (dkT cI cZ) (va_A (dkW a cI cZ P Q D V O M n) sz) (dkW a cI cZ P Q D V u M n)) (va_A (dkW a cI cZ P Q D V O M n) sz)) 0 0 (va_A (dkW a cI cZ P Q D V O M n) sz) := by
  refine jw_enter (by decide) (Nat.le_of_ble_eq_true rfl) ?_
  intro p e s m below meth c S hr hlocks _ hA hK hw ls hl
  have S : CallFix p m c cX0_both 5 s _ lw_all RX0 := S
  obtain ⟨hx, hb, hml, hown, hts⟩ := id S
  generalize hAe : va_A (dkW a cI cZ P Q D V O M n) sz = A at hw hA ⊢
  have hl : lv_has ls 5 [(0, .ref (a 0))] := hl
  refine lv_aload_n hx hb dX0_both_0 rfl (lv_at hl 0 rfl) ?_
  refine lv_iconst (v := nI 2) hx hb dX0_both_1 (by decide) ?_
  refine jw_calli (As := [.int (nI 2)]) (rest := []) (wr := []) S hK hw hA hl.1 (c_X0_sort l G a cI cZ P Q D V O M n s.heap.size hB hn 2 (by decide)) (cwV 1 hts (lw_V q57 q59 qs0 q6 q60) rfl rfl rfl (by decide +kernel) ⟨Nat.le_refl _, Nat.le_refl _⟩) rfl [0, 1, 2, 3, 4, 5, 6] [] rfl rfl (by decide) rfl (by decide) (by decide) rfl rfl (by decide) ⟨Nat.le_refl _, Nat.le_refl _⟩ dX0_both_2 (fun r O H locs hq hw => ?_)
  have hw : Wd G A s (dkW a cI cZ P Q D V O M n) H locs := hw
  obtain ⟨many, hm, rfl, hs⟩ := hq
  have hO : ∀ i, i < many → O i < 6 := fun i hi => Nat.lt_of_lt_of_le (jk_Sorted_lt hs hi) hn
  refine lv_istore_n (lv' := [(1, .int (nI (many))), (0, .ref (a 0))]) hx hb dX0_both_5 rfl hl (by decide) rfl (fun ls hl => ?_)
  refine lv_iconst (v := nI 0) hx hb dX0_both_6 (by decide) ?_
  refine lv_istore_n (lv' := [(2, .int (nI (0))), (1, .int (nI (many))), (0, .ref (a 0))]) hx hb dX0_both_7 rfl hl (by decide) rfl (fun ls hl => ?_)
  refine lv_iconst (v := nI 0) hx hb dX0_both_8 (by decide) ?_
  refine lv_istore_n (lv' := [(3, .int (nI (0))), (2, .int (nI (0))), (1, .int (nI (many))), (0, .ref (a 0))]) hx hb dX0_both_9 rfl hl (by decide) rfl (fun ls hl => ?_)
  refine lv_iconst (v := nI 0) hx hb dX0_both_10 (by decide) ?_
  refine lv_istore (lv' := [(4, .int (nI (0))), (3, .int (nI (0))), (2, .int (nI (0))), (1, .int (nI (many))), (0, .ref (a 0))]) hx hb dX0_both_11 hl (by decide) rfl (fun ls hl => ?_)
  refine bo_loop S hK hB (by decide) (by decide) ⟨Nat.le_refl _, Nat.le_refl _⟩ O M many (by omega) hO H locs hw (fun t u v ls hv hi hl => ?_) many 0 0 0 0 ls (by omega) rfl rfl (lv_sub hl [4, 3, 2, 1, 0] rfl)
  have hbd := jk_bound hB.1 hB.2.1 hB.2.2.1 hB.2.2.2 3 (jk_fl O many) (0, 0, 0) 0 (by rw [jk_fl_len]; omega) (Nat.le_refl 0) (Nat.le_refl 0) (by decide) (by decide)
  rw [hv, jk_fl_len] at hbd
  obtain ⟨b1, b2, b3, b4⟩ := hbd
  dsimp only at b1 b2 b3 b4
  refine lv_iload_n hx hb dX0_both_59 rfl (lv_at hl 3 rfl) ?_
  refine jr_i2l hx hb (by omega) dX0_both_60 ?_
  exact jw_lret (wf := fun u : Nat → Nat => dkW a cI cZ P Q D V u M n) O hx hb hr hlocks hK hw ⟨many, hm, hs, by rw [hv, hi]⟩ dX0_both_61
end
section
/-! JobDesk.late -/
set_option maxRecDepth 100000
theorem jk_tb (G y : Nat) : G / 2 ^ y % 2 = 0 ↔ G.testBit y = false := by
  rw [Nat.testBit_eq_decide_div_mod_eq, decide_eq_false_iff_not]
  omega
theorem jk_sum_le {P : Nat → Nat} (h : ∀ j, P j ≤ 255) (L : List Nat) : jk_sum P L ≤ 255 * L.length := by
  induction L with
  | nil => exact Nat.le_refl _
  | cons a L ih =>
    have := h a
    simp only [jk_sum, List.length_cons]
    omega
def jk_LI (P D O : Nat → Nat) (k : Nat) (S : List Nat) (gn : Nat) : Prop := jk_MH P D (jk_fl O k) S ∧ gn < 2 ^ 6 ∧ (∀ y, y ∈ S ↔ y ∈ jk_fl O k ∧ gn.testBit y = false) ∧ (∀ y, gn.testBit y = true → y ∈ jk_fl O k)
theorem jk_LI_0 (P D O : Nat → Nat) : jk_LI P D O 0 [] 0 := ⟨jk_MH_0 P D, by decide, fun y => by simp [jk_fl], fun y h => by simp at h⟩
theorem jk_new {O : Nat → Nat} {k : Nat} (hd : (jk_fl O (k + 1)).Nodup) : O k ∉ jk_fl O k := by
  rw [jk_fl_succ] at hd
  intro h
  exact (List.nodup_append.mp hd).2.2 _ h _ List.mem_cons_self rfl
theorem jk_fl_mem1 {O : Nat → Nat} {k y : Nat} : y ∈ jk_fl O (k + 1) ↔ y ∈ jk_fl O k ∨ y = O k := by
  rw [jk_fl_succ, List.mem_append, List.mem_singleton]
theorem jk_LI_not {P D O : Nat → Nat} {k gn : Nat} {S : List Nat} (h : jk_LI P D O k S gn) (hd : (jk_fl O (k + 1)).Nodup) : gn.testBit (O k) = false := by
  cases hc : gn.testBit (O k) with
  | false => rfl
  | true => exact absurd (h.2.2.2 _ hc) (jk_new hd)
theorem jk_LI_mem {P D O : Nat → Nat} {k gn : Nat} {S : List Nat} (h : jk_LI P D O k S gn) (hd : (jk_fl O (k + 1)).Nodup) (y : Nat) : y ∈ S ++ [O k] ↔ y ∈ jk_fl O (k + 1) ∧ gn.testBit y = false := by
  rw [List.mem_append, List.mem_singleton, h.2.2.1, jk_fl_mem1]
  constructor
  · rintro (⟨h1, h2⟩ | rfl)
    · exact ⟨Or.inl h1, h2⟩
    · exact ⟨Or.inr rfl, jk_LI_not h hd⟩
  · rintro ⟨h1 | h1, h2⟩
    · exact Or.inl ⟨h1, h2⟩
    · exact Or.inr h1
theorem jk_LI_keep {P D O : Nat → Nat} {k gn : Nat} {S : List Nat} (h : jk_LI P D O k S gn) (hd : (jk_fl O (k + 1)).Nodup) (hj : jk_sum P S + P (O k) ≤ D (O k)) : jk_LI P D O (k + 1) (S ++ [O k]) gn := by
  refine ⟨?_, h.2.1, jk_LI_mem h hd, fun y hy => jk_fl_mem1.mpr (Or.inl (h.2.2.2 y hy))⟩
  rw [jk_fl_succ]
  exact jk_MH_keep h.1 hj
theorem jk_LI_drop {P D O : Nat → Nat} {k gn w : Nat} {S : List Nat} (h : jk_LI P D O k S gn) (hd : (jk_fl O (k + 1)).Nodup) (hD : ∀ y ∈ jk_fl O k, D y ≤ D (O k)) (hj : D (O k) < jk_sum P S + P (O k)) (hw : w ∈ jk_fl O (k + 1)) (hw6 : w < 6) (hg : gn.testBit w = false) (hm : ∀ y, y ∈ jk_fl O (k + 1) → gn.testBit y = false → P y ≤ P w) : ∃ S', jk_LI P D O (k + 1) S' (gn ||| 1 * 2 ^ w) ∧ S'.length = S.length ∧ jk_sum P S' + P w = jk_sum P S + P (O k) := by
  have hmem := jk_LI_mem h hd
  obtain ⟨A, B, he⟩ := List.append_of_mem ((hmem w).mpr ⟨hw, hg⟩)
  have hsub : (S ++ [O k]).Sublist (jk_fl O (k + 1)) := by
    rw [jk_fl_succ]
    exact h.1.1.append (List.Sublist.refl _)
  have hnd : (A ++ w :: B).Nodup := by
    rw [← he]
    exact List.Pairwise.sublist hsub hd
  have hmw : ∀ y, y ∈ A ++ B ↔ y ∈ S ++ [O k] ∧ y ≠ w := by
    intro y
    rw [he]
    have h1 := (List.nodup_append.mp hnd)
    have h2 := List.nodup_cons.mp h1.2.1
    constructor
    · intro hy
      rcases List.mem_append.mp hy with q | q
      · exact ⟨List.mem_append_left _ q, fun e => h1.2.2 y q w List.mem_cons_self e⟩
      · exact ⟨List.mem_append_right _ (List.mem_cons_of_mem _ q), fun e => h2.1 (e ▸ q)⟩
    · rintro ⟨hy, hne⟩
      rcases List.mem_append.mp hy with q | q
      · exact List.mem_append_left _ q
      · rcases List.mem_cons.mp q with r | r
        · exact absurd r hne
        · exact List.mem_append_right _ r
  have hbit : ∀ y, (gn ||| 1 * 2 ^ w).testBit y = (gn.testBit y || decide (w = y)) := by
    intro y
    rw [Nat.one_mul, Nat.testBit_or, Nat.testBit_two_pow]
  refine ⟨A ++ B, ⟨?_, ?_, ?_, ?_⟩, ?_, ?_⟩
  · rw [jk_fl_succ]
    refine jk_MH_drop h.1 hD hj he (fun y hy => ?_)
    obtain ⟨q1, q2⟩ := (hmem y).mp hy
    exact hm y q1 q2
  · refine Nat.or_lt_two_pow h.2.1 ?_
    rw [Nat.one_mul]
    exact Nat.pow_lt_pow_right (by decide) hw6
  · intro y
    rw [hmw, hmem, hbit]
    by_cases c : w = y
    · subst c; simp
    · have c' : ¬ y = w := fun q => c q.symm
      simp [c, c', and_assoc]
  · intro y hy
    rw [hbit] at hy
    by_cases c : w = y
    · subst c; exact hw
    · simp [c] at hy
      exact jk_fl_mem1.mpr (Or.inl (h.2.2.2 y hy))
  · have := congrArg List.length he
    simp at this
    simp
    omega
  · have := congrArg (jk_sum P) he
    rw [jk_sum_app, jk_sum_app] at this
    rw [jk_sum_app]
    simp only [jk_sum] at this
    omega
theorem jk_Sorted_nd {P Q D V : Nat → Nat} {how n many : Nat} {O : Nat → Nat} (h : jk_Sorted P Q D V how n O many) : (jk_fl O many).Nodup := h.1.symm.nodup (List.Pairwise.filter _ List.nodup_range)
theorem jk_fl_sub (O : Nat → Nat) {k many : Nat} (h : k ≤ many) : (jk_fl O k).Sublist (jk_fl O many) := by
  rw [show many = k + (many - k) by omega, jk_fl_add]
  exact List.sublist_append_left _ _
theorem jk_Sorted_due {P Q D V : Nat → Nat} {n many k : Nat} {O : Nat → Nat} (h : jk_Sorted P Q D V 1 n O many) (hk : k < many) : ∀ y ∈ jk_fl O k, D y ≤ D (O k) := by
  have h1 : (jk_fl O (k + 1)).Pairwise (jk_R P Q D V 1) := List.Pairwise.sublist (jk_fl_sub O hk) h.2
  rw [jk_fl_succ] at h1
  intro y hy
  have h2 := (List.pairwise_append.mp h1).2.2 y hy (O k) List.mem_cons_self
  unfold jk_R jk_bef at h2
  omega
set_option maxHeartbeats 4000000 in
set_option maxRecDepth 100000 in
/-- the longest that isn't given up -/
theorem late_in {p : Program} {l : Launch} {e : Env} {R : Room} {s : State} {m : MethodId} {args : Array Value} {below : List Frame} {meth : Method} {c : Code} {Z : State → Prop} {G : va_G} {A : Nat → Prop} {a : Nat → Nat} {cI cZ : ClassId} {P Q D V : Nat → Nat} {n : Nat} {cells slots : Nat} (S : CallFix p m c cX0_late 8 s args lw_all RX0) (hK : va_K G vwCl (dkT cI cZ) s) (hB : jk_Bd P Q D V) (O M : Nat → Nat) (many : Nat) (hm : many ≤ 6) (hO : ∀ i, i < many → O i < 6) (H : Heap) (locs : List Loc) (hw : Wd G A s (dkW a cI cZ P Q D V O M n) H locs) (k t g gn : Nat) (hk : k < many) (hgn : gn < 2 ^ 6)
    (K : ∀ (lg : Int32) (ls : Array Slot), ((lg = -1 ∧ ∀ y, y ∈ jk_fl O (k + 1) → gn.testBit y = true) ∨ ∃ w, lg = nI w ∧ w < 6 ∧ w ∈ jk_fl O (k + 1) ∧ gn.testBit w = false ∧ ∀ y, y ∈ jk_fl O (k + 1) → gn.testBit y = false → P y ≤ P w) → lv_has ls 8 [(0, .ref (a 0)), (1, .int (nI (many))), (2, .int (nI (t))), (3, .int (nI (g))), (4, .int (nI (gn))), (5, .int (nI (k))), (6, .int (lg))] → W p l e R s m args below meth c H locs cells slots Z (F0 m 126 ls [])) :
    ∀ (f i : Nat) (lg : Int32) (ls : Array Slot), i + f = k + 1 → ((lg = -1 ∧ ∀ y, y ∈ jk_fl O i → gn.testBit y = true) ∨ ∃ w, lg = nI w ∧ w < 6 ∧ w ∈ jk_fl O i ∧ gn.testBit w = false ∧ ∀ y, y ∈ jk_fl O i → gn.testBit y = false → P y ≤ P w) → lv_has ls 8 [(0, .ref (a 0)), (1, .int (nI (many))), (2, .int (nI (t))), (3, .int (nI (g))), (4, .int (nI (gn))), (5, .int (nI (k))), (6, .int (lg)), (7, .int (nI (i)))] → W p l e R s m args below meth c H locs cells slots Z (F0 m 62 ls []) := by
  obtain ⟨hx, hb, hml, hown, hts⟩ := id S
  obtain ⟨bP, bQ, bD, bV⟩ := id hB
  intro f
  induction f with
  | zero =>
    intro i lg ls hf hi hl
    refine lv_iload hx hb dX0_late_62 (lv_at hl 7 rfl) ?_
    refine lv_iload hx hb dX0_late_64 (lv_at hl 5 rfl) ?_
    refine jr_icmp_gt hx hb 126 (by omega) (by omega) dX0_late_66 (by decide) (fun hc => ?_) (fun hc => ?_)
    · have e1 : i = k + 1 := by omega
      subst e1
      exact K lg ls hi (lv_sub hl [0, 1, 2, 3, 4, 5, 6] rfl)
    · exact absurd hc (by omega)
  | succ f ih =>
    intro i lg ls hf hi hl
    have hO6 : O i < 6 := hO i (by omega)
    have pj := bP (O i)
    have hlt : gn / 2 ^ (O i) < 2 ^ 31 := Nat.lt_of_le_of_lt (Nat.div_le_self _ _) (Nat.lt_trans hgn (by decide))
    have X120 : ((lg = -1 ∧ ∀ y, y ∈ jk_fl O (i + 1) → gn.testBit y = true) ∨ ∃ w, lg = nI w ∧ w < 6 ∧ w ∈ jk_fl O (i + 1) ∧ gn.testBit w = false ∧ ∀ y, y ∈ jk_fl O (i + 1) → gn.testBit y = false → P y ≤ P w) → W p l e R s m args below meth c H locs cells slots Z (F0 m 120 ls []) := by
      intro hor
      refine lv_iinc (v := (nI (i + 1))) (lv' := [(7, .int (nI (i + 1))), (0, .ref (a 0)), (1, .int (nI (many))), (2, .int (nI (t))), (3, .int (nI (g))), (4, .int (nI (gn))), (5, .int (nI (k))), (6, .int (lg))]) hx hb dX0_late_120 hl (k := 7) rfl (nI_1 _) (by decide) rfl (fun ls hl => ?_)
      refine lv_goto (tgt := 62) hx hb dX0_late_123 (by decide) ?_
      exact ih (i + 1) lg ls (by omega) hor (lv_sub hl [1, 2, 3, 4, 5, 6, 7, 0] rfl)
    have X111 : gn.testBit (O i) = false → (∀ y, y ∈ jk_fl O i → gn.testBit y = false → P y ≤ P (O i)) → W p l e R s m args below meth c H locs cells slots Z (F0 m 111 ls []) := by
      intro hg hmx
      refine lv_aload_n hx hb dX0_late_111 rfl (lv_at hl 0 rfl) ?_
      refine dk_order S hK hw dX0_late_112 ?_
      refine lv_iload hx hb dX0_late_115 (lv_at hl 7 rfl) ?_
      refine jr_ald hx hb hK hw 5 0 rfl rfl (by decide) (by omega) dX0_late_117 ?_
      refine lv_istore (lv' := [(6, .int (nI (O i))), (0, .ref (a 0)), (1, .int (nI (many))), (2, .int (nI (t))), (3, .int (nI (g))), (4, .int (nI (gn))), (5, .int (nI (k))), (7, .int (nI (i)))]) hx hb dX0_late_118 hl (by decide) rfl (fun ls hl => ?_)
      refine lv_iinc (v := (nI (i + 1))) (lv' := [(7, .int (nI (i + 1))), (6, .int (nI (O i))), (0, .ref (a 0)), (1, .int (nI (many))), (2, .int (nI (t))), (3, .int (nI (g))), (4, .int (nI (gn))), (5, .int (nI (k)))]) hx hb dX0_late_120 hl (k := 7) rfl (nI_1 _) (by decide) rfl (fun ls hl => ?_)
      refine lv_goto (tgt := 62) hx hb dX0_late_123 (by decide) ?_
      refine ih (i + 1) (nI (O i)) ls (by omega) (Or.inr ⟨O i, rfl, hO6, jk_fl_mem1.mpr (Or.inr rfl), hg, fun y hy hy2 => ?_⟩) (lv_sub hl [2, 3, 4, 5, 6, 7, 1, 0] rfl)
      rcases jk_fl_mem1.mp hy with q | q
      · exact hmx y q hy2
      · rw [q]; exact Nat.le_refl _
    refine lv_iload hx hb dX0_late_62 (lv_at hl 7 rfl) ?_
    refine lv_iload hx hb dX0_late_64 (lv_at hl 5 rfl) ?_
    refine jr_icmp_gt hx hb 126 (by omega) (by omega) dX0_late_66 (by decide) (fun hc => ?_) (fun hc => ?_)
    · exact absurd hc (by omega)
    · refine lv_iload hx hb dX0_late_69 (lv_at hl 4 rfl) ?_
      refine lv_aload_n hx hb dX0_late_71 rfl (lv_at hl 0 rfl) ?_
      refine dk_order S hK hw dX0_late_72 ?_
      refine lv_iload hx hb dX0_late_75 (lv_at hl 7 rfl) ?_
      refine jr_ald hx hb hK hw 5 0 rfl rfl (by decide) (by omega) dX0_late_77 ?_
      refine jr_ishr hx hb (Nat.lt_trans hgn (by decide)) (by omega) dX0_late_78 ?_
      refine lv_iconst (v := nI 1) hx hb dX0_late_79 (by decide) ?_
      refine jr_iand1 hx hb hlt dX0_late_80 ?_
      refine jr_if_ne hx hb 120 (by omega) dX0_late_81 (by decide) (fun hg => ?_) (fun hg => ?_)
      · have hg1 : gn.testBit (O i) = true := by
          cases hq : gn.testBit (O i) with
          | true => rfl
          | false => exact absurd ((jk_tb gn (O i)).mpr hq) hg
        refine X120 ?_
        rcases hi with ⟨e1, e2⟩ | ⟨w, e1, e2, e3, e4, e5⟩
        · refine Or.inl ⟨e1, fun y hy => ?_⟩
          rcases jk_fl_mem1.mp hy with q | q
          · exact e2 y q
          · rw [q]; exact hg1
        · refine Or.inr ⟨w, e1, e2, jk_fl_mem1.mpr (Or.inl e3), e4, fun y hy hy2 => ?_⟩
          rcases jk_fl_mem1.mp hy with q | q
          · exact e5 y q hy2
          · rw [q, hg1] at hy2; cases hy2
      · have hg1 : gn.testBit (O i) = false := (jk_tb gn (O i)).mp hg
        refine lv_iload hx hb dX0_late_84 (lv_at hl 6 rfl) ?_
        rcases hi with ⟨rfl, e2⟩ | ⟨w, rfl, e2, e3, e4, e5⟩
        · refine lv_if_lt (tgt := 111) hx hb dX0_late_86 (by decide) (fun _ => ?_) (fun q => absurd (by decide) q)
          exact X111 hg1 (fun y hy hy2 => absurd hy2 (by rw [e2 y hy]; decide))
        · have pw := bP w
          refine lv_if_lt (tgt := 111) hx hb dX0_late_86 (by decide) (fun q => absurd q (nI_pos (by omega))) (fun _ => ?_)
          refine lv_aload_n hx hb dX0_late_89 rfl (lv_at hl 0 rfl) ?_
          refine dk_first S hK hw dX0_late_90 ?_
          refine lv_aload_n hx hb dX0_late_93 rfl (lv_at hl 0 rfl) ?_
          refine dk_order S hK hw dX0_late_94 ?_
          refine lv_iload hx hb dX0_late_97 (lv_at hl 7 rfl) ?_
          refine jr_ald hx hb hK hw 5 0 rfl rfl (by decide) (by omega) dX0_late_99 ?_
          refine jr_ald hx hb hK hw 1 0 rfl rfl (by decide) (by omega) dX0_late_100 ?_
          refine lv_aload_n hx hb dX0_late_101 rfl (lv_at hl 0 rfl) ?_
          refine dk_first S hK hw dX0_late_102 ?_
          refine lv_iload hx hb dX0_late_105 (lv_at hl 6 rfl) ?_
          refine jr_ald hx hb hK hw 1 0 rfl rfl (by decide) (by omega) dX0_late_107 ?_
          refine jr_icmp_le hx hb 120 (by omega) (by omega) dX0_late_108 (by decide) (fun hle => ?_) (fun hle => ?_)
          · refine X120 (Or.inr ⟨w, rfl, e2, jk_fl_mem1.mpr (Or.inl e3), e4, fun y hy hy2 => ?_⟩)
            rcases jk_fl_mem1.mp hy with q | q
            · exact e5 y q hy2
            · rw [q]; exact hle
          · exact X111 hg1 (fun y hy hy2 => Nat.le_trans (e5 y hy hy2) (by omega))
set_option maxHeartbeats 4000000 in
set_option maxRecDepth 100000 in
/-- the loop of late -/
theorem late_out {p : Program} {l : Launch} {e : Env} {R : Room} {s : State} {m : MethodId} {args : Array Value} {below : List Frame} {meth : Method} {c : Code} {Z : State → Prop} {G : va_G} {A : Nat → Prop} {a : Nat → Nat} {cI cZ : ClassId} {P Q D V : Nat → Nat} {n : Nat} {cells slots : Nat} (S : CallFix p m c cX0_late 8 s args lw_all RX0) (hK : va_K G vwCl (dkT cI cZ) s) (hB : jk_Bd P Q D V) (O M : Nat → Nat) (many : Nat) (hm : many ≤ 6) (hO : ∀ i, i < many → O i < 6) (H : Heap) (locs : List Loc) (hw : Wd G A s (dkW a cI cZ P Q D V O M n) H locs) (hs : jk_Sorted P Q D V 1 n O many)
    (K : ∀ (g : Nat) (L : List Nat) (ls : Array Slot), jk_MH P D (jk_fl O many) L → g + L.length = many → lv_has ls 8 [(3, .int (nI (g)))] → W p l e R s m args below meth c H locs cells slots Z (F0 m 154 ls [])) :
    ∀ (f k g gn : Nat) (L : List Nat) (ls : Array Slot), k + f = many → jk_LI P D O k L gn → g + L.length = k → lv_has ls 8 [(0, .ref (a 0)), (1, .int (nI (many))), (2, .int (nI (jk_sum P L))), (3, .int (nI (g))), (4, .int (nI (gn))), (5, .int (nI (k)))] → W p l e R s m args below meth c H locs cells slots Z (F0 m 16 ls []) := by
  obtain ⟨hx, hb, hml, hown, hts⟩ := id S
  obtain ⟨bP, bQ, bD, bV⟩ := id hB
  intro f
  induction f with
  | zero =>
    intro k g gn L ls hf hi hg hl
    refine lv_iload hx hb dX0_late_16 (lv_at hl 5 rfl) ?_
    refine lv_iload_n hx hb dX0_late_18 rfl (lv_at hl 1 rfl) ?_
    refine jr_icmp_ge hx hb 154 (by omega) (by omega) dX0_late_19 (by decide) (fun hc => ?_) (fun hc => ?_)
    · have e1 : k = many := by omega
      subst e1
      exact K g L ls hi.1 hg (lv_sub hl [3] rfl)
    · exact absurd hc (by omega)
  | succ f ih =>
    intro k g gn L ls hf hi hg hl
    have hO6 : O k < 6 := hO k (by omega)
    have pj := bP (O k)
    have dj := bD (O k)
    have hsl := jk_sum_le bP L
    have hnd : (jk_fl O (k + 1)).Nodup := List.Pairwise.sublist (jk_fl_sub O (by omega)) (jk_Sorted_nd hs)
    refine lv_iload hx hb dX0_late_16 (lv_at hl 5 rfl) ?_
    refine lv_iload_n hx hb dX0_late_18 rfl (lv_at hl 1 rfl) ?_
    refine jr_icmp_ge hx hb 154 (by omega) (by omega) dX0_late_19 (by decide) (fun hc => ?_) (fun hc => ?_)
    · exact absurd hc (by omega)
    · refine lv_iload_n hx hb dX0_late_22 rfl (lv_at hl 2 rfl) ?_
      refine lv_aload_n hx hb dX0_late_23 rfl (lv_at hl 0 rfl) ?_
      refine dk_first S hK hw dX0_late_24 ?_
      refine lv_aload_n hx hb dX0_late_27 rfl (lv_at hl 0 rfl) ?_
      refine dk_order S hK hw dX0_late_28 ?_
      refine lv_iload hx hb dX0_late_31 (lv_at hl 5 rfl) ?_
      refine jr_ald hx hb hK hw 5 0 rfl rfl (by decide) (by omega) dX0_late_33 ?_
      refine jr_ald hx hb hK hw 1 0 rfl rfl (by decide) (by omega) dX0_late_34 ?_
      refine jr_iadd hx hb dX0_late_35 ?_
      refine lv_istore_n (lv' := [(2, .int (nI ((jk_sum P L) + (P (O k))))), (0, .ref (a 0)), (1, .int (nI (many))), (3, .int (nI (g))), (4, .int (nI (gn))), (5, .int (nI (k)))]) hx hb dX0_late_36 rfl hl (by decide) rfl (fun ls hl => ?_)
      refine lv_iload_n hx hb dX0_late_37 rfl (lv_at hl 0 rfl) ?_
      refine lv_aload_n hx hb dX0_late_38 rfl (lv_at hl 1 rfl) ?_
      refine dk_due S hK hw dX0_late_39 ?_
      refine lv_aload_n hx hb dX0_late_42 rfl (lv_at hl 1 rfl) ?_
      refine dk_order S hK hw dX0_late_43 ?_
      refine lv_iload hx hb dX0_late_46 (lv_at hl 5 rfl) ?_
      refine jr_ald hx hb hK hw 5 0 rfl rfl (by decide) (by omega) dX0_late_48 ?_
      refine jr_ald hx hb hK hw 3 0 rfl rfl (by decide) (by omega) dX0_late_49 ?_
      refine jr_icmp_gt hx hb 56 (by omega) (by omega) dX0_late_50 (by decide) (fun hc2 => ?_) (fun hc2 => ?_)
      · refine lv_iconst (v := -1) hx hb dX0_late_56 (by decide) ?_
        refine lv_istore (lv' := [(6, .int (-1)), (2, .int (nI ((jk_sum P L) + (P (O k))))), (0, .ref (a 0)), (1, .int (nI (many))), (3, .int (nI (g))), (4, .int (nI (gn))), (5, .int (nI (k)))]) hx hb dX0_late_57 hl (by decide) rfl (fun ls hl => ?_)
        refine lv_iconst (v := nI 0) hx hb dX0_late_59 (by decide) ?_
        refine lv_istore (lv' := [(7, .int (nI (0))), (6, .int (-1)), (2, .int (nI ((jk_sum P L) + (P (O k))))), (0, .ref (a 0)), (1, .int (nI (many))), (3, .int (nI (g))), (4, .int (nI (gn))), (5, .int (nI (k)))]) hx hb dX0_late_60 hl (by decide) rfl (fun ls hl => ?_)
        refine late_in S hK hB O M many hm hO H locs hw k (jk_sum P L + P (O k)) g gn (by omega) hi.2.1 (fun lg ls hlg hl => ?_) (k + 1) 0 (-1) ls (by omega) (Or.inl ⟨rfl, fun y hy => by simp [jk_fl] at hy⟩) (lv_sub hl [3, 4, 2, 5, 6, 7, 1, 0] rfl)
        rcases hlg with ⟨e1, e2⟩ | ⟨w, rfl, w6, wm, wg, wx⟩
        · exact absurd (e2 (O k) (jk_fl_mem1.mpr (Or.inr rfl))) (by rw [jk_LI_not hi hnd]; decide)
        obtain ⟨L', hL1, hL2, hL3⟩ := jk_LI_drop hi hnd (jk_Sorted_due hs (by omega)) hc2 wm w6 wg wx
        have pw := bP w
        have h2w : 2 ^ w < 2 ^ 6 := Nat.pow_lt_pow_right (by decide) w6
        refine lv_iload hx hb dX0_late_126 (lv_at hl 4 rfl) ?_
        refine lv_iconst (v := nI 1) hx hb dX0_late_128 (by decide) ?_
        refine lv_iload hx hb dX0_late_129 (lv_at hl 6 rfl) ?_
        refine jr_ishl hx hb (by omega) (by omega) dX0_late_131 ?_
        refine jr_ior hx hb dX0_late_132 ?_
        refine lv_istore (lv' := [(4, .int (nI (gn ||| ((1) * 2 ^ (w))))), (0, .ref (a 0)), (1, .int (nI (many))), (2, .int (nI (jk_sum P L + P (O k)))), (3, .int (nI (g))), (5, .int (nI (k))), (6, .int (nI (w)))]) hx hb dX0_late_133 hl (by decide) rfl (fun ls hl => ?_)
        refine lv_iload_n hx hb dX0_late_135 rfl (lv_at hl 3 rfl) ?_
        refine lv_aload_n hx hb dX0_late_136 rfl (lv_at hl 1 rfl) ?_
        refine dk_first S hK hw dX0_late_137 ?_
        refine lv_iload hx hb dX0_late_140 (lv_at hl 6 rfl) ?_
        refine jr_ald hx hb hK hw 1 0 rfl rfl (by decide) (by omega) dX0_late_142 ?_
        refine jr_isub hx hb (by omega) dX0_late_143 ?_
        refine lv_istore_n (lv' := [(2, .int (nI ((jk_sum P L + P (O k)) - (P w)))), (4, .int (nI (gn ||| ((1) * 2 ^ (w))))), (0, .ref (a 0)), (1, .int (nI (many))), (3, .int (nI (g))), (5, .int (nI (k))), (6, .int (nI (w)))]) hx hb dX0_late_144 rfl hl (by decide) rfl (fun ls hl => ?_)
        refine lv_iinc (v := (nI (g + 1))) (lv' := [(3, .int (nI (g + 1))), (2, .int (nI ((jk_sum P L + P (O k)) - (P w)))), (4, .int (nI (gn ||| ((1) * 2 ^ (w))))), (0, .ref (a 0)), (1, .int (nI (many))), (5, .int (nI (k))), (6, .int (nI (w)))]) hx hb dX0_late_145 hl (k := 4) rfl (nI_1 _) (by decide) rfl (fun ls hl => ?_)
        refine lv_iinc (v := (nI (k + 1))) (lv' := [(5, .int (nI (k + 1))), (3, .int (nI (g + 1))), (2, .int (nI ((jk_sum P L + P (O k)) - (P w)))), (4, .int (nI (gn ||| ((1) * 2 ^ (w))))), (0, .ref (a 0)), (1, .int (nI (many))), (6, .int (nI (w)))]) hx hb dX0_late_148 hl (k := 5) rfl (nI_1 _) (by decide) rfl (fun ls hl => ?_)
        refine lv_goto (tgt := 16) hx hb dX0_late_151 (by decide) ?_
        rw [show jk_sum P L + P (O k) - P w = jk_sum P L' by omega] at hl
        exact ih (k + 1) (g + 1) (gn ||| 1 * 2 ^ w) L' ls (by omega) hL1 (by omega) (lv_sub hl [4, 5, 2, 1, 3, 0] rfl)
      · refine lv_goto (tgt := 148) hx hb dX0_late_53 (by decide) ?_
        refine lv_iinc (v := (nI (k + 1))) (lv' := [(5, .int (nI (k + 1))), (2, .int (nI ((jk_sum P L) + (P (O k))))), (0, .ref (a 0)), (1, .int (nI (many))), (3, .int (nI (g))), (4, .int (nI (gn)))]) hx hb dX0_late_148 hl (k := 5) rfl (nI_1 _) (by decide) rfl (fun ls hl => ?_)
        refine lv_goto (tgt := 16) hx hb dX0_late_151 (by decide) ?_
        rw [show jk_sum P L + P (O k) = jk_sum P (L ++ [O k]) by rw [jk_sum_app]; rfl] at hl
        exact ih (k + 1) g gn (L ++ [O k]) ls (by omega) (jk_LI_keep hi hnd hc2) (by rw [List.length_append]; simp; omega) (lv_sub hl [2, 3, 1, 4, 5, 0] rfl)
set_option maxHeartbeats 4000000 in
set_option maxRecDepth 100000 in
/-- late(): how many are late -/
theorem c_X0_late (l : Launch) (G : va_G) (a : Nat → Nat) (cI cZ : ClassId) (P Q D V O M : Nat → Nat) (n sz : Nat) (hB : jk_Bd P Q D V) (hn : n ≤ 6) : Met l yX0_late (ws_ yX0_late cX0_late 8 (some .long)) ({ frames := 2, cells := 0, slots := 0, locals := 49 }) (wPc G (dkT cI cZ) (dkW a cI cZ P Q D V O M n) sz [.ref (a 0)]) (va_Ql (fun (r : Int64) (u : Nat → Nat) => ∃ many : Nat, many ≤ n ∧ jk_Sorted P Q D V 1 n u many ∧ ∃ L : List Nat, jk_MH P D (jk_fl u many) L ∧ r = lI ((many : Int) - (L.length : Int))) (fun u : Nat → Nat => wB G (dkT cI cZ) (va_A (dkW a cI cZ P Q D V O M n) sz) (dkW a cI cZ P Q D V u M n)) (va_A (dkW a cI cZ P Q D V O M n) sz)) 0 0 (va_A (dkW a cI cZ P Q D V O M n) sz) := by
  refine jw_enter (by decide) (Nat.le_of_ble_eq_true rfl) ?_
  intro p e s m below meth c S hr hlocks _ hA hK hw ls hl
  have S : CallFix p m c cX0_late 8 s _ lw_all RX0 := S
  obtain ⟨hx, hb, hml, hown, hts⟩ := id S
  generalize hAe : va_A (dkW a cI cZ P Q D V O M n) sz = A at hw hA ⊢
  have hl : lv_has ls 8 [(0, .ref (a 0))] := hl
  refine lv_aload_n hx hb dX0_late_0 rfl (lv_at hl 0 rfl) ?_
  refine lv_iconst (v := nI 1) hx hb dX0_late_1 (by decide) ?_
  refine jw_calli (As := [.int (nI 1)]) (rest := []) (wr := []) S hK hw hA hl.1 (c_X0_sort l G a cI cZ P Q D V O M n s.heap.size hB hn 1 (by decide)) (cwV 1 hts (lw_V q57 q59 qs0 q6 q60) rfl rfl rfl (by decide +kernel) ⟨Nat.le_refl _, Nat.le_refl _⟩) rfl [0, 1, 2, 3, 4, 5, 6] [] rfl rfl (by decide) rfl (by decide) (by decide) rfl rfl (by decide) ⟨Nat.le_refl _, Nat.le_refl _⟩ dX0_late_2 (fun r O H locs hq hw => ?_)
  have hw : Wd G A s (dkW a cI cZ P Q D V O M n) H locs := hw
  obtain ⟨many, hm, rfl, hs⟩ := hq
  have hO : ∀ i, i < many → O i < 6 := fun i hi => Nat.lt_of_lt_of_le (jk_Sorted_lt hs hi) hn
  refine lv_istore_n (lv' := [(1, .int (nI (many))), (0, .ref (a 0))]) hx hb dX0_late_5 rfl hl (by decide) rfl (fun ls hl => ?_)
  refine lv_iconst (v := nI 0) hx hb dX0_late_6 (by decide) ?_
  refine lv_istore_n (lv' := [(2, .int (nI (0))), (1, .int (nI (many))), (0, .ref (a 0))]) hx hb dX0_late_7 rfl hl (by decide) rfl (fun ls hl => ?_)
  refine lv_iconst (v := nI 0) hx hb dX0_late_8 (by decide) ?_
  refine lv_istore_n (lv' := [(3, .int (nI (0))), (2, .int (nI (0))), (1, .int (nI (many))), (0, .ref (a 0))]) hx hb dX0_late_9 rfl hl (by decide) rfl (fun ls hl => ?_)
  refine lv_iconst (v := nI 0) hx hb dX0_late_10 (by decide) ?_
  refine lv_istore (lv' := [(4, .int (nI (0))), (3, .int (nI (0))), (2, .int (nI (0))), (1, .int (nI (many))), (0, .ref (a 0))]) hx hb dX0_late_11 hl (by decide) rfl (fun ls hl => ?_)
  refine lv_iconst (v := nI 0) hx hb dX0_late_13 (by decide) ?_
  refine lv_istore (lv' := [(5, .int (nI (0))), (4, .int (nI (0))), (3, .int (nI (0))), (2, .int (nI (0))), (1, .int (nI (many))), (0, .ref (a 0))]) hx hb dX0_late_14 hl (by decide) rfl (fun ls hl => ?_)
  refine late_out S hK hB O M many (by omega) hO H locs hw hs (fun g L ls hM hg hl => ?_) many 0 0 0 [] ls (by omega) (jk_LI_0 P D O) rfl (lv_sub hl [5, 4, 3, 2, 1, 0] rfl)
  refine lv_iload_n hx hb dX0_late_154 rfl (lv_at hl 0 rfl) ?_
  refine jr_i2l hx hb (by omega) dX0_late_155 ?_
  exact jw_lret (wf := fun u : Nat → Nat => dkW a cI cZ P Q D V u M n) O hx hb hr hlocks hK hw ⟨many, hm, hs, L, hM, by rw [show ((g : Nat) : Int) = (many : Int) - (L.length : Int) by omega]⟩ dX0_late_156
end
section
/-! JobDesk.shared -/
set_option maxRecDepth 100000
def jr_dn : Nat → Int32
  | 0 => -1
  | j + 1 => nI j
theorem jr_dn_eq : ∀ j : Nat, nI j + Int32.ofInt (-1) = jr_dn j
  | 0 => by decide
  | j + 1 => pk_m1 j
/-- the sums of some of the first e jobs, and of those up from j with job e -/
def jk_T (P : Nat → Nat) (e j y : Nat) : Prop := jk_sub P e y ∨ ∃ q, j ≤ q ∧ jk_sub P e q ∧ y = q + P e
def jk_MT (P : Nat → Nat) (e j : Nat) (M : Nat → Nat) : Prop := ∀ y, y < 1531 → (M y = 1 ∧ jk_T P e j y) ∨ (M y = 0 ∧ ¬ jk_T P e j y)
def jk_MI (P : Nat → Nat) (e : Nat) (M : Nat → Nat) : Prop := ∀ y, y < 1531 → (M y = 1 ∧ jk_sub P e y) ∨ (M y = 0 ∧ ¬ jk_sub P e y)
theorem jk_all_le {P : Nat → Nat} (h : ∀ j, P j ≤ 255) : ∀ e, jk_all P e ≤ 255 * e
  | 0 => Nat.le_refl _
  | e + 1 => by
    have h1 := jk_all_le h e
    have h2 := h e
    simp only [jk_all]
    omega
theorem jk_MT_start {P : Nat → Nat} {e : Nat} {M : Nat → Nat} (h : jk_MI P e M) : jk_MT P e (jk_all P e + 1) M := by
  intro y hy
  have e1 : jk_T P e (jk_all P e + 1) y ↔ jk_sub P e y := by
    constructor
    · rintro (q | ⟨q, q1, q2, q3⟩)
      · exact q
      · have := jk_sub_le e q q2; omega
    · exact Or.inl
  rw [e1]
  exact h y hy
theorem jk_MT_end {P : Nat → Nat} {e : Nat} {M : Nat → Nat} (h : jk_MT P e 0 M) : jk_MI P (e + 1) M := by
  intro y hy
  have e1 : jk_T P e 0 y ↔ jk_sub P (e + 1) y := by
    constructor
    · rintro (q | ⟨q, q1, q2, q3⟩)
      · exact Or.inl q
      · subst q3
        exact Or.inr ⟨by omega, by rw [Nat.add_sub_cancel]; exact q2⟩
    · rintro (q | ⟨q1, q2⟩)
      · exact Or.inl q
      · exact Or.inr ⟨y - P e, Nat.zero_le _, q2, by omega⟩
  rw [← e1]
  exact h y hy
theorem jk_MT_at {P : Nat → Nat} {e j : Nat} {M : Nat → Nat} (h : jk_MT P e (j + 1) M) (hj : j < 1531) : (M j = 1 ∧ jk_sub P e j) ∨ (M j = 0 ∧ ¬ jk_sub P e j) := by
  have e1 : jk_T P e (j + 1) j ↔ jk_sub P e j := by
    constructor
    · rintro (q | ⟨q, q1, q2, q3⟩)
      · exact q
      · omega
    · exact Or.inl
  rw [← e1]
  exact h j hj
theorem jk_MT_skip {P : Nat → Nat} {e j : Nat} {M : Nat → Nat} (h : jk_MT P e (j + 1) M) (hj : ¬ jk_sub P e j) : jk_MT P e j M := by
  intro y hy
  have e1 : jk_T P e j y ↔ jk_T P e (j + 1) y := by
    constructor
    · rintro (q | ⟨q, q1, q2, q3⟩)
      · exact Or.inl q
      · by_cases c : q = j
        · subst c; exact absurd q2 hj
        · exact Or.inr ⟨q, by omega, q2, q3⟩
    · rintro (q | ⟨q, q1, q2, q3⟩)
      · exact Or.inl q
      · exact Or.inr ⟨q, by omega, q2, q3⟩
  rw [e1]
  exact h y hy
theorem jk_MT_put {P : Nat → Nat} {e j : Nat} {M : Nat → Nat} (h : jk_MT P e (j + 1) M) (hj : jk_sub P e j) : jk_MT P e j (jr_up M (j + P e) 1) := by
  intro y hy
  by_cases c : y = j + P e
  · subst c
    exact Or.inl ⟨jr_up_eq _ _ _, Or.inr ⟨j, Nat.le_refl _, hj, rfl⟩⟩
  · rw [jr_up_ne _ _ c]
    have e1 : jk_T P e j y ↔ jk_T P e (j + 1) y := by
      constructor
      · rintro (q | ⟨q, q1, q2, q3⟩)
        · exact Or.inl q
        · by_cases c2 : q = j
          · subst c2; exact absurd q3 c
          · exact Or.inr ⟨q, by omega, q2, q3⟩
      · rintro (q | ⟨q, q1, q2, q3⟩)
        · exact Or.inl q
        · exact Or.inr ⟨q, by omega, q2, q3⟩
    rw [e1]
    exact h y hy
theorem jk_MI_lt {P : Nat → Nat} {e y : Nat} {M : Nat → Nat} (h : jk_MI P e M) (hy : y < 1531) : M y < 2 ^ 31 := by
  rcases h y hy with q | q <;> omega
set_option maxHeartbeats 4000000 in
set_option maxRecDepth 100000 in
/-- made: nothing but 0 -/
theorem sh_clear {p : Program} {l : Launch} {e : Env} {R : Room} {s : State} {m : MethodId} {args : Array Value} {below : List Frame} {meth : Method} {c : Code} {Z : State → Prop} {G : va_G} {A : Nat → Prop} {a : Nat → Nat} {cI cZ : ClassId} {P Q D V : Nat → Nat} {n : Nat} {cells slots : Nat} (S : CallFix p m c cX0_shared 4 s args lw_all RX0) (hK : va_K G vwCl (dkT cI cZ) s) (hB : jk_Bd P Q D V) (hn : n ≤ 6) (O : Nat → Nat)
    (K : ∀ (M : Nat → Nat) (H : Heap) (locs : List Loc) (ls : Array Slot), (∀ i, i < 1531 → M i = if i = 0 then 1 else 0) → Wd G A s (dkW a cI cZ P Q D V O M n) H locs → lv_has ls 4 [(0, .ref (a 0)), (1, .int (nI (0)))] → W p l e R s m args below meth c H locs cells slots Z (F0 m 34 ls [])) :
    ∀ (f k : Nat) (M : Nat → Nat) (H : Heap) (locs : List Loc) (ls : Array Slot), k + f = 1531 → (∀ i, i < k → M i = if i = 0 then 1 else 0) → Wd G A s (dkW a cI cZ P Q D V O M n) H locs → lv_has ls 4 [(0, .ref (a 0)), (1, .int (nI (0))), (2, .int (nI (k)))] → W p l e R s m args below meth c H locs cells slots Z (F0 m 4 ls []) := by
  obtain ⟨hx, hb, hml, hown, hts⟩ := id S
  obtain ⟨bP, bQ, bD, bV⟩ := id hB
  intro f
  induction f with
  | zero =>
    intro k M H locs ls hf hi hw hl
    refine lv_iload_n hx hb dX0_shared_4 rfl (lv_at hl 2 rfl) ?_
    refine lv_aload_n hx hb dX0_shared_5 rfl (lv_at hl 0 rfl) ?_
    refine dk_made S hK hw dX0_shared_6 ?_
    refine va_alen (v := nI 1531) hx hb hK hw.1 6 1 rfl rfl rfl dX0_shared_9 ?_
    refine jr_icmp_ge hx hb 34 (by omega) (by omega) dX0_shared_10 (by decide) (fun hc => ?_) (fun hc => ?_)
    · have e1 : k = 1531 := by omega
      subst e1
      exact K M H locs ls hi hw (lv_sub hl [0, 1] rfl)
    · exact absurd hc (by omega)
  | succ f ih =>
    intro k M H locs ls hf hi hw hl
    refine lv_iload_n hx hb dX0_shared_4 rfl (lv_at hl 2 rfl) ?_
    refine lv_aload_n hx hb dX0_shared_5 rfl (lv_at hl 0 rfl) ?_
    refine dk_made S hK hw dX0_shared_6 ?_
    refine va_alen (v := nI 1531) hx hb hK hw.1 6 1 rfl rfl rfl dX0_shared_9 ?_
    refine jr_icmp_ge hx hb 34 (by omega) (by omega) dX0_shared_10 (by decide) (fun hc => ?_) (fun hc => ?_)
    · exact absurd hc (by omega)
    · refine lv_aload_n hx hb dX0_shared_13 rfl (lv_at hl 0 rfl) ?_
      refine dk_made S hK hw dX0_shared_14 ?_
      refine lv_iload_n hx hb dX0_shared_17 rfl (lv_at hl 2 rfl) ?_
      refine lv_iload_n hx hb dX0_shared_18 rfl (lv_at hl 2 rfl) ?_
      refine jr_if_ne hx hb 26 (by omega) dX0_shared_19 (by decide) (fun h0 => ?_) (fun h0 => ?_)
      · refine lv_iconst (v := nI 0) hx hb dX0_shared_26 (by decide) ?_
        refine jr_zast hx hb hK hw 6 1 rfl rfl (by decide) (by omega) (by omega) dX0_shared_27 (fun H locs hw => ?_)
        have hw : Wd G A s (dkW a cI cZ P Q D V O (jr_up M k 0) n) H locs := hw
        refine lv_iinc (v := (nI (k + 1))) (lv' := [(2, .int (nI (k + 1))), (0, .ref (a 0)), (1, .int (nI (0)))]) hx hb dX0_shared_28 hl (k := 2) rfl (nI_1 _) (by decide) rfl (fun ls hl => ?_)
        refine lv_goto (tgt := 4) hx hb dX0_shared_31 (by decide) ?_
        refine ih (k + 1) (jr_up M k 0) H locs ls (by omega) ?_ hw (lv_sub hl [1, 2, 0] rfl)
        intro i h1
        by_cases c : i = k
        · subst c
          rw [jr_up_eq, if_neg h0]
        · rw [jr_up_ne _ _ c]
          exact hi i (by omega)
      · refine lv_iconst (v := nI 1) hx hb dX0_shared_22 (by decide) ?_
        refine lv_goto (tgt := 27) hx hb dX0_shared_23 (by decide) ?_
        refine jr_zast hx hb hK hw 6 1 rfl rfl (by decide) (by omega) (by omega) dX0_shared_27 (fun H locs hw => ?_)
        have hw : Wd G A s (dkW a cI cZ P Q D V O (jr_up M k 1) n) H locs := hw
        refine lv_iinc (v := (nI (k + 1))) (lv' := [(2, .int (nI (k + 1))), (0, .ref (a 0)), (1, .int (nI (0)))]) hx hb dX0_shared_28 hl (k := 2) rfl (nI_1 _) (by decide) rfl (fun ls hl => ?_)
        refine lv_goto (tgt := 4) hx hb dX0_shared_31 (by decide) ?_
        refine ih (k + 1) (jr_up M k 1) H locs ls (by omega) ?_ hw (lv_sub hl [1, 2, 0] rfl)
        intro i h1
        by_cases c : i = k
        · subst c
          rw [jr_up_eq, if_pos h0]
        · rw [jr_up_ne _ _ c]
          exact hi i (by omega)
set_option maxHeartbeats 4000000 in
set_option maxRecDepth 100000 in
/-- one job more, from the greatest sum down -/
theorem sh_in {p : Program} {l : Launch} {e : Env} {R : Room} {s : State} {m : MethodId} {args : Array Value} {below : List Frame} {meth : Method} {c : Code} {Z : State → Prop} {G : va_G} {A : Nat → Prop} {a : Nat → Nat} {cI cZ : ClassId} {P Q D V : Nat → Nat} {n : Nat} {cells slots : Nat} (S : CallFix p m c cX0_shared 4 s args lw_all RX0) (hK : va_K G vwCl (dkT cI cZ) s) (hB : jk_Bd P Q D V) (hn : n ≤ 6) (O : Nat → Nat) (jb : Nat) (he : jb < n)
    (K : ∀ (M : Nat → Nat) (H : Heap) (locs : List Loc) (ls : Array Slot), jk_MT P jb 0 M → Wd G A s (dkW a cI cZ P Q D V O M n) H locs → lv_has ls 4 [(0, .ref (a 0)), (1, .int (nI (jk_all P jb))), (2, .int (nI (jb)))] → W p l e R s m args below meth c H locs cells slots Z (F0 m 79 ls [])) :
    ∀ (j : Nat) (M : Nat → Nat) (H : Heap) (locs : List Loc) (ls : Array Slot), j ≤ jk_all P jb + 1 → jk_MT P jb j M → Wd G A s (dkW a cI cZ P Q D V O M n) H locs → lv_has ls 4 [(0, .ref (a 0)), (1, .int (nI (jk_all P jb))), (2, .int (nI (jb))), (3, .int (jr_dn j))] → W p l e R s m args below meth c H locs cells slots Z (F0 m 46 ls []) := by
  obtain ⟨hx, hb, hml, hown, hts⟩ := id S
  obtain ⟨bP, bQ, bD, bV⟩ := id hB
  have hal := jk_all_le bP jb
  have pe := bP jb
  intro j
  induction j with
  | zero =>
    intro M H locs ls hj hi hw hl
    have hl : lv_has ls 4 [(0, .ref (a 0)), (1, .int (nI (jk_all P jb))), (2, .int (nI (jb))), (3, .int (-1))] := hl
    refine lv_iload_n hx hb dX0_shared_46 rfl (lv_at hl 3 rfl) ?_
    refine lv_if_lt (tgt := 79) hx hb dX0_shared_47 (by decide) (fun _ => ?_) (fun q => absurd (by decide) q)
    exact K M H locs ls hi hw (lv_sub hl [0, 1, 2] rfl)
  | succ j ih =>
    intro M H locs ls hj hi hw hl
    have hl : lv_has ls 4 [(0, .ref (a 0)), (1, .int (nI (jk_all P jb))), (2, .int (nI (jb))), (3, .int (nI (j)))] := hl
    have hat := jk_MT_at hi (by omega)
    have hlt : M j < 2 ^ 31 := by rcases hat with q | q <;> omega
    refine lv_iload_n hx hb dX0_shared_46 rfl (lv_at hl 3 rfl) ?_
    refine lv_if_lt (tgt := 79) hx hb dX0_shared_47 (by decide) (fun q => absurd q (nI_pos (by omega))) (fun _ => ?_)
    refine lv_aload_n hx hb dX0_shared_50 rfl (lv_at hl 0 rfl) ?_
    refine dk_made S hK hw dX0_shared_51 ?_
    refine lv_iload_n hx hb dX0_shared_54 rfl (lv_at hl 3 rfl) ?_
    refine jr_zald hx hb hK hw 6 1 rfl rfl (by decide) (by omega) dX0_shared_55 ?_
    refine jr_if_eq hx hb 73 hlt dX0_shared_56 (by decide) (fun h0 => ?_) (fun h0 => ?_)
    · refine lv_iinc (v := (jr_dn j)) (lv' := [(3, .int (jr_dn j)), (0, .ref (a 0)), (1, .int (nI (jk_all P jb))), (2, .int (nI (jb)))]) hx hb dX0_shared_73 hl (k := 3) rfl (jr_dn_eq j) (by decide) rfl (fun ls hl => ?_)
      refine lv_goto (tgt := 46) hx hb dX0_shared_76 (by decide) ?_
      exact ih M H locs ls (by omega) (jk_MT_skip hi (by rcases hat with q | q; exact absurd h0 (by omega); exact q.2)) hw (lv_sub hl [1, 2, 3, 0] rfl)
    · refine lv_aload_n hx hb dX0_shared_59 rfl (lv_at hl 0 rfl) ?_
      refine dk_made S hK hw dX0_shared_60 ?_
      refine lv_iload_n hx hb dX0_shared_63 rfl (lv_at hl 3 rfl) ?_
      refine lv_aload_n hx hb dX0_shared_64 rfl (lv_at hl 0 rfl) ?_
      refine dk_first S hK hw dX0_shared_65 ?_
      refine lv_iload_n hx hb dX0_shared_68 rfl (lv_at hl 2 rfl) ?_
      refine jr_ald hx hb hK hw 1 0 rfl rfl (by decide) (by omega) dX0_shared_69 ?_
      refine jr_iadd hx hb dX0_shared_70 ?_
      refine lv_iconst (v := nI 1) hx hb dX0_shared_71 (by decide) ?_
      refine jr_zast hx hb hK hw 6 1 rfl rfl (by decide) (by omega) (by omega) dX0_shared_72 (fun H locs hw => ?_)
      have hw : Wd G A s (dkW a cI cZ P Q D V O (jr_up M (j + (P jb)) 1) n) H locs := hw
      refine lv_iinc (v := (jr_dn j)) (lv' := [(3, .int (jr_dn j)), (0, .ref (a 0)), (1, .int (nI (jk_all P jb))), (2, .int (nI (jb)))]) hx hb dX0_shared_73 hl (k := 3) rfl (jr_dn_eq j) (by decide) rfl (fun ls hl => ?_)
      refine lv_goto (tgt := 46) hx hb dX0_shared_76 (by decide) ?_
      exact ih (jr_up M (j + P jb) 1) H locs ls (by omega) (jk_MT_put hi (by rcases hat with q | q; exact q.2; exact absurd q.1 h0)) hw (lv_sub hl [1, 2, 3, 0] rfl)
set_option maxHeartbeats 4000000 in
set_option maxRecDepth 100000 in
/-- all sums that some jobs make -/
theorem sh_out {p : Program} {l : Launch} {e : Env} {R : Room} {s : State} {m : MethodId} {args : Array Value} {below : List Frame} {meth : Method} {c : Code} {Z : State → Prop} {G : va_G} {A : Nat → Prop} {a : Nat → Nat} {cI cZ : ClassId} {P Q D V : Nat → Nat} {n : Nat} {cells slots : Nat} (S : CallFix p m c cX0_shared 4 s args lw_all RX0) (hK : va_K G vwCl (dkT cI cZ) s) (hB : jk_Bd P Q D V) (hn : n ≤ 6) (O : Nat → Nat)
    (K : ∀ (M : Nat → Nat) (H : Heap) (locs : List Loc) (ls : Array Slot), jk_MI P n M → Wd G A s (dkW a cI cZ P Q D V O M n) H locs → lv_has ls 4 [(0, .ref (a 0)), (1, .int (nI (jk_all P n)))] → W p l e R s m args below meth c H locs cells slots Z (F0 m 94 ls [])) :
    ∀ (f jb : Nat) (M : Nat → Nat) (H : Heap) (locs : List Loc) (ls : Array Slot), jb + f = n → jk_MI P jb M → Wd G A s (dkW a cI cZ P Q D V O M n) H locs → lv_has ls 4 [(0, .ref (a 0)), (1, .int (nI (jk_all P jb))), (2, .int (nI (jb)))] → W p l e R s m args below meth c H locs cells slots Z (F0 m 36 ls []) := by
  obtain ⟨hx, hb, hml, hown, hts⟩ := id S
  obtain ⟨bP, bQ, bD, bV⟩ := id hB
  intro f
  induction f with
  | zero =>
    intro jb M H locs ls hf hi hw hl
    refine lv_iload_n hx hb dX0_shared_36 rfl (lv_at hl 2 rfl) ?_
    refine lv_aload_n hx hb dX0_shared_37 rfl (lv_at hl 0 rfl) ?_
    refine dk_n S hK hw dX0_shared_38 ?_
    refine jr_icmp_ge hx hb 94 (by omega) (by omega) dX0_shared_41 (by decide) (fun hc => ?_) (fun hc => ?_)
    · have e1 : jb = n := by omega
      subst e1
      exact K M H locs ls hi hw (lv_sub hl [0, 1] rfl)
    · exact absurd hc (by omega)
  | succ f ih =>
    intro jb M H locs ls hf hi hw hl
    have hal := jk_all_le bP jb
    have pe := bP jb
    refine lv_iload_n hx hb dX0_shared_36 rfl (lv_at hl 2 rfl) ?_
    refine lv_aload_n hx hb dX0_shared_37 rfl (lv_at hl 0 rfl) ?_
    refine dk_n S hK hw dX0_shared_38 ?_
    refine jr_icmp_ge hx hb 94 (by omega) (by omega) dX0_shared_41 (by decide) (fun hc => ?_) (fun hc => ?_)
    · exact absurd hc (by omega)
    · refine lv_iload_n hx hb dX0_shared_44 rfl (lv_at hl 1 rfl) ?_
      refine lv_istore_n (lv' := [(3, .int (nI (jk_all P jb))), (0, .ref (a 0)), (1, .int (nI (jk_all P jb))), (2, .int (nI (jb)))]) hx hb dX0_shared_45 rfl hl (by decide) rfl (fun ls hl => ?_)
      have hl : lv_has ls 4 [(3, .int (jr_dn (jk_all P jb + 1))), (0, .ref (a 0)), (1, .int (nI (jk_all P jb))), (2, .int (nI (jb)))] := hl
      refine sh_in S hK hB hn O jb (by omega) (fun M H locs ls hi hw hl => ?_) (jk_all P jb + 1) M H locs ls (Nat.le_refl _) (jk_MT_start hi) hw (lv_sub hl [1, 2, 3, 0] rfl)
      refine lv_iload_n hx hb dX0_shared_79 rfl (lv_at hl 1 rfl) ?_
      refine lv_aload_n hx hb dX0_shared_80 rfl (lv_at hl 0 rfl) ?_
      refine dk_first S hK hw dX0_shared_81 ?_
      refine lv_iload_n hx hb dX0_shared_84 rfl (lv_at hl 2 rfl) ?_
      refine jr_ald hx hb hK hw 1 0 rfl rfl (by decide) (by omega) dX0_shared_85 ?_
      refine jr_iadd hx hb dX0_shared_86 ?_
      refine lv_istore_n (lv' := [(1, .int (nI ((jk_all P jb) + (P jb)))), (0, .ref (a 0)), (2, .int (nI (jb)))]) hx hb dX0_shared_87 rfl hl (by decide) rfl (fun ls hl => ?_)
      refine lv_iinc (v := (nI (jb + 1))) (lv' := [(2, .int (nI (jb + 1))), (1, .int (nI ((jk_all P jb) + (P jb)))), (0, .ref (a 0))]) hx hb dX0_shared_88 hl (k := 2) rfl (nI_1 _) (by decide) rfl (fun ls hl => ?_)
      refine lv_goto (tgt := 36) hx hb dX0_shared_91 (by decide) ?_
      have hl : lv_has ls 4 [(2, .int (nI (jb + 1))), (1, .int (nI (jk_all P (jb + 1)))), (0, .ref (a 0))] := hl
      exact ih (jb + 1) M H locs ls (by omega) (jk_MT_end hi) hw (lv_sub hl [2, 1, 0] rfl)
set_option maxHeartbeats 4000000 in
set_option maxRecDepth 100000 in
/-- the greatest sum up to half of all -/
theorem sh_half {p : Program} {l : Launch} {e : Env} {R : Room} {s : State} {m : MethodId} {args : Array Value} {below : List Frame} {meth : Method} {c : Code} {Z : State → Prop} {G : va_G} {A : Nat → Prop} {a : Nat → Nat} {cI cZ : ClassId} {P Q D V : Nat → Nat} {n : Nat} {cells slots : Nat} (S : CallFix p m c cX0_shared 4 s args lw_all RX0) (hK : va_K G vwCl (dkT cI cZ) s) (hB : jk_Bd P Q D V) (hn : n ≤ 6) (O : Nat → Nat) (M : Nat → Nat) (H : Heap) (locs : List Loc) (hi : jk_MI P n M) (hw : Wd G A s (dkW a cI cZ P Q D V O M n) H locs)
    (K : ∀ (half : Nat) (ls : Array Slot), half ≤ jk_all P n / 2 → jk_sub P n half → (∀ y, half < y → y ≤ jk_all P n / 2 → ¬ jk_sub P n y) → lv_has ls 4 [(0, .ref (a 0)), (1, .int (nI (jk_all P n))), (2, .int (nI (half)))] → W p l e R s m args below meth c H locs cells slots Z (F0 m 113 ls [])) :
    ∀ (half : Nat) (ls : Array Slot), half ≤ jk_all P n / 2 → (∀ y, half < y → y ≤ jk_all P n / 2 → ¬ jk_sub P n y) → lv_has ls 4 [(0, .ref (a 0)), (1, .int (nI (jk_all P n))), (2, .int (nI (half)))] → W p l e R s m args below meth c H locs cells slots Z (F0 m 98 ls []) := by
  obtain ⟨hx, hb, hml, hown, hts⟩ := id S
  obtain ⟨bP, bQ, bD, bV⟩ := id hB
  have hal := jk_all_le bP n
  intro half
  induction half with
  | zero =>
    intro ls h1 h2 hl
    have hlt := jk_MI_lt (y := 0) hi (by decide)
    refine lv_aload_n hx hb dX0_shared_98 rfl (lv_at hl 0 rfl) ?_
    refine dk_made S hK hw dX0_shared_99 ?_
    refine lv_iload_n hx hb dX0_shared_102 rfl (lv_at hl 2 rfl) ?_
    refine jr_zald hx hb hK hw 6 1 rfl rfl (by decide) (by omega) dX0_shared_103 ?_
    refine jr_if_ne hx hb 113 hlt dX0_shared_104 (by decide) (fun h0 => ?_) (fun h0 => ?_)
    · exact K 0 ls h1 (jk_sub_0 P n) h2 hl
    · rcases hi 0 (by decide) with q | q
      · exact absurd h0 (by omega)
      · exact absurd (jk_sub_0 P n) q.2
  | succ half ih =>
    intro ls h1 h2 hl
    have hlt := jk_MI_lt (y := half + 1) hi (by omega)
    have hat := hi (half + 1) (by omega)
    refine lv_aload_n hx hb dX0_shared_98 rfl (lv_at hl 0 rfl) ?_
    refine dk_made S hK hw dX0_shared_99 ?_
    refine lv_iload_n hx hb dX0_shared_102 rfl (lv_at hl 2 rfl) ?_
    refine jr_zald hx hb hK hw 6 1 rfl rfl (by decide) (by omega) dX0_shared_103 ?_
    refine jr_if_ne hx hb 113 hlt dX0_shared_104 (by decide) (fun h0 => ?_) (fun h0 => ?_)
    · exact K (half + 1) ls h1 (by rcases hat with q | q; exact q.2; exact absurd q.1 h0) h2 hl
    · refine lv_iinc (v := (nI (half))) (lv' := [(2, .int (nI (half))), (0, .ref (a 0)), (1, .int (nI (jk_all P n)))]) hx hb dX0_shared_107 hl (k := 2) rfl (pk_m1 half) (by decide) rfl (fun ls hl => ?_)
      refine lv_goto (tgt := 98) hx hb dX0_shared_110 (by decide) ?_
      refine ih ls (by omega) ?_ (lv_sub hl [1, 2, 0] rfl)
      intro y y1 y2
      by_cases c : y = half + 1
      · subst c
        rcases hat with q | q
        · exact absurd h0 (by omega)
        · exact q.2
      · exact h2 y (by omega) y2
set_option maxHeartbeats 4000000 in
set_option maxRecDepth 100000 in
/-- shared(): what the busier of two hands has -/
theorem c_X0_shared (l : Launch) (G : va_G) (a : Nat → Nat) (cI cZ : ClassId) (P Q D V O M : Nat → Nat) (n sz : Nat) (hB : jk_Bd P Q D V) (hn : n ≤ 6) : Met l yX0_shared (ws_ yX0_shared cX0_shared 4 (some .long)) ({ frames := 0, cells := 0, slots := 0, locals := 0 }) (wPc G (dkT cI cZ) (dkW a cI cZ P Q D V O M n) sz [.ref (a 0)]) (va_Ql (fun (r : Int64) (_ : Nat → Nat) => ∃ half : Nat, half ≤ jk_all P n / 2 ∧ jk_sub P n half ∧ (∀ y, half < y → y ≤ jk_all P n / 2 → ¬ jk_sub P n y) ∧ r = lI ((jk_all P n - half : Nat) : Int)) (fun u : Nat → Nat => wB G (dkT cI cZ) (va_A (dkW a cI cZ P Q D V O M n) sz) (dkW a cI cZ P Q D V O u n)) (va_A (dkW a cI cZ P Q D V O M n) sz)) 0 0 (va_A (dkW a cI cZ P Q D V O M n) sz) := by
  refine jw_enter (by decide) (Nat.le_of_ble_eq_true rfl) ?_
  intro p e s m below meth c S hr hlocks _ hA hK hw ls hl
  have S : CallFix p m c cX0_shared 4 s _ lw_all RX0 := S
  obtain ⟨hx, hb, hml, hown, hts⟩ := id S
  generalize hAe : va_A (dkW a cI cZ P Q D V O M n) sz = A at hw hA ⊢
  have hl : lv_has ls 4 [(0, .ref (a 0))] := hl
  refine lv_iconst (v := nI 0) hx hb dX0_shared_0 (by decide) ?_
  refine lv_istore_n (lv' := [(1, .int (nI (0))), (0, .ref (a 0))]) hx hb dX0_shared_1 rfl hl (by decide) rfl (fun ls hl => ?_)
  refine lv_iconst (v := nI 0) hx hb dX0_shared_2 (by decide) ?_
  refine lv_istore_n (lv' := [(2, .int (nI (0))), (1, .int (nI (0))), (0, .ref (a 0))]) hx hb dX0_shared_3 rfl hl (by decide) rfl (fun ls hl => ?_)
  refine sh_clear S hK hB hn O (fun M H locs ls hi hw hl => ?_) 1531 0 M s.heap [] ls (by omega) (fun i h => absurd h (by omega)) hw (lv_sub hl [2, 1, 0] rfl)
  have hi : jk_MI P 0 M := by
    intro y hy
    have := hi y hy
    by_cases c : y = 0
    · rw [if_pos c] at this; exact Or.inl ⟨this, c⟩
    · rw [if_neg c] at this; exact Or.inr ⟨this, c⟩
  refine lv_iconst (v := nI 0) hx hb dX0_shared_34 (by decide) ?_
  refine lv_istore_n (lv' := [(2, .int (nI (0))), (0, .ref (a 0)), (1, .int (nI (0)))]) hx hb dX0_shared_35 rfl hl (by decide) rfl (fun ls hl => ?_)
  refine sh_out S hK hB hn O (fun M H locs ls hi hw hl => ?_) n 0 M H locs ls (by omega) hi hw (lv_sub hl [1, 2, 0] rfl)
  have hal := jk_all_le hB.1 n
  refine lv_iload_n hx hb dX0_shared_94 rfl (lv_at hl 1 rfl) ?_
  refine lv_iconst (v := nI 2) hx hb dX0_shared_95 (by decide) ?_
  refine jr_idiv hx hb (by omega) (by omega) (by omega) dX0_shared_96 ?_
  refine lv_istore_n (lv' := [(2, .int (nI ((jk_all P n) / 2))), (0, .ref (a 0)), (1, .int (nI (jk_all P n)))]) hx hb dX0_shared_97 rfl hl (by decide) rfl (fun ls hl => ?_)
  refine sh_half S hK hB hn O M H locs hi hw (fun half ls h1 h2 h3 hl => ?_) (jk_all P n / 2) ls (Nat.le_refl _) (fun y y1 y2 => absurd y1 (by omega)) (lv_sub hl [1, 2, 0] rfl)
  refine lv_iload_n hx hb dX0_shared_113 rfl (lv_at hl 1 rfl) ?_
  refine lv_iload_n hx hb dX0_shared_114 rfl (lv_at hl 2 rfl) ?_
  refine jr_isub hx hb (by omega) dX0_shared_115 ?_
  refine jr_i2l hx hb (by omega) dX0_shared_116 ?_
  exact jw_lret (wf := fun u : Nat → Nat => dkW a cI cZ P Q D V O u n) M hx hb hr hlocks hK hw ⟨half, h1, h2, h3, rfl⟩ dX0_shared_117
end
section
/-! JobDeskModel.orders, order -/
set_option maxRecDepth 100000
theorem jk_fl_erase {M M' : Nat → Nat} {d f : Nat} (hd : d ≤ f) (h1 : ∀ y, y < d → M' y = M y) (h2 : ∀ y, d ≤ y → y < f → M' y = M (y + 1)) : jk_fl M' f = (jk_fl M (f + 1)).eraseIdx d := by
  have e1 : jk_fl M' f = jk_fl M d ++ jk_fl (fun i => M (d + (1 + i))) (f - d) := by
    rw [show f = d + (f - d) by omega, jk_fl_add, jk_fl_congr (f := M') (g := M) h1]
    congr 1
    rw [show d + (f - d) - d = f - d by omega]
    refine jk_fl_congr (fun i hi => ?_)
    show M' (d + i) = M (d + (1 + i))
    rw [h2 (d + i) (by omega) (by omega), show d + i + 1 = d + (1 + i) by omega]
  have e2 : jk_fl M (f + 1) = jk_fl M d ++ M d :: jk_fl (fun i => M (d + (1 + i))) (f - d) := by
    rw [show f + 1 = d + (1 + (f - d)) by omega, jk_fl_add, jk_fl_add]
    congr 1
  rw [e1, e2, List.eraseIdx_append_of_length_le (by rw [jk_fl_len]; exact Nat.le_refl _), jk_fl_len, Nat.sub_self]
  rfl
theorem jk_perm_step {O M M' : Nat → Nat} {i f r : Nat} (h1 : ∀ y, y < r % (f + 1) → M' y = M y) (h2 : ∀ y, r % (f + 1) ≤ y → y < f → M' y = M (y + 1)) : jk_fl (jr_up O i (M (r % (f + 1)))) (i + 1) ++ jk_perm f (jk_fl M' f) (r / (f + 1)) = jk_fl O i ++ jk_perm (f + 1) (jk_fl M (f + 1)) r := by
  have hd : r % (f + 1) < f + 1 := Nat.mod_lt _ (Nat.succ_pos f)
  have e1 : (jk_fl M (f + 1)).getD (r % (f + 1)) 0 = M (r % (f + 1)) := by
    rw [List.getD_eq_getElem?_getD, jk_fl_get hd]
    rfl
  show _ = jk_fl O i ++ ((jk_fl M (f + 1)).getD (r % (f + 1)) 0 :: jk_perm f ((jk_fl M (f + 1)).eraseIdx (r % (f + 1))) (r / (f + 1)))
  rw [jk_fl_succ, jr_up_eq, jk_fl_congr (f := jr_up O i (M (r % (f + 1)))) (g := O) (fun y hy => jr_up_ne _ _ (by omega)), e1, ← jk_fl_erase (by omega) h1 h2, List.append_assoc]
  rfl
set_option maxHeartbeats 4000000 in
set_option maxRecDepth 100000 in
/-- the loop of orders -/
theorem ors_loop {p : Program} {l : Launch} {e : Env} {R : Room} {s : State} {m : MethodId} {args : Array Value} {below : List Frame} {meth : Method} {c : Code} {Z : State → Prop} {G : va_G} {A : Nat → Prop} {a : Nat → Nat} {cI cZ : ClassId} {P Q D V : Nat → Nat} {n : Nat} {cells slots : Nat} (S : CallFix p m c cX1_orders 3 s args lw_all RX1) (hK : va_K G vwCl (dkT cI cZ) s) (hn : n ≤ 6) (O M : Nat → Nat) (H : Heap) (locs : List Loc) (hw : Wd G A s (dmW a cI P Q D V O M n) H locs)
    (K : ∀ (ls : Array Slot), lv_has ls 3 [(1, .int (nI (jk_fac n)))] → W p l e R s m args below meth c H locs cells slots Z (F0 m 22 ls [])) :
    ∀ (f q : Nat) (ls : Array Slot), (q + 1 + f = n ∨ (n = 0 ∧ q = 0 ∧ f = 0)) → lv_has ls 3 [(0, .ref (a 0)), (1, .int (nI (jk_fac (q + 1)))), (2, .int (nI (q + 2)))] → W p l e R s m args below meth c H locs cells slots Z (F0 m 4 ls []) := by
  obtain ⟨hx, hb, hml, hown, hts⟩ := id S
  intro f
  induction f with
  | zero =>
    intro q ls hf hl
    refine lv_iload_n hx hb dX1_orders_4 rfl (lv_at hl 2 rfl) ?_
    refine lv_aload_n hx hb dX1_orders_5 rfl (lv_at hl 0 rfl) ?_
    refine dm_n S hK hw dX1_orders_6 ?_
    refine jr_icmp_gt hx hb 22 (by omega) (by omega) dX1_orders_9 (by decide) (fun hc => ?_) (fun hc => ?_)
    · have hl1 := (lv_sub hl [1] rfl)
      rw [show jk_fac (q + 1) = jk_fac n by
        rcases hf with h | ⟨h1, h2, h3⟩
        · rw [← h]
        · subst h1; subst h2; rfl] at hl1
      exact K ls hl1
    · exact absurd hc (by omega)
  | succ f ih =>
    intro q ls hf hl
    refine lv_iload_n hx hb dX1_orders_4 rfl (lv_at hl 2 rfl) ?_
    refine lv_aload_n hx hb dX1_orders_5 rfl (lv_at hl 0 rfl) ?_
    refine dm_n S hK hw dX1_orders_6 ?_
    refine jr_icmp_gt hx hb 22 (by omega) (by omega) dX1_orders_9 (by decide) (fun hc => ?_) (fun hc => ?_)
    · exact absurd hc (by omega)
    · refine lv_iload_n hx hb dX1_orders_12 rfl (lv_at hl 1 rfl) ?_
      refine lv_iload_n hx hb dX1_orders_13 rfl (lv_at hl 2 rfl) ?_
      refine jr_imul hx hb dX1_orders_14 ?_
      refine lv_istore_n (lv' := [(1, .int (nI ((jk_fac (q + 1)) * (q + 2)))), (0, .ref (a 0)), (2, .int (nI (q + 2)))]) hx hb dX1_orders_15 rfl hl (by decide) rfl (fun ls hl => ?_)
      refine lv_iinc (v := (nI (q + 2 + 1))) (lv' := [(2, .int (nI (q + 2 + 1))), (1, .int (nI ((jk_fac (q + 1)) * (q + 2)))), (0, .ref (a 0))]) hx hb dX1_orders_16 hl (k := 2) rfl (nI_1 _) (by decide) rfl (fun ls hl => ?_)
      refine lv_goto (tgt := 4) hx hb dX1_orders_19 (by decide) ?_
      rw [show jk_fac (q + 1) * (q + 2) = jk_fac (q + 1 + 1) from Nat.mul_comm _ _] at hl
      exact ih (q + 1) ls (Or.inl (by omega)) (lv_sub hl [2, 1, 0] rfl)
set_option maxHeartbeats 4000000 in
set_option maxRecDepth 100000 in
/-- orders(): how many orders -/
theorem c_X1_orders (l : Launch) (G : va_G) (a : Nat → Nat) (cI cZ : ClassId) (P Q D V O M : Nat → Nat) (n sz : Nat) (hn : n ≤ 6) : Met l yX1_orders (ws_ yX1_orders cX1_orders 3 (some .int)) ({ frames := 0, cells := 0, slots := 0, locals := 0 }) (wPc G (dkT cI cZ) (dmW a cI P Q D V O M n) sz [.ref (a 0)]) (va_Qi (fun (r : Int32) (_ : Unit) => r = nI (jk_fac n)) (fun u : Unit => wB G (dkT cI cZ) (va_A (dmW a cI P Q D V O M n) sz) (dmW a cI P Q D V O M n)) (va_A (dmW a cI P Q D V O M n) sz)) 0 0 (va_A (dmW a cI P Q D V O M n) sz) := by
  refine jw_enter (by decide) (Nat.le_of_ble_eq_true rfl) ?_
  intro p e s m below meth c S hr hlocks _ hA hK hw ls hl
  have S : CallFix p m c cX1_orders 3 s _ lw_all RX1 := S
  obtain ⟨hx, hb, hml, hown, hts⟩ := id S
  generalize hAe : va_A (dmW a cI P Q D V O M n) sz = A at hw hA ⊢
  have hl : lv_has ls 3 [(0, .ref (a 0))] := hl
  refine lv_iconst (v := nI 1) hx hb dX1_orders_0 (by decide) ?_
  refine lv_istore_n (lv' := [(1, .int (nI (1))), (0, .ref (a 0))]) hx hb dX1_orders_1 rfl hl (by decide) rfl (fun ls hl => ?_)
  refine lv_iconst (v := nI 2) hx hb dX1_orders_2 (by decide) ?_
  refine lv_istore_n (lv' := [(2, .int (nI (2))), (1, .int (nI (1))), (0, .ref (a 0))]) hx hb dX1_orders_3 rfl hl (by decide) rfl (fun ls hl => ?_)
  refine ors_loop S hK hn O M s.heap [] hw (fun ls hl => ?_) (n - 1) 0 ls (by omega) (lv_sub hl [2, 1, 0] rfl)
  refine lv_iload_n hx hb dX1_orders_22 rfl (lv_at hl 0 rfl) ?_
  exact jw_iret (wf := fun _ : Unit => dmW a cI P Q D V O M n) () hx hb hr hlocks hK hw rfl dX1_orders_23
set_option maxHeartbeats 4000000 in
set_option maxRecDepth 100000 in
/-- left: the numbers 0 .. n - 1 -/
theorem ord_a {p : Program} {l : Launch} {e : Env} {R : Room} {s : State} {m : MethodId} {args : Array Value} {below : List Frame} {meth : Method} {c : Code} {Z : State → Prop} {G : va_G} {A : Nat → Prop} {a : Nat → Nat} {cI cZ : ClassId} {P Q D V : Nat → Nat} {n : Nat} {cells slots : Nat} (S : CallFix p m c cX1_order 7 s args lw_all RX1) (hK : va_K G vwCl (dkT cI cZ) s) (hn : n ≤ 6) (O : Nat → Nat) (r : Nat)
    (K : ∀ (M : Nat → Nat) (H : Heap) (locs : List Loc) (ls : Array Slot), (∀ y, y < n → M y = y) → Wd G A s (dmW a cI P Q D V O M n) H locs → lv_has ls 7 [(0, .ref (a 0)), (2, .int (nI (r)))] → W p l e R s m args below meth c H locs cells slots Z (F0 m 25 ls [])) :
    ∀ (f i : Nat) (M : Nat → Nat) (H : Heap) (locs : List Loc) (ls : Array Slot), i + f = n → (∀ y, y < i → M y = y) → Wd G A s (dmW a cI P Q D V O M n) H locs → lv_has ls 7 [(0, .ref (a 0)), (2, .int (nI (r))), (3, .int (nI (i)))] → W p l e R s m args below meth c H locs cells slots Z (F0 m 4 ls []) := by
  obtain ⟨hx, hb, hml, hown, hts⟩ := id S
  intro f
  induction f with
  | zero =>
    intro i M H locs ls hf hi hw hl
    refine lv_iload_n hx hb dX1_order_4 rfl (lv_at hl 2 rfl) ?_
    refine lv_aload_n hx hb dX1_order_5 rfl (lv_at hl 0 rfl) ?_
    refine dm_n S hK hw dX1_order_6 ?_
    refine jr_icmp_ge hx hb 25 (by omega) (by omega) dX1_order_9 (by decide) (fun hc => ?_) (fun hc => ?_)
    · exact K M H locs ls (fun y hy => hi y (by omega)) hw (lv_sub hl [0, 1] rfl)
    · exact absurd hc (by omega)
  | succ f ih =>
    intro i M H locs ls hf hi hw hl
    refine lv_iload_n hx hb dX1_order_4 rfl (lv_at hl 2 rfl) ?_
    refine lv_aload_n hx hb dX1_order_5 rfl (lv_at hl 0 rfl) ?_
    refine dm_n S hK hw dX1_order_6 ?_
    refine jr_icmp_ge hx hb 25 (by omega) (by omega) dX1_order_9 (by decide) (fun hc => ?_) (fun hc => ?_)
    · exact absurd hc (by omega)
    · refine lv_aload_n hx hb dX1_order_12 rfl (lv_at hl 0 rfl) ?_
      refine dm_left S hK hw dX1_order_13 ?_
      refine lv_iload_n hx hb dX1_order_16 rfl (lv_at hl 2 rfl) ?_
      refine lv_iload_n hx hb dX1_order_17 rfl (lv_at hl 2 rfl) ?_
      refine jr_ast hx hb hK hw 6 0 rfl rfl (by decide) (by omega) dX1_order_18 (fun H locs hw => ?_)
      have hw : Wd G A s (dmW a cI P Q D V O (jr_up M i i) n) H locs := hw
      refine lv_iinc (v := (nI (i + 1))) (lv' := [(3, .int (nI (i + 1))), (0, .ref (a 0)), (2, .int (nI (r)))]) hx hb dX1_order_19 hl (k := 2) rfl (nI_1 _) (by decide) rfl (fun ls hl => ?_)
      refine lv_goto (tgt := 4) hx hb dX1_order_22 (by decide) ?_
      refine ih (i + 1) (jr_up M i i) H locs ls (by omega) ?_ hw (lv_sub hl [1, 2, 0] rfl)
      intro y hy
      by_cases c : y = i
      · subst c; exact jr_up_eq _ _ _
      · rw [jr_up_ne _ _ c]; exact hi y (by omega)
set_option maxHeartbeats 4000000 in
set_option maxRecDepth 100000 in
/-- the number at d is taken out -/
theorem ord_c {p : Program} {l : Launch} {e : Env} {R : Room} {s : State} {m : MethodId} {args : Array Value} {below : List Frame} {meth : Method} {c : Code} {Z : State → Prop} {G : va_G} {A : Nat → Prop} {a : Nat → Nat} {cI cZ : ClassId} {P Q D V : Nat → Nat} {n : Nat} {cells slots : Nat} (S : CallFix p m c cX1_order 7 s args lw_all RX1) (hK : va_K G vwCl (dkT cI cZ) s) (hn : n ≤ 6) (O M : Nat → Nat) (r i g d : Nat) (hg : g < n)
    (K : ∀ (M' : Nat → Nat) (H : Heap) (locs : List Loc) (ls : Array Slot), (∀ y, y < d → M' y = M y) → (∀ y, d ≤ y → y < g → M' y = M (y + 1)) → Wd G A s (dmW a cI P Q D V O M' n) H locs → lv_has ls 7 [(0, .ref (a 0)), (2, .int (nI (r))), (3, .int (nI (i)))] → W p l e R s m args below meth c H locs cells slots Z (F0 m 102 ls [])) :
    ∀ (f j : Nat) (M' : Nat → Nat) (H : Heap) (locs : List Loc) (ls : Array Slot), j + f = g → d ≤ j → (∀ y, y < d → M' y = M y) → (∀ y, d ≤ y → y < j → M' y = M (y + 1)) → (∀ y, j ≤ y → M' y = M y) → Wd G A s (dmW a cI P Q D V O M' n) H locs → lv_has ls 7 [(0, .ref (a 0)), (2, .int (nI (r))), (3, .int (nI (i))), (4, .int (nI (g + 1))), (5, .int (nI (d))), (6, .int (nI (j)))] → W p l e R s m args below meth c H locs cells slots Z (F0 m 71 ls []) := by
  obtain ⟨hx, hb, hml, hown, hts⟩ := id S
  intro f
  induction f with
  | zero =>
    intro j M' H locs ls hf hd h1 h2 h3 hw hl
    refine lv_iload hx hb dX1_order_71 (lv_at hl 5 rfl) ?_
    refine lv_iconst (v := nI 1) hx hb dX1_order_73 (by decide) ?_
    refine jr_iadd hx hb dX1_order_74 ?_
    refine lv_iload hx hb dX1_order_75 (lv_at hl 3 rfl) ?_
    refine jr_icmp_ge hx hb 102 (by omega) (by omega) dX1_order_77 (by decide) (fun hc => ?_) (fun hc => ?_)
    · exact K M' H locs ls h1 (fun y y1 y2 => h2 y y1 (by omega)) hw (lv_sub hl [0, 1, 2] rfl)
    · exact absurd hc (by omega)
  | succ f ih =>
    intro j M' H locs ls hf hd h1 h2 h3 hw hl
    refine lv_iload hx hb dX1_order_71 (lv_at hl 5 rfl) ?_
    refine lv_iconst (v := nI 1) hx hb dX1_order_73 (by decide) ?_
    refine jr_iadd hx hb dX1_order_74 ?_
    refine lv_iload hx hb dX1_order_75 (lv_at hl 3 rfl) ?_
    refine jr_icmp_ge hx hb 102 (by omega) (by omega) dX1_order_77 (by decide) (fun hc => ?_) (fun hc => ?_)
    · exact absurd hc (by omega)
    · refine lv_aload_n hx hb dX1_order_80 rfl (lv_at hl 0 rfl) ?_
      refine dm_left S hK hw dX1_order_81 ?_
      refine lv_iload hx hb dX1_order_84 (lv_at hl 5 rfl) ?_
      refine lv_aload_n hx hb dX1_order_86 rfl (lv_at hl 0 rfl) ?_
      refine dm_left S hK hw dX1_order_87 ?_
      refine lv_iload hx hb dX1_order_90 (lv_at hl 5 rfl) ?_
      refine lv_iconst (v := nI 1) hx hb dX1_order_92 (by decide) ?_
      refine jr_iadd hx hb dX1_order_93 ?_
      refine jr_ald hx hb hK hw 6 0 rfl rfl (by decide) (by omega) dX1_order_94 ?_
      refine jr_ast hx hb hK hw 6 0 rfl rfl (by decide) (by omega) dX1_order_95 (fun H locs hw => ?_)
      have hw : Wd G A s (dmW a cI P Q D V O (jr_up (M') j ((M') (j + 1))) n) H locs := hw
      refine lv_iinc (v := (nI (j + 1))) (lv' := [(6, .int (nI (j + 1))), (0, .ref (a 0)), (2, .int (nI (r))), (3, .int (nI (i))), (4, .int (nI (g + 1))), (5, .int (nI (d)))]) hx hb dX1_order_96 hl (k := 5) rfl (nI_1 _) (by decide) rfl (fun ls hl => ?_)
      refine lv_goto (tgt := 71) hx hb dX1_order_99 (by decide) ?_
      refine ih (j + 1) (jr_up M' j (M' (j + 1))) H locs ls (by omega) (by omega) ?_ ?_ ?_ hw (lv_sub hl [1, 2, 3, 4, 5, 0] rfl)
      · intro y hy
        rw [jr_up_ne _ _ (by omega)]
        exact h1 y hy
      · intro y y1 y2
        by_cases c : y = j
        · subst c
          rw [jr_up_eq]
          exact h3 (y + 1) (by omega)
        · rw [jr_up_ne _ _ c]
          exact h2 y y1 (by omega)
      · intro y hy
        rw [jr_up_ne _ _ (by omega)]
        exact h3 y (by omega)
set_option maxHeartbeats 4000000 in
set_option maxRecDepth 100000 in
/-- the order of the factorial code -/
theorem ord_b {p : Program} {l : Launch} {e : Env} {R : Room} {s : State} {m : MethodId} {args : Array Value} {below : List Frame} {meth : Method} {c : Code} {Z : State → Prop} {G : va_G} {A : Nat → Prop} {a : Nat → Nat} {cI cZ : ClassId} {P Q D V : Nat → Nat} {n : Nat} {cells slots : Nat} (S : CallFix p m c cX1_order 7 s args lw_all RX1) (hK : va_K G vwCl (dkT cI cZ) s) (hn : n ≤ 6) (LL : List Nat)
    (K : ∀ (O M : Nat → Nat) (H : Heap) (locs : List Loc) (ls : Array Slot), jk_fl O n = LL → Wd G A s (dmW a cI P Q D V O M n) H locs → lv_has ls 7 [(0, .ref (a 0))] → W p l e R s m args below meth c H locs cells slots Z (F0 m 108 ls [])) :
    ∀ (f i r : Nat) (O M : Nat → Nat) (H : Heap) (locs : List Loc) (ls : Array Slot), i + f = n → r < 2 ^ 31 → jk_fl O i ++ jk_perm f (jk_fl M f) r = LL → Wd G A s (dmW a cI P Q D V O M n) H locs → lv_has ls 7 [(0, .ref (a 0)), (2, .int (nI (r))), (3, .int (nI (i)))] → W p l e R s m args below meth c H locs cells slots Z (F0 m 27 ls []) := by
  obtain ⟨hx, hb, hml, hown, hts⟩ := id S
  intro f
  induction f with
  | zero =>
    intro i r O M H locs ls hf hr hi hw hl
    refine lv_iload_n hx hb dX1_order_27 rfl (lv_at hl 2 rfl) ?_
    refine lv_aload_n hx hb dX1_order_28 rfl (lv_at hl 0 rfl) ?_
    refine dm_n S hK hw dX1_order_29 ?_
    refine jr_icmp_ge hx hb 108 (by omega) (by omega) dX1_order_32 (by decide) (fun hc => ?_) (fun hc => ?_)
    · have e1 : i = n := by omega
      subst e1
      exact K O M H locs ls (by simpa [jk_perm] using hi) hw (lv_sub hl [0] rfl)
    · exact absurd hc (by omega)
  | succ f ih =>
    intro i r O M H locs ls hf hr hi hw hl
    have hd : r % (f + 1) < f + 1 := Nat.mod_lt _ (Nat.succ_pos f)
    have hq : r / (f + 1) ≤ r := Nat.div_le_self _ _
    refine lv_iload_n hx hb dX1_order_27 rfl (lv_at hl 2 rfl) ?_
    refine lv_aload_n hx hb dX1_order_28 rfl (lv_at hl 0 rfl) ?_
    refine dm_n S hK hw dX1_order_29 ?_
    refine jr_icmp_ge hx hb 108 (by omega) (by omega) dX1_order_32 (by decide) (fun hc => ?_) (fun hc => ?_)
    · exact absurd hc (by omega)
    · refine lv_aload_n hx hb dX1_order_35 rfl (lv_at hl 0 rfl) ?_
      refine dm_n S hK hw dX1_order_36 ?_
      refine lv_iload_n hx hb dX1_order_39 rfl (lv_at hl 2 rfl) ?_
      refine jr_isub hx hb (by omega) dX1_order_40 ?_
      refine lv_istore (lv' := [(4, .int (nI (n - i))), (0, .ref (a 0)), (2, .int (nI (r))), (3, .int (nI (i)))]) hx hb dX1_order_41 hl (by decide) rfl (fun ls hl => ?_)
      rw [show n - i = f + 1 by omega] at hl
      refine lv_iload_n hx hb dX1_order_43 rfl (lv_at hl 2 rfl) ?_
      refine lv_iload hx hb dX1_order_44 (lv_at hl 0 rfl) ?_
      refine jr_irem hx hb (by omega) (by omega) (by omega) dX1_order_46 ?_
      refine lv_istore (lv' := [(5, .int (nI (r % (f + 1)))), (4, .int (nI (f + 1))), (0, .ref (a 0)), (2, .int (nI (r))), (3, .int (nI (i)))]) hx hb dX1_order_47 hl (by decide) rfl (fun ls hl => ?_)
      refine lv_iload_n hx hb dX1_order_49 rfl (lv_at hl 3 rfl) ?_
      refine lv_iload hx hb dX1_order_50 (lv_at hl 1 rfl) ?_
      refine jr_idiv hx hb (by omega) (by omega) (by omega) dX1_order_52 ?_
      refine lv_istore_n (lv' := [(2, .int (nI (r / (f + 1)))), (5, .int (nI (r % (f + 1)))), (4, .int (nI (f + 1))), (0, .ref (a 0)), (3, .int (nI (i)))]) hx hb dX1_order_53 rfl hl (by decide) rfl (fun ls hl => ?_)
      refine lv_aload_n hx hb dX1_order_54 rfl (lv_at hl 3 rfl) ?_
      refine dm_p S hK hw dX1_order_55 ?_
      refine lv_iload_n hx hb dX1_order_58 rfl (lv_at hl 4 rfl) ?_
      refine lv_aload_n hx hb dX1_order_59 rfl (lv_at hl 3 rfl) ?_
      refine dm_left S hK hw dX1_order_60 ?_
      refine lv_iload hx hb dX1_order_63 (lv_at hl 1 rfl) ?_
      refine jr_ald hx hb hK hw 6 0 rfl rfl (by decide) (by omega) dX1_order_65 ?_
      refine jr_ast hx hb hK hw 5 0 rfl rfl (by decide) (by omega) dX1_order_66 (fun H locs hw => ?_)
      have hw : Wd G A s (dmW a cI P Q D V (jr_up O i (M (r % (f + 1)))) M n) H locs := hw
      refine lv_iload hx hb dX1_order_67 (lv_at hl 1 rfl) ?_
      refine lv_istore (lv' := [(6, .int (nI (r % (f + 1)))), (2, .int (nI (r / (f + 1)))), (5, .int (nI (r % (f + 1)))), (4, .int (nI (f + 1))), (0, .ref (a 0)), (3, .int (nI (i)))]) hx hb dX1_order_69 hl (by decide) rfl (fun ls hl => ?_)
      refine ord_c S hK hn (jr_up O i (M (r % (f + 1)))) M (r / (f + 1)) i f (r % (f + 1)) (by omega) (fun M' H locs ls h1 h2 hw hl => ?_) (f - r % (f + 1)) (r % (f + 1)) M H locs ls (by omega) (Nat.le_refl _) (fun _ _ => rfl) (fun y y1 y2 => absurd y2 (by omega)) (fun _ _ => rfl) hw (lv_sub hl [4, 1, 5, 3, 2, 0] rfl)
      refine lv_iinc (v := (nI (i + 1))) (lv' := [(3, .int (nI (i + 1))), (0, .ref (a 0)), (2, .int (nI (r / (f + 1))))]) hx hb dX1_order_102 hl (k := 2) rfl (nI_1 _) (by decide) rfl (fun ls hl => ?_)
      refine lv_goto (tgt := 27) hx hb dX1_order_105 (by decide) ?_
      exact ih (i + 1) (r / (f + 1)) (jr_up O i (M (r % (f + 1)))) M' H locs ls (by omega) (by omega) ((jk_perm_step h1 h2).trans hi) hw (lv_sub hl [1, 2, 0] rfl)
set_option maxHeartbeats 4000000 in
set_option maxRecDepth 100000 in
/-- order(k): the k-th order -/
theorem c_X1_order (l : Launch) (G : va_G) (a : Nat → Nat) (cI cZ : ClassId) (P Q D V O M : Nat → Nat) (n sz : Nat) (hn : n ≤ 6) (k : Nat) (hk : k < 2 ^ 31) : Met l yX1_order (ws_ yX1_order cX1_order 7 (none)) ({ frames := 0, cells := 0, slots := 0, locals := 0 }) (wPc G (dkT cI cZ) (dmW a cI P Q D V O M n) sz [.ref (a 0), .int (nI k)]) (va_Qv (fun (u : (Nat → Nat) × (Nat → Nat)) => jk_fl u.1 n = jk_perm n (List.range n) k) (fun u : (Nat → Nat) × (Nat → Nat) => wB G (dkT cI cZ) (va_A (dmW a cI P Q D V O M n) sz) (dmW a cI P Q D V (u.1) (u.2) n)) (va_A (dmW a cI P Q D V O M n) sz)) 0 0 (va_A (dmW a cI P Q D V O M n) sz) := by
  refine jw_enter (by decide) (Nat.le_of_ble_eq_true rfl) ?_
  intro p e s m below meth c S hr hlocks _ hA hK hw ls hl
  have S : CallFix p m c cX1_order 7 s _ lw_all RX1 := S
  obtain ⟨hx, hb, hml, hown, hts⟩ := id S
  generalize hAe : va_A (dmW a cI P Q D V O M n) sz = A at hw hA ⊢
  have hl : lv_has ls 7 [(0, .ref (a 0)), (1, .int (nI (k)))] := hl
  refine lv_iload_n hx hb dX1_order_0 rfl (lv_at hl 1 rfl) ?_
  refine lv_istore_n (lv' := [(2, .int (nI (k))), (0, .ref (a 0)), (1, .int (nI (k)))]) hx hb dX1_order_1 rfl hl (by decide) rfl (fun ls hl => ?_)
  refine lv_iconst (v := nI 0) hx hb dX1_order_2 (by decide) ?_
  refine lv_istore_n (lv' := [(3, .int (nI (0))), (2, .int (nI (k))), (0, .ref (a 0)), (1, .int (nI (k)))]) hx hb dX1_order_3 rfl hl (by decide) rfl (fun ls hl => ?_)
  refine ord_a S hK hn O k (fun M H locs ls hi hw hl => ?_) n 0 M s.heap [] ls (by omega) (fun y hy => absurd hy (by omega)) hw (lv_sub hl [2, 1, 0] rfl)
  refine lv_iconst (v := nI 0) hx hb dX1_order_25 (by decide) ?_
  refine lv_istore_n (lv' := [(3, .int (nI (0))), (0, .ref (a 0)), (2, .int (nI (k)))]) hx hb dX1_order_26 rfl hl (by decide) rfl (fun ls hl => ?_)
  refine ord_b S hK hn (jk_perm n (List.range n) k) (fun O M H locs ls hi hw hl => ?_) n 0 k O M H locs ls (by omega) hk ?_ hw (lv_sub hl [1, 2, 0] rfl)
  · exact jw_vret (wf := fun u : (Nat → Nat) × (Nat → Nat) => dmW a cI P Q D V (u.1) (u.2) n) (O, M) hx hb hr hlocks hK hw hi dX1_order_108
  · rw [jk_fl_0, List.nil_append, jk_fl_congr (f := M) (g := fun i => i) hi, jk_fl_id]
end
section
/-! JobDeskModel.best and the four numbers -/
set_option maxRecDepth 100000
theorem jk_min_1 (v : Nat → Int) : jk_min v 1 (v 0) := ⟨fun k hk => by rw [show k = 0 by omega]; exact Int.le_refl _, 0, by decide, rfl⟩
theorem jk_min_lt {v : Nat → Int} {k : Nat} {r : Int} (h : jk_min v k r) (hv : v k < r) : jk_min v (k + 1) (v k) := by
  refine ⟨fun q hq => ?_, k, by omega, rfl⟩
  by_cases c : q = k
  · subst c; exact Int.le_refl _
  · have := h.1 q (by omega); omega
theorem jk_min_ge {v : Nat → Int} {k : Nat} {r : Int} (h : jk_min v k r) (hv : r ≤ v k) : jk_min v (k + 1) r := by
  obtain ⟨h1, q, h2, h3⟩ := h
  refine ⟨fun q hq => ?_, q, by omega, h3⟩
  by_cases c : q = k
  · subst c; exact hv
  · exact h1 q (by omega)
theorem jk_fac_le : ∀ n, n ≤ 6 → jk_fac n ≤ 720 := by decide +kernel
set_option maxHeartbeats 4000000 in
set_option maxRecDepth 100000 in
/-- the value of one order -/
theorem best_in {p : Program} {l : Launch} {e : Env} {R : Room} {s : State} {m : MethodId} {args : Array Value} {below : List Frame} {meth : Method} {c : Code} {Z : State → Prop} {G : va_G} {A : Nat → Prop} {a : Nat → Nat} {cI cZ : ClassId} {P Q D V : Nat → Nat} {n : Nat} {cells slots : Nat} (S : CallFix p m c cX1_best 13 s args lw_all RX1) (hK : va_K G vwCl (dkT cI cZ) s) (hB : jk_Bd P Q D V) (hn : n ≤ 6) (kind : Nat) (hkd : kind ≤ 3) (O M : Nat → Nat) (H : Heap) (locs : List Loc) (hw : Wd G A s (dmW a cI P Q D V O M n) H locs) (hO : ∀ i, i < n → O i < n) (rr : Int) (k : Nat)
    (K : ∀ (t u : Nat) (v : Int) (ls : Array Slot), jk_fold P Q D V kind (jk_s0 kind) (jk_fl O n) = (t, u, v) → lv_has ls 13 [(0, .ref (a 0)), (1, .int (nI (kind))), (2, .long (lI (rr))), (4, .int (nI (k))), (9, .long (lI (v)))] → W p l e R s m args below meth c H locs cells slots Z (F0 m 211 ls [])) :
    ∀ (f i t u : Nat) (v : Int) (ls : Array Slot), i + f = n → jk_fold P Q D V kind (jk_s0 kind) (jk_fl O i) = (t, u, v) → lv_has ls 13 [(0, .ref (a 0)), (1, .int (nI (kind))), (2, .long (lI (rr))), (4, .int (nI (k))), (5, .long (lI (((t : Nat) : Int)))), (7, .long (lI (((u : Nat) : Int)))), (9, .long (lI (v))), (11, .int (nI (i)))] → W p l e R s m args below meth c H locs cells slots Z (F0 m 45 ls []) := by
  obtain ⟨hx, hb, hml, hown, hts⟩ := id S
  obtain ⟨bP, bQ, bD, bV⟩ := id hB
  intro f
  induction f with
  | zero =>
    intro i t u v ls hf hv hl
    refine lv_iload hx hb dX1_best_45 (lv_at hl 7 rfl) ?_
    refine lv_aload_n hx hb dX1_best_47 rfl (lv_at hl 0 rfl) ?_
    refine dm_n S hK hw dX1_best_48 ?_
    refine jr_icmp_ge hx hb 211 (by omega) (by omega) dX1_best_51 (by decide) (fun hc => ?_) (fun hc => ?_)
    · have e1 : i = n := by omega
      subst e1
      exact K t u v ls hv (lv_sub hl [0, 1, 2, 3, 6] rfl)
    · exact absurd hc (by omega)
  | succ f ih =>
    intro i t u v ls hf hv hl
    have hO6 : O i < n := hO i (by omega)
    have pj := bP (O i)
    have qj := bQ (O i)
    have dj := bD (O i)
    have vj := bV (O i)
    have hbd := jk_bound bP bQ bD bV kind (jk_fl O i) (jk_s0 kind) 0 (by rw [jk_fl_len]; omega) (Nat.le_refl 0) (Nat.le_refl 0) (by dsimp only [jk_s0]; split <;> omega) (by dsimp only [jk_s0]; split <;> omega)
    rw [hv, jk_fl_len] at hbd
    obtain ⟨b1, b2, b3, b4⟩ := hbd
    dsimp only at b1 b2 b3 b4
    have hv1 : jk_fold P Q D V kind (jk_s0 kind) (jk_fl O (i + 1)) = jk_st P Q D V kind (t, u, v) (O i) := by rw [jk_fl_succ, jk_fold_snoc, hv]
    have X205 : ∀ (u' : Nat) (v' : Int) (ls : Array Slot), jk_st P Q D V kind (t, u, v) (O i) = (t + P (O i), u', v') → lv_has ls 13 [(0, .ref (a 0)), (1, .int (nI (kind))), (2, .long (lI (rr))), (4, .int (nI (k))), (11, .int (nI (i))), (5, .long (lI (((t + P (O i) : Nat) : Int)))), (7, .long (lI (((u' : Nat) : Int)))), (9, .long (lI (v')))] → W p l e R s m args below meth c H locs cells slots Z (F0 m 205 ls []) := by
      intro u' v' ls he hl
      refine lv_iinc (v := (nI (i + 1))) (lv' := [(11, .int (nI (i + 1))), (0, .ref (a 0)), (1, .int (nI (kind))), (2, .long (lI (rr))), (4, .int (nI (k))), (5, .long (lI (((t + P (O i) : Nat) : Int)))), (7, .long (lI (((u' : Nat) : Int)))), (9, .long (lI (v')))]) hx hb dX1_best_205 hl (k := 4) rfl (nI_1 _) (by decide) rfl (fun ls hl => ?_)
      refine lv_goto (tgt := 45) hx hb dX1_best_208 (by decide) ?_
      exact ih (i + 1) (t + P (O i)) u' v' ls (by omega) (by rw [hv1, he]) (lv_sub hl [1, 2, 3, 4, 5, 6, 7, 0] rfl)
    refine lv_iload hx hb dX1_best_45 (lv_at hl 7 rfl) ?_
    refine lv_aload_n hx hb dX1_best_47 rfl (lv_at hl 0 rfl) ?_
    refine dm_n S hK hw dX1_best_48 ?_
    refine jr_icmp_ge hx hb 211 (by omega) (by omega) dX1_best_51 (by decide) (fun hc => ?_) (fun hc => ?_)
    · exact absurd hc (by omega)
    · refine lv_aload_n hx hb dX1_best_54 rfl (lv_at hl 0 rfl) ?_
      refine dm_p S hK hw dX1_best_55 ?_
      refine lv_iload hx hb dX1_best_58 (lv_at hl 7 rfl) ?_
      refine jr_ald hx hb hK hw 5 0 rfl rfl (by decide) (by omega) dX1_best_60 ?_
      refine lv_istore (lv' := [(12, .int (nI (O i))), (0, .ref (a 0)), (1, .int (nI (kind))), (2, .long (lI (rr))), (4, .int (nI (k))), (5, .long (lI (((t : Nat) : Int)))), (7, .long (lI (((u : Nat) : Int)))), (9, .long (lI (v))), (11, .int (nI (i)))]) hx hb dX1_best_61 hl (by decide) rfl (fun ls hl => ?_)
      refine lv_lload hx hb dX1_best_63 (lv_at hl 5 rfl) ?_
      refine lv_aload_n hx hb dX1_best_65 rfl (lv_at hl 1 rfl) ?_
      refine dm_a S hK hw dX1_best_66 ?_
      refine lv_iload hx hb dX1_best_69 (lv_at hl 0 rfl) ?_
      refine jr_ald hx hb hK hw 1 0 rfl rfl (by decide) (by omega) dX1_best_71 ?_
      refine jr_i2l hx hb (by omega) dX1_best_72 ?_
      refine jr_ladd hx hb dX1_best_73 ?_
      refine lv_lstore (lv' := [(5, .long (lI ((((t : Nat) : Int)) + (((P (O i) : Nat) : Int))))), (12, .int (nI (O i))), (0, .ref (a 0)), (1, .int (nI (kind))), (2, .long (lI (rr))), (4, .int (nI (k))), (7, .long (lI (((u : Nat) : Int)))), (9, .long (lI (v))), (11, .int (nI (i)))]) hx hb dX1_best_74 hl (by decide) rfl (fun ls hl => ?_)
      have hl : lv_has ls 13 [(5, .long (lI (((t + P (O i) : Nat) : Int)))), (12, .int (nI (O i))), (0, .ref (a 0)), (1, .int (nI (kind))), (2, .long (lI (rr))), (4, .int (nI (k))), (7, .long (lI (((u : Nat) : Int)))), (9, .long (lI (v))), (11, .int (nI (i)))] := hl
      refine lv_iload_n hx hb dX1_best_76 rfl (lv_at hl 3 rfl) ?_
      refine jr_if_ne hx hb 99 (by omega) dX1_best_77 (by decide) (fun h0 => ?_) (fun h0 => ?_)
      · refine lv_iload_n hx hb dX1_best_99 rfl (lv_at hl 3 rfl) ?_
        refine lv_iconst (v := nI 1) hx hb dX1_best_100 (by decide) ?_
        refine jr_icmp_ne hx hb 142 (by omega) (by omega) dX1_best_101 (by decide) (fun h1 => ?_) (fun h1 => ?_)
        · refine lv_iload_n hx hb dX1_best_142 rfl (lv_at hl 3 rfl) ?_
          refine lv_iconst (v := nI 2) hx hb dX1_best_143 (by decide) ?_
          refine jr_icmp_ne hx hb 175 (by omega) (by omega) dX1_best_144 (by decide) (fun h2 => ?_) (fun h2 => ?_)
          · have h3 : kind = 3 := by omega
            subst h3
            refine lv_lload hx hb dX1_best_175 (lv_at hl 0 rfl) ?_
            refine lv_lload hx hb dX1_best_177 (lv_at hl 6 rfl) ?_
            refine jr_lcmp_le hx hb 188 (by omega) (by omega) (by omega) (by omega) dX1_best_179 dX1_best_180 (by decide) (fun hle => ?_) (fun hle => ?_)
            · refine lv_lload hx hb dX1_best_188 (lv_at hl 6 rfl) ?_
              refine lv_aload_n hx hb dX1_best_190 rfl (lv_at hl 2 rfl) ?_
              refine dm_b S hK hw dX1_best_191 ?_
              refine lv_iload hx hb dX1_best_194 (lv_at hl 1 rfl) ?_
              refine jr_ald hx hb hK hw 2 0 rfl rfl (by decide) (by omega) dX1_best_196 ?_
              refine jr_i2l hx hb (by omega) dX1_best_197 ?_
              refine jr_ladd hx hb dX1_best_198 ?_
              refine lv_lstore (lv' := [(7, .long (lI ((((u : Nat) : Int)) + (((Q (O i) : Nat) : Int))))), (5, .long (lI (((t + P (O i) : Nat) : Int)))), (12, .int (nI (O i))), (0, .ref (a 0)), (1, .int (nI (3))), (2, .long (lI (rr))), (4, .int (nI (k))), (9, .long (lI (v))), (11, .int (nI (i)))]) hx hb dX1_best_199 hl (by decide) rfl (fun ls hl => ?_)
              refine lv_lload hx hb dX1_best_201 (lv_at hl 0 rfl) ?_
              refine lv_lstore (lv' := [(9, .long (lI ((((u : Nat) : Int)) + (((Q (O i) : Nat) : Int))))), (7, .long (lI ((((u : Nat) : Int)) + (((Q (O i) : Nat) : Int))))), (5, .long (lI (((t + P (O i) : Nat) : Int)))), (12, .int (nI (O i))), (0, .ref (a 0)), (1, .int (nI (3))), (2, .long (lI (rr))), (4, .int (nI (k))), (11, .int (nI (i)))]) hx hb dX1_best_203 hl (by decide) rfl (fun ls hl => ?_)
              exact X205 (u + Q (O i)) _ ls (by simp [jk_st, show ¬ u < t + P (O i) by omega]) (lv_sub hl [4, 5, 6, 7, 8, 2, 1, 0] rfl)
            · refine lv_lload hx hb dX1_best_183 (lv_at hl 0 rfl) ?_
              refine lv_goto (tgt := 190) hx hb dX1_best_185 (by decide) ?_
              refine lv_aload_n hx hb dX1_best_190 rfl (lv_at hl 2 rfl) ?_
              refine dm_b S hK hw dX1_best_191 ?_
              refine lv_iload hx hb dX1_best_194 (lv_at hl 1 rfl) ?_
              refine jr_ald hx hb hK hw 2 0 rfl rfl (by decide) (by omega) dX1_best_196 ?_
              refine jr_i2l hx hb (by omega) dX1_best_197 ?_
              refine jr_ladd hx hb dX1_best_198 ?_
              refine lv_lstore (lv' := [(7, .long (lI ((((t + P (O i) : Nat) : Int)) + (((Q (O i) : Nat) : Int))))), (5, .long (lI (((t + P (O i) : Nat) : Int)))), (12, .int (nI (O i))), (0, .ref (a 0)), (1, .int (nI (3))), (2, .long (lI (rr))), (4, .int (nI (k))), (9, .long (lI (v))), (11, .int (nI (i)))]) hx hb dX1_best_199 hl (by decide) rfl (fun ls hl => ?_)
              refine lv_lload hx hb dX1_best_201 (lv_at hl 0 rfl) ?_
              refine lv_lstore (lv' := [(9, .long (lI ((((t + P (O i) : Nat) : Int)) + (((Q (O i) : Nat) : Int))))), (7, .long (lI ((((t + P (O i) : Nat) : Int)) + (((Q (O i) : Nat) : Int))))), (5, .long (lI (((t + P (O i) : Nat) : Int)))), (12, .int (nI (O i))), (0, .ref (a 0)), (1, .int (nI (3))), (2, .long (lI (rr))), (4, .int (nI (k))), (11, .int (nI (i)))]) hx hb dX1_best_203 hl (by decide) rfl (fun ls hl => ?_)
              exact X205 (t + P (O i) + Q (O i)) _ ls (by simp [jk_st, show u < t + P (O i) by omega]) (lv_sub hl [4, 5, 6, 7, 8, 2, 1, 0] rfl)
          · subst h2
            refine lv_lload hx hb dX1_best_147 (lv_at hl 7 rfl) ?_
            refine lv_lload hx hb dX1_best_149 (lv_at hl 0 rfl) ?_
            refine lv_aload_n hx hb dX1_best_151 rfl (lv_at hl 2 rfl) ?_
            refine dm_due S hK hw dX1_best_152 ?_
            refine lv_iload hx hb dX1_best_155 (lv_at hl 1 rfl) ?_
            refine jr_ald hx hb hK hw 3 0 rfl rfl (by decide) (by omega) dX1_best_157 ?_
            refine jr_i2l hx hb (by omega) dX1_best_158 ?_
            refine jr_lcmp_le hx hb 167 (by omega) (by omega) (by omega) (by omega) dX1_best_159 dX1_best_160 (by decide) (fun hle => ?_) (fun hle => ?_)
            · refine lv_iconst (v := nI 0) hx hb dX1_best_167 (by decide) ?_
              refine jr_i2l hx hb (by omega) dX1_best_168 ?_
              refine jr_ladd hx hb dX1_best_169 ?_
              refine lv_lstore (lv' := [(9, .long (lI ((v) + (((0 : Nat) : Int))))), (5, .long (lI (((t + P (O i) : Nat) : Int)))), (12, .int (nI (O i))), (0, .ref (a 0)), (1, .int (nI (2))), (2, .long (lI (rr))), (4, .int (nI (k))), (7, .long (lI (((u : Nat) : Int)))), (11, .int (nI (i)))]) hx hb dX1_best_170 hl (by decide) rfl (fun ls hl => ?_)
              refine lv_goto (tgt := 205) hx hb dX1_best_172 (by decide) ?_
              exact X205 u _ ls (by simp [jk_st, show ¬ D (O i) < t + P (O i) by omega]) (lv_sub hl [3, 4, 5, 6, 8, 1, 7, 0] rfl)
            · refine lv_iconst (v := nI 1) hx hb dX1_best_163 (by decide) ?_
              refine lv_goto (tgt := 168) hx hb dX1_best_164 (by decide) ?_
              refine jr_i2l hx hb (by omega) dX1_best_168 ?_
              refine jr_ladd hx hb dX1_best_169 ?_
              refine lv_lstore (lv' := [(9, .long (lI ((v) + (((1 : Nat) : Int))))), (5, .long (lI (((t + P (O i) : Nat) : Int)))), (12, .int (nI (O i))), (0, .ref (a 0)), (1, .int (nI (2))), (2, .long (lI (rr))), (4, .int (nI (k))), (7, .long (lI (((u : Nat) : Int)))), (11, .int (nI (i)))]) hx hb dX1_best_170 hl (by decide) rfl (fun ls hl => ?_)
              refine lv_goto (tgt := 205) hx hb dX1_best_172 (by decide) ?_
              exact X205 u _ ls (by simp [jk_st, show D (O i) < t + P (O i) by omega]) (lv_sub hl [3, 4, 5, 6, 8, 1, 7, 0] rfl)
        · subst h1
          refine lv_lload hx hb dX1_best_104 (lv_at hl 0 rfl) ?_
          refine lv_aload_n hx hb dX1_best_106 rfl (lv_at hl 2 rfl) ?_
          refine dm_due S hK hw dX1_best_107 ?_
          refine lv_iload hx hb dX1_best_110 (lv_at hl 1 rfl) ?_
          refine jr_ald hx hb hK hw 3 0 rfl rfl (by decide) (by omega) dX1_best_112 ?_
          refine jr_i2l hx hb (by omega) dX1_best_113 ?_
          refine jr_lsub hx hb dX1_best_114 ?_
          refine lv_lload hx hb dX1_best_115 (lv_at hl 7 rfl) ?_
          refine jr_lcmp_le hx hb 135 (by omega) (by omega) (by omega) (by omega) dX1_best_117 dX1_best_118 (by decide) (fun hle => ?_) (fun hle => ?_)
          · refine lv_lload hx hb dX1_best_135 (lv_at hl 7 rfl) ?_
            refine lv_lstore (lv' := [(9, .long (lI (v))), (5, .long (lI (((t + P (O i) : Nat) : Int)))), (12, .int (nI (O i))), (0, .ref (a 0)), (1, .int (nI (1))), (2, .long (lI (rr))), (4, .int (nI (k))), (7, .long (lI (((u : Nat) : Int)))), (11, .int (nI (i)))]) hx hb dX1_best_137 hl (by decide) rfl (fun ls hl => ?_)
            refine lv_goto (tgt := 205) hx hb dX1_best_139 (by decide) ?_
            exact X205 u _ ls (by simp only [jk_st, show ¬ (1 : Nat) = 0 by decide, show ¬ (1 : Nat) = 3 by decide, if_true, if_false, if_neg (Int.not_lt.mpr hle)]) (lv_sub hl [3, 4, 5, 6, 8, 1, 7, 0] rfl)
          · refine lv_lload hx hb dX1_best_121 (lv_at hl 0 rfl) ?_
            refine lv_aload_n hx hb dX1_best_123 rfl (lv_at hl 2 rfl) ?_
            refine dm_due S hK hw dX1_best_124 ?_
            refine lv_iload hx hb dX1_best_127 (lv_at hl 1 rfl) ?_
            refine jr_ald hx hb hK hw 3 0 rfl rfl (by decide) (by omega) dX1_best_129 ?_
            refine jr_i2l hx hb (by omega) dX1_best_130 ?_
            refine jr_lsub hx hb dX1_best_131 ?_
            refine lv_goto (tgt := 137) hx hb dX1_best_132 (by decide) ?_
            refine lv_lstore (lv' := [(9, .long (lI ((((t + P (O i) : Nat) : Int)) - (((D (O i) : Nat) : Int))))), (5, .long (lI (((t + P (O i) : Nat) : Int)))), (12, .int (nI (O i))), (0, .ref (a 0)), (1, .int (nI (1))), (2, .long (lI (rr))), (4, .int (nI (k))), (7, .long (lI (((u : Nat) : Int)))), (11, .int (nI (i)))]) hx hb dX1_best_137 hl (by decide) rfl (fun ls hl => ?_)
            refine lv_goto (tgt := 205) hx hb dX1_best_139 (by decide) ?_
            exact X205 u _ ls (by simp only [jk_st, show ¬ (1 : Nat) = 0 by decide, show ¬ (1 : Nat) = 3 by decide, if_true, if_false, if_pos hle]) (lv_sub hl [3, 4, 5, 6, 8, 1, 7, 0] rfl)
      · subst h0
        refine lv_lload hx hb dX1_best_80 (lv_at hl 7 rfl) ?_
        refine lv_aload_n hx hb dX1_best_82 rfl (lv_at hl 2 rfl) ?_
        refine dm_weight S hK hw dX1_best_83 ?_
        refine lv_iload hx hb dX1_best_86 (lv_at hl 1 rfl) ?_
        refine jr_ald hx hb hK hw 4 0 rfl rfl (by decide) (by omega) dX1_best_88 ?_
        refine jr_i2l hx hb (by omega) dX1_best_89 ?_
        refine lv_lload hx hb dX1_best_90 (lv_at hl 0 rfl) ?_
        refine jr_lmul hx hb dX1_best_92 ?_
        refine jr_ladd hx hb dX1_best_93 ?_
        refine lv_lstore (lv' := [(9, .long (lI ((v) + ((((V (O i) : Nat) : Int)) * (((t + P (O i) : Nat) : Int)))))), (5, .long (lI (((t + P (O i) : Nat) : Int)))), (12, .int (nI (O i))), (0, .ref (a 0)), (1, .int (nI (0))), (2, .long (lI (rr))), (4, .int (nI (k))), (7, .long (lI (((u : Nat) : Int)))), (11, .int (nI (i)))]) hx hb dX1_best_94 hl (by decide) rfl (fun ls hl => ?_)
        refine lv_goto (tgt := 205) hx hb dX1_best_96 (by decide) ?_
        exact X205 u _ ls (by simp [jk_st]) (lv_sub hl [3, 4, 5, 6, 8, 1, 7, 0] rfl)
set_option maxHeartbeats 4000000 in
set_option maxRecDepth 100000 in
/-- the least value of all orders -/
theorem best_out {p : Program} {l : Launch} {e : Env} {R : Room} {s : State} {m : MethodId} {args : Array Value} {below : List Frame} {meth : Method} {c : Code} {Z : State → Prop} {G : va_G} {A : Nat → Prop} {a : Nat → Nat} {cI cZ : ClassId} {P Q D V : Nat → Nat} {n : Nat} {cells slots : Nat} (S : CallFix p m c cX1_best 13 s args lw_all RX1) (hK : va_K G vwCl (dkT cI cZ) s) (hB : jk_Bd P Q D V) (hn : n ≤ 6) (kind : Nat) (hkd : kind ≤ 3) (hA : ∀ q : Nat, s.heap.size ≤ q → A q) (hR1 : 1 ≤ R.frames) (hR2 : 26 ≤ R.locals) (hcs : cells ≤ R.cells ∧ slots ≤ R.slots)
    (K : ∀ (rr : Int) (O M : Nat → Nat) (H : Heap) (locs : List Loc) (ls : Array Slot), jk_min (fun k => jk_cost P Q D V kind (jk_perm n (List.range n) k)) (jk_fac n) rr → Wd G A s (dmW a cI P Q D V O M n) H locs → lv_has ls 13 [(2, .long (lI (rr)))] → W p l e R s m args below meth c H locs cells slots Z (F0 m 240 ls [])) :
    ∀ (f k : Nat) (rr : Int) (O M : Nat → Nat) (H : Heap) (locs : List Loc) (ls : Array Slot), k + f = jk_fac n → ((k = 0 ∧ rr = -1) ∨ (0 < k ∧ jk_min (fun k => jk_cost P Q D V kind (jk_perm n (List.range n) k)) k rr)) → -2147483648 ≤ rr → rr ≤ 2400000 → Wd G A s (dmW a cI P Q D V O M n) H locs → lv_has ls 13 [(0, .ref (a 0)), (1, .int (nI (kind))), (2, .long (lI (rr))), (4, .int (nI (k)))] → W p l e R s m args below meth c H locs cells slots Z (F0 m 7 ls []) := by
  obtain ⟨hx, hb, hml, hown, hts⟩ := id S
  have hfac := jk_fac_le n hn
  have hfp := jk_fac_pos n
  intro f
  induction f with
  | zero =>
    intro k rr O M H locs ls hf hi r1 r2 hw hl
    refine lv_iload hx hb dX1_best_7 (lv_at hl 3 rfl) ?_
    refine lv_aload_n hx hb dX1_best_9 rfl (lv_at hl 0 rfl) ?_
    refine jw_calli (As := []) (rest := [.int (nI k)]) (wr := []) S hK hw hA hl.1 (c_X1_orders l G a cI cZ P Q D V O M n H.size hn) (cwV 0 hts (lw_V q130 q132 qs3 q7 q133) rfl rfl rfl (by decide +kernel) ⟨hR1, Nat.le_trans (by decide) hR2⟩) rfl [0, 1, 2, 3, 4, 5, 6] [] rfl rfl (by decide) rfl (by decide) (by decide) rfl rfl (Nat.le_of_ble_eq_true rfl) hcs dX1_best_10 (fun r u H locs hq hw => ?_)
    subst hq
    have hw : Wd G A s (dmW a cI P Q D V O M n) H locs := hw
    refine jr_icmp_ge hx hb 240 (by omega) (by omega) dX1_best_13 (by decide) (fun hc => ?_) (fun hc => ?_)
    · have e1 : k = jk_fac n := by omega
      subst e1
      refine K rr O M H locs ls ?_ hw (lv_sub hl [2] rfl)
      rcases hi with q | q
      · omega
      · exact q.2
    · exact absurd hc (by omega)
  | succ f ih =>
    intro k rr O M H locs ls hf hi r1 r2 hw hl
    refine lv_iload hx hb dX1_best_7 (lv_at hl 3 rfl) ?_
    refine lv_aload_n hx hb dX1_best_9 rfl (lv_at hl 0 rfl) ?_
    refine jw_calli (As := []) (rest := [.int (nI k)]) (wr := []) S hK hw hA hl.1 (c_X1_orders l G a cI cZ P Q D V O M n H.size hn) (cwV 0 hts (lw_V q130 q132 qs3 q7 q133) rfl rfl rfl (by decide +kernel) ⟨hR1, Nat.le_trans (by decide) hR2⟩) rfl [0, 1, 2, 3, 4, 5, 6] [] rfl rfl (by decide) rfl (by decide) (by decide) rfl rfl (Nat.le_of_ble_eq_true rfl) hcs dX1_best_10 (fun r u H locs hq hw => ?_)
    subst hq
    have hw : Wd G A s (dmW a cI P Q D V O M n) H locs := hw
    refine jr_icmp_ge hx hb 240 (by omega) (by omega) dX1_best_13 (by decide) (fun hc => ?_) (fun hc => ?_)
    · exact absurd hc (by omega)
    · refine lv_aload_n hx hb dX1_best_16 rfl (lv_at hl 0 rfl) ?_
      refine lv_iload hx hb dX1_best_17 (lv_at hl 3 rfl) ?_
      refine jw_callv (As := [.int (nI k)]) (rest := []) (wr := []) S hK hw hA hl.1 (c_X1_order l G a cI cZ P Q D V O M n H.size hn k (by omega)) (cwV 1 hts (lw_V q134 q136 qs4 q7 q137) rfl rfl rfl (by decide +kernel) ⟨hR1, hR2⟩) rfl [0, 1, 2, 3, 4, 5, 6] [] rfl rfl (by decide) rfl (by decide) (by decide) rfl rfl (by decide) hcs dX1_best_19 (fun u H locs hq hw => ?_)
      obtain ⟨O, M⟩ := u
      dsimp only at hq
      have hw : Wd G A s (dmW a cI P Q D V O M n) H locs := hw
      have hO : ∀ i, i < n → O i < n := by
        intro i hi
        have h1 : O i ∈ jk_perm n (List.range n) k := by rw [← hq]; exact jk_fl_mem.mpr ⟨i, hi, rfl⟩
        exact List.mem_range.mp ((jk_perm_ok n (List.range n) k List.length_range).subset h1)
      have X211 : ∀ (t u : Nat) (v : Int) (ls : Array Slot), jk_fold P Q D V kind (jk_s0 kind) (jk_fl O n) = (t, u, v) → lv_has ls 13 [(0, .ref (a 0)), (1, .int (nI (kind))), (2, .long (lI (rr))), (4, .int (nI (k))), (9, .long (lI (v)))] → W p l e R s m args below meth c H locs cells slots Z (F0 m 211 ls []) := by
        intro t u v ls hv hl
        have hbd := jk_bound hB.1 hB.2.1 hB.2.2.1 hB.2.2.2 kind (jk_fl O n) (jk_s0 kind) 0 (by rw [jk_fl_len]; omega) (Nat.le_refl 0) (Nat.le_refl 0) (by dsimp only [jk_s0]; split <;> omega) (by dsimp only [jk_s0]; split <;> omega)
        rw [hv, jk_fl_len] at hbd
        obtain ⟨b1, b2, b3, b4⟩ := hbd
        dsimp only at b1 b2 b3 b4
        have hcost : (fun k => jk_cost P Q D V kind (jk_perm n (List.range n) k)) k = v := by
          show (jk_fold P Q D V kind (jk_s0 kind) (jk_perm n (List.range n) k)).2.2 = v
          rw [← hq, hv]
        have X234 : ∀ (r' : Int) (ls : Array Slot), (((k + 1) = 0 ∧ r' = -1) ∨ (0 < (k + 1) ∧ jk_min (fun k => jk_cost P Q D V kind (jk_perm n (List.range n) k)) (k + 1) r')) → -2147483648 ≤ r' → r' ≤ 2400000 → lv_has ls 13 [(0, .ref (a 0)), (1, .int (nI (kind))), (2, .long (lI (r'))), (4, .int (nI (k)))] → W p l e R s m args below meth c H locs cells slots Z (F0 m 234 ls []) := by
          intro r' ls hi r1 r2 hl
          refine lv_iinc (v := (nI (k + 1))) (lv' := [(4, .int (nI (k + 1))), (0, .ref (a 0)), (1, .int (nI (kind))), (2, .long (lI (r')))]) hx hb dX1_best_234 hl (k := 3) rfl (nI_1 _) (by decide) rfl (fun ls hl => ?_)
          refine lv_goto (tgt := 7) hx hb dX1_best_237 (by decide) ?_
          exact ih (k + 1) r' O M H locs ls (by omega) hi r1 r2 hw (lv_sub hl [1, 2, 3, 0] rfl)
        have X231 : (k = 0 ∨ (jk_min (fun k => jk_cost P Q D V kind (jk_perm n (List.range n) k)) k rr ∧ v < rr)) → W p l e R s m args below meth c H locs cells slots Z (F0 m 231 ls []) := by
          intro hor
          refine lv_lload hx hb dX1_best_231 (lv_at hl 4 rfl) ?_
          refine lv_lstore_n (lv' := [(2, .long (lI (v))), (0, .ref (a 0)), (1, .int (nI (kind))), (4, .int (nI (k))), (9, .long (lI (v)))]) hx hb dX1_best_233 rfl hl (by decide) rfl (fun ls hl => ?_)
          refine X234 v ls (Or.inr ⟨by omega, ?_⟩) (by omega) (by omega) (lv_sub hl [1, 2, 0, 3] rfl)
          rcases hor with rfl | ⟨g1, g2⟩
          · rw [← hcost]; exact jk_min_1 _
          · rw [← hcost] at g2 ⊢; exact jk_min_lt g1 g2
        have X224 : 0 < k → W p l e R s m args below meth c H locs cells slots Z (F0 m 224 ls []) := by
          intro hk0
          have hmin : jk_min (fun k => jk_cost P Q D V kind (jk_perm n (List.range n) k)) k rr := by
            rcases hi with q | q
            · omega
            · exact q.2
          refine lv_lload hx hb dX1_best_224 (lv_at hl 4 rfl) ?_
          refine lv_lload_n hx hb dX1_best_226 rfl (lv_at hl 2 rfl) ?_
          refine jr_lcmp_ge hx hb 234 (by omega) (by omega) (by omega) (by omega) dX1_best_227 dX1_best_228 (by decide) (fun hge => ?_) (fun hge => ?_)
          · exact X234 rr ls (Or.inr ⟨by omega, by rw [← hcost] at hge; exact jk_min_ge hmin hge⟩) r1 r2 (lv_sub hl [0, 1, 2, 3] rfl)
          · exact X231 (Or.inr ⟨hmin, hge⟩)
        refine lv_lload_n hx hb dX1_best_211 rfl (lv_at hl 2 rfl) ?_
        refine lv_ldc2 hx hb hown (hts _ q129) dX1_best_212 ?_
        rw [show (-1 : Int64) = lI (-1) by decide]
        refine jr_lcmp_ne hx hb 224 (by omega) (by omega) (by omega) (by omega) dX1_best_215 dX1_best_216 (by decide) (fun hne => ?_) (fun hne => ?_)
        · exact X224 (by rcases hi with q | q; exact absurd q.2 hne; exact q.1)
        · refine lv_iload hx hb dX1_best_219 (lv_at hl 3 rfl) ?_
          refine jr_if_eq hx hb 231 (by omega) dX1_best_221 (by decide) (fun hz => ?_) (fun hz => ?_)
          · exact X231 (Or.inl hz)
          · exact X224 (by omega)
      refine lv_lconst (v := lI 0) hx hb dX1_best_22 (by decide) ?_
      refine lv_lstore (lv' := [(5, .long (lI (0))), (0, .ref (a 0)), (1, .int (nI (kind))), (2, .long (lI (rr))), (4, .int (nI (k)))]) hx hb dX1_best_23 hl (by decide) rfl (fun ls hl => ?_)
      refine lv_lconst (v := lI 0) hx hb dX1_best_25 (by decide) ?_
      refine lv_lstore (lv' := [(7, .long (lI (0))), (5, .long (lI (0))), (0, .ref (a 0)), (1, .int (nI (kind))), (2, .long (lI (rr))), (4, .int (nI (k)))]) hx hb dX1_best_26 hl (by decide) rfl (fun ls hl => ?_)
      refine lv_iload_n hx hb dX1_best_28 rfl (lv_at hl 3 rfl) ?_
      refine lv_iconst (v := nI 1) hx hb dX1_best_29 (by decide) ?_
      refine jr_icmp_ne hx hb 39 (by omega) (by omega) dX1_best_30 (by decide) (fun h1 => ?_) (fun h1 => ?_)
      · refine lv_lconst (v := lI 0) hx hb dX1_best_39 (by decide) ?_
        refine lv_lstore (lv' := [(9, .long (lI (0))), (7, .long (lI (0))), (5, .long (lI (0))), (0, .ref (a 0)), (1, .int (nI (kind))), (2, .long (lI (rr))), (4, .int (nI (k)))]) hx hb dX1_best_40 hl (by decide) rfl (fun ls hl => ?_)
        refine lv_iconst (v := nI 0) hx hb dX1_best_42 (by decide) ?_
        refine lv_istore (lv' := [(11, .int (nI (0))), (9, .long (lI (0))), (7, .long (lI (0))), (5, .long (lI (0))), (0, .ref (a 0)), (1, .int (nI (kind))), (2, .long (lI (rr))), (4, .int (nI (k)))]) hx hb dX1_best_43 hl (by decide) rfl (fun ls hl => ?_)
        exact best_in S hK hB hn kind hkd O M H locs hw hO rr k X211 n 0 0 0 0 ls (by omega) (by simp [jk_fold, jk_fl, jk_s0, h1]) (lv_sub hl [4, 5, 6, 7, 3, 2, 1, 0] rfl)
      · refine lv_ldc2 hx hb hown (hts _ q138) dX1_best_33 ?_
        rw [show (-1024 : Int64) = lI (-1024) by decide]
        refine lv_goto (tgt := 40) hx hb dX1_best_36 (by decide) ?_
        refine lv_lstore (lv' := [(9, .long (lI (-1024))), (7, .long (lI (0))), (5, .long (lI (0))), (0, .ref (a 0)), (1, .int (nI (kind))), (2, .long (lI (rr))), (4, .int (nI (k)))]) hx hb dX1_best_40 hl (by decide) rfl (fun ls hl => ?_)
        refine lv_iconst (v := nI 0) hx hb dX1_best_42 (by decide) ?_
        refine lv_istore (lv' := [(11, .int (nI (0))), (9, .long (lI (-1024))), (7, .long (lI (0))), (5, .long (lI (0))), (0, .ref (a 0)), (1, .int (nI (kind))), (2, .long (lI (rr))), (4, .int (nI (k)))]) hx hb dX1_best_43 hl (by decide) rfl (fun ls hl => ?_)
        exact best_in S hK hB hn kind hkd O M H locs hw hO rr k X211 n 0 0 0 (-1024) ls (by omega) (by simp [jk_fold, jk_fl, jk_s0, h1]) (lv_sub hl [4, 5, 6, 7, 3, 2, 1, 0] rfl)
set_option maxHeartbeats 4000000 in
set_option maxRecDepth 100000 in
/-- best(kind): the least value of all orders -/
theorem c_X1_best (l : Launch) (G : va_G) (a : Nat → Nat) (cI cZ : ClassId) (P Q D V O M : Nat → Nat) (n sz : Nat) (hB : jk_Bd P Q D V) (hn : n ≤ 6) (kind : Nat) (hkd : kind ≤ 3) : Met l yX1_best (ws_ yX1_best cX1_best 13 (some .long)) ({ frames := 1, cells := 0, slots := 0, locals := 26 }) (wPc G (dkT cI cZ) (dmW a cI P Q D V O M n) sz [.ref (a 0), .int (nI kind)]) (va_Ql (fun (r : Int64) (_ : (Nat → Nat) × (Nat → Nat)) => ∃ rr : Int, r = lI rr ∧ jk_min (fun k => jk_cost P Q D V kind (jk_perm n (List.range n) k)) (jk_fac n) rr) (fun u : (Nat → Nat) × (Nat → Nat) => wB G (dkT cI cZ) (va_A (dmW a cI P Q D V O M n) sz) (dmW a cI P Q D V (u.1) (u.2) n)) (va_A (dmW a cI P Q D V O M n) sz)) 0 0 (va_A (dmW a cI P Q D V O M n) sz) := by
  refine jw_enter (by decide) (Nat.le_of_ble_eq_true rfl) ?_
  intro p e s m below meth c S hr hlocks _ hA hK hw ls hl
  have S : CallFix p m c cX1_best 13 s _ lw_all RX1 := S
  obtain ⟨hx, hb, hml, hown, hts⟩ := id S
  generalize hAe : va_A (dmW a cI P Q D V O M n) sz = A at hw hA ⊢
  have hl : lv_has ls 13 [(0, .ref (a 0)), (1, .int (nI (kind)))] := hl
  refine lv_ldc2 hx hb hown (hts _ q129) dX1_best_0 ?_
  rw [show (-1 : Int64) = lI (-1) by decide]
  refine lv_lstore_n (lv' := [(2, .long (lI (-1))), (0, .ref (a 0)), (1, .int (nI (kind)))]) hx hb dX1_best_3 rfl hl (by decide) rfl (fun ls hl => ?_)
  refine lv_iconst (v := nI 0) hx hb dX1_best_4 (by decide) ?_
  refine lv_istore (lv' := [(4, .int (nI (0))), (2, .long (lI (-1))), (0, .ref (a 0)), (1, .int (nI (kind)))]) hx hb dX1_best_5 hl (by decide) rfl (fun ls hl => ?_)
  refine best_out S hK hB hn kind hkd hA (Nat.le_refl _) (Nat.le_refl _) ⟨Nat.le_refl _, Nat.le_refl _⟩ (fun rr O M H locs ls hi hw hl => ?_) (jk_fac n) 0 (-1) O M s.heap [] ls (by omega) (Or.inl ⟨rfl, rfl⟩) (by decide) (by decide) hw (lv_sub hl [2, 3, 1, 0] rfl)
  refine lv_lload_n hx hb dX1_best_240 rfl (lv_at hl 0 rfl) ?_
  exact jw_lret (wf := fun u : (Nat → Nat) × (Nat → Nat) => dmW a cI P Q D V (u.1) (u.2) n) (O, M) hx hb hr hlocks hK hw ⟨rr, rfl, hi⟩ dX1_best_241
set_option maxHeartbeats 4000000 in
set_option maxRecDepth 100000 in
/-- weighted() -/
theorem c_X1_weighted (l : Launch) (G : va_G) (a : Nat → Nat) (cI cZ : ClassId) (P Q D V O M : Nat → Nat) (n sz : Nat) (hB : jk_Bd P Q D V) (hn : n ≤ 6) : Met l yX1_weighted (ws_ yX1_weighted cX1_weighted 1 (some .long)) ({ frames := 2, cells := 0, slots := 0, locals := 58 }) (wPc G (dkT cI cZ) (dmW a cI P Q D V O M n) sz [.ref (a 0)]) (va_Ql (fun (r : Int64) (_ : (Nat → Nat) × (Nat → Nat)) => (n = 0 ∧ r = lI 0) ∨ (0 < n ∧ ∃ rr : Int, r = lI rr ∧ jk_min (fun k => jk_cost P Q D V 0 (jk_perm n (List.range n) k)) (jk_fac n) rr)) (fun u : (Nat → Nat) × (Nat → Nat) => wB G (dkT cI cZ) (va_A (dmW a cI P Q D V O M n) sz) (dmW a cI P Q D V (u.1) (u.2) n)) (va_A (dmW a cI P Q D V O M n) sz)) 0 0 (va_A (dmW a cI P Q D V O M n) sz) := by
  refine jw_enter (by decide) (Nat.le_of_ble_eq_true rfl) ?_
  intro p e s m below meth c S hr hlocks _ hA hK hw ls hl
  have S : CallFix p m c cX1_weighted 1 s _ lw_all RX1 := S
  obtain ⟨hx, hb, hml, hown, hts⟩ := id S
  generalize hAe : va_A (dmW a cI P Q D V O M n) sz = A at hw hA ⊢
  have hl : lv_has ls 1 [(0, .ref (a 0))] := hl
  refine lv_aload_n hx hb dX1_weighted_0 rfl (lv_at hl 0 rfl) ?_
  refine dm_n S hK hw dX1_weighted_1 ?_
  refine jr_if_ne hx hb 11 (by omega) dX1_weighted_4 (by decide) (fun h0 => ?_) (fun h0 => ?_)
  · refine lv_aload_n hx hb dX1_weighted_11 rfl (lv_at hl 0 rfl) ?_
    refine lv_iconst (v := nI 0) hx hb dX1_weighted_12 (by decide) ?_
    refine jw_calll (As := [.int (nI 0)]) (rest := []) (wr := []) S hK hw hA hl.1 (c_X1_best l G a cI cZ P Q D V O M n s.heap.size hB hn 0 (by decide)) (cwV 1 hts (lw_V q125 q127 qs2 q7 q128) rfl rfl rfl (by decide +kernel) ⟨Nat.le_refl _, Nat.le_refl _⟩) rfl [0, 1, 2, 3, 4, 5, 6] [] rfl rfl (by decide) rfl (by decide) (by decide) rfl rfl (by decide) ⟨Nat.le_refl _, Nat.le_refl _⟩ dX1_weighted_13 (fun r u H locs hq hw => ?_)
    exact jw_lret (wf := fun u : (Nat → Nat) × (Nat → Nat) => dmW a cI P Q D V (u.1) (u.2) n) u hx hb hr hlocks hK hw (Or.inr ⟨by omega, hq⟩) dX1_weighted_16
  · refine lv_lconst (v := lI 0) hx hb dX1_weighted_7 (by decide) ?_
    refine lv_goto (tgt := 16) hx hb dX1_weighted_8 (by decide) ?_
    exact jw_lret (wf := fun u : (Nat → Nat) × (Nat → Nat) => dmW a cI P Q D V (u.1) (u.2) n) (O, M) hx hb hr hlocks hK hw (Or.inl ⟨h0, rfl⟩) dX1_weighted_16
set_option maxHeartbeats 4000000 in
set_option maxRecDepth 100000 in
/-- latest() -/
theorem c_X1_latest (l : Launch) (G : va_G) (a : Nat → Nat) (cI cZ : ClassId) (P Q D V O M : Nat → Nat) (n sz : Nat) (hB : jk_Bd P Q D V) (hn : n ≤ 6) : Met l yX1_latest (ws_ yX1_latest cX1_latest 1 (some .long)) ({ frames := 2, cells := 0, slots := 0, locals := 58 }) (wPc G (dkT cI cZ) (dmW a cI P Q D V O M n) sz [.ref (a 0)]) (va_Ql (fun (r : Int64) (_ : (Nat → Nat) × (Nat → Nat)) => (n = 0 ∧ r = lI 0) ∨ (0 < n ∧ ∃ rr : Int, r = lI rr ∧ jk_min (fun k => jk_cost P Q D V 1 (jk_perm n (List.range n) k)) (jk_fac n) rr)) (fun u : (Nat → Nat) × (Nat → Nat) => wB G (dkT cI cZ) (va_A (dmW a cI P Q D V O M n) sz) (dmW a cI P Q D V (u.1) (u.2) n)) (va_A (dmW a cI P Q D V O M n) sz)) 0 0 (va_A (dmW a cI P Q D V O M n) sz) := by
  refine jw_enter (by decide) (Nat.le_of_ble_eq_true rfl) ?_
  intro p e s m below meth c S hr hlocks _ hA hK hw ls hl
  have S : CallFix p m c cX1_latest 1 s _ lw_all RX1 := S
  obtain ⟨hx, hb, hml, hown, hts⟩ := id S
  generalize hAe : va_A (dmW a cI P Q D V O M n) sz = A at hw hA ⊢
  have hl : lv_has ls 1 [(0, .ref (a 0))] := hl
  refine lv_aload_n hx hb dX1_latest_0 rfl (lv_at hl 0 rfl) ?_
  refine dm_n S hK hw dX1_latest_1 ?_
  refine jr_if_ne hx hb 11 (by omega) dX1_latest_4 (by decide) (fun h0 => ?_) (fun h0 => ?_)
  · refine lv_aload_n hx hb dX1_latest_11 rfl (lv_at hl 0 rfl) ?_
    refine lv_iconst (v := nI 1) hx hb dX1_latest_12 (by decide) ?_
    refine jw_calll (As := [.int (nI 1)]) (rest := []) (wr := []) S hK hw hA hl.1 (c_X1_best l G a cI cZ P Q D V O M n s.heap.size hB hn 1 (by decide)) (cwV 1 hts (lw_V q125 q127 qs2 q7 q128) rfl rfl rfl (by decide +kernel) ⟨Nat.le_refl _, Nat.le_refl _⟩) rfl [0, 1, 2, 3, 4, 5, 6] [] rfl rfl (by decide) rfl (by decide) (by decide) rfl rfl (by decide) ⟨Nat.le_refl _, Nat.le_refl _⟩ dX1_latest_13 (fun r u H locs hq hw => ?_)
    exact jw_lret (wf := fun u : (Nat → Nat) × (Nat → Nat) => dmW a cI P Q D V (u.1) (u.2) n) u hx hb hr hlocks hK hw (Or.inr ⟨by omega, hq⟩) dX1_latest_16
  · refine lv_lconst (v := lI 0) hx hb dX1_latest_7 (by decide) ?_
    refine lv_goto (tgt := 16) hx hb dX1_latest_8 (by decide) ?_
    exact jw_lret (wf := fun u : (Nat → Nat) × (Nat → Nat) => dmW a cI P Q D V (u.1) (u.2) n) (O, M) hx hb hr hlocks hK hw (Or.inl ⟨h0, rfl⟩) dX1_latest_16
set_option maxHeartbeats 4000000 in
set_option maxRecDepth 100000 in
/-- late() -/
theorem c_X1_late (l : Launch) (G : va_G) (a : Nat → Nat) (cI cZ : ClassId) (P Q D V O M : Nat → Nat) (n sz : Nat) (hB : jk_Bd P Q D V) (hn : n ≤ 6) : Met l yX1_late (ws_ yX1_late cX1_late 1 (some .long)) ({ frames := 2, cells := 0, slots := 0, locals := 58 }) (wPc G (dkT cI cZ) (dmW a cI P Q D V O M n) sz [.ref (a 0)]) (va_Ql (fun (r : Int64) (_ : (Nat → Nat) × (Nat → Nat)) => (n = 0 ∧ r = lI 0) ∨ (0 < n ∧ ∃ rr : Int, r = lI rr ∧ jk_min (fun k => jk_cost P Q D V 2 (jk_perm n (List.range n) k)) (jk_fac n) rr)) (fun u : (Nat → Nat) × (Nat → Nat) => wB G (dkT cI cZ) (va_A (dmW a cI P Q D V O M n) sz) (dmW a cI P Q D V (u.1) (u.2) n)) (va_A (dmW a cI P Q D V O M n) sz)) 0 0 (va_A (dmW a cI P Q D V O M n) sz) := by
  refine jw_enter (by decide) (Nat.le_of_ble_eq_true rfl) ?_
  intro p e s m below meth c S hr hlocks _ hA hK hw ls hl
  have S : CallFix p m c cX1_late 1 s _ lw_all RX1 := S
  obtain ⟨hx, hb, hml, hown, hts⟩ := id S
  generalize hAe : va_A (dmW a cI P Q D V O M n) sz = A at hw hA ⊢
  have hl : lv_has ls 1 [(0, .ref (a 0))] := hl
  refine lv_aload_n hx hb dX1_late_0 rfl (lv_at hl 0 rfl) ?_
  refine dm_n S hK hw dX1_late_1 ?_
  refine jr_if_ne hx hb 11 (by omega) dX1_late_4 (by decide) (fun h0 => ?_) (fun h0 => ?_)
  · refine lv_aload_n hx hb dX1_late_11 rfl (lv_at hl 0 rfl) ?_
    refine lv_iconst (v := nI 2) hx hb dX1_late_12 (by decide) ?_
    refine jw_calll (As := [.int (nI 2)]) (rest := []) (wr := []) S hK hw hA hl.1 (c_X1_best l G a cI cZ P Q D V O M n s.heap.size hB hn 2 (by decide)) (cwV 1 hts (lw_V q125 q127 qs2 q7 q128) rfl rfl rfl (by decide +kernel) ⟨Nat.le_refl _, Nat.le_refl _⟩) rfl [0, 1, 2, 3, 4, 5, 6] [] rfl rfl (by decide) rfl (by decide) (by decide) rfl rfl (by decide) ⟨Nat.le_refl _, Nat.le_refl _⟩ dX1_late_13 (fun r u H locs hq hw => ?_)
    exact jw_lret (wf := fun u : (Nat → Nat) × (Nat → Nat) => dmW a cI P Q D V (u.1) (u.2) n) u hx hb hr hlocks hK hw (Or.inr ⟨by omega, hq⟩) dX1_late_16
  · refine lv_lconst (v := lI 0) hx hb dX1_late_7 (by decide) ?_
    refine lv_goto (tgt := 16) hx hb dX1_late_8 (by decide) ?_
    exact jw_lret (wf := fun u : (Nat → Nat) × (Nat → Nat) => dmW a cI P Q D V (u.1) (u.2) n) (O, M) hx hb hr hlocks hK hw (Or.inl ⟨h0, rfl⟩) dX1_late_16
set_option maxHeartbeats 4000000 in
set_option maxRecDepth 100000 in
/-- both() -/
theorem c_X1_both (l : Launch) (G : va_G) (a : Nat → Nat) (cI cZ : ClassId) (P Q D V O M : Nat → Nat) (n sz : Nat) (hB : jk_Bd P Q D V) (hn : n ≤ 6) : Met l yX1_both (ws_ yX1_both cX1_both 1 (some .long)) ({ frames := 2, cells := 0, slots := 0, locals := 58 }) (wPc G (dkT cI cZ) (dmW a cI P Q D V O M n) sz [.ref (a 0)]) (va_Ql (fun (r : Int64) (_ : (Nat → Nat) × (Nat → Nat)) => (n = 0 ∧ r = lI 0) ∨ (0 < n ∧ ∃ rr : Int, r = lI rr ∧ jk_min (fun k => jk_cost P Q D V 3 (jk_perm n (List.range n) k)) (jk_fac n) rr)) (fun u : (Nat → Nat) × (Nat → Nat) => wB G (dkT cI cZ) (va_A (dmW a cI P Q D V O M n) sz) (dmW a cI P Q D V (u.1) (u.2) n)) (va_A (dmW a cI P Q D V O M n) sz)) 0 0 (va_A (dmW a cI P Q D V O M n) sz) := by
  refine jw_enter (by decide) (Nat.le_of_ble_eq_true rfl) ?_
  intro p e s m below meth c S hr hlocks _ hA hK hw ls hl
  have S : CallFix p m c cX1_both 1 s _ lw_all RX1 := S
  obtain ⟨hx, hb, hml, hown, hts⟩ := id S
  generalize hAe : va_A (dmW a cI P Q D V O M n) sz = A at hw hA ⊢
  have hl : lv_has ls 1 [(0, .ref (a 0))] := hl
  refine lv_aload_n hx hb dX1_both_0 rfl (lv_at hl 0 rfl) ?_
  refine dm_n S hK hw dX1_both_1 ?_
  refine jr_if_ne hx hb 11 (by omega) dX1_both_4 (by decide) (fun h0 => ?_) (fun h0 => ?_)
  · refine lv_aload_n hx hb dX1_both_11 rfl (lv_at hl 0 rfl) ?_
    refine lv_iconst (v := nI 3) hx hb dX1_both_12 (by decide) ?_
    refine jw_calll (As := [.int (nI 3)]) (rest := []) (wr := []) S hK hw hA hl.1 (c_X1_best l G a cI cZ P Q D V O M n s.heap.size hB hn 3 (by decide)) (cwV 1 hts (lw_V q125 q127 qs2 q7 q128) rfl rfl rfl (by decide +kernel) ⟨Nat.le_refl _, Nat.le_refl _⟩) rfl [0, 1, 2, 3, 4, 5, 6] [] rfl rfl (by decide) rfl (by decide) (by decide) rfl rfl (by decide) ⟨Nat.le_refl _, Nat.le_refl _⟩ dX1_both_13 (fun r u H locs hq hw => ?_)
    exact jw_lret (wf := fun u : (Nat → Nat) × (Nat → Nat) => dmW a cI P Q D V (u.1) (u.2) n) u hx hb hr hlocks hK hw (Or.inr ⟨by omega, hq⟩) dX1_both_16
  · refine lv_lconst (v := lI 0) hx hb dX1_both_7 (by decide) ?_
    refine lv_goto (tgt := 16) hx hb dX1_both_8 (by decide) ?_
    exact jw_lret (wf := fun u : (Nat → Nat) × (Nat → Nat) => dmW a cI P Q D V (u.1) (u.2) n) (O, M) hx hb hr hlocks hK hw (Or.inl ⟨h0, rfl⟩) dX1_both_16
end
section
/-! JobDeskModel.shared -/
set_option maxRecDepth 100000
def jk_two (P : Nat → Nat) (n s : Nat) : Int := if ((jk_all P n : Int) - jk_bs P s n) < (jk_bs P s n : Int) then (jk_bs P s n : Int) else (jk_all P n : Int) - jk_bs P s n
theorem jk_bs_step (P : Nat → Nat) (s i : Nat) : jk_bs P s (i + 1) = jk_bs P s i + (if s.testBit i = true then P i else 0) := rfl
set_option maxHeartbeats 4000000 in
set_option maxRecDepth 100000 in
/-- all of it -/
theorem ms_all {p : Program} {l : Launch} {e : Env} {R : Room} {s : State} {m : MethodId} {args : Array Value} {below : List Frame} {meth : Method} {c : Code} {Z : State → Prop} {G : va_G} {A : Nat → Prop} {a : Nat → Nat} {cI cZ : ClassId} {P Q D V : Nat → Nat} {n : Nat} {cells slots : Nat} (S : CallFix p m c cX1_shared 10 s args lw_all RX1) (hK : va_K G vwCl (dkT cI cZ) s) (hB : jk_Bd P Q D V) (hn : n ≤ 6) (O M : Nat → Nat) (H : Heap) (locs : List Loc) (hw : Wd G A s (dmW a cI P Q D V O M n) H locs)
    (K : ∀ (ls : Array Slot), lv_has ls 10 [(0, .ref (a 0)), (1, .long (lI (((jk_all P n : Nat) : Int)))), (3, .long (lI (-1)))] → W p l e R s m args below meth c H locs cells slots Z (F0 m 35 ls [])) :
    ∀ (f i : Nat) (ls : Array Slot), i + f = n → lv_has ls 10 [(0, .ref (a 0)), (1, .long (lI (((jk_all P i : Nat) : Int)))), (3, .long (lI (-1))), (5, .int (nI (i)))] → W p l e R s m args below meth c H locs cells slots Z (F0 m 9 ls []) := by
  obtain ⟨hx, hb, hml, hown, hts⟩ := id S
  obtain ⟨bP, bQ, bD, bV⟩ := id hB
  intro f
  induction f with
  | zero =>
    intro i ls hf hl
    refine lv_iload hx hb dX1_shared_9 (lv_at hl 3 rfl) ?_
    refine lv_aload_n hx hb dX1_shared_11 rfl (lv_at hl 0 rfl) ?_
    refine dm_n S hK hw dX1_shared_12 ?_
    refine jr_icmp_ge hx hb 35 (by omega) (by omega) dX1_shared_15 (by decide) (fun hc => ?_) (fun hc => ?_)
    · have e1 : i = n := by omega
      subst e1
      exact K ls (lv_sub hl [0, 1, 2] rfl)
    · exact absurd hc (by omega)
  | succ f ih =>
    intro i ls hf hl
    have pj := bP i
    refine lv_iload hx hb dX1_shared_9 (lv_at hl 3 rfl) ?_
    refine lv_aload_n hx hb dX1_shared_11 rfl (lv_at hl 0 rfl) ?_
    refine dm_n S hK hw dX1_shared_12 ?_
    refine jr_icmp_ge hx hb 35 (by omega) (by omega) dX1_shared_15 (by decide) (fun hc => ?_) (fun hc => ?_)
    · exact absurd hc (by omega)
    · refine lv_lload_n hx hb dX1_shared_18 rfl (lv_at hl 1 rfl) ?_
      refine lv_aload_n hx hb dX1_shared_19 rfl (lv_at hl 0 rfl) ?_
      refine dm_a S hK hw dX1_shared_20 ?_
      refine lv_iload hx hb dX1_shared_23 (lv_at hl 3 rfl) ?_
      refine jr_ald hx hb hK hw 1 0 rfl rfl (by decide) (by omega) dX1_shared_25 ?_
      refine jr_i2l hx hb (by omega) dX1_shared_26 ?_
      refine jr_ladd hx hb dX1_shared_27 ?_
      refine lv_lstore_n (lv' := [(1, .long (lI ((((jk_all P i : Nat) : Int)) + (((P i : Nat) : Int))))), (0, .ref (a 0)), (3, .long (lI (-1))), (5, .int (nI (i)))]) hx hb dX1_shared_28 rfl hl (by decide) rfl (fun ls hl => ?_)
      refine lv_iinc (v := (nI (i + 1))) (lv' := [(5, .int (nI (i + 1))), (1, .long (lI ((((jk_all P i : Nat) : Int)) + (((P i : Nat) : Int))))), (0, .ref (a 0)), (3, .long (lI (-1)))]) hx hb dX1_shared_29 hl (k := 3) rfl (nI_1 _) (by decide) rfl (fun ls hl => ?_)
      refine lv_goto (tgt := 9) hx hb dX1_shared_32 (by decide) ?_
      have hl : lv_has ls 10 [(5, .int (nI (i + 1))), (1, .long (lI (((jk_all P (i + 1) : Nat) : Int)))), (0, .ref (a 0)), (3, .long (lI (-1)))] := hl
      exact ih (i + 1) ls (by omega) (lv_sub hl [2, 1, 3, 0] rfl)
set_option maxHeartbeats 4000000 in
set_option maxRecDepth 100000 in
/-- one hand's sum -/
theorem ms_in {p : Program} {l : Launch} {e : Env} {R : Room} {s : State} {m : MethodId} {args : Array Value} {below : List Frame} {meth : Method} {c : Code} {Z : State → Prop} {G : va_G} {A : Nat → Prop} {a : Nat → Nat} {cI cZ : ClassId} {P Q D V : Nat → Nat} {n : Nat} {cells slots : Nat} (S : CallFix p m c cX1_shared 10 s args lw_all RX1) (hK : va_K G vwCl (dkT cI cZ) s) (hB : jk_Bd P Q D V) (hn : n ≤ 6) (O M : Nat → Nat) (H : Heap) (locs : List Loc) (hw : Wd G A s (dmW a cI P Q D V O M n) H locs) (rr : Int) (k : Nat) (hk : k < 64)
    (K : ∀ (ls : Array Slot), lv_has ls 10 [(0, .ref (a 0)), (1, .long (lI (((jk_all P n : Nat) : Int)))), (3, .long (lI (rr))), (5, .int (nI (k))), (6, .long (lI (((jk_bs P k n : Nat) : Int))))] → W p l e R s m args below meth c H locs cells slots Z (F0 m 93 ls [])) :
    ∀ (f i : Nat) (ls : Array Slot), i + f = n → lv_has ls 10 [(0, .ref (a 0)), (1, .long (lI (((jk_all P n : Nat) : Int)))), (3, .long (lI (rr))), (5, .int (nI (k))), (6, .long (lI (((jk_bs P k i : Nat) : Int)))), (8, .int (nI (i)))] → W p l e R s m args below meth c H locs cells slots Z (F0 m 55 ls []) := by
  obtain ⟨hx, hb, hml, hown, hts⟩ := id S
  obtain ⟨bP, bQ, bD, bV⟩ := id hB
  intro f
  induction f with
  | zero =>
    intro i ls hf hl
    refine lv_iload hx hb dX1_shared_55 (lv_at hl 5 rfl) ?_
    refine lv_aload_n hx hb dX1_shared_57 rfl (lv_at hl 0 rfl) ?_
    refine dm_n S hK hw dX1_shared_58 ?_
    refine jr_icmp_ge hx hb 93 (by omega) (by omega) dX1_shared_61 (by decide) (fun hc => ?_) (fun hc => ?_)
    · have e1 : i = n := by omega
      subst e1
      exact K ls (lv_sub hl [0, 1, 2, 3, 4] rfl)
    · exact absurd hc (by omega)
  | succ f ih =>
    intro i ls hf hl
    have pj := bP i
    have hlt : k / 2 ^ i < 2 ^ 31 := Nat.lt_of_le_of_lt (Nat.div_le_self _ _) (by omega)
    refine lv_iload hx hb dX1_shared_55 (lv_at hl 5 rfl) ?_
    refine lv_aload_n hx hb dX1_shared_57 rfl (lv_at hl 0 rfl) ?_
    refine dm_n S hK hw dX1_shared_58 ?_
    refine jr_icmp_ge hx hb 93 (by omega) (by omega) dX1_shared_61 (by decide) (fun hc => ?_) (fun hc => ?_)
    · exact absurd hc (by omega)
    · refine lv_iload hx hb dX1_shared_64 (lv_at hl 3 rfl) ?_
      refine lv_iload hx hb dX1_shared_66 (lv_at hl 5 rfl) ?_
      refine jr_ishr hx hb (by omega) (by omega) dX1_shared_68 ?_
      refine lv_iconst (v := nI 1) hx hb dX1_shared_69 (by decide) ?_
      refine jr_iand1 hx hb hlt dX1_shared_70 ?_
      refine jr_if_eq hx hb 87 (by omega) dX1_shared_71 (by decide) (fun h0 => ?_) (fun h0 => ?_)
      · refine lv_iinc (v := (nI (i + 1))) (lv' := [(8, .int (nI (i + 1))), (0, .ref (a 0)), (1, .long (lI (((jk_all P n : Nat) : Int)))), (3, .long (lI (rr))), (5, .int (nI (k))), (6, .long (lI (((jk_bs P k i : Nat) : Int))))]) hx hb dX1_shared_87 hl (k := 5) rfl (nI_1 _) (by decide) rfl (fun ls hl => ?_)
        refine lv_goto (tgt := 55) hx hb dX1_shared_90 (by decide) ?_
        rw [show jk_bs P k i = jk_bs P k (i + 1) by rw [jk_bs_step, (jk_tb k i).mp h0]; simp] at hl
        exact ih (i + 1) ls (by omega) (lv_sub hl [1, 2, 3, 4, 5, 0] rfl)
      · refine lv_lload hx hb dX1_shared_74 (lv_at hl 4 rfl) ?_
        refine lv_aload_n hx hb dX1_shared_76 rfl (lv_at hl 0 rfl) ?_
        refine dm_a S hK hw dX1_shared_77 ?_
        refine lv_iload hx hb dX1_shared_80 (lv_at hl 5 rfl) ?_
        refine jr_ald hx hb hK hw 1 0 rfl rfl (by decide) (by omega) dX1_shared_82 ?_
        refine jr_i2l hx hb (by omega) dX1_shared_83 ?_
        refine jr_ladd hx hb dX1_shared_84 ?_
        refine lv_lstore (lv' := [(6, .long (lI ((((jk_bs P k i : Nat) : Int)) + (((P i : Nat) : Int))))), (0, .ref (a 0)), (1, .long (lI (((jk_all P n : Nat) : Int)))), (3, .long (lI (rr))), (5, .int (nI (k))), (8, .int (nI (i)))]) hx hb dX1_shared_85 hl (by decide) rfl (fun ls hl => ?_)
        refine lv_iinc (v := (nI (i + 1))) (lv' := [(8, .int (nI (i + 1))), (6, .long (lI ((((jk_bs P k i : Nat) : Int)) + (((P i : Nat) : Int))))), (0, .ref (a 0)), (1, .long (lI (((jk_all P n : Nat) : Int)))), (3, .long (lI (rr))), (5, .int (nI (k)))]) hx hb dX1_shared_87 hl (k := 5) rfl (nI_1 _) (by decide) rfl (fun ls hl => ?_)
        refine lv_goto (tgt := 55) hx hb dX1_shared_90 (by decide) ?_
        have hb1 : k.testBit i = true := by
          cases hq : k.testBit i with
          | true => rfl
          | false => exact absurd ((jk_tb k i).mpr hq) h0
        have he : ((jk_bs P k i : Nat) : Int) + ((P i : Nat) : Int) = ((jk_bs P k (i + 1) : Nat) : Int) := by
          rw [jk_bs_step, hb1]
          simp
        rw [he] at hl
        exact ih (i + 1) ls (by omega) (lv_sub hl [2, 3, 4, 5, 1, 0] rfl)
set_option maxHeartbeats 4000000 in
set_option maxRecDepth 100000 in
/-- the least of all sharings -/
theorem ms_out {p : Program} {l : Launch} {e : Env} {R : Room} {s : State} {m : MethodId} {args : Array Value} {below : List Frame} {meth : Method} {c : Code} {Z : State → Prop} {G : va_G} {A : Nat → Prop} {a : Nat → Nat} {cI cZ : ClassId} {P Q D V : Nat → Nat} {n : Nat} {cells slots : Nat} (S : CallFix p m c cX1_shared 10 s args lw_all RX1) (hK : va_K G vwCl (dkT cI cZ) s) (hB : jk_Bd P Q D V) (hn : n ≤ 6) (O M : Nat → Nat) (H : Heap) (locs : List Loc) (hw : Wd G A s (dmW a cI P Q D V O M n) H locs)
    (K : ∀ (rr : Int) (ls : Array Slot), jk_min (jk_two P n) (2 ^ n) rr → lv_has ls 10 [(3, .long (lI (rr)))] → W p l e R s m args below meth c H locs cells slots Z (F0 m 136 ls [])) :
    ∀ (f k : Nat) (rr : Int) (ls : Array Slot), k + f = 2 ^ n → ((k = 0 ∧ rr = -1) ∨ (0 < k ∧ jk_min (jk_two P n) k rr ∧ 0 ≤ rr)) → rr ≤ 1530 → lv_has ls 10 [(0, .ref (a 0)), (1, .long (lI (((jk_all P n : Nat) : Int)))), (3, .long (lI (rr))), (5, .int (nI (k)))] → W p l e R s m args below meth c H locs cells slots Z (F0 m 38 ls []) := by
  obtain ⟨hx, hb, hml, hown, hts⟩ := id S
  obtain ⟨bP, bQ, bD, bV⟩ := id hB
  have hal := jk_all_le bP n
  have h2n : 2 ^ n ≤ 2 ^ 6 := Nat.pow_le_pow_right (by decide) hn
  have h2p : 0 < 2 ^ n := Nat.pow_pos (by decide)
  intro f
  induction f with
  | zero =>
    intro k rr ls hf hi r2 hl
    refine lv_iload hx hb dX1_shared_38 (lv_at hl 3 rfl) ?_
    refine lv_iconst (v := nI 1) hx hb dX1_shared_40 (by decide) ?_
    refine lv_aload_n hx hb dX1_shared_41 rfl (lv_at hl 0 rfl) ?_
    refine dm_n S hK hw dX1_shared_42 ?_
    refine jr_ishl hx hb (by omega) (by omega) dX1_shared_45 ?_
    refine jr_icmp_ge hx hb 136 (by omega) (by omega) dX1_shared_46 (by decide) (fun hc => ?_) (fun hc => ?_)
    · have e1 : k = 2 ^ n := by omega
      subst e1
      refine K rr ls ?_ (lv_sub hl [2] rfl)
      rcases hi with q | q
      · omega
      · exact q.2.1
    · exact absurd hc (by omega)
  | succ f ih =>
    intro k rr ls hf hi r2 hl
    have hle := jk_sub_le n _ (jk_bs_sub P k n)
    have X130 : ∀ (r' : Int) (ls : Array Slot), (((k + 1) = 0 ∧ r' = -1) ∨ (0 < (k + 1) ∧ jk_min (jk_two P n) (k + 1) r' ∧ 0 ≤ r')) → r' ≤ 1530 → lv_has ls 10 [(0, .ref (a 0)), (1, .long (lI (((jk_all P n : Nat) : Int)))), (3, .long (lI (r'))), (5, .int (nI (k)))] → W p l e R s m args below meth c H locs cells slots Z (F0 m 130 ls []) := by
      intro r' ls hi r2 hl
      refine lv_iinc (v := (nI (k + 1))) (lv' := [(5, .int (nI (k + 1))), (0, .ref (a 0)), (1, .long (lI (((jk_all P n : Nat) : Int)))), (3, .long (lI (r')))]) hx hb dX1_shared_130 hl (k := 3) rfl (nI_1 _) (by decide) rfl (fun ls hl => ?_)
      refine lv_goto (tgt := 38) hx hb dX1_shared_133 (by decide) ?_
      exact ih (k + 1) r' ls (by omega) hi r2 (lv_sub hl [1, 2, 3, 0] rfl)
    have X114 : ∀ (mm : Int) (ls : Array Slot), jk_two P n k = mm → 0 ≤ mm → mm ≤ 1530 → lv_has ls 10 [(0, .ref (a 0)), (1, .long (lI (((jk_all P n : Nat) : Int)))), (3, .long (lI (rr))), (5, .int (nI (k))), (8, .long (lI (mm)))] → W p l e R s m args below meth c H locs cells slots Z (F0 m 114 ls []) := by
      intro mm ls hmm m1 m2 hl
      have X127 : (k = 0 ∨ (jk_min (jk_two P n) k rr ∧ mm < rr)) → W p l e R s m args below meth c H locs cells slots Z (F0 m 127 ls []) := by
        intro hor
        refine lv_lload hx hb dX1_shared_127 (lv_at hl 4 rfl) ?_
        refine lv_lstore_n (lv' := [(3, .long (lI (mm))), (0, .ref (a 0)), (1, .long (lI (((jk_all P n : Nat) : Int)))), (5, .int (nI (k))), (8, .long (lI (mm)))]) hx hb dX1_shared_129 rfl hl (by decide) rfl (fun ls hl => ?_)
        refine X130 mm ls (Or.inr ⟨by omega, ?_, m1⟩) m2 (lv_sub hl [1, 2, 0, 3] rfl)
        rcases hor with rfl | ⟨g1, g2⟩
        · rw [← hmm]; exact jk_min_1 _
        · rw [← hmm] at g2 ⊢; exact jk_min_lt g1 g2
      have r1 : -1 ≤ rr := by rcases hi with q | q <;> omega
      refine lv_lload_n hx hb dX1_shared_114 rfl (lv_at hl 2 rfl) ?_
      refine lv_lconst (v := lI 0) hx hb dX1_shared_115 (by decide) ?_
      refine jr_lcmp_lt hx hb 127 (by omega) (by omega) (by omega) (by omega) dX1_shared_116 dX1_shared_117 (by decide) (fun hlt => ?_) (fun hlt => ?_)
      · exact X127 (Or.inl (by rcases hi with q | q; exact q.1; exact absurd q.2.2 (by omega)))
      · have hmin : 0 < k ∧ jk_min (jk_two P n) k rr := by
          rcases hi with q | q
          · exact absurd q.2 (by omega)
          · exact ⟨q.1, q.2.1⟩
        refine lv_lload hx hb dX1_shared_120 (lv_at hl 4 rfl) ?_
        refine lv_lload_n hx hb dX1_shared_122 rfl (lv_at hl 2 rfl) ?_
        refine jr_lcmp_ge hx hb 130 (by omega) (by omega) (by omega) (by omega) dX1_shared_123 dX1_shared_124 (by decide) (fun hge => ?_) (fun hge => ?_)
        · exact X130 rr ls (Or.inr ⟨by omega, by rw [← hmm] at hge; exact jk_min_ge hmin.2 hge, hlt⟩) r2 (lv_sub hl [0, 1, 2, 3] rfl)
        · exact X127 (Or.inr ⟨hmin.2, hge⟩)
    refine lv_iload hx hb dX1_shared_38 (lv_at hl 3 rfl) ?_
    refine lv_iconst (v := nI 1) hx hb dX1_shared_40 (by decide) ?_
    refine lv_aload_n hx hb dX1_shared_41 rfl (lv_at hl 0 rfl) ?_
    refine dm_n S hK hw dX1_shared_42 ?_
    refine jr_ishl hx hb (by omega) (by omega) dX1_shared_45 ?_
    refine jr_icmp_ge hx hb 136 (by omega) (by omega) dX1_shared_46 (by decide) (fun hc => ?_) (fun hc => ?_)
    · exact absurd hc (by omega)
    · refine lv_lconst (v := lI 0) hx hb dX1_shared_49 (by decide) ?_
      refine lv_lstore (lv' := [(6, .long (lI (0))), (0, .ref (a 0)), (1, .long (lI (((jk_all P n : Nat) : Int)))), (3, .long (lI (rr))), (5, .int (nI (k)))]) hx hb dX1_shared_50 hl (by decide) rfl (fun ls hl => ?_)
      refine lv_iconst (v := nI 0) hx hb dX1_shared_52 (by decide) ?_
      refine lv_istore (lv' := [(8, .int (nI (0))), (6, .long (lI (0))), (0, .ref (a 0)), (1, .long (lI (((jk_all P n : Nat) : Int)))), (3, .long (lI (rr))), (5, .int (nI (k)))]) hx hb dX1_shared_53 hl (by decide) rfl (fun ls hl => ?_)
      refine ms_in S hK hB hn O M H locs hw rr k (by omega) (fun ls hl => ?_) n 0 ls (by omega) (lv_sub hl [2, 3, 4, 5, 1, 0] rfl)
      refine lv_lload hx hb dX1_shared_93 (lv_at hl 4 rfl) ?_
      refine lv_lload_n hx hb dX1_shared_95 rfl (lv_at hl 1 rfl) ?_
      refine lv_lload hx hb dX1_shared_96 (lv_at hl 4 rfl) ?_
      refine jr_lsub hx hb dX1_shared_98 ?_
      refine jr_lcmp_le hx hb 108 (by omega) (by omega) (by omega) (by omega) dX1_shared_99 dX1_shared_100 (by decide) (fun hle2 => ?_) (fun hle2 => ?_)
      · refine lv_lload_n hx hb dX1_shared_108 rfl (lv_at hl 1 rfl) ?_
        refine lv_lload hx hb dX1_shared_109 (lv_at hl 4 rfl) ?_
        refine jr_lsub hx hb dX1_shared_111 ?_
        refine lv_lstore (lv' := [(8, .long (lI ((((jk_all P n : Nat) : Int)) - (((jk_bs P k n : Nat) : Int))))), (0, .ref (a 0)), (1, .long (lI (((jk_all P n : Nat) : Int)))), (3, .long (lI (rr))), (5, .int (nI (k))), (6, .long (lI (((jk_bs P k n : Nat) : Int))))]) hx hb dX1_shared_112 hl (by decide) rfl (fun ls hl => ?_)
        exact X114 _ ls (by unfold jk_two; rw [if_neg (by omega)]) (by omega) (by omega) (lv_sub hl [1, 2, 3, 4, 0] rfl)
      · refine lv_lload hx hb dX1_shared_103 (lv_at hl 4 rfl) ?_
        refine lv_goto (tgt := 112) hx hb dX1_shared_105 (by decide) ?_
        refine lv_lstore (lv' := [(8, .long (lI (((jk_bs P k n : Nat) : Int)))), (0, .ref (a 0)), (1, .long (lI (((jk_all P n : Nat) : Int)))), (3, .long (lI (rr))), (5, .int (nI (k))), (6, .long (lI (((jk_bs P k n : Nat) : Int))))]) hx hb dX1_shared_112 hl (by decide) rfl (fun ls hl => ?_)
        exact X114 _ ls (by unfold jk_two; rw [if_pos (by omega)]) (by omega) (by omega) (lv_sub hl [1, 2, 3, 4, 0] rfl)
set_option maxHeartbeats 4000000 in
set_option maxRecDepth 100000 in
/-- shared(): the least of all sharings -/
theorem c_X1_shared (l : Launch) (G : va_G) (a : Nat → Nat) (cI cZ : ClassId) (P Q D V O M : Nat → Nat) (n sz : Nat) (hB : jk_Bd P Q D V) (hn : n ≤ 6) : Met l yX1_shared (ws_ yX1_shared cX1_shared 10 (some .long)) ({ frames := 0, cells := 0, slots := 0, locals := 0 }) (wPc G (dkT cI cZ) (dmW a cI P Q D V O M n) sz [.ref (a 0)]) (va_Ql (fun (r : Int64) (_ : Unit) => ∃ rr : Int, r = lI rr ∧ jk_min (jk_two P n) (2 ^ n) rr) (fun u : Unit => wB G (dkT cI cZ) (va_A (dmW a cI P Q D V O M n) sz) (dmW a cI P Q D V O M n)) (va_A (dmW a cI P Q D V O M n) sz)) 0 0 (va_A (dmW a cI P Q D V O M n) sz) := by
  refine jw_enter (by decide) (Nat.le_of_ble_eq_true rfl) ?_
  intro p e s m below meth c S hr hlocks _ hA hK hw ls hl
  have S : CallFix p m c cX1_shared 10 s _ lw_all RX1 := S
  obtain ⟨hx, hb, hml, hown, hts⟩ := id S
  generalize hAe : va_A (dmW a cI P Q D V O M n) sz = A at hw hA ⊢
  have hl : lv_has ls 10 [(0, .ref (a 0))] := hl
  refine lv_lconst (v := lI 0) hx hb dX1_shared_0 (by decide) ?_
  refine lv_lstore_n (lv' := [(1, .long (lI (0))), (0, .ref (a 0))]) hx hb dX1_shared_1 rfl hl (by decide) rfl (fun ls hl => ?_)
  refine lv_ldc2 hx hb hown (hts _ q129) dX1_shared_2 ?_
  rw [show (-1 : Int64) = lI (-1) by decide]
  refine lv_lstore_n (lv' := [(3, .long (lI (-1))), (1, .long (lI (0))), (0, .ref (a 0))]) hx hb dX1_shared_5 rfl hl (by decide) rfl (fun ls hl => ?_)
  refine lv_iconst (v := nI 0) hx hb dX1_shared_6 (by decide) ?_
  refine lv_istore (lv' := [(5, .int (nI (0))), (3, .long (lI (-1))), (1, .long (lI (0))), (0, .ref (a 0))]) hx hb dX1_shared_7 hl (by decide) rfl (fun ls hl => ?_)
  refine ms_all S hK hB hn O M s.heap [] hw (fun ls hl => ?_) n 0 ls (by omega) (lv_sub hl [3, 2, 1, 0] rfl)
  refine lv_iconst (v := nI 0) hx hb dX1_shared_35 (by decide) ?_
  refine lv_istore (lv' := [(5, .int (nI (0))), (0, .ref (a 0)), (1, .long (lI (((jk_all P n : Nat) : Int)))), (3, .long (lI (-1)))]) hx hb dX1_shared_36 hl (by decide) rfl (fun ls hl => ?_)
  refine ms_out S hK hB hn O M s.heap [] hw (fun rr ls hi hl => ?_) (2 ^ n) 0 (-1) ls (by omega) (Or.inl ⟨rfl, rfl⟩) (by decide) (lv_sub hl [1, 2, 3, 0] rfl)
  refine lv_lload_n hx hb dX1_shared_136 rfl (lv_at hl 0 rfl) ?_
  exact jw_lret (wf := fun _ : Unit => dmW a cI P Q D V O M n) () hx hb hr hlocks hK hw ⟨rr, rfl, hi⟩ dX1_shared_137
end
section
/-! the constructors -/
set_option maxRecDepth 100000
def jk_z : Nat → Nat := fun _ => 0
theorem va_RA_int {U : State} {c1 c2 : ClassId} (h1 : va_RA U c1 .int) (h2 : va_RA U c2 .int) : c1 = c2 := by
  have h1 : U.vm.findClass ("[" ++ FieldType.int.toString) = some c1 := h1
  have h2 : U.vm.findClass ("[" ++ FieldType.int.toString) = some c2 := h2
  exact Option.some.inj (h1.symm.trans h2)
def jk_ad (h0 q1 q2 q3 q4 q5 q6 : Nat) : Nat → Nat
  | 0 => h0
  | 1 => q1
  | 2 => q2
  | 3 => q3
  | 4 => q4
  | 5 => q5
  | _ => q6
set_option maxHeartbeats 4000000 in
set_option maxRecDepth 100000 in
/-- JobDesk(): six arrays of zeros -/
theorem c_X0_init (l : Launch) (G : va_G) (h0 : Nat) (sz : Nat) : Met l yX0_init (ws_ yX0_init cX0_init 1 none) ({ frames := 1, cells := 6, slots := 1561, locals := 12 }) (wPc G [] [(h0, .inr (0, [.null, .null, .null, .null, .null, .null, .int 0]))] sz [.ref h0]) (va_Qv (fun u : (Nat → Nat) × ClassId × ClassId => u.1 0 = h0) (fun u : (Nat → Nat) × ClassId × ClassId => wB G (dkT u.2.1 u.2.2) (va_A [(h0, .inr (0, [.null, .null, .null, .null, .null, .null, .int 0]))] sz) (dkW u.1 u.2.1 u.2.2 jk_z jk_z jk_z jk_z jk_z jk_z 0)) (va_A [(h0, .inr (0, [.null, .null, .null, .null, .null, .null, .int 0]))] sz)) 6 1561 (va_A [(h0, .inr (0, [.null, .null, .null, .null, .null, .null, .int 0]))] sz) := by
  refine jw_enter (by decide) (Nat.le_of_ble_eq_true rfl) ?_
  intro p e s m below meth c S hr hlocks hin hA hK hw ls hl
  have S : CallFix p m c cX0_init 1 s _ lw_all RX0 := S
  have hin : meth.name = "<init>" := hin
  obtain ⟨hx, hb, hml, hown, hts⟩ := id S
  generalize hAe : va_A [(h0, .inr (0, [.null, .null, .null, .null, .null, .null, .int 0]))] sz = A at hw hA ⊢
  have hl : lv_has ls 1 [(0, .ref h0)] := hl
  obtain ⟨hP, hD, hS⟩ := hw
  refine lv_aload_n hx hb dX0_init_0 rfl (lv_at hl 0 rfl) ?_
  refine W.objInit hx hb hown (hts _ q14) (hts _ q15) (hts _ q16) rfl (by rw [hml]; exact hl.1) rfl dX0_init_1 (Nat.le_of_ble_eq_true rfl) (Nat.le_of_ble_eq_true rfl) ?_
  refine W.eq (g2 := F0 m 4 ls []) rfl ?_
  refine lv_aload_n hx hb dX0_init_4 rfl (lv_at hl 0 rfl) ?_
  refine lv_bipush (v := nI 6) hx hb dX0_init_5 (by decide) ?_
  refine va_newa (atype := .int) (ty := .int) (N' := 6) (a0 := (6, .inl (aN jk_z))) hx hb (hts _ q39) rfl hK hP hD hS hA (fun _ => rfl) (by decide) (by decide) (by decide) (Nat.le_of_ble_eq_true rfl) (Nat.le_of_ble_eq_true rfl) dX0_init_7 (fun q1 cI H hK hP hD hS => ?_)
  have hK : va_K G vwCl [(cI, .int)] s := hK
  have hP : va_P G vwCl [(h0, .inr (0, [.null, .null, .null, .null, .null, .null, .int 0])), (q1, .inl (cI, 6, .inl (aN jk_z)))] H := hP
  have hD : va_D A [(h0, .inr (0, [.null, .null, .null, .null, .null, .null, .int 0])), (q1, .inl (cI, 6, .inl (aN jk_z)))] := hD
  refine W.widen (k := 1) (n := 6) (by decide) (by decide) ?_
  refine va_putF (D := G) (ci := 0) (v := .ref q1) (ty := .array .int) (C := RX0) (T := TX0) (N := 7) hx hb hts in_X0 tyX0 tyX0_ok nmX0 hown hK hP hD hS 0 rfl rfl 0 (by decide) (hts _ q17) (fun _ h9 => h9) rfl hin rfl (by decide +kernel) rfl rfl (Nat.le_of_ble_eq_true rfl) dX0_init_9 (fun H locs hP hD hS => ?_)
  have hP : va_P G vwCl [(h0, .inr (0, [.ref q1, .null, .null, .null, .null, .null, .int 0])), (q1, .inl (cI, 6, .inl (aN jk_z)))] H := hP
  have hD : va_D A [(h0, .inr (0, [.ref q1, .null, .null, .null, .null, .null, .int 0])), (q1, .inl (cI, 6, .inl (aN jk_z)))] := hD
  refine lv_aload_n hx hb dX0_init_12 rfl (lv_at hl 0 rfl) ?_
  refine lv_bipush (v := nI 6) hx hb dX0_init_13 (by decide) ?_
  refine va_newa (atype := .int) (ty := .int) (N' := 6) (a0 := (6, .inl (aN jk_z))) hx hb (hts _ q39) rfl hK hP hD hS hA (fun _ => rfl) (by decide) (by decide) (by decide) (Nat.le_of_ble_eq_true rfl) (Nat.le_of_ble_eq_true rfl) dX0_init_15 (fun q2 cA H hK hP hD hS => ?_)
  have eA : cA = cI := va_RA_int (hK.2 1 _ rfl).2 (hK.2 0 _ rfl).2
  rw [eA] at hP hD
  have hK : va_K G vwCl [(cI, .int)] s := hK.sub [0] rfl
  have hP : va_P G vwCl [(h0, .inr (0, [.ref q1, .null, .null, .null, .null, .null, .int 0])), (q1, .inl (cI, 6, .inl (aN jk_z))), (q2, .inl (cI, 6, .inl (aN jk_z)))] H := hP
  have hD : va_D A [(h0, .inr (0, [.ref q1, .null, .null, .null, .null, .null, .int 0])), (q1, .inl (cI, 6, .inl (aN jk_z))), (q2, .inl (cI, 6, .inl (aN jk_z)))] := hD
  refine W.widen (k := 2) (n := 12) (by decide) (by decide) ?_
  refine va_putF (D := G) (ci := 0) (v := .ref q2) (ty := .array .int) (C := RX0) (T := TX0) (N := 7) hx hb hts in_X0 tyX0 tyX0_ok nmX0 hown hK hP hD hS 0 rfl rfl 1 (by decide) (hts _ q18) (fun _ h9 => h9) rfl hin rfl (by decide +kernel) rfl rfl (Nat.le_of_ble_eq_true rfl) dX0_init_17 (fun H locs hP hD hS => ?_)
  have hP : va_P G vwCl [(h0, .inr (0, [.ref q1, .ref q2, .null, .null, .null, .null, .int 0])), (q1, .inl (cI, 6, .inl (aN jk_z))), (q2, .inl (cI, 6, .inl (aN jk_z)))] H := hP
  have hD : va_D A [(h0, .inr (0, [.ref q1, .ref q2, .null, .null, .null, .null, .int 0])), (q1, .inl (cI, 6, .inl (aN jk_z))), (q2, .inl (cI, 6, .inl (aN jk_z)))] := hD
  refine lv_aload_n hx hb dX0_init_20 rfl (lv_at hl 0 rfl) ?_
  refine lv_bipush (v := nI 6) hx hb dX0_init_21 (by decide) ?_
  refine va_newa (atype := .int) (ty := .int) (N' := 6) (a0 := (6, .inl (aN jk_z))) hx hb (hts _ q39) rfl hK hP hD hS hA (fun _ => rfl) (by decide) (by decide) (by decide) (Nat.le_of_ble_eq_true rfl) (Nat.le_of_ble_eq_true rfl) dX0_init_23 (fun q3 cA H hK hP hD hS => ?_)
  have eA : cA = cI := va_RA_int (hK.2 1 _ rfl).2 (hK.2 0 _ rfl).2
  rw [eA] at hP hD
  have hK : va_K G vwCl [(cI, .int)] s := hK.sub [0] rfl
  have hP : va_P G vwCl [(h0, .inr (0, [.ref q1, .ref q2, .null, .null, .null, .null, .int 0])), (q1, .inl (cI, 6, .inl (aN jk_z))), (q2, .inl (cI, 6, .inl (aN jk_z))), (q3, .inl (cI, 6, .inl (aN jk_z)))] H := hP
  have hD : va_D A [(h0, .inr (0, [.ref q1, .ref q2, .null, .null, .null, .null, .int 0])), (q1, .inl (cI, 6, .inl (aN jk_z))), (q2, .inl (cI, 6, .inl (aN jk_z))), (q3, .inl (cI, 6, .inl (aN jk_z)))] := hD
  refine W.widen (k := 3) (n := 18) (by decide) (by decide) ?_
  refine va_putF (D := G) (ci := 0) (v := .ref q3) (ty := .array .int) (C := RX0) (T := TX0) (N := 7) hx hb hts in_X0 tyX0 tyX0_ok nmX0 hown hK hP hD hS 0 rfl rfl 2 (by decide) (hts _ q19) (fun _ h9 => h9) rfl hin rfl (by decide +kernel) rfl rfl (Nat.le_of_ble_eq_true rfl) dX0_init_25 (fun H locs hP hD hS => ?_)
  have hP : va_P G vwCl [(h0, .inr (0, [.ref q1, .ref q2, .ref q3, .null, .null, .null, .int 0])), (q1, .inl (cI, 6, .inl (aN jk_z))), (q2, .inl (cI, 6, .inl (aN jk_z))), (q3, .inl (cI, 6, .inl (aN jk_z)))] H := hP
  have hD : va_D A [(h0, .inr (0, [.ref q1, .ref q2, .ref q3, .null, .null, .null, .int 0])), (q1, .inl (cI, 6, .inl (aN jk_z))), (q2, .inl (cI, 6, .inl (aN jk_z))), (q3, .inl (cI, 6, .inl (aN jk_z)))] := hD
  refine lv_aload_n hx hb dX0_init_28 rfl (lv_at hl 0 rfl) ?_
  refine lv_bipush (v := nI 6) hx hb dX0_init_29 (by decide) ?_
  refine va_newa (atype := .int) (ty := .int) (N' := 6) (a0 := (6, .inl (aN jk_z))) hx hb (hts _ q39) rfl hK hP hD hS hA (fun _ => rfl) (by decide) (by decide) (by decide) (Nat.le_of_ble_eq_true rfl) (Nat.le_of_ble_eq_true rfl) dX0_init_31 (fun q4 cA H hK hP hD hS => ?_)
  have eA : cA = cI := va_RA_int (hK.2 1 _ rfl).2 (hK.2 0 _ rfl).2
  rw [eA] at hP hD
  have hK : va_K G vwCl [(cI, .int)] s := hK.sub [0] rfl
  have hP : va_P G vwCl [(h0, .inr (0, [.ref q1, .ref q2, .ref q3, .null, .null, .null, .int 0])), (q1, .inl (cI, 6, .inl (aN jk_z))), (q2, .inl (cI, 6, .inl (aN jk_z))), (q3, .inl (cI, 6, .inl (aN jk_z))), (q4, .inl (cI, 6, .inl (aN jk_z)))] H := hP
  have hD : va_D A [(h0, .inr (0, [.ref q1, .ref q2, .ref q3, .null, .null, .null, .int 0])), (q1, .inl (cI, 6, .inl (aN jk_z))), (q2, .inl (cI, 6, .inl (aN jk_z))), (q3, .inl (cI, 6, .inl (aN jk_z))), (q4, .inl (cI, 6, .inl (aN jk_z)))] := hD
  refine W.widen (k := 4) (n := 24) (by decide) (by decide) ?_
  refine va_putF (D := G) (ci := 0) (v := .ref q4) (ty := .array .int) (C := RX0) (T := TX0) (N := 7) hx hb hts in_X0 tyX0 tyX0_ok nmX0 hown hK hP hD hS 0 rfl rfl 3 (by decide) (hts _ q20) (fun _ h9 => h9) rfl hin rfl (by decide +kernel) rfl rfl (Nat.le_of_ble_eq_true rfl) dX0_init_33 (fun H locs hP hD hS => ?_)
  have hP : va_P G vwCl [(h0, .inr (0, [.ref q1, .ref q2, .ref q3, .ref q4, .null, .null, .int 0])), (q1, .inl (cI, 6, .inl (aN jk_z))), (q2, .inl (cI, 6, .inl (aN jk_z))), (q3, .inl (cI, 6, .inl (aN jk_z))), (q4, .inl (cI, 6, .inl (aN jk_z)))] H := hP
  have hD : va_D A [(h0, .inr (0, [.ref q1, .ref q2, .ref q3, .ref q4, .null, .null, .int 0])), (q1, .inl (cI, 6, .inl (aN jk_z))), (q2, .inl (cI, 6, .inl (aN jk_z))), (q3, .inl (cI, 6, .inl (aN jk_z))), (q4, .inl (cI, 6, .inl (aN jk_z)))] := hD
  refine lv_aload_n hx hb dX0_init_36 rfl (lv_at hl 0 rfl) ?_
  refine lv_bipush (v := nI 6) hx hb dX0_init_37 (by decide) ?_
  refine va_newa (atype := .int) (ty := .int) (N' := 6) (a0 := (6, .inl (aN jk_z))) hx hb (hts _ q39) rfl hK hP hD hS hA (fun _ => rfl) (by decide) (by decide) (by decide) (Nat.le_of_ble_eq_true rfl) (Nat.le_of_ble_eq_true rfl) dX0_init_39 (fun q5 cA H hK hP hD hS => ?_)
  have eA : cA = cI := va_RA_int (hK.2 1 _ rfl).2 (hK.2 0 _ rfl).2
  rw [eA] at hP hD
  have hK : va_K G vwCl [(cI, .int)] s := hK.sub [0] rfl
  have hP : va_P G vwCl [(h0, .inr (0, [.ref q1, .ref q2, .ref q3, .ref q4, .null, .null, .int 0])), (q1, .inl (cI, 6, .inl (aN jk_z))), (q2, .inl (cI, 6, .inl (aN jk_z))), (q3, .inl (cI, 6, .inl (aN jk_z))), (q4, .inl (cI, 6, .inl (aN jk_z))), (q5, .inl (cI, 6, .inl (aN jk_z)))] H := hP
  have hD : va_D A [(h0, .inr (0, [.ref q1, .ref q2, .ref q3, .ref q4, .null, .null, .int 0])), (q1, .inl (cI, 6, .inl (aN jk_z))), (q2, .inl (cI, 6, .inl (aN jk_z))), (q3, .inl (cI, 6, .inl (aN jk_z))), (q4, .inl (cI, 6, .inl (aN jk_z))), (q5, .inl (cI, 6, .inl (aN jk_z)))] := hD
  refine W.widen (k := 5) (n := 30) (by decide) (by decide) ?_
  refine va_putF (D := G) (ci := 0) (v := .ref q5) (ty := .array .int) (C := RX0) (T := TX0) (N := 7) hx hb hts in_X0 tyX0 tyX0_ok nmX0 hown hK hP hD hS 0 rfl rfl 4 (by decide) (hts _ q21) (fun _ h9 => h9) rfl hin rfl (by decide +kernel) rfl rfl (Nat.le_of_ble_eq_true rfl) dX0_init_41 (fun H locs hP hD hS => ?_)
  have hP : va_P G vwCl [(h0, .inr (0, [.ref q1, .ref q2, .ref q3, .ref q4, .ref q5, .null, .int 0])), (q1, .inl (cI, 6, .inl (aN jk_z))), (q2, .inl (cI, 6, .inl (aN jk_z))), (q3, .inl (cI, 6, .inl (aN jk_z))), (q4, .inl (cI, 6, .inl (aN jk_z))), (q5, .inl (cI, 6, .inl (aN jk_z)))] H := hP
  have hD : va_D A [(h0, .inr (0, [.ref q1, .ref q2, .ref q3, .ref q4, .ref q5, .null, .int 0])), (q1, .inl (cI, 6, .inl (aN jk_z))), (q2, .inl (cI, 6, .inl (aN jk_z))), (q3, .inl (cI, 6, .inl (aN jk_z))), (q4, .inl (cI, 6, .inl (aN jk_z))), (q5, .inl (cI, 6, .inl (aN jk_z)))] := hD
  refine lv_aload_n hx hb dX0_init_44 rfl (lv_at hl 0 rfl) ?_
  refine lv_sipush (v := nI 1531) hx hb dX0_init_45 (by decide) ?_
  refine va_newa (atype := .boolean) (ty := .boolean) (N' := 1531) (a0 := (1531, .inl (aN jk_z))) hx hb (hts _ q40) rfl hK hP hD hS hA (fun _ => rfl) (by decide) (by decide) (by decide) (Nat.le_of_ble_eq_true rfl) (Nat.le_of_ble_eq_true rfl) dX0_init_48 (fun q6 cZ H hK hP hD hS => ?_)
  have hK : va_K G vwCl [(cI, .int), (cZ, .boolean)] s := hK
  have hP : va_P G vwCl [(h0, .inr (0, [.ref q1, .ref q2, .ref q3, .ref q4, .ref q5, .null, .int 0])), (q1, .inl (cI, 6, .inl (aN jk_z))), (q2, .inl (cI, 6, .inl (aN jk_z))), (q3, .inl (cI, 6, .inl (aN jk_z))), (q4, .inl (cI, 6, .inl (aN jk_z))), (q5, .inl (cI, 6, .inl (aN jk_z))), (q6, .inl (cZ, 1531, .inl (aN jk_z)))] H := hP
  have hD : va_D A [(h0, .inr (0, [.ref q1, .ref q2, .ref q3, .ref q4, .ref q5, .null, .int 0])), (q1, .inl (cI, 6, .inl (aN jk_z))), (q2, .inl (cI, 6, .inl (aN jk_z))), (q3, .inl (cI, 6, .inl (aN jk_z))), (q4, .inl (cI, 6, .inl (aN jk_z))), (q5, .inl (cI, 6, .inl (aN jk_z))), (q6, .inl (cZ, 1531, .inl (aN jk_z)))] := hD
  refine W.widen (k := 6) (n := 1561) (by decide) (by decide) ?_
  refine va_putF (D := G) (ci := 0) (v := .ref q6) (ty := .array .boolean) (C := RX0) (T := TX0) (N := 7) hx hb hts in_X0 tyX0 tyX0_ok nmX0 hown hK hP hD hS 0 rfl rfl 5 (by decide) (hts _ q22) (fun _ h9 => h9) rfl hin rfl (by decide +kernel) rfl rfl (Nat.le_of_ble_eq_true rfl) dX0_init_50 (fun H locs hP hD hS => ?_)
  have hP : va_P G vwCl [(h0, .inr (0, [.ref q1, .ref q2, .ref q3, .ref q4, .ref q5, .ref q6, .int 0])), (q1, .inl (cI, 6, .inl (aN jk_z))), (q2, .inl (cI, 6, .inl (aN jk_z))), (q3, .inl (cI, 6, .inl (aN jk_z))), (q4, .inl (cI, 6, .inl (aN jk_z))), (q5, .inl (cI, 6, .inl (aN jk_z))), (q6, .inl (cZ, 1531, .inl (aN jk_z)))] H := hP
  have hD : va_D A [(h0, .inr (0, [.ref q1, .ref q2, .ref q3, .ref q4, .ref q5, .ref q6, .int 0])), (q1, .inl (cI, 6, .inl (aN jk_z))), (q2, .inl (cI, 6, .inl (aN jk_z))), (q3, .inl (cI, 6, .inl (aN jk_z))), (q4, .inl (cI, 6, .inl (aN jk_z))), (q5, .inl (cI, 6, .inl (aN jk_z))), (q6, .inl (cZ, 1531, .inl (aN jk_z)))] := hD
  have hP : va_P G vwCl (dkW (jk_ad h0 q1 q2 q3 q4 q5 q6) cI cZ jk_z jk_z jk_z jk_z jk_z jk_z 0) H := hP
  have hD : va_D A (dkW (jk_ad h0 q1 q2 q3 q4 q5 q6) cI cZ jk_z jk_z jk_z jk_z jk_z jk_z 0) := hD
  exact W.vret hx hb hr (fun t ht hW => ⟨⟨(jk_ad h0 q1 q2 q3 q4 q5 q6, cI, cZ), rfl, rfl, by rw [ht]; exact hP, va_K.moved hW.alike hK, hD⟩, hS.F ht⟩) hS.2.2 dX0_init_53 hlocks
set_option maxHeartbeats 4000000 in
set_option maxRecDepth 100000 in
/-- JobDeskModel(): six arrays of zeros -/
theorem c_X1_init (l : Launch) (G : va_G) (h0 : Nat) (cI cZ : ClassId) (sz : Nat) : Met l yX1_init (ws_ yX1_init cX1_init 1 none) ({ frames := 1, cells := 6, slots := 48, locals := 12 }) (wPc G (dkT cI cZ) [(h0, .inr (1, [.null, .null, .null, .null, .int 0, .null, .null]))] sz [.ref h0]) (va_Qv (fun u : (Nat → Nat) × ClassId × ClassId => u.1 0 = h0 ∧ u.2.1 = cI ∧ u.2.2 = cZ) (fun u : (Nat → Nat) × ClassId × ClassId => wB G (dkT u.2.1 u.2.2) (va_A [(h0, .inr (1, [.null, .null, .null, .null, .int 0, .null, .null]))] sz) (dmW u.1 u.2.1 jk_z jk_z jk_z jk_z jk_z jk_z 0)) (va_A [(h0, .inr (1, [.null, .null, .null, .null, .int 0, .null, .null]))] sz)) 6 48 (va_A [(h0, .inr (1, [.null, .null, .null, .null, .int 0, .null, .null]))] sz) := by
  refine jw_enter (by decide) (Nat.le_of_ble_eq_true rfl) ?_
  intro p e s m below meth c S hr hlocks hin hA hK hw ls hl
  have S : CallFix p m c cX1_init 1 s _ lw_all RX1 := S
  have hin : meth.name = "<init>" := hin
  obtain ⟨hx, hb, hml, hown, hts⟩ := id S
  generalize hAe : va_A [(h0, .inr (1, [.null, .null, .null, .null, .int 0, .null, .null]))] sz = A at hw hA ⊢
  have hl : lv_has ls 1 [(0, .ref h0)] := hl
  obtain ⟨hP, hD, hS⟩ := hw
  refine lv_aload_n hx hb dX1_init_0 rfl (lv_at hl 0 rfl) ?_
  refine W.objInit hx hb hown (hts _ q90) (hts _ q15) (hts _ q16) rfl (by rw [hml]; exact hl.1) rfl dX1_init_1 (Nat.le_of_ble_eq_true rfl) (Nat.le_of_ble_eq_true rfl) ?_
  refine W.eq (g2 := F0 m 4 ls []) rfl ?_
  refine lv_aload_n hx hb dX1_init_4 rfl (lv_at hl 0 rfl) ?_
  refine lv_bipush (v := nI 8) hx hb dX1_init_5 (by decide) ?_
  refine va_newa (atype := .int) (ty := .int) (N' := 8) (a0 := (8, .inl (aN jk_z))) hx hb (hts _ q39) rfl hK hP hD hS hA (fun _ => rfl) (by decide) (by decide) (by decide) (Nat.le_of_ble_eq_true rfl) (Nat.le_of_ble_eq_true rfl) dX1_init_7 (fun q1 cA H hK hP hD hS => ?_)
  have eA : cA = cI := va_RA_int (hK.2 2 _ rfl).2 (hK.2 0 _ rfl).2
  rw [eA] at hP hD
  have hK : va_K G vwCl [(cI, .int), (cZ, .boolean)] s := hK.sub [0, 1] rfl
  have hP : va_P G vwCl [(h0, .inr (1, [.null, .null, .null, .null, .int 0, .null, .null])), (q1, .inl (cI, 8, .inl (aN jk_z)))] H := hP
  have hD : va_D A [(h0, .inr (1, [.null, .null, .null, .null, .int 0, .null, .null])), (q1, .inl (cI, 8, .inl (aN jk_z)))] := hD
  refine W.widen (k := 1) (n := 8) (by decide) (by decide) ?_
  refine va_putF (D := G) (ci := 1) (v := .ref q1) (ty := .array .int) (C := RX1) (T := TX1) (N := 7) hx hb hts in_X1 tyX1 tyX1_ok nmX1 hown hK hP hD hS 0 rfl rfl 0 (by decide) (hts _ q91) (fun _ h9 => h9) rfl hin rfl (by decide +kernel) rfl rfl (Nat.le_of_ble_eq_true rfl) dX1_init_9 (fun H locs hP hD hS => ?_)
  have hP : va_P G vwCl [(h0, .inr (1, [.ref q1, .null, .null, .null, .int 0, .null, .null])), (q1, .inl (cI, 8, .inl (aN jk_z)))] H := hP
  have hD : va_D A [(h0, .inr (1, [.ref q1, .null, .null, .null, .int 0, .null, .null])), (q1, .inl (cI, 8, .inl (aN jk_z)))] := hD
  refine lv_aload_n hx hb dX1_init_12 rfl (lv_at hl 0 rfl) ?_
  refine lv_bipush (v := nI 8) hx hb dX1_init_13 (by decide) ?_
  refine va_newa (atype := .int) (ty := .int) (N' := 8) (a0 := (8, .inl (aN jk_z))) hx hb (hts _ q39) rfl hK hP hD hS hA (fun _ => rfl) (by decide) (by decide) (by decide) (Nat.le_of_ble_eq_true rfl) (Nat.le_of_ble_eq_true rfl) dX1_init_15 (fun q2 cA H hK hP hD hS => ?_)
  have eA : cA = cI := va_RA_int (hK.2 2 _ rfl).2 (hK.2 0 _ rfl).2
  rw [eA] at hP hD
  have hK : va_K G vwCl [(cI, .int), (cZ, .boolean)] s := hK.sub [0, 1] rfl
  have hP : va_P G vwCl [(h0, .inr (1, [.ref q1, .null, .null, .null, .int 0, .null, .null])), (q1, .inl (cI, 8, .inl (aN jk_z))), (q2, .inl (cI, 8, .inl (aN jk_z)))] H := hP
  have hD : va_D A [(h0, .inr (1, [.ref q1, .null, .null, .null, .int 0, .null, .null])), (q1, .inl (cI, 8, .inl (aN jk_z))), (q2, .inl (cI, 8, .inl (aN jk_z)))] := hD
  refine W.widen (k := 2) (n := 16) (by decide) (by decide) ?_
  refine va_putF (D := G) (ci := 1) (v := .ref q2) (ty := .array .int) (C := RX1) (T := TX1) (N := 7) hx hb hts in_X1 tyX1 tyX1_ok nmX1 hown hK hP hD hS 0 rfl rfl 1 (by decide) (hts _ q92) (fun _ h9 => h9) rfl hin rfl (by decide +kernel) rfl rfl (Nat.le_of_ble_eq_true rfl) dX1_init_17 (fun H locs hP hD hS => ?_)
  have hP : va_P G vwCl [(h0, .inr (1, [.ref q1, .ref q2, .null, .null, .int 0, .null, .null])), (q1, .inl (cI, 8, .inl (aN jk_z))), (q2, .inl (cI, 8, .inl (aN jk_z)))] H := hP
  have hD : va_D A [(h0, .inr (1, [.ref q1, .ref q2, .null, .null, .int 0, .null, .null])), (q1, .inl (cI, 8, .inl (aN jk_z))), (q2, .inl (cI, 8, .inl (aN jk_z)))] := hD
  refine lv_aload_n hx hb dX1_init_20 rfl (lv_at hl 0 rfl) ?_
  refine lv_bipush (v := nI 8) hx hb dX1_init_21 (by decide) ?_
  refine va_newa (atype := .int) (ty := .int) (N' := 8) (a0 := (8, .inl (aN jk_z))) hx hb (hts _ q39) rfl hK hP hD hS hA (fun _ => rfl) (by decide) (by decide) (by decide) (Nat.le_of_ble_eq_true rfl) (Nat.le_of_ble_eq_true rfl) dX1_init_23 (fun q3 cA H hK hP hD hS => ?_)
  have eA : cA = cI := va_RA_int (hK.2 2 _ rfl).2 (hK.2 0 _ rfl).2
  rw [eA] at hP hD
  have hK : va_K G vwCl [(cI, .int), (cZ, .boolean)] s := hK.sub [0, 1] rfl
  have hP : va_P G vwCl [(h0, .inr (1, [.ref q1, .ref q2, .null, .null, .int 0, .null, .null])), (q1, .inl (cI, 8, .inl (aN jk_z))), (q2, .inl (cI, 8, .inl (aN jk_z))), (q3, .inl (cI, 8, .inl (aN jk_z)))] H := hP
  have hD : va_D A [(h0, .inr (1, [.ref q1, .ref q2, .null, .null, .int 0, .null, .null])), (q1, .inl (cI, 8, .inl (aN jk_z))), (q2, .inl (cI, 8, .inl (aN jk_z))), (q3, .inl (cI, 8, .inl (aN jk_z)))] := hD
  refine W.widen (k := 3) (n := 24) (by decide) (by decide) ?_
  refine va_putF (D := G) (ci := 1) (v := .ref q3) (ty := .array .int) (C := RX1) (T := TX1) (N := 7) hx hb hts in_X1 tyX1 tyX1_ok nmX1 hown hK hP hD hS 0 rfl rfl 2 (by decide) (hts _ q93) (fun _ h9 => h9) rfl hin rfl (by decide +kernel) rfl rfl (Nat.le_of_ble_eq_true rfl) dX1_init_25 (fun H locs hP hD hS => ?_)
  have hP : va_P G vwCl [(h0, .inr (1, [.ref q1, .ref q2, .ref q3, .null, .int 0, .null, .null])), (q1, .inl (cI, 8, .inl (aN jk_z))), (q2, .inl (cI, 8, .inl (aN jk_z))), (q3, .inl (cI, 8, .inl (aN jk_z)))] H := hP
  have hD : va_D A [(h0, .inr (1, [.ref q1, .ref q2, .ref q3, .null, .int 0, .null, .null])), (q1, .inl (cI, 8, .inl (aN jk_z))), (q2, .inl (cI, 8, .inl (aN jk_z))), (q3, .inl (cI, 8, .inl (aN jk_z)))] := hD
  refine lv_aload_n hx hb dX1_init_28 rfl (lv_at hl 0 rfl) ?_
  refine lv_bipush (v := nI 8) hx hb dX1_init_29 (by decide) ?_
  refine va_newa (atype := .int) (ty := .int) (N' := 8) (a0 := (8, .inl (aN jk_z))) hx hb (hts _ q39) rfl hK hP hD hS hA (fun _ => rfl) (by decide) (by decide) (by decide) (Nat.le_of_ble_eq_true rfl) (Nat.le_of_ble_eq_true rfl) dX1_init_31 (fun q4 cA H hK hP hD hS => ?_)
  have eA : cA = cI := va_RA_int (hK.2 2 _ rfl).2 (hK.2 0 _ rfl).2
  rw [eA] at hP hD
  have hK : va_K G vwCl [(cI, .int), (cZ, .boolean)] s := hK.sub [0, 1] rfl
  have hP : va_P G vwCl [(h0, .inr (1, [.ref q1, .ref q2, .ref q3, .null, .int 0, .null, .null])), (q1, .inl (cI, 8, .inl (aN jk_z))), (q2, .inl (cI, 8, .inl (aN jk_z))), (q3, .inl (cI, 8, .inl (aN jk_z))), (q4, .inl (cI, 8, .inl (aN jk_z)))] H := hP
  have hD : va_D A [(h0, .inr (1, [.ref q1, .ref q2, .ref q3, .null, .int 0, .null, .null])), (q1, .inl (cI, 8, .inl (aN jk_z))), (q2, .inl (cI, 8, .inl (aN jk_z))), (q3, .inl (cI, 8, .inl (aN jk_z))), (q4, .inl (cI, 8, .inl (aN jk_z)))] := hD
  refine W.widen (k := 4) (n := 32) (by decide) (by decide) ?_
  refine va_putF (D := G) (ci := 1) (v := .ref q4) (ty := .array .int) (C := RX1) (T := TX1) (N := 7) hx hb hts in_X1 tyX1 tyX1_ok nmX1 hown hK hP hD hS 0 rfl rfl 3 (by decide) (hts _ q94) (fun _ h9 => h9) rfl hin rfl (by decide +kernel) rfl rfl (Nat.le_of_ble_eq_true rfl) dX1_init_33 (fun H locs hP hD hS => ?_)
  have hP : va_P G vwCl [(h0, .inr (1, [.ref q1, .ref q2, .ref q3, .ref q4, .int 0, .null, .null])), (q1, .inl (cI, 8, .inl (aN jk_z))), (q2, .inl (cI, 8, .inl (aN jk_z))), (q3, .inl (cI, 8, .inl (aN jk_z))), (q4, .inl (cI, 8, .inl (aN jk_z)))] H := hP
  have hD : va_D A [(h0, .inr (1, [.ref q1, .ref q2, .ref q3, .ref q4, .int 0, .null, .null])), (q1, .inl (cI, 8, .inl (aN jk_z))), (q2, .inl (cI, 8, .inl (aN jk_z))), (q3, .inl (cI, 8, .inl (aN jk_z))), (q4, .inl (cI, 8, .inl (aN jk_z)))] := hD
  refine lv_aload_n hx hb dX1_init_36 rfl (lv_at hl 0 rfl) ?_
  refine lv_bipush (v := nI 8) hx hb dX1_init_37 (by decide) ?_
  refine va_newa (atype := .int) (ty := .int) (N' := 8) (a0 := (8, .inl (aN jk_z))) hx hb (hts _ q39) rfl hK hP hD hS hA (fun _ => rfl) (by decide) (by decide) (by decide) (Nat.le_of_ble_eq_true rfl) (Nat.le_of_ble_eq_true rfl) dX1_init_39 (fun q5 cA H hK hP hD hS => ?_)
  have eA : cA = cI := va_RA_int (hK.2 2 _ rfl).2 (hK.2 0 _ rfl).2
  rw [eA] at hP hD
  have hK : va_K G vwCl [(cI, .int), (cZ, .boolean)] s := hK.sub [0, 1] rfl
  have hP : va_P G vwCl [(h0, .inr (1, [.ref q1, .ref q2, .ref q3, .ref q4, .int 0, .null, .null])), (q1, .inl (cI, 8, .inl (aN jk_z))), (q2, .inl (cI, 8, .inl (aN jk_z))), (q3, .inl (cI, 8, .inl (aN jk_z))), (q4, .inl (cI, 8, .inl (aN jk_z))), (q5, .inl (cI, 8, .inl (aN jk_z)))] H := hP
  have hD : va_D A [(h0, .inr (1, [.ref q1, .ref q2, .ref q3, .ref q4, .int 0, .null, .null])), (q1, .inl (cI, 8, .inl (aN jk_z))), (q2, .inl (cI, 8, .inl (aN jk_z))), (q3, .inl (cI, 8, .inl (aN jk_z))), (q4, .inl (cI, 8, .inl (aN jk_z))), (q5, .inl (cI, 8, .inl (aN jk_z)))] := hD
  refine W.widen (k := 5) (n := 40) (by decide) (by decide) ?_
  refine va_putF (D := G) (ci := 1) (v := .ref q5) (ty := .array .int) (C := RX1) (T := TX1) (N := 7) hx hb hts in_X1 tyX1 tyX1_ok nmX1 hown hK hP hD hS 0 rfl rfl 5 (by decide) (hts _ q96) (fun _ h9 => h9) rfl hin rfl (by decide +kernel) rfl rfl (Nat.le_of_ble_eq_true rfl) dX1_init_41 (fun H locs hP hD hS => ?_)
  have hP : va_P G vwCl [(h0, .inr (1, [.ref q1, .ref q2, .ref q3, .ref q4, .int 0, .ref q5, .null])), (q1, .inl (cI, 8, .inl (aN jk_z))), (q2, .inl (cI, 8, .inl (aN jk_z))), (q3, .inl (cI, 8, .inl (aN jk_z))), (q4, .inl (cI, 8, .inl (aN jk_z))), (q5, .inl (cI, 8, .inl (aN jk_z)))] H := hP
  have hD : va_D A [(h0, .inr (1, [.ref q1, .ref q2, .ref q3, .ref q4, .int 0, .ref q5, .null])), (q1, .inl (cI, 8, .inl (aN jk_z))), (q2, .inl (cI, 8, .inl (aN jk_z))), (q3, .inl (cI, 8, .inl (aN jk_z))), (q4, .inl (cI, 8, .inl (aN jk_z))), (q5, .inl (cI, 8, .inl (aN jk_z)))] := hD
  refine lv_aload_n hx hb dX1_init_44 rfl (lv_at hl 0 rfl) ?_
  refine lv_bipush (v := nI 8) hx hb dX1_init_45 (by decide) ?_
  refine va_newa (atype := .int) (ty := .int) (N' := 8) (a0 := (8, .inl (aN jk_z))) hx hb (hts _ q39) rfl hK hP hD hS hA (fun _ => rfl) (by decide) (by decide) (by decide) (Nat.le_of_ble_eq_true rfl) (Nat.le_of_ble_eq_true rfl) dX1_init_47 (fun q6 cA H hK hP hD hS => ?_)
  have eA : cA = cI := va_RA_int (hK.2 2 _ rfl).2 (hK.2 0 _ rfl).2
  rw [eA] at hP hD
  have hK : va_K G vwCl [(cI, .int), (cZ, .boolean)] s := hK.sub [0, 1] rfl
  have hP : va_P G vwCl [(h0, .inr (1, [.ref q1, .ref q2, .ref q3, .ref q4, .int 0, .ref q5, .null])), (q1, .inl (cI, 8, .inl (aN jk_z))), (q2, .inl (cI, 8, .inl (aN jk_z))), (q3, .inl (cI, 8, .inl (aN jk_z))), (q4, .inl (cI, 8, .inl (aN jk_z))), (q5, .inl (cI, 8, .inl (aN jk_z))), (q6, .inl (cI, 8, .inl (aN jk_z)))] H := hP
  have hD : va_D A [(h0, .inr (1, [.ref q1, .ref q2, .ref q3, .ref q4, .int 0, .ref q5, .null])), (q1, .inl (cI, 8, .inl (aN jk_z))), (q2, .inl (cI, 8, .inl (aN jk_z))), (q3, .inl (cI, 8, .inl (aN jk_z))), (q4, .inl (cI, 8, .inl (aN jk_z))), (q5, .inl (cI, 8, .inl (aN jk_z))), (q6, .inl (cI, 8, .inl (aN jk_z)))] := hD
  refine W.widen (k := 6) (n := 48) (by decide) (by decide) ?_
  refine va_putF (D := G) (ci := 1) (v := .ref q6) (ty := .array .int) (C := RX1) (T := TX1) (N := 7) hx hb hts in_X1 tyX1 tyX1_ok nmX1 hown hK hP hD hS 0 rfl rfl 6 (by decide) (hts _ q97) (fun _ h9 => h9) rfl hin rfl (by decide +kernel) rfl rfl (Nat.le_of_ble_eq_true rfl) dX1_init_49 (fun H locs hP hD hS => ?_)
  have hP : va_P G vwCl [(h0, .inr (1, [.ref q1, .ref q2, .ref q3, .ref q4, .int 0, .ref q5, .ref q6])), (q1, .inl (cI, 8, .inl (aN jk_z))), (q2, .inl (cI, 8, .inl (aN jk_z))), (q3, .inl (cI, 8, .inl (aN jk_z))), (q4, .inl (cI, 8, .inl (aN jk_z))), (q5, .inl (cI, 8, .inl (aN jk_z))), (q6, .inl (cI, 8, .inl (aN jk_z)))] H := hP
  have hD : va_D A [(h0, .inr (1, [.ref q1, .ref q2, .ref q3, .ref q4, .int 0, .ref q5, .ref q6])), (q1, .inl (cI, 8, .inl (aN jk_z))), (q2, .inl (cI, 8, .inl (aN jk_z))), (q3, .inl (cI, 8, .inl (aN jk_z))), (q4, .inl (cI, 8, .inl (aN jk_z))), (q5, .inl (cI, 8, .inl (aN jk_z))), (q6, .inl (cI, 8, .inl (aN jk_z)))] := hD
  have hP : va_P G vwCl (dmW (jk_ad h0 q1 q2 q3 q4 q5 q6) cI jk_z jk_z jk_z jk_z jk_z jk_z 0) H := hP
  have hD : va_D A (dmW (jk_ad h0 q1 q2 q3 q4 q5 q6) cI jk_z jk_z jk_z jk_z jk_z jk_z 0) := hD
  exact W.vret hx hb hr (fun t ht hW => ⟨⟨(jk_ad h0 q1 q2 q3 q4 q5 q6, cI, cZ), rfl, ⟨rfl, rfl, rfl⟩, by rw [ht]; exact hP, va_K.moved hW.alike hK, hD⟩, hS.F ht⟩) hS.2.2 dX1_init_52 hlocks
end
section
/-! THE CLAIM OUT OF ONE WALK OF THE LAW'S BODY. Your part is whole_start (and what it stands on); all else here is the same for every law, but numbers. -/
def R_law : String := "JobDeskLaw"
def lw_P (b : Addr) (xs : List Int32) (args : Array Value) (s : State) : Prop := args = #[.ref b] ∧ s.IntsAt b xs ∧ xs.length ≤ 320 ∧ (Jvm.Cond.and given_1 narrow_1).before args s = true
def lw_Q (_ : Array Value) (s : State) (o : Outcome) (t : State) : Prop := o = .returned (some (.int 1)) ∧ Framed s o t [] 600000 7290000
def lw_Z (below : List Frame) (a : Array Value) (s : State) : State → Prop := fun t => ∃ o, t.status = .running ∧ Ended t below o ∧ lw_Q a s o t
/-- the law's own end, with 1 on the stack, nothing written that was there before, its room as the claim has it -/
theorem lw_ret {p : Program} {l : Launch} {e : Env} {s : State} {m : MethodId} {below : List Frame} {meth : Method} {c : Code} {b : Nat} (hx : p.tables.exec = Jvm.exec) (hb : c.code = code) (hr : meth.sig.returnType = ret) (hlocks : meth.locks = false) {pc : Nat} {H : Heap} {ls : Array Slot} (hdg : decode code pc = .ok (.ireturn, 1)) : W p l e room_1 s m #[Value.ref b] below meth c H [] 600000 7290000 (lw_Z below #[Value.ref b] s) (F0 m pc ls [.int 1]) := by
  intro T hT X
  obtain ⟨fs, hret, hrun, hended, hW, hframe⟩ := X.leave (v := some (.int 1)) (hlocks := hlocks) (fun h => by rw [hr] at h; cases h)
  have hmeth' : T.vm.method? m = some meth := X.method'
  refine ⟨T.setFrames fs, ?_, .returned (some (.int 1)), hrun, hended, rfl, ⟨_, rfl⟩, hW, hframe⟩
  jvm_step X.here [X.here.top, hx, hb, hdg, hmeth', hr, ret, narrow_b1]
  (try refine ⟨rfl, ?_⟩); (try refine ⟨rfl, ?_⟩)
  first | (intro acts; rw [hret _ acts rfl rfl rfl]) | rw [hret _ _ rfl rfl rfl]
  exact Steps.refl _
/-- what holds at the law's entry: the machine, the code, the tables' words (any of lw_tbl by 'hts w (by decide +kernel)'), the script of L ints xs at the cell b, what the Statement gives of the start (any of its parts by flat_of_before) -/
def lw_At (p : Program) (s : State) (m : MethodId) (meth : Method) (c : Code) (b L : Nat) (xs : Nat → Int32) : Prop :=
  p.tables.exec = Jvm.exec ∧ c.code = code ∧ meth.sig.returnType = ret ∧ c.maxLocals = 4 ∧ s.vm.findClass R_law = some m.cls ∧ (∀ w ∈ lw_tbl, w.before #[Value.ref b] s = true) ∧ va_X b L xs s s.heap ∧ b < s.heap.size ∧ meth.locks = false ∧ (Jvm.Cond.and given_1 narrow_1).before #[Value.ref b] s = true
end
section
/-! the law -/
set_option maxRecDepth 100000
theorem jk_fold_nil (P Q D V : Nat → Nat) (kind : Nat) (s : Nat × Nat × Int) (O : Nat → Nat) : jk_fold P Q D V kind s (jk_fl O 0) = s := rfl
theorem eq_w {P Q D V O : Nat → Nat} {n : Nat} {r1 r2 : Int64} (h1 : ∃ many : Nat, many ≤ n ∧ jk_Sorted P Q D V 0 n O many ∧ r1 = lI (jk_fold P Q D V 0 (0, 0, 0) (jk_fl O many)).2.2) (h2 : (n = 0 ∧ r2 = lI 0) ∨ (0 < n ∧ ∃ rr : Int, r2 = lI rr ∧ jk_min (fun k => jk_cost P Q D V 0 (jk_perm n (List.range n) k)) (jk_fac n) rr)) : r1 = r2 := by
  obtain ⟨many, hm, hs, rfl⟩ := h1
  rcases h2 with ⟨rfl, rfl⟩ | ⟨hn, rr, rfl, hmin⟩
  · rw [show many = 0 by omega, jk_fold_nil]
  · rw [jk_law_w hs hmin]
theorem eq_b {P Q D V O : Nat → Nat} {n : Nat} {r1 r2 : Int64} (h1 : ∃ many : Nat, many ≤ n ∧ jk_Sorted P Q D V 2 n O many ∧ r1 = lI (jk_fold P Q D V 3 (0, 0, 0) (jk_fl O many)).2.2) (h2 : (n = 0 ∧ r2 = lI 0) ∨ (0 < n ∧ ∃ rr : Int, r2 = lI rr ∧ jk_min (fun k => jk_cost P Q D V 3 (jk_perm n (List.range n) k)) (jk_fac n) rr)) : r1 = r2 := by
  obtain ⟨many, hm, hs, rfl⟩ := h1
  rcases h2 with ⟨rfl, rfl⟩ | ⟨hn, rr, rfl, hmin⟩
  · rw [show many = 0 by omega, jk_fold_nil]
  · rw [jk_law_b hs hmin]
theorem eq_l {P Q D V O : Nat → Nat} (hB : jk_Bd P Q D V) {n : Nat} {r1 r2 : Int64} (h1 : ∃ many : Nat, many ≤ n ∧ jk_Sorted P Q D V 1 n O many ∧ r1 = lI (jk_fold P Q D V 1 (0, 0, if n = 0 then 0 else -2147483648) (jk_fl O many)).2.2) (h2 : (n = 0 ∧ r2 = lI 0) ∨ (0 < n ∧ ∃ rr : Int, r2 = lI rr ∧ jk_min (fun k => jk_cost P Q D V 1 (jk_perm n (List.range n) k)) (jk_fac n) rr)) : r1 = r2 := by
  obtain ⟨many, hm, hs, rfl⟩ := h1
  rcases h2 with ⟨rfl, rfl⟩ | ⟨hn, rr, rfl, hmin⟩
  · rw [show many = 0 by omega, jk_fold_nil, if_pos rfl]
  · rw [if_neg (by omega), jk_law_l hB.2.2.1 hn hs hmin (-2147483648) (by decide)]
theorem eq_c {P Q D V O : Nat → Nat} {n : Nat} {r1 r2 : Int64} (h1 : ∃ many : Nat, many ≤ n ∧ jk_Sorted P Q D V 1 n O many ∧ ∃ L : List Nat, jk_MH P D (jk_fl O many) L ∧ r1 = lI ((many : Int) - (L.length : Int))) (h2 : (n = 0 ∧ r2 = lI 0) ∨ (0 < n ∧ ∃ rr : Int, r2 = lI rr ∧ jk_min (fun k => jk_cost P Q D V 2 (jk_perm n (List.range n) k)) (jk_fac n) rr)) : r1 = r2 := by
  obtain ⟨many, hm, hs, L, hM, rfl⟩ := h1
  rcases h2 with ⟨rfl, rfl⟩ | ⟨hn, rr, rfl, hmin⟩
  · have h0 : many = 0 := by omega
    subst h0
    have := hM.1.length_le
    rw [jk_fl_len] at this
    rw [show ((0 : Nat) : Int) - (L.length : Int) = 0 by omega]
  · rw [jk_law_c hs hM hmin]
theorem eq_s {P : Nat → Nat} {n : Nat} {r1 r2 : Int64} (h1 : ∃ half : Nat, half ≤ jk_all P n / 2 ∧ jk_sub P n half ∧ (∀ y, half < y → y ≤ jk_all P n / 2 → ¬ jk_sub P n y) ∧ r1 = lI ((jk_all P n - half : Nat) : Int)) (h2 : ∃ rr : Int, r2 = lI rr ∧ jk_min (jk_two P n) (2 ^ n) rr) : r1 = r2 := by
  obtain ⟨half, g1, g2, g3, rfl⟩ := h1
  obtain ⟨rr, rfl, hmin⟩ := h2
  rw [jk_shared g1 g2 g3 hmin]
theorem jk_Bd_up {P Q D V : Nat → Nat} (h : jk_Bd P Q D V) (n : Nat) {p q d v : Nat} (hp : p ≤ 255) (hq : q ≤ 255) (hd : d ≤ 1023) (hv : v ≤ 255) : jk_Bd (jr_up P n p) (jr_up Q n q) (jr_up D n d) (jr_up V n v) := by
  obtain ⟨b1, b2, b3, b4⟩ := h
  refine ⟨fun j => ?_, fun j => ?_, fun j => ?_, fun j => ?_⟩
  · by_cases c : j = n
    · rw [c, jr_up_eq]; exact hp
    · rw [jr_up_ne _ _ c]; exact b1 j
  · by_cases c : j = n
    · rw [c, jr_up_eq]; exact hq
    · rw [jr_up_ne _ _ c]; exact b2 j
  · by_cases c : j = n
    · rw [c, jr_up_eq]; exact hd
    · rw [jr_up_ne _ _ c]; exact b3 j
  · by_cases c : j = n
    · rw [c, jr_up_eq]; exact hv
    · rw [jr_up_ne _ _ c]; exact b4 j
theorem jr_sld {p : Program} {l : Launch} {e : Env} {R : Room} {s : State} {m : MethodId} {args : Array Value} {below : List Frame} {meth : Method} {c : Code} {H : Heap} {locs : List Loc} {cells slots : Nat} {Z : State → Prop} {cc : ByteArray} {pc : Nat} {ls : Array Slot} {rest : List Value} {G : va_G} {A : Nat → Prop} {ws : va_W} (hx : p.tables.exec = Jvm.exec) (hb : c.code = cc) {b L : Nat} {xs : Nat → Int32} (hX : va_X b L xs s s.heap) (hbl : b < s.heap.size) (hbA : ¬ A b) (hw : Wd G A s ws H locs) {i : Nat} (hi : i < L) (hL : L ≤ 320) (hdg : decode cc pc = .ok (.iaload, 1))
    (kk : W p l e R s m args below meth c H locs cells slots Z (F0 m (pc + 1) ls (.int (xs i) :: rest))) : W p l e R s m args below meth c H locs cells slots Z (F0 m pc ls (.int (nI i) :: .ref b :: rest)) :=
  va_sld hx hb hX hbl hbA hw.2.2 (vp_in_nI hi (by omega)) hdg (by rw [nI_clamp (by omega)]; exact kk)
set_option maxHeartbeats 4000000 in
set_option maxRecDepth 100000 in
/-- the law's loop at its head: i ints read; both hold the same jobs -/
theorem law_loop {p : Program} {l : Launch} {e : Env} {s : State} {m : MethodId} {below : List Frame} {meth : Method} {c : Code} {G : va_G} {a a2 : Nat → Nat} {cI cZ : ClassId} {b L : Nat} {xs : Nat → Int32} (hL : L ≤ 320) (S : CallFix p m c cL_law 4 s #[Value.ref b] lw_all R_law) (hr : meth.sig.returnType = ret) (hlocks : meth.locks = false) (hX : va_X b L xs s s.heap) (hbl : b < s.heap.size) (hK : va_K G vwCl (dkT cI cZ) s) :
    ∀ (f i n : Nat) (P Q D V O M O2 M2 : Nat → Nat) (H : Heap) (locs : List Loc) (ls : Array Slot), L + 1 ≤ i + f → i ≤ L + 5 → n ≤ 6 → jk_Bd P Q D V → Wd G (fun q : Nat => s.heap.size ≤ q) s (dkW a cI cZ P Q D V O M n ++ dmW a2 cI P Q D V O2 M2 n) H locs → lv_has ls 4 [(0, .ref (b)), (1, .ref (a 0)), (2, .ref (a2 0)), (3, .int (nI (i)))] → W p l e room_1 s m #[Value.ref b] below meth c H locs 14 1623 (lw_Z below #[Value.ref b] s) (F0 m 18 ls []) := by
  obtain ⟨hx, hb, hml, hown, hts⟩ := id S
  have hA : ∀ q : Nat, s.heap.size ≤ q → (fun q : Nat => s.heap.size ≤ q) q := fun _ h => h
  have hbA : ¬ (fun q : Nat => s.heap.size ≤ q) b := Nat.not_le.mpr hbl
  have hcs : 14 ≤ room_1.cells ∧ 1623 ≤ room_1.slots := ⟨Nat.le_of_ble_eq_true rfl, Nat.le_of_ble_eq_true rfl⟩
  intro f
  induction f with
  | zero =>
    intro i n P Q D V O M O2 M2 H locs ls hf hi hn hB hw hl
    refine lv_iload_n hx hb dL_law_18 rfl (lv_at hl 3 rfl) ?_
    refine lv_aload_n hx hb dL_law_19 rfl (lv_at hl 0 rfl) ?_
    refine va_slen hx hb hX hbl hbA hw.2.2 dL_law_20 ?_
    refine lv_iconst (v := nI 5) hx hb dL_law_21 (by decide) ?_
    refine jr_isubz (i := L) hx hb dL_law_22 ?_
    have hcmp : iI ((L : Int) - ((5 : Nat) : Int)) < nI i ↔ L < i + 5 := by
      rw [iI_nat i, iI_lt (by omega) (by omega) (by omega) (by omega)]
      omega
    refine lv_icmp_gt (tgt := 235) hx hb dL_law_23 (by decide) (fun hc => ?_) (fun hc => ?_)
    · refine lv_iconst (v := 1) hx hb dL_law_235 (by decide) ?_
      refine va_forget hw.2.2.2.2 ?_
      refine W.widen (k := 600000) (n := 7290000) (Nat.le_of_ble_eq_true rfl) (Nat.le_of_ble_eq_true rfl) ?_
      exact lw_ret hx hb hr hlocks dL_law_236
    · exact absurd (hcmp.mpr (by omega)) hc
  | succ f ih =>
    intro i n P Q D V O M O2 M2 H locs ls hf hi hn hB hw hl
    refine lv_iload_n hx hb dL_law_18 rfl (lv_at hl 3 rfl) ?_
    refine lv_aload_n hx hb dL_law_19 rfl (lv_at hl 0 rfl) ?_
    refine va_slen hx hb hX hbl hbA hw.2.2 dL_law_20 ?_
    refine lv_iconst (v := nI 5) hx hb dL_law_21 (by decide) ?_
    refine jr_isubz (i := L) hx hb dL_law_22 ?_
    have hcmp : iI ((L : Int) - ((5 : Nat) : Int)) < nI i ↔ L < i + 5 := by
      rw [iI_nat i, iI_lt (by omega) (by omega) (by omega) (by omega)]
      omega
    refine lv_icmp_gt (tgt := 235) hx hb dL_law_23 (by decide) (fun hc => ?_) (fun hc => ?_)
    · refine lv_iconst (v := 1) hx hb dL_law_235 (by decide) ?_
      refine va_forget hw.2.2.2.2 ?_
      refine W.widen (k := 600000) (n := 7290000) (Nat.le_of_ble_eq_true rfl) (Nat.le_of_ble_eq_true rfl) ?_
      exact lw_ret hx hb hr hlocks dL_law_236
    · have hiL : i + 5 ≤ L := by
        rcases Nat.lt_or_ge L (i + 5) with q | q
        · exact absurd (hcmp.mpr q) hc
        · exact q
      have X229 : ∀ (n : Nat) (P Q D V O M O2 M2 : Nat → Nat) (H : Heap) (locs : List Loc), n ≤ 6 → jk_Bd P Q D V → Wd G (fun q : Nat => s.heap.size ≤ q) s (dkW a cI cZ P Q D V O M n ++ dmW a2 cI P Q D V O2 M2 n) H locs → W p l e room_1 s m #[Value.ref b] below meth c H locs 14 1623 (lw_Z below #[Value.ref b] s) (F0 m 229 ls []) := by
        intro n P Q D V O M O2 M2 H locs hn hB hw
        refine lv_iinc (v := nI (i + 5)) (lv' := [(3, .int (nI (i + 5))), (0, .ref b), (1, .ref (a 0)), (2, .ref (a2 0))]) hx hb dL_law_229 hl (k := 3) rfl (nI_add i 5) (by decide) rfl (fun ls hl => ?_)
        refine lv_goto (tgt := 18) hx hb dL_law_232 (by decide) ?_
        exact ih (i + 5) n P Q D V O M O2 M2 H locs ls (by omega) (by omega) hn hB hw (lv_sub hl [1, 2, 3, 0] rfl)
      refine lv_aload_n hx hb dL_law_26 rfl (lv_at hl 0 rfl) ?_
      refine lv_iload_n hx hb dL_law_27 rfl (lv_at hl 3 rfl) ?_
      refine jr_sld hx hb hX hbl hbA hw (by omega) hL dL_law_28 ?_
      refine lv_bipush (v := 7) hx hb dL_law_29 (by decide) ?_
      refine jr_iandx hx hb 3 (by decide) dL_law_31 ?_
      have hsel : (xs i).toBitVec.toNat % 2 ^ 3 < 8 := Nat.mod_lt _ (by decide)
      generalize (xs i).toBitVec.toNat % 2 ^ 3 = sel at hsel ⊢
      rcases (show sel = 0 ∨ sel = 1 ∨ sel = 2 ∨ sel = 3 ∨ sel = 4 ∨ sel = 5 ∨ sel = 6 ∨ sel = 7 by omega) with rfl | rfl | rfl | rfl | rfl | rfl | rfl | rfl
      · refine lv_tableIn (tgt := 80) hx hb dL_law_32 (by decide) (by decide) (off := 48) (by decide) (by decide) ?_
        refine lv_aload_n hx hb dL_law_80 rfl (lv_at hl 1 rfl) ?_
        refine lv_aload_n hx hb dL_law_81 rfl (lv_at hl 0 rfl) ?_
        refine lv_iload_n hx hb dL_law_82 rfl (lv_at hl 3 rfl) ?_
        refine lv_iconst (v := nI 1) hx hb dL_law_83 (by decide) ?_
        refine jr_iadd hx hb dL_law_84 ?_
        refine jr_sld hx hb hX hbl hbA hw (by omega) hL dL_law_85 ?_
        refine lv_aload_n hx hb dL_law_86 rfl (lv_at hl 0 rfl) ?_
        refine lv_iload_n hx hb dL_law_87 rfl (lv_at hl 3 rfl) ?_
        refine lv_iconst (v := nI 2) hx hb dL_law_88 (by decide) ?_
        refine jr_iadd hx hb dL_law_89 ?_
        refine jr_sld hx hb hX hbl hbA hw (by omega) hL dL_law_90 ?_
        refine lv_aload_n hx hb dL_law_91 rfl (lv_at hl 0 rfl) ?_
        refine lv_iload_n hx hb dL_law_92 rfl (lv_at hl 3 rfl) ?_
        refine lv_iconst (v := nI 3) hx hb dL_law_93 (by decide) ?_
        refine jr_iadd hx hb dL_law_94 ?_
        refine jr_sld hx hb hX hbl hbA hw (by omega) hL dL_law_95 ?_
        refine lv_aload_n hx hb dL_law_96 rfl (lv_at hl 0 rfl) ?_
        refine lv_iload_n hx hb dL_law_97 rfl (lv_at hl 3 rfl) ?_
        refine lv_iconst (v := nI 4) hx hb dL_law_98 (by decide) ?_
        refine jr_iadd hx hb dL_law_99 ?_
        refine jr_sld hx hb hX hbl hbA hw (by omega) hL dL_law_100 ?_
        refine jw_calli (As := [.int (xs (i + 1)), .int (xs (i + 2)), .int (xs (i + 3)), .int (xs (i + 4))]) (rest := []) (wr := dmW a2 cI P Q D V O2 M2 n) S hK hw hA hl.1 (c_X0_job l G a cI cZ P Q D V O M n H.size hn (xs (i + 1)) (xs (i + 2)) (xs (i + 3)) (xs (i + 4))) (cwV 4 hts (lw_V q41 q42 q43 q6 q44) rfl rfl rfl (by decide +kernel) ⟨Nat.le_of_ble_eq_true rfl, Nat.le_of_ble_eq_true rfl⟩) rfl [0, 1, 2, 3, 4, 5, 6] [7, 8, 9, 10, 11, 12, 13] rfl rfl (by decide) rfl (by decide) (by decide) rfl rfl (Nat.le_of_ble_eq_true rfl) hcs dL_law_101 (fun r u H locs hq hw => ?_)
        refine lv_aload_n hx hb dL_law_104 rfl (lv_at hl 2 rfl) ?_
        refine lv_aload_n hx hb dL_law_105 rfl (lv_at hl 0 rfl) ?_
        refine lv_iload_n hx hb dL_law_106 rfl (lv_at hl 3 rfl) ?_
        refine lv_iconst (v := nI 1) hx hb dL_law_107 (by decide) ?_
        refine jr_iadd hx hb dL_law_108 ?_
        refine jr_sld hx hb hX hbl hbA hw (by omega) hL dL_law_109 ?_
        refine lv_aload_n hx hb dL_law_110 rfl (lv_at hl 0 rfl) ?_
        refine lv_iload_n hx hb dL_law_111 rfl (lv_at hl 3 rfl) ?_
        refine lv_iconst (v := nI 2) hx hb dL_law_112 (by decide) ?_
        refine jr_iadd hx hb dL_law_113 ?_
        refine jr_sld hx hb hX hbl hbA hw (by omega) hL dL_law_114 ?_
        refine lv_aload_n hx hb dL_law_115 rfl (lv_at hl 0 rfl) ?_
        refine lv_iload_n hx hb dL_law_116 rfl (lv_at hl 3 rfl) ?_
        refine lv_iconst (v := nI 3) hx hb dL_law_117 (by decide) ?_
        refine jr_iadd hx hb dL_law_118 ?_
        refine jr_sld hx hb hX hbl hbA hw (by omega) hL dL_law_119 ?_
        refine lv_aload_n hx hb dL_law_120 rfl (lv_at hl 0 rfl) ?_
        refine lv_iload_n hx hb dL_law_121 rfl (lv_at hl 3 rfl) ?_
        refine lv_iconst (v := nI 4) hx hb dL_law_122 (by decide) ?_
        refine jr_iadd hx hb dL_law_123 ?_
        refine jr_sld hx hb hX hbl hbA hw (by omega) hL dL_law_124 ?_
        refine jw_calli (As := [.int (xs (i + 1)), .int (xs (i + 2)), .int (xs (i + 3)), .int (xs (i + 4))]) (rest := [.int r]) (wr := dkW a cI cZ u.1 u.2.1 u.2.2.1 u.2.2.2.1 O M u.2.2.2.2) S hK hw hA hl.1 (c_X1_job l G a2 cI cZ P Q D V O2 M2 n H.size hn (xs (i + 1)) (xs (i + 2)) (xs (i + 3)) (xs (i + 4))) (cwV 4 hts (lw_V q113 q114 q115 q7 q116) rfl rfl rfl (by decide +kernel) ⟨Nat.le_of_ble_eq_true rfl, Nat.le_of_ble_eq_true rfl⟩) rfl [0, 1, 2, 3, 4, 5, 6] [7, 8, 9, 10, 11, 12, 13] rfl rfl (by decide) rfl (by decide) (by decide) rfl rfl (Nat.le_of_ble_eq_true rfl) hcs dL_law_125 (fun r2 u2 H locs hq2 hw => ?_)
        have hm8 : ∀ y : Int32, y.toBitVec.toNat % 2 ^ 8 ≤ 255 := fun y => Nat.le_of_lt_succ (Nat.mod_lt _ (by decide))
        have hm10 : ∀ y : Int32, y.toBitVec.toNat % 2 ^ 10 ≤ 1023 := fun y => Nat.le_of_lt_succ (Nat.mod_lt _ (by decide))
        rcases hq with ⟨g1, rfl, rfl⟩ | ⟨g1, rfl, rfl⟩
        · rcases hq2 with ⟨g2, rfl, rfl⟩ | ⟨g2, rfl, rfl⟩
          · refine lv_icmp_eq (tgt := 229) hx hb dL_law_128 (by decide) (fun _ => ?_) (fun q => absurd rfl q)
            exact X229 n P Q D V O M O2 M2 H locs hn hB hw
          · exact absurd g1 g2
        · rcases hq2 with ⟨g2, rfl, rfl⟩ | ⟨g2, rfl, rfl⟩
          · exact absurd g2 g1
          · refine lv_icmp_eq (tgt := 229) hx hb dL_law_128 (by decide) (fun _ => ?_) (fun q => absurd rfl q)
            exact X229 (n + 1) _ _ _ _ O M O2 M2 H locs (by omega) (jk_Bd_up hB n (hm8 _) (hm8 _) (hm10 _) (hm8 _)) hw
      · refine lv_tableIn (tgt := 133) hx hb dL_law_32 (by decide) (by decide) (off := 101) (by decide) (by decide) ?_
        refine lv_aload_n hx hb dL_law_133 rfl (lv_at hl 1 rfl) ?_
        refine jw_calli (As := []) (rest := []) (wr := dmW a2 cI P Q D V O2 M2 n) S hK hw hA hl.1 (c_X0_drop l G a cI cZ P Q D V O M n H.size hn) (cwV 0 hts (lw_V q45 q46 q47 q6 q48) rfl rfl rfl (by decide +kernel) ⟨Nat.le_of_ble_eq_true rfl, Nat.le_of_ble_eq_true rfl⟩) rfl [0, 1, 2, 3, 4, 5, 6] [7, 8, 9, 10, 11, 12, 13] rfl rfl (by decide) rfl (by decide) (by decide) rfl rfl (Nat.le_of_ble_eq_true rfl) hcs dL_law_134 (fun r u H locs hq hw => ?_)
        refine lv_aload_n hx hb dL_law_137 rfl (lv_at hl 2 rfl) ?_
        refine jw_calli (As := []) (rest := [.int r]) (wr := dkW a cI cZ P Q D V O M u) S hK hw hA hl.1 (c_X1_drop l G a2 cI cZ P Q D V O2 M2 n H.size hn) (cwV 0 hts (lw_V q117 q118 q119 q7 q120) rfl rfl rfl (by decide +kernel) ⟨Nat.le_of_ble_eq_true rfl, Nat.le_of_ble_eq_true rfl⟩) rfl [0, 1, 2, 3, 4, 5, 6] [7, 8, 9, 10, 11, 12, 13] rfl rfl (by decide) rfl (by decide) (by decide) rfl rfl (Nat.le_of_ble_eq_true rfl) hcs dL_law_138 (fun r2 u2 H locs hq2 hw => ?_)
        have he : r = r2 ∧ u2 = u ∧ u ≤ 6 := by
          rcases hq with ⟨g1, g2, g3⟩ | ⟨g1, g2, g3⟩
          · rcases hq2 with ⟨k1, k2, k3⟩ | ⟨k1, k2, k3⟩
            · exact ⟨by rw [g2, k2], by omega, by omega⟩
            · omega
          · rcases hq2 with ⟨k1, k2, k3⟩ | ⟨k1, k2, k3⟩
            · omega
            · exact ⟨by rw [g2, k2], by omega, by omega⟩
        obtain ⟨he1, he2, he3⟩ := he
        subst he2
        refine lv_icmp_eq (tgt := 229) hx hb dL_law_141 (by decide) (fun _ => ?_) (fun q => absurd he1 q)
        exact X229 u2 P Q D V O M O2 M2 H locs he3 hB hw
      · refine lv_tableIn (tgt := 146) hx hb dL_law_32 (by decide) (by decide) (off := 114) (by decide) (by decide) ?_
        refine lv_aload_n hx hb dL_law_146 rfl (lv_at hl 1 rfl) ?_
        refine jw_calll (As := []) (rest := []) (wr := dmW a2 cI P Q D V O2 M2 n) S hK hw hA hl.1 (c_X0_weighted l G a cI cZ P Q D V O M n H.size hB hn) (cwV 0 hts (lw_V q53 q54 q55 q6 q56) rfl rfl rfl (by decide +kernel) ⟨Nat.le_of_ble_eq_true rfl, Nat.le_of_ble_eq_true rfl⟩) rfl [0, 1, 2, 3, 4, 5, 6] [7, 8, 9, 10, 11, 12, 13] rfl rfl (by decide) rfl (by decide) (by decide) rfl rfl (Nat.le_of_ble_eq_true rfl) hcs dL_law_147 (fun r u H locs hq hw => ?_)
        refine lv_aload_n hx hb dL_law_150 rfl (lv_at hl 2 rfl) ?_
        refine jw_calll (As := []) (rest := [.long r]) (wr := dkW a cI cZ P Q D V u M n) S hK hw hA hl.1 (c_X1_weighted l G a2 cI cZ P Q D V O2 M2 n H.size hB hn) (cwV 0 hts (lw_V q121 q122 q123 q7 q124) rfl rfl rfl (by decide +kernel) ⟨Nat.le_of_ble_eq_true rfl, Nat.le_of_ble_eq_true rfl⟩) rfl [0, 1, 2, 3, 4, 5, 6] [7, 8, 9, 10, 11, 12, 13] rfl rfl (by decide) rfl (by decide) (by decide) rfl rfl (Nat.le_of_ble_eq_true rfl) hcs dL_law_151 (fun r2 u2 H locs hq2 hw => ?_)
        have he : r = r2 := eq_w hq hq2
        refine W.lcmp hx hb dL_law_154 (lv_if_eq (tgt := 229) hx hb dL_law_155 (by decide) (fun _ => ?_) (fun q => absurd ((lg_cmp_eq _ _).mpr he) q))
        exact X229 n P Q D V u M u2.1 u2.2 H locs hn hB hw
      · refine lv_tableIn (tgt := 160) hx hb dL_law_32 (by decide) (by decide) (off := 128) (by decide) (by decide) ?_
        refine lv_aload_n hx hb dL_law_160 rfl (lv_at hl 1 rfl) ?_
        refine jw_calll (As := []) (rest := []) (wr := dmW a2 cI P Q D V O2 M2 n) S hK hw hA hl.1 (c_X0_latest l G a cI cZ P Q D V O M n H.size hB hn) (cwV 0 hts (lw_V q65 q66 q67 q6 q68) rfl rfl rfl (by decide +kernel) ⟨Nat.le_of_ble_eq_true rfl, Nat.le_of_ble_eq_true rfl⟩) rfl [0, 1, 2, 3, 4, 5, 6] [7, 8, 9, 10, 11, 12, 13] rfl rfl (by decide) rfl (by decide) (by decide) rfl rfl (Nat.le_of_ble_eq_true rfl) hcs dL_law_161 (fun r u H locs hq hw => ?_)
        refine lv_aload_n hx hb dL_law_164 rfl (lv_at hl 2 rfl) ?_
        refine jw_calll (As := []) (rest := [.long r]) (wr := dkW a cI cZ P Q D V u M n) S hK hw hA hl.1 (c_X1_latest l G a2 cI cZ P Q D V O2 M2 n H.size hB hn) (cwV 0 hts (lw_V q139 q140 q141 q7 q142) rfl rfl rfl (by decide +kernel) ⟨Nat.le_of_ble_eq_true rfl, Nat.le_of_ble_eq_true rfl⟩) rfl [0, 1, 2, 3, 4, 5, 6] [7, 8, 9, 10, 11, 12, 13] rfl rfl (by decide) rfl (by decide) (by decide) rfl rfl (Nat.le_of_ble_eq_true rfl) hcs dL_law_165 (fun r2 u2 H locs hq2 hw => ?_)
        have he : r = r2 := eq_l hB hq hq2
        refine W.lcmp hx hb dL_law_168 (lv_if_eq (tgt := 229) hx hb dL_law_169 (by decide) (fun _ => ?_) (fun q => absurd ((lg_cmp_eq _ _).mpr he) q))
        exact X229 n P Q D V u M u2.1 u2.2 H locs hn hB hw
      · refine lv_tableIn (tgt := 174) hx hb dL_law_32 (by decide) (by decide) (off := 142) (by decide) (by decide) ?_
        refine lv_aload_n hx hb dL_law_174 rfl (lv_at hl 1 rfl) ?_
        refine jw_calll (As := []) (rest := []) (wr := dmW a2 cI P Q D V O2 M2 n) S hK hw hA hl.1 (c_X0_late l G a cI cZ P Q D V O M n H.size hB hn) (cwV 0 hts (lw_V q73 q74 q75 q6 q76) rfl rfl rfl (by decide +kernel) ⟨Nat.le_of_ble_eq_true rfl, Nat.le_of_ble_eq_true rfl⟩) rfl [0, 1, 2, 3, 4, 5, 6] [7, 8, 9, 10, 11, 12, 13] rfl rfl (by decide) rfl (by decide) (by decide) rfl rfl (Nat.le_of_ble_eq_true rfl) hcs dL_law_175 (fun r u H locs hq hw => ?_)
        refine lv_aload_n hx hb dL_law_178 rfl (lv_at hl 2 rfl) ?_
        refine jw_calll (As := []) (rest := [.long r]) (wr := dkW a cI cZ P Q D V u M n) S hK hw hA hl.1 (c_X1_late l G a2 cI cZ P Q D V O2 M2 n H.size hB hn) (cwV 0 hts (lw_V q143 q144 q145 q7 q146) rfl rfl rfl (by decide +kernel) ⟨Nat.le_of_ble_eq_true rfl, Nat.le_of_ble_eq_true rfl⟩) rfl [0, 1, 2, 3, 4, 5, 6] [7, 8, 9, 10, 11, 12, 13] rfl rfl (by decide) rfl (by decide) (by decide) rfl rfl (Nat.le_of_ble_eq_true rfl) hcs dL_law_179 (fun r2 u2 H locs hq2 hw => ?_)
        have he : r = r2 := eq_c hq hq2
        refine W.lcmp hx hb dL_law_182 (lv_if_eq (tgt := 229) hx hb dL_law_183 (by decide) (fun _ => ?_) (fun q => absurd ((lg_cmp_eq _ _).mpr he) q))
        exact X229 n P Q D V u M u2.1 u2.2 H locs hn hB hw
      · refine lv_tableIn (tgt := 188) hx hb dL_law_32 (by decide) (by decide) (off := 156) (by decide) (by decide) ?_
        refine lv_aload_n hx hb dL_law_188 rfl (lv_at hl 1 rfl) ?_
        refine jw_calll (As := []) (rest := []) (wr := dmW a2 cI P Q D V O2 M2 n) S hK hw hA hl.1 (c_X0_both l G a cI cZ P Q D V O M n H.size hB hn) (cwV 0 hts (lw_V q77 q78 q79 q6 q80) rfl rfl rfl (by decide +kernel) ⟨Nat.le_of_ble_eq_true rfl, Nat.le_of_ble_eq_true rfl⟩) rfl [0, 1, 2, 3, 4, 5, 6] [7, 8, 9, 10, 11, 12, 13] rfl rfl (by decide) rfl (by decide) (by decide) rfl rfl (Nat.le_of_ble_eq_true rfl) hcs dL_law_189 (fun r u H locs hq hw => ?_)
        refine lv_aload_n hx hb dL_law_192 rfl (lv_at hl 2 rfl) ?_
        refine jw_calll (As := []) (rest := [.long r]) (wr := dkW a cI cZ P Q D V u M n) S hK hw hA hl.1 (c_X1_both l G a2 cI cZ P Q D V O2 M2 n H.size hB hn) (cwV 0 hts (lw_V q147 q148 q149 q7 q150) rfl rfl rfl (by decide +kernel) ⟨Nat.le_of_ble_eq_true rfl, Nat.le_of_ble_eq_true rfl⟩) rfl [0, 1, 2, 3, 4, 5, 6] [7, 8, 9, 10, 11, 12, 13] rfl rfl (by decide) rfl (by decide) (by decide) rfl rfl (Nat.le_of_ble_eq_true rfl) hcs dL_law_193 (fun r2 u2 H locs hq2 hw => ?_)
        have he : r = r2 := eq_b hq hq2
        refine W.lcmp hx hb dL_law_196 (lv_if_eq (tgt := 229) hx hb dL_law_197 (by decide) (fun _ => ?_) (fun q => absurd ((lg_cmp_eq _ _).mpr he) q))
        exact X229 n P Q D V u M u2.1 u2.2 H locs hn hB hw
      · refine lv_tableIn (tgt := 202) hx hb dL_law_32 (by decide) (by decide) (off := 170) (by decide) (by decide) ?_
        refine lv_aload_n hx hb dL_law_202 rfl (lv_at hl 1 rfl) ?_
        refine jw_calll (As := []) (rest := []) (wr := dmW a2 cI P Q D V O2 M2 n) S hK hw hA hl.1 (c_X0_shared l G a cI cZ P Q D V O M n H.size hB hn) (cwV 0 hts (lw_V q81 q82 q83 q6 q84) rfl rfl rfl (by decide +kernel) ⟨Nat.le_of_ble_eq_true rfl, Nat.le_of_ble_eq_true rfl⟩) rfl [0, 1, 2, 3, 4, 5, 6] [7, 8, 9, 10, 11, 12, 13] rfl rfl (by decide) rfl (by decide) (by decide) rfl rfl (Nat.le_of_ble_eq_true rfl) hcs dL_law_203 (fun r u H locs hq hw => ?_)
        refine lv_aload_n hx hb dL_law_206 rfl (lv_at hl 2 rfl) ?_
        refine jw_calll (As := []) (rest := [.long r]) (wr := dkW a cI cZ P Q D V O u n) S hK hw hA hl.1 (c_X1_shared l G a2 cI cZ P Q D V O2 M2 n H.size hB hn) (cwV 0 hts (lw_V q151 q152 q153 q7 q154) rfl rfl rfl (by decide +kernel) ⟨Nat.le_of_ble_eq_true rfl, Nat.le_of_ble_eq_true rfl⟩) rfl [0, 1, 2, 3, 4, 5, 6] [7, 8, 9, 10, 11, 12, 13] rfl rfl (by decide) rfl (by decide) (by decide) rfl rfl (Nat.le_of_ble_eq_true rfl) hcs dL_law_207 (fun r2 u2 H locs hq2 hw => ?_)
        have he : r = r2 := eq_s hq hq2
        refine W.lcmp hx hb dL_law_210 (lv_if_eq (tgt := 229) hx hb dL_law_211 (by decide) (fun _ => ?_) (fun q => absurd ((lg_cmp_eq _ _).mpr he) q))
        exact X229 n P Q D V O u O2 M2 H locs hn hB hw
      · refine lv_tableIn (tgt := 216) hx hb dL_law_32 (by decide) (by decide) (off := 184) (by decide) (by decide) ?_
        refine lv_aload_n hx hb dL_law_216 rfl (lv_at hl 1 rfl) ?_
        refine jw_calli (As := []) (rest := []) (wr := dmW a2 cI P Q D V O2 M2 n) S hK hw hA hl.1 (c_X0_jobs l G a cI cZ P Q D V O M n H.size) (cwV 0 hts (lw_V q49 q50 q51 q6 q52) rfl rfl rfl (by decide +kernel) ⟨Nat.le_of_ble_eq_true rfl, Nat.le_of_ble_eq_true rfl⟩) rfl [0, 1, 2, 3, 4, 5, 6] [7, 8, 9, 10, 11, 12, 13] rfl rfl (by decide) rfl (by decide) (by decide) rfl rfl (Nat.le_of_ble_eq_true rfl) hcs dL_law_217 (fun r u H locs hq hw => ?_)
        refine lv_aload_n hx hb dL_law_220 rfl (lv_at hl 2 rfl) ?_
        refine jw_calli (As := []) (rest := [.int r]) (wr := dkW a cI cZ P Q D V O M n) S hK hw hA hl.1 (c_X1_jobs l G a2 cI cZ P Q D V O2 M2 n H.size) (cwV 0 hts (lw_V q155 q156 q157 q7 q158) rfl rfl rfl (by decide +kernel) ⟨Nat.le_of_ble_eq_true rfl, Nat.le_of_ble_eq_true rfl⟩) rfl [0, 1, 2, 3, 4, 5, 6] [7, 8, 9, 10, 11, 12, 13] rfl rfl (by decide) rfl (by decide) (by decide) rfl rfl (Nat.le_of_ble_eq_true rfl) hcs dL_law_221 (fun r2 u2 H locs hq2 hw => ?_)
        refine lv_icmp_eq (tgt := 229) hx hb dL_law_224 (by decide) (fun _ => ?_) (fun q => absurd (hq.trans hq2.symm) q)
        exact X229 n P Q D V O M O2 M2 H locs hn hB hw
set_option maxHeartbeats 4000000 in
set_option maxRecDepth 100000 in
/-- from the entry, for every script of at most 320 ints, the law comes to its end with true -/
theorem whole_start {p : Program} {e : Env} {s : State} {m : MethodId} {below : List Frame} {meth : Method} {c : Code} (l : Launch) {b L : Nat} {xs : Nat → Int32} (hL : L ≤ 320) (C0 : lw_At p s m meth c b L xs) : W p l e room_1 s m #[Value.ref b] below meth c s.heap [] 0 0 (lw_Z below #[Value.ref b] s) (entryFrame m ([Value.ref b] : List Value).toArray 4) := by
  obtain ⟨hx, hb, hr, hml, hown, hts0, hX, hbl, hlocks, hgv⟩ := id C0
  have hts : ∀ w ∈ lw_all, w.before #[Value.ref b] s = true := fun w h => hts0 w (lw_all_tbl h)
  have S : CallFix p m c cL_law 4 s #[Value.ref b] lw_all R_law := ⟨hx, hb, hml, hown, hts⟩
  have hA : ∀ q : Nat, s.heap.size ≤ q → (fun q : Nat => s.heap.size ≤ q) q := fun _ h => h
  obtain ⟨c0, iS0, hKn0⟩ := u_known (C := RX0) (T := TX0) (N := 7) (n := 7) hts in_X0 (hts _ q10)
  obtain ⟨c1, iS1, hKn1⟩ := u_known (C := RX1) (T := TX1) (N := 7) (n := 7) hts in_X1 (hts _ q86)
  obtain ⟨G, hKc⟩ : ∃ G : va_G, ∀ (k : Nat) (q : vw_C), vwCl[k]? = some q → u_Kn s q.1 q.2.1 q.2.2 (G.1 k) (G.2 k) := by
    refine ⟨(fun k => if k = 0 then c0 else c1, fun k => if k = 0 then iS0 else iS1), ?_⟩
    intro k q hq
    match k, hq with
    | 0, hq => cases hq; exact hKn0
    | 1, hq => cases hq; exact hKn1
    | k + 2, hq => simp [vwCl] at hq
  have hS : va_S (fun q : Nat => s.heap.size ≤ q) s.heap s.heap [] := va_S.rf
  have hK : va_K G vwCl [] s := ⟨hKc, fun k q h => by simp at h⟩
  have hP : va_P G vwCl [] s.heap := fun k q h => by simp at h
  have hD : va_D (fun q : Nat => s.heap.size ≤ q) [] := ⟨fun i j p q h => by simp at h, fun k q h => by simp at h⟩
  have hl := lv_entry ([.ref b]) (n := 4) (Nat.le_of_ble_eq_true rfl)
  rw [lg_entry_eq]
  generalize (lg_sl ([.ref b]) ++ List.replicate (4 - (lg_sl ([.ref b])).length) Slot.unset).toArray = ls at hl ⊢
  have hl : lv_has ls 4 [(0, .ref b)] := hl
  refine va_new (ci := 0) (fs := [.null, .null, .null, .null, .null, .null, .int 0]) (C := RX0) (T := TX0) (N := 7) hx hb hts in_X0 tyX0 tyX0_ok hown (hts _ q9) (hts _ q10) (hts _ q6) hK hP hD hS hA rfl (fun j hj => by rcases (show j = 0 ∨ j = 1 ∨ j = 2 ∨ j = 3 ∨ j = 4 ∨ j = 5 ∨ j = 6 by omega) with rfl | rfl | rfl | rfl | rfl | rfl | rfl <;> rfl) (Nat.le_of_ble_eq_true rfl) (Nat.le_of_ble_eq_true rfl) dL_law_0 (fun q0 H hP hD hS => ?_)
  have hP : va_P G vwCl [(q0, .inr (0, [.null, .null, .null, .null, .null, .null, .int 0]))] H := hP
  have hD : va_D (fun q : Nat => s.heap.size ≤ q) [(q0, .inr (0, [.null, .null, .null, .null, .null, .null, .int 0]))] := hD
  refine W.widen (k := 1) (n := 7) (Nat.le_of_ble_eq_true rfl) (Nat.le_of_ble_eq_true rfl) ?_
  refine lv_dup hx hb dL_law_3 rfl ?_
  have hFc := va_free (wc := [(q0, .inr (0, [.null, .null, .null, .null, .null, .null, .int 0]))]) hD hS hA [0] rfl
  refine va_callv (va_runI (As := []) (rest := [.ref q0]) S (c_X0_init l G q0 H.size) (cwI 0 hts (lw_meth q13) rfl rfl rfl (hts _ q6) (hts _ q11) (hts _ q12) rfl (by decide +kernel) ⟨Nat.le_of_ble_eq_true rfl, Nat.le_of_ble_eq_true rfl⟩) ⟨wPc_blind _ _ _ _ _, fun U hU hW => ⟨rfl, by rw [hU], by rw [hU]; exact hP, va_K.moved hW.alike hK, hD.weaken (fun _ _ _ _ => trivial)⟩⟩ rfl rfl hl.1 rfl (lv_room (Nat.le_of_ble_eq_true rfl)) dL_law_4 ⟨Nat.le_of_ble_eq_true rfl, Nat.le_of_ble_eq_true rfl⟩) hS (fun q _ h => hFc q h) hFc (fun u t H1 locs ht hvm hq hB hz1 hk1 hS => ?_)
  obtain ⟨a, cI, cZ⟩ := u
  obtain ⟨hP1, hK1, hD1⟩ := hB
  dsimp only at hq hP1 hK1 hD1
  rw [ht] at hP1
  have hK : va_K G vwCl (dkT cI cZ) s := va_K.moved hvm.symm hK1
  obtain ⟨hP, hD⟩ := va_join (wr := []) (w1 := dkW a cI cZ jk_z jk_z jk_z jk_z jk_z jk_z 0) hP hD [0] [] rfl rfl (by decide) (by decide) hk1 hFc hP1 hD1
  generalize H1 = H at hP hS ⊢
  have hP : va_P G vwCl (dkW a cI cZ jk_z jk_z jk_z jk_z jk_z jk_z 0) H := hP
  have hD : va_D (fun q : Nat => s.heap.size ≤ q) (dkW a cI cZ jk_z jk_z jk_z jk_z jk_z jk_z 0) := hD
  rw [← hq]
  refine W.widen (k := 7) (n := 1568) (Nat.le_of_ble_eq_true rfl) (Nat.le_of_ble_eq_true rfl) ?_
  refine lv_astore_n (lv' := [(1, .ref (a 0)), (0, .ref b)]) hx hb dL_law_7 rfl hl (by decide) rfl (fun ls hl => ?_)
  refine va_new (ci := 1) (fs := [.null, .null, .null, .null, .int 0, .null, .null]) (C := RX1) (T := TX1) (N := 7) hx hb hts in_X1 tyX1 tyX1_ok hown (hts _ q85) (hts _ q86) (hts _ q7) hK hP hD hS hA rfl (fun j hj => by rcases (show j = 0 ∨ j = 1 ∨ j = 2 ∨ j = 3 ∨ j = 4 ∨ j = 5 ∨ j = 6 by omega) with rfl | rfl | rfl | rfl | rfl | rfl | rfl <;> rfl) (Nat.le_of_ble_eq_true rfl) (Nat.le_of_ble_eq_true rfl) dL_law_8 (fun q1 H hP hD hS => ?_)
  have hP : va_P G vwCl (dkW a cI cZ jk_z jk_z jk_z jk_z jk_z jk_z 0 ++ [(q1, .inr (1, [.null, .null, .null, .null, .int 0, .null, .null]))]) H := hP
  have hD : va_D (fun q : Nat => s.heap.size ≤ q) (dkW a cI cZ jk_z jk_z jk_z jk_z jk_z jk_z 0 ++ [(q1, .inr (1, [.null, .null, .null, .null, .int 0, .null, .null]))]) := hD
  refine W.widen (k := 8) (n := 1575) (Nat.le_of_ble_eq_true rfl) (Nat.le_of_ble_eq_true rfl) ?_
  refine lv_dup hx hb dL_law_11 rfl ?_
  have hPc := hP.sub (ws' := [(q1, .inr (1, [.null, .null, .null, .null, .int 0, .null, .null]))]) [7] rfl
  have hDc := hD.sub (ws' := [(q1, .inr (1, [.null, .null, .null, .null, .int 0, .null, .null]))]) [7] (by decide) rfl
  have hFc := va_free (wc := [(q1, .inr (1, [.null, .null, .null, .null, .int 0, .null, .null]))]) hD hS hA [7] rfl
  refine va_callv (va_runI (As := []) (rest := [.ref q1]) S (c_X1_init l G q1 cI cZ H.size) (cwI 0 hts (lw_meth q89) rfl rfl rfl (hts _ q7) (hts _ q87) (hts _ q88) rfl (by decide +kernel) ⟨Nat.le_of_ble_eq_true rfl, Nat.le_of_ble_eq_true rfl⟩) ⟨wPc_blind _ _ _ _ _, fun U hU hW => ⟨rfl, by rw [hU], by rw [hU]; exact hPc, va_K.moved hW.alike hK, hDc.weaken (fun _ _ _ _ => trivial)⟩⟩ rfl rfl hl.1 rfl (lv_room (Nat.le_of_ble_eq_true rfl)) dL_law_12 ⟨Nat.le_of_ble_eq_true rfl, Nat.le_of_ble_eq_true rfl⟩) hS (fun q _ h => hFc q h) hFc (fun u t H1 locs ht hvm hq hB hz1 hk1 hS => ?_)
  obtain ⟨a2, cI2, cZ2⟩ := u
  obtain ⟨hP1, hK1, hD1⟩ := hB
  obtain ⟨hq1, hq2, hq3⟩ := hq
  dsimp only at hq1 hq2 hq3 hP1 hK1 hD1
  rw [hq2] at hP1 hD1
  rw [ht] at hP1
  obtain ⟨hP, hD⟩ := va_join (wr := dkW a cI cZ jk_z jk_z jk_z jk_z jk_z jk_z 0) (w1 := dmW a2 cI jk_z jk_z jk_z jk_z jk_z jk_z 0) hP hD [7] [0, 1, 2, 3, 4, 5, 6] rfl rfl (by decide) (by decide) hk1 hFc hP1 hD1
  generalize H1 = H at hP hS ⊢
  rw [← hq1]
  refine W.widen (k := 14) (n := 1623) (Nat.le_of_ble_eq_true rfl) (Nat.le_of_ble_eq_true rfl) ?_
  refine lv_astore_n (lv' := [(2, .ref (a2 0)), (1, .ref (a 0)), (0, .ref b)]) hx hb dL_law_15 rfl hl (by decide) rfl (fun ls hl => ?_)
  refine lv_iconst (v := nI 0) hx hb dL_law_16 (by decide) ?_
  refine lv_istore_n (lv' := [(3, .int (nI 0)), (2, .ref (a2 0)), (1, .ref (a 0)), (0, .ref b)]) hx hb dL_law_17 rfl hl (by decide) rfl (fun ls hl => ?_)
  exact law_loop hL S hr hlocks hX hbl hK (L + 1) 0 0 jk_z jk_z jk_z jk_z jk_z jk_z jk_z jk_z H locs ls (by omega) (by omega) (by decide) ⟨fun _ => Nat.zero_le _, fun _ => Nat.zero_le _, fun _ => Nat.zero_le _, fun _ => Nat.zero_le _⟩ ⟨hP, hD, hS⟩ (lv_sub hl [3, 2, 1, 0] rfl)
end
section
set_option maxHeartbeats 4000000 in
theorem lw_walk (l : Launch) (b : Addr) (xs : List Int32) : MetFree l x (headSpec (Jvm.Cond.code x code maxLocals ret :: tables_1) room_1) (lw_P b xs) (fun _ _ _ _ _ => True) lw_Q := by
  refine MetFree.of_bodyS (code := code) (maxLocals := maxLocals) (ret := ret) (by decide) ?_ ?_
  · intro args s m h hn
    obtain ⟨meth, c, h1, h2, h3, h4, h5, h6, -, -⟩ := Cond.code_spec hn (atoms_spec (ws := Jvm.Cond.code x code maxLocals ret :: tables_1) h _ List.mem_cons_self)
    exact ⟨meth, c, h1, h2, h3, h4, h5, h6⟩
  · intro p e s m args below meth c s₁ B hml0 hP _
    obtain ⟨rfl, hx, hbd, hgv⟩ := hP
    obtain ⟨scr, harrAt, hlist, hof, hsmall⟩ := hx
    obtain ⟨hcb, hkn, -, -⟩ := State.arrayAt?_spec harrAt
    have hown : s.vm.findClass R_law = some m.cls := findClass_of_methodNamed B.named
    have hts0 : ∀ c ∈ (Jvm.Cond.code x code maxLocals ret :: tables_1), c.before #[Value.ref b] s = true := atoms_spec (ws := Jvm.Cond.code x code maxLocals ret :: tables_1) B.pre
    have hts : ∀ w ∈ lw_tbl, w.before #[Value.ref b] s = true := k2_hts_sels lw_privs (fun w hw => hts0 w (List.mem_cons_of_mem _ hw)) lw_privs_ok
    have hml : c.maxLocals = 4 := B.maxLocals_eq (hts0 _ List.mem_cons_self)
    have X₀ : Stand p l e room_1 s m #[Value.ref b] below meth c s₁ [] 0 0 := Stand.of_body B
    have hh0 : s₁.heap = s.heap := by rw [B.state]; rfl
    have hsz : scr.slots.size = xs.length := by rw [← Array.length_toList, hlist, List.length_map]
    have hval : ∀ j : Nat, j < xs.length → scr.slots[j]? = some (.int (xs.getD j 0)) := fun j hj => by
      rw [← Array.getElem?_toList, hlist]
      simp [hj]
    have hbl : b < s.heap.size := (Array.getElem?_eq_some_iff.mp hcb).1
    have hX : va_X b xs.length (fun j => xs.getD j 0) s s.heap := ⟨scr, hcb, hof, hkn, hsz, hval⟩
    have K : W p l e room_1 s m #[Value.ref b] below meth c s₁.heap [] 0 0 (lw_Z below #[Value.ref b] s) (entryFrame m ([Value.ref b] : List Value).toArray 4) := by
      rw [hh0]
      exact whole_start l hbd ⟨B.exec, B.bytes, B.returns, hml, hown, hts, hX, hbl, B.notSynchronized, hgv⟩
    obtain ⟨t, a1, o, b1, b2, b3⟩ := K s₁ rfl X₀
    exact ⟨t, o, a1, b1, b2, b3⟩
theorem lw_pre_spec {args : Array Value} {s : State} (h : (Jvm.Cond.and given_1 narrow_1).before args s = true) (hr : rest_1_c.before args s = true) : ∃ (b : Addr) (xs : List Int32), lw_P b xs args s := by
  have hs := flat_of_before _ h
  have hq := flat_of_before _ hr
  have hc : (Cond.count 1).before args s = true := hs _ (by decide +kernel)
  have harr : (Cond.arrayOf (.arg 0) .int).before args s = true := hs _ (by decide +kernel)
  have hle : (Cond.le (.length (.arg 0)) (.int 320)).before args s = true := hs _ (by decide +kernel)
  have hlen : (Cond.isInt (.length (.arg 0))).before args s = true := hq _ (by decide +kernel)
  have hall : (Cond.all (.arg 0) (.isInt (.elem (.arg 0) (.index 0)))).before args s = true := hq _ (by decide +kernel)
  obtain ⟨b, xs, hb, hx⟩ := State.ints_of_pre rfl harr hlen hall
  have hsm : xs.length < 2 ^ 31 := hx.choose_spec.2.2.2
  have hev : (Term.length (.arg 0)).eval args s none [] s = some (.int xs.length.toInt32) := hx.length_eval hb
  have hv := Cond.le_ints hev (show (Term.int 320).eval args s none [] s = some (.int 320) from rfl)
  have hd : xs.length.toInt32 ≤ 320 := by
    simpa [Cond.before, Cond.holds, hv] using hle
  have hN : xs.length ≤ 320 := (Int32.ofNat_le_ofNat hsm (by decide)).mp (show Int32.ofNat xs.length ≤ Int32.ofNat 320 from hd)
  exact ⟨b, xs, Cond.one_arg hc (show args[0]? = some (.ref b) from hb), hx, hN, h⟩
theorem lw_comes (l : Launch) : Comes l x (Jvm.Cond.code x code maxLocals ret :: tables_1) room_1 (fun tb e args s => Calls_1 tb e args s ∧ rest_1 tb e args s ∧ Pre_1 tb e args s)
    (fun _ _ args s o t => lw_Q args s o t) := by
  intro p e ha hc hk s m args below hf hfit hheap happ hpre
  obtain ⟨b, xs, hP⟩ := lw_pre_spec hpre.2.2 hpre.2.1
  obtain ⟨k, o, h1, h2, h3, hQ⟩ := lw_walk l b xs p e ha hc hk s m args below hf ((Spec.applies_iff_loose hf).mp happ).1 hP trivial
  exact ⟨k, o, h1, h2, h3, hQ⟩
theorem lw_frame {s t : State} {o : Outcome} {args : Array Value} (h : Framed s o t [] 600000 7290000) :
    Framed s o t (fieldLocs frame_1_writes args s ++ arrayLocs frame_1_arrays args s ++ staticLocs frame_1_statics s) 600000 7290000 := h
theorem lw_limb (L : Cond) (hL : ∀ (args : Array Value) (s t : State), L.after args s (.returned (some (.int 1))) t = true) :
    ArmFor flags0 classFile x code maxLocals ret World_1 tables_1 room_1 Calls_1 rest_1 Pre_1
      (fun tb e a s o t => postC L tb e a s o t ∧ Framed s o t (fieldLocs frame_1_writes a s ++ arrayLocs frame_1_arrays a s ++ staticLocs frame_1_statics s) 600000 7290000) := by
  intro l _ _ _ p e ha hc hk s m args below hf hfit hheap happ hpre
  obtain ⟨k, o, h1, h2, h3, rfl, hF⟩ := lw_comes l p e ha hc hk s m args below hf hfit hheap happ hpre
  exact ⟨k, _, h1, h2, h3, hL args s _, lw_frame hF⟩
theorem i_vc : Claimed_1_1 ∧ Claimed_1_2 := ⟨lw_limb limb_1_1 (fun args s t => by simp [limb_1_1, Cond.after, Cond.holds, Cond.value]), lw_limb limb_1_2 (fun args s t => Cond.after_iff.mpr (by
  first | (rw [show limb_1_2 = Cond.eq .result (.int 1) from rfl, Cond.eq_ints (x := 1) (y := 1) rfl rfl]; simp; done) | (simp [limb_1_2, Cond.value, Term.eval]; done)))⟩
end
