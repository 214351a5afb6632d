section
/-- a letter into one row: the new row, and the letter that is pushed out -/
def ri_ins (x : Nat) : List Nat → List Nat × Option Nat
  | [] => ([x], none)
  | a :: R => match Nat.ble a x with
    | true => (a :: (ri_ins x R).1, (ri_ins x R).2)
    | false => (x :: R, some a)
theorem ri_ins_le {a x : Nat} (R : List Nat) (h : a ≤ x) : ri_ins x (a :: R) = (a :: (ri_ins x R).1, (ri_ins x R).2) := by
  show (match Nat.ble a x with | true => (a :: (ri_ins x R).1, (ri_ins x R).2) | false => (x :: R, some a)) = _
  rw [Nat.ble_eq_true_of_le h]
theorem ri_ble_f {a x : Nat} (h : x < a) : Nat.ble a x = false := by
  cases e : Nat.ble a x
  · rfl
  · exact absurd (Nat.le_of_ble_eq_true e) (by omega)
theorem ri_ins_gt {a x : Nat} (R : List Nat) (h : x < a) : ri_ins x (a :: R) = (x :: R, some a) := by
  show (match Nat.ble a x with | true => (a :: (ri_ins x R).1, (ri_ins x R).2) | false => (x :: R, some a)) = _
  rw [ri_ble_f h]
theorem ri_ins_nil (x : Nat) : ri_ins x [] = ([x], none) := rfl
theorem ri_ins_self (x : Nat) (R : List Nat) : x ∈ (ri_ins x R).1 := by
  induction R with
  | nil => simp [ri_ins_nil]
  | cons a R ih =>
    rcases Nat.lt_or_ge x a with h | h
    · rw [ri_ins_gt R h]; simp
    · rw [ri_ins_le R h]; exact List.mem_cons_of_mem _ ih
theorem ri_ins_mem {x : Nat} {R : List Nat} {e : Nat} (h : e ∈ (ri_ins x R).1) : e = x ∨ e ∈ R := by
  induction R with
  | nil => rw [ri_ins_nil] at h; simp at h; exact Or.inl h
  | cons a R ih =>
    rcases Nat.lt_or_ge x a with g | g
    · rw [ri_ins_gt R g] at h
      rcases List.mem_cons.mp h with k | k
      · exact Or.inl k
      · exact Or.inr (List.mem_cons_of_mem _ k)
    · rw [ri_ins_le R g] at h
      rcases List.mem_cons.mp h with k | k
      · rw [k]; exact Or.inr (List.mem_cons_self ..)
      · rcases ih k with m | m
        · exact Or.inl m
        · exact Or.inr (List.mem_cons_of_mem _ m)
theorem ri_ins_some {x c : Nat} {R : List Nat} (h : (ri_ins x R).2 = some c) : c ∈ R ∧ x < c := by
  induction R with
  | nil => rw [ri_ins_nil] at h; simp at h
  | cons a R ih =>
    rcases Nat.lt_or_ge x a with g | g
    · rw [ri_ins_gt R g] at h
      simp at h
      rw [← h]
      exact ⟨List.mem_cons_self .., g⟩
    · rw [ri_ins_le R g] at h
      have := ih h
      exact ⟨List.mem_cons_of_mem _ this.1, this.2⟩
theorem ri_ins_sorted {x : Nat} {R : List Nat} (hs : R.Pairwise (· ≤ ·)) : (ri_ins x R).1.Pairwise (· ≤ ·) := by
  induction R with
  | nil => rw [ri_ins_nil]; exact List.pairwise_singleton ..
  | cons a R ih =>
    have hs' := List.pairwise_cons.mp hs
    rcases Nat.lt_or_ge x a with g | g
    · rw [ri_ins_gt R g]
      refine List.pairwise_cons.mpr ⟨fun e he => ?_, hs'.2⟩
      have := hs'.1 e he
      omega
    · rw [ri_ins_le R g]
      refine List.pairwise_cons.mpr ⟨fun e he => ?_, ih hs'.2⟩
      rcases ri_ins_mem he with k | k
      · omega
      · exact hs'.1 e k
theorem ri_ins_bump {y z : Nat} {R : List Nat} (hs : R.Pairwise (· ≤ ·)) (hz : z ∈ R) (h : y < z) : ∃ d, (ri_ins y R).2 = some d ∧ d ≤ z ∧ d ∈ R := by
  induction R with
  | nil => simp at hz
  | cons a R ih =>
    have hs' := List.pairwise_cons.mp hs
    rcases Nat.lt_or_ge y a with g | g
    · rw [ri_ins_gt R g]
      refine ⟨a, rfl, ?_, List.mem_cons_self ..⟩
      rcases List.mem_cons.mp hz with k | k
      · omega
      · exact hs'.1 z k
    · rw [ri_ins_le R g]
      rcases List.mem_cons.mp hz with k | k
      · omega
      · obtain ⟨d, d1, d2, d3⟩ := ih hs'.2 k
        exact ⟨d, d1, d2, List.mem_cons_of_mem _ d3⟩
theorem ri_ins_two {y z : Nat} {R : List Nat} (hs : R.Pairwise (· ≤ ·)) (h : y ≤ z) : (ri_ins z (ri_ins y R).1).2 = none ∨ ∃ b c, (ri_ins y R).2 = some b ∧ (ri_ins z (ri_ins y R).1).2 = some c ∧ b ≤ c := by
  induction R with
  | nil =>
    left
    rw [ri_ins_nil, ri_ins_le [] h, ri_ins_nil]
  | cons a R ih =>
    have hs' := List.pairwise_cons.mp hs
    rcases Nat.lt_or_ge y a with g | g
    · rw [ri_ins_gt R g]
      show (ri_ins z (y :: R)).2 = none ∨ _
      rw [ri_ins_le R h]
      cases e : (ri_ins z R).2 with
      | none => left; rfl
      | some c => right; exact ⟨a, c, rfl, rfl, hs'.1 c (ri_ins_some e).1⟩
    · rw [ri_ins_le R g]
      show (ri_ins z (a :: (ri_ins y R).1)).2 = none ∨ _
      rw [ri_ins_le _ (Nat.le_trans g h)]
      exact ih hs'.2
/-- a word through one row: the last row, and the letters pushed out -/
def ri_run : List Nat → List Nat → List Nat × List Nat
  | [], R => (R, [])
  | x :: w, R => ((ri_run w (ri_ins x R).1).1, (ri_ins x R).2.toList ++ (ri_run w (ri_ins x R).1).2)
theorem ri_run_pass {a : Nat} (w : List Nat) (R : List Nat) (h : ∀ x ∈ w, a ≤ x) : ri_run w (a :: R) = (a :: (ri_run w R).1, (ri_run w R).2) := by
  induction w generalizing R with
  | nil => rfl
  | cons x w ih =>
    simp only [ri_run]
    rw [ri_ins_le R (h x (List.mem_cons_self ..))]
    simp only []
    rw [ih _ (fun y hy => h y (List.mem_cons_of_mem _ hy))]
/-- a letter into the rows -/
def ri_tin : List (List Nat) → Nat → List (List Nat)
  | [], _ => []
  | R :: T, x => (ri_ins x R).1 :: (match (ri_ins x R).2 with | none => T | some y => ri_tin T y)
theorem ri_tin_none {x : Nat} {R : List Nat} (T : List (List Nat)) (h : (ri_ins x R).2 = none) : ri_tin (R :: T) x = (ri_ins x R).1 :: T := by
  simp only [ri_tin, h]
theorem ri_tin_some {x y : Nat} {R : List Nat} (T : List (List Nat)) (h : (ri_ins x R).2 = some y) : ri_tin (R :: T) x = (ri_ins x R).1 :: ri_tin T y := by
  simp only [ri_tin, h]
theorem ri_fold_cons (w : List Nat) (R : List Nat) (T : List (List Nat)) : w.foldl ri_tin (R :: T) = (ri_run w R).1 :: (ri_run w R).2.foldl ri_tin T := by
  induction w generalizing R T with
  | nil => rfl
  | cons x w ih =>
    rw [List.foldl_cons]
    simp only [ri_run]
    cases e : (ri_ins x R).2 with
    | none =>
      rw [ri_tin_none T e, ih]
      rfl
    | some y =>
      rw [ri_tin_some T e, ih]
      rfl
theorem ri_fold_nil (w : List Nat) : w.foldl ri_tin [] = [] := by
  induction w with
  | nil => rfl
  | cons x w ih => rw [List.foldl_cons]; exact ih
def ri_srt (T : List (List Nat)) : Prop := ∀ R ∈ T, R.Pairwise (· ≤ ·)
theorem ri_srt_tin {T : List (List Nat)} (x : Nat) (h : ri_srt T) : ri_srt (ri_tin T x) := by
  induction T generalizing x with
  | nil => exact h
  | cons R T ih =>
    have h1 : R.Pairwise (· ≤ ·) := h R (List.mem_cons_self ..)
    have h2 : ri_srt T := fun S hS => h S (List.mem_cons_of_mem _ hS)
    cases e : (ri_ins x R).2 with
    | none =>
      rw [ri_tin_none T e]
      intro S hS
      rcases List.mem_cons.mp hS with k | k
      · rw [k]; exact ri_ins_sorted h1
      · exact h2 S k
    | some y =>
      rw [ri_tin_some T e]
      intro S hS
      rcases List.mem_cons.mp hS with k | k
      · rw [k]; exact ri_ins_sorted h1
      · exact ih y h2 S k
theorem ri_srt_fold {T : List (List Nat)} (w : List Nat) (h : ri_srt T) : ri_srt (w.foldl ri_tin T) := by
  induction w generalizing T with
  | nil => exact h
  | cons x w ih => rw [List.foldl_cons]; exact ih (ri_srt_tin x h)
theorem ri_run3 {x y z : Nat} {R R1 R2 R3 : List Nat} {o1 o2 o3 : Option Nat} (h1 : ri_ins x R = (R1, o1)) (h2 : ri_ins y R1 = (R2, o2)) (h3 : ri_ins z R2 = (R3, o3)) : ri_run [x, y, z] R = (R3, o1.toList ++ (o2.toList ++ o3.toList)) := by
  simp only [ri_run, h1, h2, h3, List.append_nil]
theorem ri_k1_row (R : List Nat) (hs : R.Pairwise (· ≤ ·)) {x y z : Nat} (h1 : x < y) (h2 : y ≤ z) :
    (ri_run [y, x, z] R).1 = (ri_run [y, z, x] R).1 ∧ ((ri_run [y, x, z] R).2 = (ri_run [y, z, x] R).2 ∨ ∃ a b c, a < b ∧ b ≤ c ∧ (ri_run [y, x, z] R).2 = [b, a, c] ∧ (ri_run [y, z, x] R).2 = [b, c, a]) := by
  induction R with
  | nil =>
    have e1 := ri_ins_nil y
    have e2 := ri_ins_gt [] h1
    have e3 : ri_ins z [x] = ([x, z], none) := by rw [ri_ins_le [] (show x ≤ z by omega)]; rfl
    have e4 : ri_ins z [y] = ([y, z], none) := by rw [ri_ins_le [] h2]; rfl
    have e5 := ri_ins_gt [z] h1
    rw [ri_run3 e1 e2 e3, ri_run3 e1 e4 e5]
    exact ⟨rfl, Or.inl rfl⟩
  | cons a R ih =>
    have hs' := List.pairwise_cons.mp hs
    rcases Nat.lt_or_ge x a with g | g
    · rcases Nat.lt_or_ge y a with g2 | g2
      · have e1 := ri_ins_gt R g2
        have e2 := ri_ins_gt R h1
        have e3 := ri_ins_le R (show x ≤ z by omega)
        have e4 := ri_ins_le R h2
        have e5 := ri_ins_gt (ri_ins z R).1 h1
        rw [ri_run3 e1 e2 e3, ri_run3 e1 e4 e5]
        refine ⟨rfl, ?_⟩
        cases e : (ri_ins z R).2 with
        | none => exact Or.inl rfl
        | some c => exact Or.inr ⟨y, a, c, g2, hs'.1 c (ri_ins_some e).1, rfl, rfl⟩
      · have e1 := ri_ins_le R g2
        have e2 := ri_ins_gt (ri_ins y R).1 g
        have e3 := ri_ins_le (ri_ins y R).1 (show x ≤ z by omega)
        have e4 := ri_ins_le (ri_ins y R).1 (show a ≤ z by omega)
        have e5 := ri_ins_gt (ri_ins z (ri_ins y R).1).1 g
        rw [ri_run3 e1 e2 e3, ri_run3 e1 e4 e5]
        refine ⟨rfl, ?_⟩
        rcases ri_ins_two hs'.2 h2 with k | ⟨b, c, k1, k2, k3⟩
        · rw [k]; exact Or.inl (by simp)
        · rw [k1, k2]
          have := (ri_ins_some k1).2
          exact Or.inr ⟨a, b, c, by omega, k3, rfl, rfl⟩
    · rw [ri_run_pass [y, x, z] R (by intro e he; simp at he; omega), ri_run_pass [y, z, x] R (by intro e he; simp at he; omega)]
      have := ih hs'.2
      refine ⟨?_, this.2⟩
      show a :: _ = a :: _
      rw [this.1]
theorem ri_k2_row (R : List Nat) (hs : R.Pairwise (· ≤ ·)) {x y z : Nat} (h1 : x ≤ y) (h2 : y < z) :
    (ri_run [x, z, y] R).1 = (ri_run [z, x, y] R).1 ∧ ((ri_run [x, z, y] R).2 = (ri_run [z, x, y] R).2 ∨ (∃ a b c, a ≤ b ∧ b < c ∧ (ri_run [x, z, y] R).2 = [a, c, b] ∧ (ri_run [z, x, y] R).2 = [c, a, b]) ∨ ∃ a b c, a < b ∧ b ≤ c ∧ (ri_run [z, x, y] R).2 = [b, a, c] ∧ (ri_run [x, z, y] R).2 = [b, c, a]) := by
  induction R with
  | nil =>
    have e1 := ri_ins_nil x
    have e2 : ri_ins z [x] = ([x, z], none) := by rw [ri_ins_le [] (show x ≤ z by omega)]; rfl
    have e3 : ri_ins y [x, z] = ([x, y], some z) := by rw [ri_ins_le [z] h1, ri_ins_gt [] h2]
    have f1 := ri_ins_nil z
    have f2 : ri_ins x [z] = ([x], some z) := ri_ins_gt [] (by omega)
    have f3 : ri_ins y [x] = ([x, y], none) := by rw [ri_ins_le [] h1]; rfl
    rw [ri_run3 e1 e2 e3, ri_run3 f1 f2 f3]
    exact ⟨rfl, Or.inl rfl⟩
  | cons a R ih =>
    have hs' := List.pairwise_cons.mp hs
    rcases Nat.lt_or_ge x a with g | g
    · rcases Nat.lt_or_ge z a with g2 | g2
      · have e1 := ri_ins_gt R g
        have e2 := ri_ins_le R (show x ≤ z by omega)
        have e3 := ri_ins_le (ri_ins z R).1 h1
        have f1 := ri_ins_gt R g2
        have f2 := ri_ins_gt R (show x < z by omega)
        have f3 := ri_ins_le R h1
        rw [ri_run3 e1 e2 e3, ri_run3 f1 f2 f3]
        cases R with
        | nil =>
          have k1 := ri_ins_nil z
          have k2 := ri_ins_gt [] h2
          have k3 := ri_ins_nil y
          rw [k1]
          dsimp only
          rw [k2, k3]
          exact ⟨rfl, Or.inl rfl⟩
        | cons b R =>
          have hb : a ≤ b := hs'.1 b (List.mem_cons_self ..)
          have k1 := ri_ins_gt R (show z < b by omega)
          have k2 := ri_ins_gt R h2
          have k3 := ri_ins_gt R (show y < b by omega)
          rw [k1]
          dsimp only
          rw [k2, k3]
          exact ⟨rfl, Or.inr (Or.inr ⟨z, a, b, g2, hb, rfl, rfl⟩)⟩
      · have e1 := ri_ins_gt R g
        have e2 := ri_ins_le R (show x ≤ z by omega)
        have e3 := ri_ins_le (ri_ins z R).1 h1
        have f1 := ri_ins_le R g2
        have f2 := ri_ins_gt (ri_ins z R).1 g
        rw [ri_run3 e1 e2 e3, ri_run3 f1 f2 e3]
        refine ⟨rfl, ?_⟩
        cases e : (ri_ins z R).2 with
        | none => exact Or.inl rfl
        | some c =>
          obtain ⟨d, d1, d2, d3⟩ := ri_ins_bump (ri_ins_sorted hs'.2) (ri_ins_self z R) h2
          have hd : a ≤ d := by
            rcases ri_ins_mem d3 with k | k
            · omega
            · exact hs'.1 d k
          have hc := (ri_ins_some e).2
          rw [d1]
          exact Or.inr (Or.inl ⟨a, d, c, hd, by omega, rfl, rfl⟩)
    · rw [ri_run_pass [x, z, y] R (by intro e he; simp at he; omega), ri_run_pass [z, x, y] R (by intro e he; simp at he; omega)]
      have := ih hs'.2
      refine ⟨?_, this.2⟩
      show a :: _ = a :: _
      rw [this.1]
theorem ri_k1 (T : List (List Nat)) (hs : ri_srt T) {x y z : Nat} (h1 : x < y) (h2 : y ≤ z) : [y, x, z].foldl ri_tin T = [y, z, x].foldl ri_tin T := by
  induction T generalizing x y z with
  | nil => rw [ri_fold_nil, ri_fold_nil]
  | cons R T ih =>
    have s1 : R.Pairwise (· ≤ ·) := hs R (List.mem_cons_self ..)
    have s2 : ri_srt T := fun S hS => hs S (List.mem_cons_of_mem _ hS)
    rw [ri_fold_cons, ri_fold_cons]
    obtain ⟨k, k' | ⟨a, b, c, a1, a2, a3, a4⟩⟩ := ri_k1_row R s1 h1 h2
    · rw [k, k']
    · rw [k, a3, a4, ih s2 a1 a2]
theorem ri_k2 (T : List (List Nat)) (hs : ri_srt T) {x y z : Nat} (h1 : x ≤ y) (h2 : y < z) : [x, z, y].foldl ri_tin T = [z, x, y].foldl ri_tin T := by
  induction T generalizing x y z with
  | nil => rw [ri_fold_nil, ri_fold_nil]
  | cons R T ih =>
    have s1 : R.Pairwise (· ≤ ·) := hs R (List.mem_cons_self ..)
    have s2 : ri_srt T := fun S hS => hs S (List.mem_cons_of_mem _ hS)
    rw [ri_fold_cons, ri_fold_cons]
    obtain ⟨k, k' | ⟨a, b, c, a1, a2, a3, a4⟩ | ⟨a, b, c, a1, a2, a3, a4⟩⟩ := ri_k2_row R s1 h1 h2
    · rw [k, k']
    · rw [k, a3, a4, ih s2 a1 a2]
    · rw [k, a3, a4, ri_k1 T s2 a1 a2]
/-- the rows of a word -/
def ri_E : List (List Nat) := List.replicate 7 []
def ri_P (w : List Nat) : List (List Nat) := w.foldl ri_tin ri_E
theorem ri_E_srt : ri_srt ri_E := by
  intro R hR
  rw [(List.mem_replicate.mp hR).2]
  exact List.Pairwise.nil
theorem ri_P_k1 (p s : List Nat) {x y z : Nat} (h1 : x < y) (h2 : y ≤ z) : ri_P (p ++ (y :: x :: z :: s)) = ri_P (p ++ (y :: z :: x :: s)) := by
  have e := ri_k1 _ (ri_srt_fold p ri_E_srt) h1 h2
  have a1 : p ++ (y :: x :: z :: s) = p ++ ([y, x, z] ++ s) := rfl
  have a2 : p ++ (y :: z :: x :: s) = p ++ ([y, z, x] ++ s) := rfl
  unfold ri_P
  rw [a1, a2, List.foldl_append, List.foldl_append, List.foldl_append, List.foldl_append, e]
theorem ri_P_k2 (p s : List Nat) {x y z : Nat} (h1 : x ≤ y) (h2 : y < z) : ri_P (p ++ (x :: z :: y :: s)) = ri_P (p ++ (z :: x :: y :: s)) := by
  have e := ri_k2 _ (ri_srt_fold p ri_E_srt) h1 h2
  have a1 : p ++ (x :: z :: y :: s) = p ++ ([x, z, y] ++ s) := rfl
  have a2 : p ++ (z :: x :: y :: s) = p ++ ([z, x, y] ++ s) := rfl
  unfold ri_P
  rw [a1, a2, List.foldl_append, List.foldl_append, List.foldl_append, List.foldl_append, e]
end
section
/-- every entry of the upper row is below the one under it -/
def ri_dom : List Nat → List Nat → Prop
  | _, [] => True
  | [], _ :: _ => False
  | a :: R, b :: S => a < b ∧ ri_dom R S
theorem ri_dom_nil (R : List Nat) : ri_dom R [] := by cases R <;> simp [ri_dom]
theorem ri_dom_cc {a b : Nat} {R S : List Nat} : ri_dom (a :: R) (b :: S) ↔ a < b ∧ ri_dom R S := by simp [ri_dom]
theorem ri_dom_ne {b : Nat} {S : List Nat} (h : ri_dom [] (b :: S)) : False := by simp [ri_dom] at h
theorem ri_dom_len {R S : List Nat} (h : ri_dom R S) : S.length ≤ R.length := by
  induction S generalizing R with
  | nil => exact Nat.zero_le _
  | cons b S ih =>
    cases R with
    | nil => exact (ri_dom_ne h).elim
    | cons a R =>
      have := ih (ri_dom_cc.mp h).2
      simp only [List.length_cons]
      omega
theorem ri_dom_insu {R S : List Nat} (x : Nat) (h : ri_dom R S) : ri_dom (ri_ins x R).1 S := by
  induction R generalizing S with
  | nil =>
    cases S with
    | nil => exact ri_dom_nil _
    | cons b S => exact (ri_dom_ne h).elim
  | cons a R ih =>
    cases S with
    | nil => exact ri_dom_nil _
    | cons b S =>
      have h' := ri_dom_cc.mp h
      rcases Nat.lt_or_ge x a with g | g
      · rw [ri_ins_gt R g]
        exact ri_dom_cc.mpr ⟨by omega, h'.2⟩
      · rw [ri_ins_le R g]
        exact ri_dom_cc.mpr ⟨h'.1, ih h'.2⟩
theorem ri_dom_ins {R S : List Nat} {x y : Nat} (h : ri_dom R S) (hy : (ri_ins x R).2 = some y) : ri_dom (ri_ins x R).1 (ri_ins y S).1 := by
  induction R generalizing S with
  | nil => rw [ri_ins_nil] at hy; simp at hy
  | cons a R ih =>
    rcases Nat.lt_or_ge x a with g | g
    · rw [ri_ins_gt R g] at hy ⊢
      have e : a = y := by simpa using hy
      rw [← e]
      cases S with
      | nil => exact ri_dom_cc.mpr ⟨g, ri_dom_nil _⟩
      | cons b S =>
        have h' := ri_dom_cc.mp h
        rw [ri_ins_gt S h'.1]
        exact ri_dom_cc.mpr ⟨g, h'.2⟩
    · rw [ri_ins_le R g] at hy ⊢
      have hy' : (ri_ins x R).2 = some y := hy
      have hxy := (ri_ins_some hy').2
      cases S with
      | nil => exact ri_dom_cc.mpr ⟨by omega, ri_dom_nil _⟩
      | cons b S =>
        have h' := ri_dom_cc.mp h
        rcases Nat.lt_or_ge y b with k | k
        · rw [ri_ins_gt S k]
          exact ri_dom_cc.mpr ⟨by omega, ri_dom_insu x h'.2⟩
        · rw [ri_ins_le S k]
          exact ri_dom_cc.mpr ⟨h'.1, ih h'.2 hy'⟩
/-- rows and columns in order -/
def ri_ss : List (List Nat) → Prop
  | [] => True
  | R :: T => R.Pairwise (· ≤ ·) ∧ ri_dom R (T.headD []) ∧ ri_ss T
theorem ri_ss_srt {T : List (List Nat)} (h : ri_ss T) : ri_srt T := by
  induction T with
  | nil => intro R hR; simp at hR
  | cons R T ih =>
    intro S hS
    rcases List.mem_cons.mp hS with k | k
    · rw [k]; exact h.1
    · exact ih h.2.2 S k
theorem ri_ss_tin {T : List (List Nat)} (x : Nat) (h : ri_ss T) : ri_ss (ri_tin T x) := by
  induction T generalizing x with
  | nil => exact h
  | cons R T ih =>
    obtain ⟨h1, h2, h3⟩ := h
    cases e : (ri_ins x R).2 with
    | none =>
      rw [ri_tin_none T e]
      exact ⟨ri_ins_sorted h1, ri_dom_insu x h2, h3⟩
    | some y =>
      rw [ri_tin_some T e]
      refine ⟨ri_ins_sorted h1, ?_, ih y h3⟩
      cases T with
      | nil => exact ri_dom_nil _
      | cons S T => exact ri_dom_ins h2 e
theorem ri_ss_E : ri_ss ri_E := by
  simp [ri_E, List.replicate, ri_ss, ri_dom]
/-- a letter pushes the last smaller one of a row out -/
def ri_del (y : Nat) : List Nat → List Nat × Nat
  | [] => ([], 0)
  | [a] => ([y], a)
  | a :: b :: R => if b < y then (a :: (ri_del y (b :: R)).1, (ri_del y (b :: R)).2) else (y :: b :: R, a)
theorem ri_del_one (y a : Nat) : ri_del y [a] = ([y], a) := by simp [ri_del]
theorem ri_del_lt {y a b : Nat} (R : List Nat) (h : b < y) : ri_del y (a :: b :: R) = (a :: (ri_del y (b :: R)).1, (ri_del y (b :: R)).2) := by
  rw [ri_del, if_pos h]
theorem ri_del_ge {y a b : Nat} (R : List Nat) (h : y ≤ b) : ri_del y (a :: b :: R) = (y :: b :: R, a) := by
  rw [ri_del, if_neg (by omega)]
theorem ri_del_len (y : Nat) (R : List Nat) : (ri_del y R).1.length = R.length := by
  induction R with
  | nil => rfl
  | cons a R ih =>
    cases R with
    | nil => rw [ri_del_one]; rfl
    | cons b R =>
      rcases Nat.lt_or_ge b y with h | h
      · rw [ri_del_lt R h]; simp only [List.length_cons] at ih ⊢; rw [ih]
      · rw [ri_del_ge R h]; rfl
theorem ri_del_out (y : Nat) (a : Nat) (R : List Nat) : (ri_del y (a :: R)).2 ∈ a :: R := by
  induction R generalizing a with
  | nil => rw [ri_del_one]; simp
  | cons b R ih =>
    rcases Nat.lt_or_ge b y with h | h
    · rw [ri_del_lt R h]; exact List.mem_cons_of_mem _ (ih b)
    · rw [ri_del_ge R h]; exact List.mem_cons_self ..
theorem ri_del_mem {y e : Nat} {R : List Nat} (h : e ∈ (ri_del y R).1) : e = y ∨ e ∈ R := by
  induction R with
  | nil => simp [ri_del] at h
  | cons a R ih =>
    cases R with
    | nil => rw [ri_del_one] at h; simp at h; exact Or.inl h
    | cons b R =>
      rcases Nat.lt_or_ge b y with g | g
      · rw [ri_del_lt R g] at h
        rcases List.mem_cons.mp h with k | k
        · rw [k]; exact Or.inr (List.mem_cons_self ..)
        · rcases ih k with m | m
          · exact Or.inl m
          · exact Or.inr (List.mem_cons_of_mem _ m)
      · rw [ri_del_ge R g] at h
        rcases List.mem_cons.mp h with k | k
        · exact Or.inl k
        · exact Or.inr (List.mem_cons_of_mem _ k)
theorem ri_del_sorted {y : Nat} {R : List Nat} (hs : R.Pairwise (· ≤ ·)) : (ri_del y R).1.Pairwise (· ≤ ·) := by
  induction R with
  | nil => simp [ri_del]
  | cons a R ih =>
    have hs' := List.pairwise_cons.mp hs
    cases R with
    | nil => rw [ri_del_one]; exact List.pairwise_singleton ..
    | cons b R =>
      have hab := hs'.1 b (List.mem_cons_self ..)
      rcases Nat.lt_or_ge b y with g | g
      · rw [ri_del_lt R g]
        refine List.pairwise_cons.mpr ⟨fun e he => ?_, ih hs'.2⟩
        rcases ri_del_mem he with k | k
        · omega
        · exact hs'.1 e k
      · rw [ri_del_ge R g]
        refine List.pairwise_cons.mpr ⟨fun e he => ?_, hs'.2⟩
        have hb := List.pairwise_cons.mp hs'.2
        rcases List.mem_cons.mp he with k | k
        · omega
        · have := hb.1 e k
          omega
theorem ri_ins_head {x y : Nat} {R : List Nat} (h : (ri_ins x R).2 = some y) : ∃ b R', (ri_ins x R).1 = b :: R' ∧ b ≤ x := by
  cases R with
  | nil => rw [ri_ins_nil] at h; simp at h
  | cons a R =>
    rcases Nat.lt_or_ge x a with g | g
    · rw [ri_ins_gt R g]; exact ⟨x, R, rfl, Nat.le_refl x⟩
    · rw [ri_ins_le R g]; exact ⟨a, _, rfl, g⟩
theorem ri_del_ins {x y : Nat} {R : List Nat} (hs : R.Pairwise (· ≤ ·)) (h : (ri_ins x R).2 = some y) : ri_del y (ri_ins x R).1 = (R, x) := by
  induction R with
  | nil => rw [ri_ins_nil] at h; simp at h
  | cons a R ih =>
    have hs' := List.pairwise_cons.mp hs
    rcases Nat.lt_or_ge x a with g | g
    · rw [ri_ins_gt R g] at h ⊢
      have e : a = y := by simpa using h
      rw [← e]
      cases R with
      | nil => exact ri_del_one a x
      | cons b R => exact ri_del_ge R (hs'.1 b (List.mem_cons_self ..))
    · rw [ri_ins_le R g] at h ⊢
      have h' : (ri_ins x R).2 = some y := h
      obtain ⟨b, R', e, hb⟩ := ri_ins_head h'
      have hy := (ri_ins_some h').2
      have k := ih hs'.2 h'
      show ri_del y (a :: (ri_ins x R).1) = _
      rw [e] at k ⊢
      rw [ri_del_lt R' (by omega), k]
theorem ri_ins_del {y a : Nat} {R : List Nat} (hs : (a :: R).Pairwise (· ≤ ·)) (h : a < y) : ri_ins (ri_del y (a :: R)).2 (ri_del y (a :: R)).1 = (a :: R, some y) := by
  induction R generalizing a with
  | nil => rw [ri_del_one]; exact ri_ins_gt [] h
  | cons b R ih =>
    have hs' := List.pairwise_cons.mp hs
    rcases Nat.lt_or_ge b y with g | g
    · rw [ri_del_lt R g]
      have k := ih hs'.2 g
      have m : a ≤ (ri_del y (b :: R)).2 := hs'.1 _ (ri_del_out y b R)
      show ri_ins (ri_del y (b :: R)).2 (a :: (ri_del y (b :: R)).1) = _
      rw [ri_ins_le _ m, k]
    · rw [ri_del_ge R g]; exact ri_ins_gt _ h
/-- the last entry -/
def ri_last : List Nat → Nat
  | [] => 0
  | [a] => a
  | _ :: b :: R => ri_last (b :: R)
theorem ri_last_mem (a : Nat) (R : List Nat) : ri_last (a :: R) ∈ a :: R := by
  induction R generalizing a with
  | nil => simp [ri_last]
  | cons b R ih => exact List.mem_cons_of_mem _ (ih b)
theorem ri_last_app (R : List Nat) (x : Nat) : ri_last (R ++ [x]) = x := by
  induction R with
  | nil => rfl
  | cons a R ih =>
    cases R with
    | nil => rfl
    | cons b R => exact ih
theorem ri_last_get (R : List Nat) : ri_last R = R.getD (R.length - 1) 0 := by
  induction R with
  | nil => rfl
  | cons a R ih =>
    cases R with
    | nil => rfl
    | cons b R =>
      show ri_last (b :: R) = _
      rw [ih]
      rfl
theorem ri_ins_none {x : Nat} {R : List Nat} (h : (ri_ins x R).2 = none) : (ri_ins x R).1 = R ++ [x] := by
  induction R with
  | nil => rfl
  | cons a R ih =>
    rcases Nat.lt_or_ge x a with g | g
    · rw [ri_ins_gt R g] at h; simp at h
    · rw [ri_ins_le R g] at h ⊢
      show a :: (ri_ins x R).1 = _
      rw [ih h]
      rfl
theorem ri_ins_last (a : Nat) (S : List Nat) (hs : (a :: S).Pairwise (· ≤ ·)) : ri_ins (ri_last (a :: S)) (a :: S).dropLast = (a :: S, none) := by
  induction S generalizing a with
  | nil => rfl
  | cons b S ih =>
    have hs' := List.pairwise_cons.mp hs
    have m : a ≤ ri_last (b :: S) := hs'.1 _ (ri_last_mem b S)
    show ri_ins (ri_last (b :: S)) (a :: (b :: S).dropLast) = _
    rw [ri_ins_le _ m, ih b hs'.2]
theorem ri_dom_init {R S : List Nat} (h : ri_dom R S) (hl : S.length < R.length) : ri_dom R.dropLast S := by
  induction R generalizing S with
  | nil => simp at hl
  | cons a R ih =>
    cases S with
    | nil => exact ri_dom_nil _
    | cons b S =>
      have h' := ri_dom_cc.mp h
      cases R with
      | nil => simp at hl
      | cons c R =>
        show ri_dom (a :: (c :: R).dropLast) (b :: S)
        exact ri_dom_cc.mpr ⟨h'.1, ih h'.2 (by simp only [List.length_cons] at hl ⊢; omega)⟩
theorem ri_dom_big {R S : List Nat} {y : Nat} (h : ri_dom R S) (hb : ∀ s ∈ S, y < s) : ri_dom (ri_del y R).1 S := by
  induction R generalizing S with
  | nil =>
    cases S with
    | nil => exact ri_dom_nil _
    | cons b S => exact (ri_dom_ne h).elim
  | cons a R ih =>
    cases S with
    | nil => exact ri_dom_nil _
    | cons b S =>
      have h' := ri_dom_cc.mp h
      have hyb := hb b (List.mem_cons_self ..)
      cases R with
      | nil =>
        rw [ri_del_one]
        exact ri_dom_cc.mpr ⟨hyb, h'.2⟩
      | cons c R =>
        rcases Nat.lt_or_ge c y with g | g
        · rw [ri_del_lt R g]
          exact ri_dom_cc.mpr ⟨h'.1, ih h'.2 (fun s hs => hb s (List.mem_cons_of_mem _ hs))⟩
        · rw [ri_del_ge R g]
          exact ri_dom_cc.mpr ⟨hyb, h'.2⟩
theorem ri_two_a (b : Nat) (S R : List Nat) (hs : (b :: S).Pairwise (· ≤ ·)) (h : ri_dom R (b :: S)) :
    ri_dom (ri_del (ri_last (b :: S)) R).1 (b :: S).dropLast ∧ ∃ e R', R = e :: R' ∧ e < ri_last (b :: S) := by
  induction S generalizing b R with
  | nil =>
    cases R with
    | nil => exact (ri_dom_ne h).elim
    | cons a R => exact ⟨ri_dom_nil _, a, R, rfl, (ri_dom_cc.mp h).1⟩
  | cons c S ih =>
    have hs' := List.pairwise_cons.mp hs
    cases R with
    | nil => exact (ri_dom_ne h).elim
    | cons a R =>
      have h' := ri_dom_cc.mp h
      obtain ⟨k1, e, R', k2, k3⟩ := ih c R hs'.2 h'.2
      have m : b ≤ ri_last (c :: S) := hs'.1 _ (ri_last_mem c S)
      refine ⟨?_, a, R, rfl, by show a < ri_last (c :: S); omega⟩
      show ri_dom (ri_del (ri_last (c :: S)) (a :: R)).1 (b :: (c :: S).dropLast)
      rw [k2] at k1 ⊢
      rw [ri_del_lt R' k3]
      exact ri_dom_cc.mpr ⟨h'.1, k1⟩
theorem ri_two_b (b : Nat) (S R : List Nat) (z : Nat) (hs : (b :: S).Pairwise (· ≤ ·)) (h : ri_dom R (b :: S)) (hz : b < z) :
    ri_dom (ri_del (ri_del z (b :: S)).2 R).1 (ri_del z (b :: S)).1 ∧ ∃ e R', R = e :: R' ∧ e < (ri_del z (b :: S)).2 := by
  induction S generalizing b R with
  | nil =>
    cases R with
    | nil => exact (ri_dom_ne h).elim
    | cons a R =>
      have h' := ri_dom_cc.mp h
      rw [ri_del_one]
      refine ⟨?_, a, R, rfl, h'.1⟩
      show ri_dom (ri_del b (a :: R)).1 [z]
      cases R with
      | nil => rw [ri_del_one]; exact ri_dom_cc.mpr ⟨hz, ri_dom_nil _⟩
      | cons c R =>
        rcases Nat.lt_or_ge c b with g | g
        · rw [ri_del_lt R g]; exact ri_dom_cc.mpr ⟨by omega, ri_dom_nil _⟩
        · rw [ri_del_ge R g]; exact ri_dom_cc.mpr ⟨hz, ri_dom_nil _⟩
  | cons c S ih =>
    have hs' := List.pairwise_cons.mp hs
    cases R with
    | nil => exact (ri_dom_ne h).elim
    | cons a R =>
      have h' := ri_dom_cc.mp h
      rcases Nat.lt_or_ge c z with g | g
      · obtain ⟨k1, e, R', k2, k3⟩ := ih c R hs'.2 h'.2 g
        have m : b ≤ (ri_del z (c :: S)).2 := hs'.1 _ (ri_del_out z c S)
        rw [ri_del_lt S g]
        refine ⟨?_, a, R, rfl, by show a < (ri_del z (c :: S)).2; omega⟩
        show ri_dom (ri_del (ri_del z (c :: S)).2 (a :: R)).1 (b :: (ri_del z (c :: S)).1)
        rw [k2] at k1 ⊢
        rw [ri_del_lt R' k3]
        exact ri_dom_cc.mpr ⟨h'.1, k1⟩
      · rw [ri_del_ge S g]
        refine ⟨?_, a, R, rfl, h'.1⟩
        show ri_dom (ri_del b (a :: R)).1 (z :: c :: S)
        cases R with
        | nil => exact (ri_dom_ne h'.2).elim
        | cons e R =>
          rcases Nat.lt_or_ge e b with k | k
          · rw [ri_del_lt R k]
            refine ri_dom_cc.mpr ⟨by omega, ri_dom_big h'.2 (fun s hs2 => ?_)⟩
            rcases List.mem_cons.mp hs2 with m | m
            · omega
            · have := (List.pairwise_cons.mp hs'.2).1 s m
              omega
          · rw [ri_del_ge R k]
            exact ri_dom_cc.mpr ⟨hz, h'.2⟩
def ri_up : Nat → Nat → List (List Nat) → List (List Nat) × Nat
  | 0, x, T => (T, x)
  | k + 1, x, T => ri_up k (ri_del x (T.getD k [])).2 (T.set k (ri_del x (T.getD k [])).1)
/-- the last cell of row r is taken off: what is left, and the letter that comes out -/
def ri_off (T : List (List Nat)) (r : Nat) : List (List Nat) × Nat := ri_up r (ri_last (T.getD r [])) (T.set r (T.getD r []).dropLast)
theorem ri_up_cons (k x : Nat) (R : List Nat) (T : List (List Nat)) : ri_up (k + 1) x (R :: T) = ((ri_del (ri_up k x T).2 R).1 :: (ri_up k x T).1, (ri_del (ri_up k x T).2 R).2) := by
  induction k generalizing x T with
  | zero => rfl
  | succ k ih =>
    have e : ri_up (k + 1 + 1) x (R :: T) = ri_up (k + 1) (ri_del x (T.getD k [])).2 (R :: T.set k (ri_del x (T.getD k [])).1) := rfl
    rw [e, ih]
    rfl
theorem ri_off_zero (R : List Nat) (T : List (List Nat)) : ri_off (R :: T) 0 = (R.dropLast :: T, ri_last R) := rfl
theorem ri_off_succ (R : List Nat) (T : List (List Nat)) (r : Nat) : ri_off (R :: T) (r + 1) = ((ri_del (ri_off T r).2 R).1 :: (ri_off T r).1, (ri_del (ri_off T r).2 R).2) := by
  have e : ri_off (R :: T) (r + 1) = ri_up (r + 1) (ri_last (T.getD r [])) (R :: T.set r (T.getD r []).dropLast) := rfl
  rw [e, ri_up_cons]
  rfl
/-- the row that becomes longer -/
def ri_tr : List (List Nat) → Nat → Nat
  | [], _ => 0
  | R :: T, x => match (ri_ins x R).2 with | none => 0 | some y => ri_tr T y + 1
theorem ri_tr_none {x : Nat} {R : List Nat} (T : List (List Nat)) (h : (ri_ins x R).2 = none) : ri_tr (R :: T) x = 0 := by
  simp only [ri_tr, h]
theorem ri_tr_some {x y : Nat} {R : List Nat} (T : List (List Nat)) (h : (ri_ins x R).2 = some y) : ri_tr (R :: T) x = ri_tr T y + 1 := by
  simp only [ri_tr, h]
def ri_cor (T : List (List Nat)) (r : Nat) : Prop := (T.getD (r + 1) []).length < (T.getD r []).length
def ri_sz (T : List (List Nat)) : Nat := (T.map List.length).sum
theorem ri_sz_cons (R : List Nat) (T : List (List Nat)) : ri_sz (R :: T) = R.length + ri_sz T := by
  simp [ri_sz]
theorem ri_off_tin {T : List (List Nat)} {x : Nat} (hs : ri_srt T) (h : ri_tr T x < T.length) : ri_off (ri_tin T x) (ri_tr T x) = (T, x) := by
  induction T generalizing x with
  | nil => simp at h
  | cons R T ih =>
    cases e : (ri_ins x R).2 with
    | none =>
      rw [ri_tin_none T e, ri_tr_none T e, ri_off_zero, ri_ins_none e, List.dropLast_concat, ri_last_app]
    | some y =>
      rw [ri_tr_some T e] at h
      rw [ri_tin_some T e, ri_tr_some T e, ri_off_succ, ih (fun S hS => hs S (List.mem_cons_of_mem _ hS)) (by simpa using h)]
      show ((ri_del y (ri_ins x R).1).1 :: T, (ri_del y (ri_ins x R).1).2) = _
      rw [ri_del_ins (hs R (List.mem_cons_self ..)) e]
theorem ri_headD (T : List (List Nat)) : T.getD 0 [] = T.headD [] := by cases T <;> rfl
theorem ri_cor_tin {T : List (List Nat)} {x : Nat} (hs : ri_ss T) (h : ri_tr T x < T.length) : ri_cor (ri_tin T x) (ri_tr T x) := by
  induction T generalizing x with
  | nil => simp at h
  | cons R T ih =>
    cases e : (ri_ins x R).2 with
    | none =>
      rw [ri_tin_none T e, ri_tr_none T e, ri_ins_none e]
      show (T.getD 0 []).length < (R ++ [x]).length
      have := ri_dom_len hs.2.1
      rw [ri_headD, List.length_append]
      simp only [List.length_cons, List.length_nil]
      omega
    | some y =>
      rw [ri_tr_some T e] at h
      rw [ri_tin_some T e, ri_tr_some T e]
      exact ih hs.2.2 (by simpa using h)
theorem ri_tr_sz (T : List (List Nat)) (x : Nat) : ri_tr T x ≤ ri_sz T := by
  induction T generalizing x with
  | nil => exact Nat.zero_le _
  | cons R T ih =>
    cases e : (ri_ins x R).2 with
    | none => rw [ri_tr_none T e]; exact Nat.zero_le _
    | some y =>
      rw [ri_tr_some T e, ri_sz_cons]
      have h1 := ih y
      have h2 : 0 < R.length := List.length_pos_of_mem (ri_ins_some e).1
      omega
theorem ri_tin_length (T : List (List Nat)) (x : Nat) : (ri_tin T x).length = T.length := by
  induction T generalizing x with
  | nil => rfl
  | cons R T ih =>
    cases e : (ri_ins x R).2 with
    | none => rw [ri_tin_none T e]; rfl
    | some y => rw [ri_tin_some T e]; simp only [List.length_cons, ih]
theorem ri_ins_slen {x y : Nat} {R : List Nat} (h : (ri_ins x R).2 = some y) : (ri_ins x R).1.length = R.length := by
  induction R with
  | nil => rw [ri_ins_nil] at h; simp at h
  | cons a R ih =>
    rcases Nat.lt_or_ge x a with g | g
    · rw [ri_ins_gt R g]; rfl
    · rw [ri_ins_le R g] at h ⊢
      simp only [List.length_cons]
      rw [ih h]
theorem ri_tin_sz {T : List (List Nat)} {x : Nat} (h : ri_tr T x < T.length) : ri_sz (ri_tin T x) = ri_sz T + 1 := by
  induction T generalizing x with
  | nil => simp at h
  | cons R T ih =>
    cases e : (ri_ins x R).2 with
    | none =>
      rw [ri_tin_none T e, ri_sz_cons, ri_sz_cons, ri_ins_none e, List.length_append]
      simp only [List.length_cons, List.length_nil]
      omega
    | some y =>
      rw [ri_tr_some T e] at h
      rw [ri_tin_some T e, ri_sz_cons, ri_sz_cons, ih (by simpa using h), ri_ins_slen e]
      omega
def ri_all (p : Nat → Prop) (T : List (List Nat)) : Prop := ∀ R ∈ T, ∀ e ∈ R, p e
theorem ri_all_cons {p : Nat → Prop} {R : List Nat} {T : List (List Nat)} : ri_all p (R :: T) ↔ (∀ e ∈ R, p e) ∧ ri_all p T := by
  constructor
  · intro h
    exact ⟨h R (List.mem_cons_self ..), fun S hS => h S (List.mem_cons_of_mem _ hS)⟩
  · intro h S hS
    rcases List.mem_cons.mp hS with k | k
    · rw [k]; exact h.1
    · exact h.2 S k
theorem ri_all_tin {p : Nat → Prop} {T : List (List Nat)} {x : Nat} (h : ri_all p T) (hx : p x) : ri_all p (ri_tin T x) := by
  induction T generalizing x with
  | nil => exact h
  | cons R T ih =>
    have h' := ri_all_cons.mp h
    have hR : ∀ e ∈ (ri_ins x R).1, p e := by
      intro e he
      rcases ri_ins_mem he with k | k
      · rw [k]; exact hx
      · exact h'.1 e k
    cases e : (ri_ins x R).2 with
    | none => rw [ri_tin_none T e]; exact ri_all_cons.mpr ⟨hR, h'.2⟩
    | some y => rw [ri_tin_some T e]; exact ri_all_cons.mpr ⟨hR, ih h'.2 (h'.1 y (ri_ins_some e).1)⟩
theorem ri_tin_off (T : List (List Nat)) (r : Nat) (hs : ri_ss T) (hr : r < T.length) (hc : ri_cor T r) :
    ri_tin (ri_off T r).1 (ri_off T r).2 = T ∧ ri_ss (ri_off T r).1 ∧
    (∀ R : List Nat, ri_dom R (T.headD []) → ri_dom (ri_del (ri_off T r).2 R).1 ((ri_off T r).1.headD []) ∧ ∃ e R', R = e :: R' ∧ e < (ri_off T r).2) ∧
    (∀ p : Nat → Prop, ri_all p T → p (ri_off T r).2 ∧ ri_all p (ri_off T r).1) := by
  induction T generalizing r with
  | nil => simp at hr
  | cons S T ih =>
    obtain ⟨s1, s2, s3⟩ := hs
    cases r with
    | zero =>
      have hc' : (T.getD 0 []).length < S.length := hc
      rw [ri_headD] at hc'
      rw [ri_off_zero]
      cases S with
      | nil => simp at hc'
      | cons b S =>
        refine ⟨?_, ⟨?_, ?_, s3⟩, ?_, ?_⟩
        · show ri_tin ((b :: S).dropLast :: T) (ri_last (b :: S)) = _
          have e := ri_ins_last b S s1
          rw [ri_tin_none T (by rw [e]), e]
        · exact s1.sublist (List.dropLast_sublist _)
        · exact ri_dom_init s2 hc'
        · intro R hR
          exact ri_two_a b S R s1 hR
        · intro p hp
          have hp' := ri_all_cons.mp hp
          exact ⟨hp'.1 _ (ri_last_mem b S), ri_all_cons.mpr ⟨fun e he => hp'.1 e (List.dropLast_subset _ he), hp'.2⟩⟩
    | succ r =>
      obtain ⟨k1, k2, k3, k4⟩ := ih r s3 (by simpa using hr) hc
      obtain ⟨k5, b, S', k6, k7⟩ := k3 S s2
      rw [ri_off_succ]
      subst k6
      refine ⟨?_, ⟨ri_del_sorted s1, k5, k2⟩, ?_, ?_⟩
      · have e := ri_ins_del s1 k7
        show ri_tin ((ri_del (ri_off T r).2 (b :: S')).1 :: (ri_off T r).1) (ri_del (ri_off T r).2 (b :: S')).2 = _
        rw [ri_tin_some _ (by rw [e]), e, k1]
      · intro R hR
        exact ri_two_b b S' R _ s1 hR k7
      · intro p hp
        have hp' := ri_all_cons.mp hp
        have k8 := k4 p hp'.2
        refine ⟨hp'.1 _ (ri_del_out _ b S'), ri_all_cons.mpr ⟨fun e he => ?_, k8.2⟩⟩
        rcases ri_del_mem he with m | m
        · rw [m]; exact k8.1
        · exact hp'.1 e m
def ri_dec : List Nat → Nat → List Nat
  | [], _ => []
  | a :: L, 0 => (a - 1) :: L
  | a :: L, r + 1 => a :: ri_dec L r
theorem ri_off_shape (T : List (List Nat)) (r : Nat) (hr : r < T.length) : (ri_off T r).1.map List.length = ri_dec (T.map List.length) r := by
  induction T generalizing r with
  | nil => simp at hr
  | cons S T ih =>
    cases r with
    | zero =>
      rw [ri_off_zero]
      simp only [List.map_cons, ri_dec, List.length_dropLast]
    | succ r =>
      rw [ri_off_succ]
      simp only [List.map_cons, ri_dec, ri_del_len]
      rw [ih r (by simpa using hr)]
theorem ri_dec_sum (L : List Nat) (r : Nat) (h : 0 < L.getD r 0) : (ri_dec L r).sum + 1 = L.sum := by
  induction L generalizing r with
  | nil => simp at h
  | cons a L ih =>
    cases r with
    | zero =>
      have h' : 0 < a := h
      simp only [ri_dec, List.sum_cons]
      omega
    | succ r =>
      have := ih r h
      simp only [ri_dec, List.sum_cons]
      omega
end
section
theorem ri_rev {p : List Nat → Prop} (h0 : p []) (hs : ∀ w x, p w → p (w ++ [x])) (w : List Nat) : p w := by
  have h : ∀ u : List Nat, p u.reverse := by
    intro u
    induction u with
    | nil => exact h0
    | cons a u ih => rw [List.reverse_cons]; exact hs _ _ ih
  have := h w.reverse
  rwa [List.reverse_reverse] at this
def ri_lt7 (e : Nat) : Prop := 1 ≤ e ∧ e ≤ 7
/-- rows of n letters -/
def ri_good (n : Nat) (T : List (List Nat)) : Prop := T.length = 7 ∧ ri_ss T ∧ ri_sz T = n ∧ ri_all ri_lt7 T
theorem ri_map_get (T : List (List Nat)) (r : Nat) : (T.map List.length).getD r 0 = (T.getD r []).length := by
  rw [List.getD_eq_getElem?_getD, List.getD_eq_getElem?_getD, List.getElem?_map]
  cases T[r]? <;> rfl
theorem ri_dec_length (L : List Nat) (r : Nat) : (ri_dec L r).length = L.length := by
  induction L generalizing r with
  | nil => rfl
  | cons a L ih =>
    cases r with
    | zero => rfl
    | succ r => simp only [ri_dec, List.length_cons, ih]
theorem ri_dec_get (L : List Nat) (r j : Nat) : (ri_dec L r).getD j 0 = if j = r then L.getD j 0 - 1 else L.getD j 0 := by
  induction L generalizing r j with
  | nil => simp [ri_dec]
  | cons a L ih =>
    cases r with
    | zero =>
      cases j with
      | zero => rfl
      | succ j => rfl
    | succ r =>
      cases j with
      | zero => rfl
      | succ j =>
        have e := ih r j
        by_cases k : j = r
        · rw [if_pos (by omega)]
          rw [if_pos k] at e
          exact e
        · rw [if_neg (by omega)]
          rw [if_neg k] at e
          exact e
theorem ri_off_len {T : List (List Nat)} {r : Nat} (hr : r < T.length) : (ri_off T r).1.length = T.length := by
  have := congrArg List.length (ri_off_shape T r hr)
  rw [ri_dec_length, List.length_map, List.length_map] at this
  exact this
theorem ri_good_off {n : Nat} {T : List (List Nat)} {r : Nat} (h : ri_good (n + 1) T) (hr : r < 7) (hc : ri_cor T r) : ri_good n (ri_off T r).1 ∧ ri_lt7 (ri_off T r).2 ∧ ri_tin (ri_off T r).1 (ri_off T r).2 = T := by
  obtain ⟨h1, h2, h3, h4⟩ := h
  have hr' : r < T.length := by omega
  obtain ⟨k1, k2, k3, k4⟩ := ri_tin_off T r h2 hr' hc
  have k5 := k4 _ h4
  refine ⟨⟨by rw [ri_off_len hr', h1], k2, ?_, k5.2⟩, k5.1, k1⟩
  have e := ri_off_shape T r hr'
  have e2 := ri_dec_sum (T.map List.length) r (by rw [ri_map_get]; exact Nat.lt_of_le_of_lt (Nat.zero_le _) hc)
  unfold ri_sz at h3 ⊢
  rw [e]
  omega
theorem ri_good_tin {n : Nat} {T : List (List Nat)} {x : Nat} (h : ri_good n T) (hn : n < 7) (hx : ri_lt7 x) : ri_good (n + 1) (ri_tin T x) ∧ ri_tr T x < 7 ∧ ri_off (ri_tin T x) (ri_tr T x) = (T, x) ∧ ri_cor (ri_tin T x) (ri_tr T x) := by
  obtain ⟨h1, h2, h3, h4⟩ := h
  have ht : ri_tr T x < T.length := by
    have := ri_tr_sz T x
    omega
  refine ⟨⟨by rw [ri_tin_length, h1], ri_ss_tin x h2, by rw [ri_tin_sz ht, h3], ri_all_tin h4 hx⟩, by omega, ri_off_tin (ri_ss_srt h2) ht, ri_cor_tin h2 ht⟩
theorem ri_sz_mem {T : List (List Nat)} {R : List Nat} (h : R ∈ T) : R.length ≤ ri_sz T := by
  induction T with
  | nil => simp at h
  | cons S T ih =>
    rw [ri_sz_cons]
    rcases List.mem_cons.mp h with k | k
    · rw [k]; omega
    · have := ih k
      omega
theorem ri_good_zero {T : List (List Nat)} (h : ri_good 0 T) : T = ri_E := by
  refine List.eq_replicate_iff.mpr ⟨h.1, fun R hR => ?_⟩
  have := ri_sz_mem hR
  rw [h.2.2.1] at this
  exact List.eq_nil_of_length_eq_zero (by omega)
theorem ri_good_E : ri_good 0 ri_E := by
  refine ⟨rfl, ri_ss_E, rfl, ?_⟩
  intro R hR e he
  rw [(List.mem_replicate.mp hR).2] at he
  simp at he
theorem ri_P_app (w : List Nat) (x : Nat) : ri_P (w ++ [x]) = ri_tin (ri_P w) x := by
  unfold ri_P
  rw [List.foldl_append]
  rfl
theorem ri_good_P (w : List Nat) : (∀ e ∈ w, ri_lt7 e) → w.length ≤ 7 → ri_good w.length (ri_P w) := by
  refine ri_rev (p := fun w => (∀ e ∈ w, ri_lt7 e) → w.length ≤ 7 → ri_good w.length (ri_P w)) ?_ ?_ w
  · intro _ _
    exact ri_good_E
  · intro w x ih hl h7
    rw [List.length_append] at h7 ⊢
    have h7' : w.length + 1 ≤ 7 := h7
    have g := ih (fun e he => hl e (List.mem_append_left _ he)) (by omega)
    rw [ri_P_app]
    exact (ri_good_tin g (by omega) (hl x (by simp))).1
/-- all words with these rows -/
def ri_ws : Nat → List (List Nat) → List (List Nat)
  | 0, _ => [[]]
  | n + 1, T => (List.range 7).flatMap (fun r => if (T.getD (r + 1) []).length < (T.getD r []).length then (ri_ws n (ri_off T r).1).map (fun v => v ++ [(ri_off T r).2]) else [])
theorem ri_ws_mem {n : Nat} {T : List (List Nat)} {v : List Nat} : v ∈ ri_ws (n + 1) T ↔ ∃ r, r < 7 ∧ ri_cor T r ∧ ∃ u ∈ ri_ws n (ri_off T r).1, u ++ [(ri_off T r).2] = v := by
  rw [ri_ws, List.mem_flatMap]
  constructor
  · rintro ⟨r, hr, hv⟩
    split at hv
    · rename_i hc
      exact ⟨r, List.mem_range.mp hr, hc, List.mem_map.mp hv⟩
    · simp at hv
  · rintro ⟨r, hr, hc, hv⟩
    refine ⟨r, List.mem_range.mpr hr, ?_⟩
    rw [if_pos (show (T.getD (r + 1) []).length < (T.getD r []).length from hc)]
    exact List.mem_map.mpr hv
theorem ri_ws_P (n : Nat) (T : List (List Nat)) (v : List Nat) (hg : ri_good n T) (hv : v ∈ ri_ws n T) : ri_P v = T ∧ v.length = n ∧ ∀ e ∈ v, ri_lt7 e := by
  induction n generalizing T v with
  | zero =>
    rw [ri_ws] at hv
    have e : v = [] := by simpa using hv
    rw [e]
    exact ⟨(ri_good_zero hg).symm, rfl, fun e he => by simp at he⟩
  | succ n ih =>
    obtain ⟨r, hr, hc, u, hu, rfl⟩ := ri_ws_mem.mp hv
    obtain ⟨g1, g2, g3⟩ := ri_good_off hg hr hc
    obtain ⟨k1, k2, k3⟩ := ih _ u g1 hu
    refine ⟨by rw [ri_P_app, k1, g3], by rw [List.length_append, k2]; rfl, fun e he => ?_⟩
    rcases List.mem_append.mp he with m | m
    · exact k3 e m
    · have : e = (ri_off T r).2 := by simpa using m
      rw [this]; exact g2
theorem ri_ws_self (w : List Nat) : (∀ e ∈ w, ri_lt7 e) → w.length ≤ 7 → w ∈ ri_ws w.length (ri_P w) := by
  refine ri_rev (p := fun w => (∀ e ∈ w, ri_lt7 e) → w.length ≤ 7 → w ∈ ri_ws w.length (ri_P w)) ?_ ?_ w
  · intro _ _
    simp [ri_ws]
  · intro w x ih hl h7
    rw [List.length_append] at h7
    have h7' : w.length + 1 ≤ 7 := h7
    have hl' : ∀ e ∈ w, ri_lt7 e := fun e he => hl e (List.mem_append_left _ he)
    have k := ih hl' (by omega)
    have g := ri_good_P w hl' (by omega)
    obtain ⟨g1, g2, g3, g4⟩ := ri_good_tin g (by omega) (hl x (by simp))
    have e : (w ++ [x]).length = w.length + 1 := by rw [List.length_append]; rfl
    rw [e, ri_P_app]
    refine ri_ws_mem.mpr ⟨ri_tr (ri_P w) x, g2, g4, w, ?_, ?_⟩
    · rw [g3]; exact k
    · rw [g3]
theorem ri_ws_nodup (n : Nat) (T : List (List Nat)) (hg : ri_good n T) : (ri_ws n T).Pairwise (fun a b => a ≠ b) := by
  induction n generalizing T with
  | zero => rw [ri_ws]; exact List.pairwise_singleton ..
  | succ n ih =>
    rw [ri_ws, List.pairwise_flatMap]
    constructor
    · intro r hr
      split
      · rename_i hc
        obtain ⟨g1, g2, g3⟩ := ri_good_off hg (List.mem_range.mp hr) hc
        refine List.pairwise_map.mpr ((ih _ g1).imp (fun {a b} hab e => hab (List.append_inj' e rfl).1))
      · exact List.Pairwise.nil
    · refine List.Pairwise.imp_of_mem (fun {r s} hr hs hrs v hv u hu e => ?_) (List.pairwise_lt_range (n := 7))
      have hr7 := List.mem_range.mp hr
      have hs7 := List.mem_range.mp hs
      have hrs' : r < s := hrs
      split at hv
      · rename_i hc
        split at hu
        · rename_i hd
          obtain ⟨v', hv', ev⟩ := List.mem_map.mp hv
          obtain ⟨u', hu', eu⟩ := List.mem_map.mp hu
          rw [← ev, ← eu] at e
          have e' := (List.append_inj' e rfl).1
          have p1 := (ri_ws_P n _ v' (ri_good_off hg hr7 hc).1 hv').1
          have p2 := (ri_ws_P n _ u' (ri_good_off hg hs7 hd).1 hu').1
          rw [e', p2] at p1
          have hl := hg.1
          have s1 := ri_off_shape T r (by omega)
          have s2 := ri_off_shape T s (by omega)
          rw [← p1, s2] at s1
          have t1 := ri_dec_get (T.map List.length) r r
          have t2 := ri_dec_get (T.map List.length) s r
          rw [if_pos rfl] at t1
          rw [if_neg (by omega), s1, t1, ri_map_get] at t2
          omega
        · simp at hu
      · simp at hv
/-- how many -/
def ri_cnt : Nat → List Nat → Nat
  | 0, _ => 1
  | n + 1, L => ((List.range 7).map (fun r => if L.getD (r + 1) 0 < L.getD r 0 then ri_cnt n (ri_dec L r) else 0)).sum
theorem ri_ws_len (n : Nat) (T : List (List Nat)) (hT : T.length = 7) : (ri_ws n T).length = ri_cnt n (T.map List.length) := by
  induction n generalizing T with
  | zero => rfl
  | succ n ih =>
    rw [ri_ws, ri_cnt, List.length_flatMap]
    congr 1
    refine List.map_congr_left (fun r hr => ?_)
    have hr7 := List.mem_range.mp hr
    rw [ri_map_get, ri_map_get]
    split
    · rw [List.length_map, ih _ (by rw [ri_off_len (by omega), hT]), ri_off_shape T r (by omega)]
    · rfl
/-- base 8 -/
def ri_code (v : List Nat) : Nat := v.foldl (fun c x => 8 * c + x) 0
theorem ri_code_app (v : List Nat) (x : Nat) : ri_code (v ++ [x]) = 8 * ri_code v + x := by
  unfold ri_code
  rw [List.foldl_append]
  rfl
theorem ri_code_lt (v : List Nat) : (∀ e ∈ v, ri_lt7 e) → ri_code v < 8 ^ v.length := by
  refine ri_rev (p := fun v => (∀ e ∈ v, ri_lt7 e) → ri_code v < 8 ^ v.length) ?_ ?_ v
  · intro _
    simp [ri_code]
  · intro v x ih hl
    have k := ih (fun e he => hl e (List.mem_append_left _ he))
    have hx : ri_lt7 x := hl x (by simp)
    have e : (v ++ [x]).length = v.length + 1 := by rw [List.length_append]; rfl
    rw [ri_code_app, e, Nat.pow_succ]
    have := hx.2
    omega
theorem ri_code_inj (v : List Nat) : ∀ u : List Nat, (∀ e ∈ v, ri_lt7 e) → (∀ e ∈ u, ri_lt7 e) → ri_code v = ri_code u → v = u := by
  refine ri_rev (p := fun v => ∀ u : List Nat, (∀ e ∈ v, ri_lt7 e) → (∀ e ∈ u, ri_lt7 e) → ri_code v = ri_code u → v = u) ?_ ?_ v
  · intro u _ hu e
    rcases List.eq_nil_or_concat u with k | ⟨u', y, k⟩
    · rw [k]
    · rw [List.concat_eq_append] at k
      rw [k, ri_code_app] at e
      have hy : ri_lt7 y := hu y (by rw [k]; simp)
      have e' : 0 = 8 * ri_code u' + y := e
      have := hy.1
      omega
  · intro v x ih u hv hu e
    have hx : ri_lt7 x := hv x (by simp)
    rw [ri_code_app] at e
    rcases List.eq_nil_or_concat u with k | ⟨u', y, k⟩
    · rw [k] at e
      have e' : 8 * ri_code v + x = 0 := e
      have := hx.1
      omega
    · rw [List.concat_eq_append] at k
      rw [k, ri_code_app] at e
      have hy : ri_lt7 y := hu y (by rw [k]; simp)
      have h1 := hx.1
      have h2 := hx.2
      have h3 := hy.1
      have h4 := hy.2
      have e1 : x = y := by omega
      have e2 : ri_code v = ri_code u' := by omega
      rw [k, e1, ih u' (fun e he => hv e (List.mem_append_left _ he)) (fun e he => hu e (by rw [k]; exact List.mem_append_left _ he)) e2]
/-- a number into its place -/
def ri_si (c : Nat) : List Nat → List Nat
  | [] => [c]
  | a :: L => if a ≤ c then a :: ri_si c L else c :: a :: L
theorem ri_si_perm (c : Nat) (L : List Nat) : (ri_si c L).Perm (c :: L) := by
  induction L with
  | nil => exact List.Perm.refl _
  | cons a L ih =>
    rw [ri_si]
    split
    · exact (ih.cons a).trans (List.Perm.swap ..)
    · exact List.Perm.refl _
theorem ri_si_sorted (c : Nat) (L : List Nat) (h : L.Pairwise (· ≤ ·)) : (ri_si c L).Pairwise (· ≤ ·) := by
  induction L with
  | nil => exact List.pairwise_singleton ..
  | cons a L ih =>
    have h' := List.pairwise_cons.mp h
    rw [ri_si]
    split
    · rename_i k
      refine List.pairwise_cons.mpr ⟨fun e he => ?_, ih h'.2⟩
      rcases List.mem_cons.mp ((ri_si_perm c L).mem_iff.mp he) with m | m
      · omega
      · exact h'.1 e m
    · rename_i k
      refine List.pairwise_cons.mpr ⟨fun e he => ?_, h⟩
      rcases List.mem_cons.mp he with m | m
      · omega
      · have := h'.1 e m
        omega
theorem ri_si_at (c : Nat) (L : List Nat) (p : Nat) (hp : p ≤ L.length) (h1 : ∀ j, j < p → L.getD j 0 ≤ c) (h2 : ∀ j, p ≤ j → j < L.length → c < L.getD j 0) : ri_si c L = L.take p ++ c :: L.drop p := by
  induction L generalizing p with
  | nil =>
    have : p = 0 := by simpa using hp
    rw [this]; rfl
  | cons a L ih =>
    cases p with
    | zero =>
      have k : c < a := h2 0 (Nat.le_refl 0) (by simp)
      rw [ri_si, if_neg (by omega)]
      rfl
    | succ p =>
      have k : a ≤ c := h1 0 (by omega)
      rw [ri_si, if_pos k, ih p (by simpa using hp) (fun j hj => h1 (j + 1) (by omega)) (fun j hj hl => h2 (j + 1) (by omega) (by simpa using hl))]
      rfl
/-- the sorted codes, put in one by one -/
def ri_sl (L : List Nat) (cs : List Nat) : List Nat := cs.foldl (fun L c => ri_si c L) L
theorem ri_sl_perm (cs L : List Nat) : (ri_sl L cs).Perm (cs ++ L) := by
  induction cs generalizing L with
  | nil => exact List.Perm.refl _
  | cons c cs ih =>
    have h := (ih (ri_si c L)).trans ((ri_si_perm c L).append_left cs)
    exact h.trans List.perm_middle
theorem ri_sl_sorted (cs L : List Nat) (h : L.Pairwise (· ≤ ·)) : (ri_sl L cs).Pairwise (· ≤ ·) := by
  induction cs generalizing L with
  | nil => exact h
  | cons c cs ih => exact ih _ (ri_si_sorted c L h)
def ri_lk (n : Nat) (T : List (List Nat)) : List Nat := ri_sl [] ((ri_ws n T).map ri_code)
theorem ri_lk_perm (n : Nat) (T : List (List Nat)) : (ri_lk n T).Perm ((ri_ws n T).map ri_code) := by
  have := ri_sl_perm ((ri_ws n T).map ri_code) []
  rwa [List.append_nil] at this
theorem ri_lk_len (n : Nat) (T : List (List Nat)) : (ri_lk n T).length = (ri_ws n T).length := by
  rw [(ri_lk_perm n T).length_eq, List.length_map]
theorem ri_lk_mem {n : Nat} {T : List (List Nat)} {c : Nat} : c ∈ ri_lk n T ↔ ∃ v ∈ ri_ws n T, ri_code v = c := by
  rw [(ri_lk_perm n T).mem_iff, List.mem_map]
theorem ri_lk_lt (n : Nat) (T : List (List Nat)) (hg : ri_good n T) : (ri_lk n T).Pairwise (fun a b => a < b) := by
  have h1 : (ri_lk n T).Pairwise (· ≤ ·) := ri_sl_sorted _ _ List.Pairwise.nil
  have h2 : ((ri_ws n T).map ri_code).Pairwise (fun a b => a ≠ b) := by
    refine List.pairwise_map.mpr (List.Pairwise.imp_of_mem (fun {a b} ha hb hab e => hab ?_) (ri_ws_nodup n T hg))
    exact ri_code_inj a b (ri_ws_P n T a hg ha).2.2 (ri_ws_P n T b hg hb).2.2 e
  have h3 : (ri_lk n T).Pairwise (fun a b => a ≠ b) := (ri_lk_perm n T).symm.pairwise h2 (fun h => Ne.symm h)
  exact (h1.and h3).imp (fun {a b} h => Nat.lt_of_le_of_ne h.1 h.2)
end
section
/-- the lengths of the first n rows -/
def ri_sh : Nat → List Nat → List Nat
  | 0, _ => []
  | n + 1, w => (ri_run w []).1.length :: ri_sh n (ri_run w []).2
theorem ri_sh_fold (n : Nat) (w : List Nat) : (w.foldl ri_tin (List.replicate n [])).map List.length = ri_sh n w := by
  induction n generalizing w with
  | zero =>
    show (w.foldl ri_tin []).map List.length = []
    rw [ri_fold_nil]
    rfl
  | succ n ih =>
    rw [List.replicate_succ, ri_fold_cons, List.map_cons, ih]
    rfl
theorem ri_ins_map {g : Nat → Nat} (hg : ∀ a b, a ≤ b → g a ≤ g b) {x : Nat} {R : List Nat} (h : ∀ e ∈ R, g e = g x → e < x) : ri_ins (g x) (R.map g) = ((ri_ins x R).1.map g, (ri_ins x R).2.map g) := by
  induction R with
  | nil => rfl
  | cons a R ih =>
    have ih' := ih (fun e he => h e (List.mem_cons_of_mem _ he))
    rw [List.map_cons]
    rcases Nat.lt_or_ge x a with k | k
    · have m : g x < g a := by
        have h1 := hg x a (Nat.le_of_lt k)
        rcases Nat.lt_or_ge (g x) (g a) with q | q
        · exact q
        · have := h a (List.mem_cons_self ..) (by omega)
          omega
      rw [ri_ins_gt _ m, ri_ins_gt _ k]
      rfl
    · rw [ri_ins_le _ (hg a x k), ri_ins_le _ k, ih']
      rfl
theorem ri_ins_slt {x : Nat} {R : List Nat} (hs : R.Pairwise (· < ·)) (h : ∀ e ∈ R, e ≠ x) : (ri_ins x R).1.Pairwise (· < ·) := by
  induction R with
  | nil => exact List.pairwise_singleton ..
  | cons a R ih =>
    have hs' := List.pairwise_cons.mp hs
    rcases Nat.lt_or_ge x a with k | k
    · rw [ri_ins_gt R k]
      refine List.pairwise_cons.mpr ⟨fun e he => ?_, hs'.2⟩
      have := hs'.1 e he
      omega
    · rw [ri_ins_le R k]
      have hax := h a (List.mem_cons_self ..)
      refine List.pairwise_cons.mpr ⟨fun e he => ?_, ih hs'.2 (fun e he => h e (List.mem_cons_of_mem _ he))⟩
      rcases ri_ins_mem he with m | m
      · omega
      · exact hs'.1 e m
theorem ri_ins_split {x a : Nat} {R : List Nat} (hs : R.Pairwise (· < ·)) (h : (ri_ins x R).2 = some a) {b : Nat} (hb : b ∈ (ri_ins x R).1) : b ≤ x ∨ a < b := by
  induction R with
  | nil => rw [ri_ins_nil] at h; simp at h
  | cons c R ih =>
    have hs' := List.pairwise_cons.mp hs
    rcases Nat.lt_or_ge x c with k | k
    · rw [ri_ins_gt R k] at h hb
      have e : c = a := by simpa using h
      rcases List.mem_cons.mp hb with m | m
      · left; omega
      · right
        have := hs'.1 b m
        omega
    · rw [ri_ins_le R k] at h hb
      rcases List.mem_cons.mp hb with m | m
      · left; omega
      · exact ih hs'.2 h m
theorem ri_run_mem (w R : List Nat) {b : Nat} (h : b ∈ (ri_run w R).2) : b ∈ R ∨ b ∈ w := by
  induction w generalizing R with
  | nil => simp [ri_run] at h
  | cons x w ih =>
    simp only [ri_run] at h
    rcases List.mem_append.mp h with k | k
    · cases e : (ri_ins x R).2 with
      | none => rw [e] at k; simp at k
      | some a =>
        rw [e] at k
        have : b = a := by simpa using k
        rw [this]
        exact Or.inl (ri_ins_some e).1
    · rcases ih _ k with m | m
      · rcases ri_ins_mem m with q | q
        · rw [q]; exact Or.inr (List.mem_cons_self ..)
        · exact Or.inl q
      · exact Or.inr (List.mem_cons_of_mem _ m)
theorem ri_run_map {g : Nat → Nat} (hg : ∀ a b, a ≤ b → g a ≤ g b) (w R : List Nat) (hR : R.Pairwise (· < ·)) (hc : ∀ e ∈ R, ∀ x ∈ w, g e = g x → e < x) (hw : w.Pairwise (fun a b => g a = g b → a < b)) :
    ri_run (w.map g) (R.map g) = ((ri_run w R).1.map g, (ri_run w R).2.map g) ∧ (ri_run w R).2.Pairwise (fun a b => g a = g b → a < b) := by
  induction w generalizing R with
  | nil => exact ⟨rfl, List.Pairwise.nil⟩
  | cons x w ih =>
    have hw' := List.pairwise_cons.mp hw
    have hx : ∀ e ∈ R, g e = g x → e < x := fun e he => hc e he x (List.mem_cons_self ..)
    have e1 := ri_ins_map hg hx
    have hne : ∀ e ∈ R, e ≠ x := by
      intro e he k
      have := hx e he (by rw [k])
      omega
    have k := ih (ri_ins x R).1 (ri_ins_slt hR hne) (by
      intro e he y hy
      rcases ri_ins_mem he with m | m
      · rw [m]; exact hw'.1 y hy
      · exact hc e m y (List.mem_cons_of_mem _ hy)) hw'.2
    constructor
    · rw [List.map_cons]
      simp only [ri_run]
      rw [e1]
      simp only []
      rw [k.1]
      simp only [List.map_append]
      cases (ri_ins x R).2 <;> rfl
    · simp only [ri_run]
      cases e : (ri_ins x R).2 with
      | none => exact k.2
      | some a =>
        refine List.pairwise_cons.mpr ⟨fun b hb hgab => ?_, k.2⟩
        have ha := ri_ins_some e
        rcases ri_run_mem _ _ hb with m | m
        · rcases ri_ins_split hR e m with q | q
          · have h1 := hg b x q
            have h2 := hg x a (Nat.le_of_lt ha.2)
            have := hx a ha.1 (by omega)
            omega
          · exact q
        · exact hc a ha.1 b (List.mem_cons_of_mem _ m) hgab
theorem ri_sh_map {g : Nat → Nat} (hg : ∀ a b, a ≤ b → g a ≤ g b) (n : Nat) (w : List Nat) (hw : w.Pairwise (fun a b => g a = g b → a < b)) : ri_sh n (w.map g) = ri_sh n w := by
  induction n generalizing w with
  | zero => rfl
  | succ n ih =>
    have k := ri_run_map hg w [] List.Pairwise.nil (fun e he => by simp at he) hw
    have k1 : ri_run (w.map g) [] = ((ri_run w []).1.map g, (ri_run w []).2.map g) := k.1
    rw [ri_sh, ri_sh, k1]
    simp only [List.length_map]
    rw [ih _ k.2]
/-- letters made different -/
def ri_tag : Nat → List Nat → List Nat
  | _, [] => []
  | i, x :: w => (8 * x + i) :: ri_tag (i + 1) w
theorem ri_tag_mem {i b : Nat} {w : List Nat} (h : b ∈ ri_tag i w) : ∃ y j, b = 8 * y + j ∧ i ≤ j ∧ j < i + w.length ∧ y ∈ w := by
  induction w generalizing i with
  | nil => simp [ri_tag] at h
  | cons x w ih =>
    rw [ri_tag] at h
    rcases List.mem_cons.mp h with k | k
    · exact ⟨x, i, k, Nat.le_refl i, by simp only [List.length_cons]; omega, List.mem_cons_self ..⟩
    · obtain ⟨y, j, h1, h2, h3, h4⟩ := ih k
      exact ⟨y, j, h1, by omega, by simp only [List.length_cons]; omega, List.mem_cons_of_mem _ h4⟩
theorem ri_tag_len (i : Nat) (w : List Nat) : (ri_tag i w).length = w.length := by
  induction w generalizing i with
  | nil => rfl
  | cons x w ih => simp only [ri_tag, List.length_cons, ih]
theorem ri_tag_map (f g : Nat → Nat) (i : Nat) (w : List Nat) (hi : i + w.length ≤ 8) (h : ∀ x ∈ w, ∀ j, j < 8 → f (8 * x + j) = g x) : (ri_tag i w).map f = w.map g := by
  induction w generalizing i with
  | nil => rfl
  | cons x w ih =>
    simp only [List.length_cons] at hi
    rw [ri_tag, List.map_cons, List.map_cons, ih (i + 1) (by omega) (fun y hy => h y (List.mem_cons_of_mem _ hy)), h x (List.mem_cons_self ..) i (by omega)]
theorem ri_tag_pw (i : Nat) (w : List Nat) (hi : i + w.length ≤ 8) : (ri_tag i w).Pairwise (fun a b => a ≠ b ∧ (a / 8 = b / 8 → a < b)) := by
  induction w generalizing i with
  | nil => exact List.Pairwise.nil
  | cons x w ih =>
    simp only [List.length_cons] at hi
    rw [ri_tag]
    refine List.pairwise_cons.mpr ⟨fun b hb => ?_, ih (i + 1) (by omega)⟩
    obtain ⟨y, j, h1, h2, h3, h4⟩ := ri_tag_mem hb
    constructor
    · omega
    · intro _
      omega
def ri_rk (t : List Nat) (v : Nat) : Nat := t.countP (fun u => decide (u < v))
theorem ri_rk_mono (t : List Nat) (a b : Nat) (h : a ≤ b) : ri_rk t a ≤ ri_rk t b := by
  refine List.countP_mono_left (fun x _ hx => ?_)
  have := of_decide_eq_true hx
  exact decide_eq_true (by omega)
theorem ri_rk_lt (t : List Nat) {a b : Nat} (ha : a ∈ t) (h : a < b) : ri_rk t a < ri_rk t b := by
  induction t with
  | nil => simp at ha
  | cons c t ih =>
    unfold ri_rk at ih ⊢
    have hm := ri_rk_mono t a b (Nat.le_of_lt h)
    unfold ri_rk at hm
    rw [List.countP_cons, List.countP_cons]
    rcases List.mem_cons.mp ha with k | k
    · rw [← k]
      have e1 : decide (a < a) = false := decide_eq_false (by omega)
      have e2 : decide (a < b) = true := decide_eq_true h
      rw [e1, e2]
      simp only [if_true, Bool.false_eq_true, if_false]
      omega
    · have := ih k
      by_cases q : c < a
      · have e1 : decide (c < a) = true := decide_eq_true q
        have e2 : decide (c < b) = true := decide_eq_true (by omega)
        rw [e1, e2]
        simp only [if_true]
        omega
      · have e1 : decide (c < a) = false := decide_eq_false q
        rw [e1]
        simp only [Bool.false_eq_true, if_false]
        omega
theorem ri_rk_len (t : List Nat) {a : Nat} (ha : a ∈ t) : ri_rk t a < t.length := by
  have h1 : ri_rk t a < ri_rk t (a + 1) := ri_rk_lt t ha (by omega)
  have h2 : ri_rk t (a + 1) ≤ t.length := List.countP_le_length
  omega
theorem ri_rk_inj (t : List Nat) {a b : Nat} (ha : a ∈ t) (hb : b ∈ t) (h : ri_rk t a = ri_rk t b) : a = b := by
  rcases Nat.lt_trichotomy a b with k | k | k
  · have := ri_rk_lt t ha k
    omega
  · exact k
  · have := ri_rk_lt t hb k
    omega
def ri_tst (m : Nat) (acc : List Nat) : Bool := decide (ri_sh 7 (acc.map (fun x => m - x)) = ri_sh 7 acc.reverse)
def ri_ck (m : Nat) : Nat → List Nat → List Nat → Bool
  | 0, _, acc => ri_tst m acc
  | k + 1, rem, acc => rem.all (fun a => ri_ck m k (rem.erase a) (a :: acc))
theorem ri_ck_all (m k : Nat) (rem acc p : List Nat) (h : ri_ck m k rem acc = true) (hl : p.length = k) (hp : p.Pairwise (fun a b => a ≠ b)) (hm : ∀ a ∈ p, a ∈ rem) : ri_tst m (p.reverse ++ acc) = true := by
  induction k generalizing rem acc p with
  | zero =>
    have e : p = [] := List.eq_nil_of_length_eq_zero hl
    rw [e]
    exact h
  | succ k ih =>
    cases p with
    | nil => simp at hl
    | cons a p =>
      have hp' := List.pairwise_cons.mp hp
      rw [ri_ck, List.all_eq_true] at h
      have h1 := h a (hm a (List.mem_cons_self ..))
      have h2 := ih (rem.erase a) (a :: acc) p h1 (by simpa using hl) hp'.2 (fun b hb => (List.mem_erase_of_ne (Ne.symm (hp'.1 b hb))).mpr (hm b (List.mem_cons_of_mem _ hb)))
      rw [List.reverse_cons, List.append_assoc]
      exact h2
set_option maxRecDepth 100000 in
theorem ri_ck_0 : ri_ck 0 0 (List.range 0) [] = true := by decide +kernel
set_option maxRecDepth 100000 in
theorem ri_ck_1 : ri_ck 0 1 (List.range 1) [] = true := by decide +kernel
set_option maxRecDepth 100000 in
theorem ri_ck_2 : ri_ck 1 2 (List.range 2) [] = true := by decide +kernel
set_option maxRecDepth 100000 in
theorem ri_ck_3 : ri_ck 2 3 (List.range 3) [] = true := by decide +kernel
set_option maxRecDepth 100000 in
theorem ri_ck_4 : ri_ck 3 4 (List.range 4) [] = true := by decide +kernel
set_option maxRecDepth 100000 in
theorem ri_ck_5 : ri_ck 4 5 (List.range 5) [] = true := by decide +kernel
set_option maxRecDepth 100000 in
theorem ri_ck_6 : ri_ck 5 6 (List.range 6) [] = true := by decide +kernel
set_option maxRecDepth 100000 in
theorem ri_ck_7 : ri_ck 6 7 (List.range 7) [] = true := by decide +kernel
theorem ri_ck_n (n : Nat) (h : n ≤ 7) : ri_ck (n - 1) n (List.range n) [] = true := by
  match n, h with
  | 0, _ => exact ri_ck_0
  | 1, _ => exact ri_ck_1
  | 2, _ => exact ri_ck_2
  | 3, _ => exact ri_ck_3
  | 4, _ => exact ri_ck_4
  | 5, _ => exact ri_ck_5
  | 6, _ => exact ri_ck_6
  | 7, _ => exact ri_ck_7
  | n + 8, h => omega
theorem ri_turn_sh (w : List Nat) (hl : ∀ e ∈ w, ri_lt7 e) (h7 : w.length ≤ 7) : ri_sh 7 (w.map (fun x => 8 - x)).reverse = ri_sh 7 w := by
  have tp := ri_tag_pw 0 w (by omega)
  have tl := ri_tag_len 0 w
  have tm : ∀ b ∈ ri_tag 0 w, b ≤ 62 := by
    intro b hb
    obtain ⟨y, j, h1, h2, h3, h4⟩ := ri_tag_mem hb
    have := (hl y h4).2
    omega
  -- the plain word
  have a1 : ri_sh 7 w = ri_sh 7 (ri_tag 0 w) := by
    have e : (ri_tag 0 w).map (fun x => x / 8) = w.map (fun x => x) := ri_tag_map _ _ 0 w (by omega) (fun x _ j hj => by show (8 * x + j) / 8 = x; omega)
    rw [List.map_id'] at e
    have := ri_sh_map (g := fun x => x / 8) (fun a b h => Nat.div_le_div_right h) 7 (ri_tag 0 w) (tp.imp (fun {a b} h => h.2))
    rw [e] at this
    exact this
  have a2 : ri_sh 7 ((ri_tag 0 w).map (ri_rk (ri_tag 0 w))) = ri_sh 7 (ri_tag 0 w) := by
    refine ri_sh_map (ri_rk_mono _) 7 _ (List.Pairwise.imp_of_mem (fun {a b} ha hb h e => ?_) tp)
    exact absurd (ri_rk_inj _ ha hb e) h.1
  -- the turned word
  have b0 : (w.map (fun x => 8 - x)).reverse = ((ri_tag 0 w).map (fun v => 71 - v)).reverse.map (fun x => x / 8) := by
    rw [List.map_reverse, List.map_map]
    congr 1
    refine (ri_tag_map _ _ 0 w (by omega) (fun x hx j hj => ?_)).symm
    have := (hl x hx).2
    show (71 - (8 * x + j)) / 8 = 8 - x
    omega
  have b1 : ri_sh 7 (w.map (fun x => 8 - x)).reverse = ri_sh 7 ((ri_tag 0 w).map (fun v => 71 - v)).reverse := by
    rw [b0]
    refine ri_sh_map (g := fun x => x / 8) (fun a b h => Nat.div_le_div_right h) 7 _ ?_
    rw [List.pairwise_reverse, List.pairwise_map]
    refine List.Pairwise.imp_of_mem (fun {a b} ha hb h e => ?_) tp
    have h1 := tm a ha
    have h2 := tm b hb
    have h3 : a / 8 = b / 8 → a < b := h.2
    have h4 := h.1
    have e' : (71 - b) / 8 = (71 - a) / 8 := e
    rcases Nat.lt_or_ge a b with q | q
    · omega
    · omega
  have b2 : ((ri_tag 0 w).map (fun v => 71 - v)).reverse.map (fun v => w.length - 1 - ri_rk (ri_tag 0 w) (71 - v)) = (((ri_tag 0 w).map (ri_rk (ri_tag 0 w))).map (fun x => w.length - 1 - x)).reverse := by
    rw [List.map_reverse, List.map_map, List.map_map]
    congr 1
    refine List.map_congr_left (fun v hv => ?_)
    have := tm v hv
    show w.length - 1 - ri_rk (ri_tag 0 w) (71 - (71 - v)) = w.length - 1 - ri_rk (ri_tag 0 w) v
    rw [show 71 - (71 - v) = v by omega]
  have b3 : ri_sh 7 (((ri_tag 0 w).map (fun v => 71 - v)).reverse.map (fun v => w.length - 1 - ri_rk (ri_tag 0 w) (71 - v))) = ri_sh 7 ((ri_tag 0 w).map (fun v => 71 - v)).reverse := by
    refine ri_sh_map (g := fun v => w.length - 1 - ri_rk (ri_tag 0 w) (71 - v)) (fun a b h => ?_) 7 _ ?_
    · have := ri_rk_mono (ri_tag 0 w) (71 - b) (71 - a) (by omega)
      show w.length - 1 - ri_rk (ri_tag 0 w) (71 - a) ≤ w.length - 1 - ri_rk (ri_tag 0 w) (71 - b)
      omega
    · rw [List.pairwise_reverse, List.pairwise_map]
      refine List.Pairwise.imp_of_mem (fun {a b} ha hb h e => ?_) tp
      have h1 := tm a ha
      have h2 := tm b hb
      have e' : w.length - 1 - ri_rk (ri_tag 0 w) (71 - (71 - b)) = w.length - 1 - ri_rk (ri_tag 0 w) (71 - (71 - a)) := e
      rw [show 71 - (71 - b) = b by omega, show 71 - (71 - a) = a by omega] at e'
      have h3 := ri_rk_len _ ha
      have h4 := ri_rk_len _ hb
      rw [tl] at h3 h4
      exact absurd (ri_rk_inj _ ha hb (by omega)) h.1
  -- the check
  have c := ri_ck_all (w.length - 1) w.length (List.range w.length) [] ((ri_tag 0 w).map (ri_rk (ri_tag 0 w))) (ri_ck_n w.length h7) (by rw [List.length_map, tl])
    (List.pairwise_map.mpr (List.Pairwise.imp_of_mem (fun {a b} ha hb h e => h.1 (ri_rk_inj _ ha hb e)) tp))
    (fun a ha => by
      obtain ⟨v, hv, e⟩ := List.mem_map.mp ha
      rw [← e]
      have := ri_rk_len _ hv
      rw [tl] at this
      exact List.mem_range.mpr this)
  rw [List.append_nil] at c
  have c' := of_decide_eq_true c
  rw [List.reverse_reverse, List.map_reverse, ← b2, b3, a2] at c'
  rw [b1, a1, c']
theorem ri_turn_P (w : List Nat) (hl : ∀ e ∈ w, ri_lt7 e) (h7 : w.length ≤ 7) : (ri_P (w.map (fun x => 8 - x)).reverse).map List.length = (ri_P w).map List.length := by
  unfold ri_P ri_E
  rw [ri_sh_fold, ri_sh_fold, ri_turn_sh w hl h7]
end
section
/-- cells to the right of a cell and, of j rows, below it -/
def ri_hf (L : List Nat) (r c : Nat) : Nat → Nat
  | 0 => L.getD r 0 - c
  | j + 1 => if L.getD (r + 1 + j) 0 ≤ c then ri_hf L r c j else ri_hf L r c j + 1
/-- orders, hooks, cells, over the first i places -/
def ri_ks (L : List Nat) : Nat → Nat × Nat × Nat
  | 0 => (1, 1, 0)
  | i + 1 => if L.getD (i / 7) 0 ≤ i % 7 then ri_ks L i else ((ri_ks L i).1 * ((ri_ks L i).2.2 + 1), (ri_ks L i).2.1 * ri_hf L (i / 7) (i % 7) (6 - i / 7), (ri_ks L i).2.2 + 1)
def ri_rf (L : List Nat) : Nat → Nat
  | 0 => 0
  | i + 1 => ri_rf L i + L.getD i 0
def ri_ff (L : List Nat) (k : Nat) : Nat → Nat
  | 0 => 0
  | i + 1 => if k ≤ L.getD i 0 then ri_ff L k i + k else ri_ff L k i + L.getD i 0
/-- the rows 7 - k .. 6 -/
def ri_sr (f : Nat → Nat) : Nat → Nat
  | 0 => 0
  | k + 1 => f (6 - k) + ri_sr f k
def ri_wr (f : Nat → List (List Nat)) : Nat → List (List Nat)
  | 0 => []
  | k + 1 => f (6 - k) ++ ri_wr f k
theorem ri_wr_range (f : Nat → List (List Nat)) : (List.range 7).flatMap f = ri_wr f 7 := by
  have e : List.range 7 = [0, 1, 2, 3, 4, 5, 6] := rfl
  rw [e]
  simp only [List.flatMap_cons, List.flatMap_nil, ri_wr]
/-- the steps of the search -/
def ri_stp : Nat → List Nat → Nat
  | 0, _ => 1
  | n + 1, L => ri_sr (fun r => 1 + if L.getD (r + 1) 0 < L.getD r 0 then ri_stp n (ri_dec L r) else 0) 7 + 1
def ri_shapes : Nat → Nat → Nat → List (List Nat)
  | 0, _, _ => [[]]
  | k + 1, m, s => (List.range (m + 1)).flatMap (fun a => if a ≤ s then (ri_shapes k a (s - a)).map (fun L => a :: L) else [])
theorem ri_shapes_mem (T : List (List Nat)) (m s : Nat) (hs : ri_ss T) (hm : (T.headD []).length ≤ m) (hz : ri_sz T ≤ s) : T.map List.length ∈ ri_shapes T.length m s := by
  induction T generalizing m s with
  | nil => simp [ri_shapes]
  | cons R T ih =>
    rw [ri_sz_cons] at hz
    have hm' : R.length ≤ m := hm
    rw [List.length_cons, ri_shapes, List.map_cons]
    refine List.mem_flatMap.mpr ⟨R.length, List.mem_range.mpr (by omega), ?_⟩
    rw [if_pos (by omega)]
    exact List.mem_map.mpr ⟨_, ih R.length (s - R.length) hs.2.2 (ri_dom_len hs.2.1) (by omega), rfl⟩
def ri_okS (L : List Nat) : Bool := decide (0 < (ri_ks L 49).2.1 ∧ (ri_ks L 49).1 < 2147483648 ∧ (ri_ks L 49).2.1 < 2147483648 ∧ (ri_ks L 49).1 / (ri_ks L 49).2.1 = ri_cnt L.sum L ∧ 1 ≤ ri_cnt L.sum L ∧ ri_cnt L.sum L ≤ 35 ∧ ri_stp L.sum L < 100000 ∧ L.sum ≤ ri_rf L 1 * ri_ff L 1 7 ∧ ri_rf L 1 * ri_ff L 1 7 < 2147483648)
set_option maxRecDepth 100000 in
theorem ri_okS_all : (ri_shapes 7 7 7).all ri_okS = true := by decide +kernel
theorem ri_okS_T {n : Nat} {T : List (List Nat)} (hg : ri_good n T) (hn : n ≤ 7) : 0 < (ri_ks (T.map List.length) 49).2.1 ∧ (ri_ks (T.map List.length) 49).1 < 2147483648 ∧ (ri_ks (T.map List.length) 49).2.1 < 2147483648 ∧ (ri_ks (T.map List.length) 49).1 / (ri_ks (T.map List.length) 49).2.1 = (ri_lk n T).length ∧ 1 ≤ (ri_lk n T).length ∧ (ri_lk n T).length ≤ 35 ∧ ri_stp n (T.map List.length) < 100000 ∧ n ≤ ri_rf (T.map List.length) 1 * ri_ff (T.map List.length) 1 7 ∧ ri_rf (T.map List.length) 1 * ri_ff (T.map List.length) 1 7 < 2147483648 := by
  obtain ⟨h1, h2, h3, h4⟩ := hg
  have hh : (T.headD []).length ≤ 7 := by
    cases T with
    | nil => simp
    | cons R T =>
      rw [ri_sz_cons] at h3
      show R.length ≤ 7
      omega
  have m := ri_shapes_mem T 7 7 h2 hh (by omega)
  rw [h1] at m
  have k := of_decide_eq_true (List.all_eq_true.mp ri_okS_all _ m)
  have e : (T.map List.length).sum = n := h3
  rw [e] at k
  rw [ri_lk_len, ri_ws_len n T h1]
  exact k
end
section
theorem ri_i7 (w r : Nat) : (7 : Int32) * nI w + nI r = nI (7 * w + r) := by
  rw [show (7 : Int32) = nI 7 from rfl, pk_mul, nI_add]
theorem ri_i49 (w r c : Nat) : (49 : Int32) * nI w + (7 : Int32) * nI r + nI c = nI (49 * w + 7 * r + c) := by
  rw [show (49 : Int32) = nI 49 from rfl, show (7 : Int32) = nI 7 from rfl, pk_mul, pk_mul, nI_add, nI_add]
theorem ri_i49k (w k : Nat) : (49 : Int32) * nI w + nI k = nI (49 * w + k) := by
  rw [show (49 : Int32) = nI 49 from rfl, pk_mul, nI_add]
theorem ri_i8 (c x : Nat) : (8 : Int32) * nI c + nI x = nI (8 * c + x) := by
  rw [show (8 : Int32) = nI 8 from rfl, pk_mul, nI_add]
theorem ri_nb : ∀ v, v < 128 → (nI v).toInt8.toInt32 = nI v := by decide +kernel
theorem ri_nv {v : Nat} (h : v < 128) : vp_nar .byte (nI v) = nI v := by rw [vp_nar_byte, ri_nb v h]
theorem ri_pm (x : Int32) : x + (-1) = x - 1 := by rw [Int32.sub_eq_add_neg]
theorem ri_take {v : List Nat} {i : Nat} (h : i < v.length) : v.take (i + 1) = v.take i ++ [v.getD i 0] := by
  rw [List.take_add_one, List.getD_eq_getElem?_getD, List.getElem?_eq_getElem h]
  rfl
/-- a word in the arrays -/
def ri_mw (a1 a2 : Nat → Int32) (w : Nat) (v : List Nat) : Prop := a1 w = nI v.length ∧ ∀ i, i < v.length → a2 (7 * w + i) = nI (v.getD i 0)
/-- rows in the arrays -/
def ri_ml (b : Nat → Int32) (w : Nat) (L : List Nat) : Prop := ∀ r, r < 7 → b (7 * w + r) = nI (L.getD r 0)
def ri_me (a : Nat → Int32) (w : Nat) (T : List (List Nat)) : Prop := ∀ r, r < 7 → ∀ c, c < (T.getD r []).length → a (49 * w + 7 * r + c) = nI ((T.getD r []).getD c 0)
section
variable {post : Int32 → Prop} {f : Int32} {a1 a2 a3 a4 a5 a6 a7 a8 a9 : Nat → Int32}
theorem ri_badWord {w : Nat} (hw : w < 2) (h : post 0) : wpX_badWord post (f, a1, a2, a3, a4, a5, a6, a7, a8, a9) (nI w) :=
  pk_lt w 0 (fun z => absurd z (by omega)) (fun _ => pk_le w 1 (fun _ => h) (fun z => absurd z (by omega)))
theorem ri_hook {w r c : Nat} {L : List Nat} (hw : w < 2) (hr : r < 7) (hL : ri_ml a4 w L) (hb : ∀ q, L.getD q 0 ≤ 7) (hc : c < L.getD r 0) (h : post (nI (ri_hf L r c (6 - r)))) : wpX_hook post (f, a1, a2, a3, a4, a5, a6, a7, a8, a9) (nI w) (nI r) (nI c) := by
  have hbr := hb r
  refine ⟨pk_in (7 * w + r) 14 (by omega) (ri_i7 w r), ?_⟩
  rw [ri_i7, nI_clamp (by omega), hL r hr, pk_sub (by omega)]
  refine nm_e (nm_r (nI_1 r) ?_)
  refine pk_loop (σ := Int32) (fun n i s => wX_hook_20 post (nI w) (nI c) f a1 a2 a3 a4 a5 a6 a7 a8 a9 n s (nI i)) (fun i s => r + 1 ≤ i ∧ s = nI (ri_hf L r c (i - (r + 1)))) 7 (r + 1) _ (by omega) ⟨Nat.le_refl _, by rw [Nat.sub_self]; rfl⟩ ?_ ?_
  · intro n s hs
    have hs2 : s = nI (ri_hf L r c (7 - (r + 1))) := hs.2
    refine pk_le 7 7 (fun _ => ?_) (fun z => absurd z (by omega))
    rw [hs2, show 7 - (r + 1) = 6 - r by omega]
    exact h
  · intro n i s hi hs hw2
    have hs1 : r + 1 ≤ i := hs.1
    have hs2 : s = nI (ri_hf L r c (i - (r + 1))) := hs.2
    have hbi := hb i
    refine pk_le 7 i (fun z => absurd z (by omega)) (fun _ => ?_)
    rw [ri_i7, nI_clamp (by omega), hL i hi]
    have e : ri_hf L r c (i + 1 - (r + 1)) = if L.getD i 0 ≤ c then ri_hf L r c (i - (r + 1)) else ri_hf L r c (i - (r + 1)) + 1 := by
      rw [show i + 1 - (r + 1) = (i - (r + 1)) + 1 by omega, ri_hf, show r + 1 + (i - (r + 1)) = i by omega]
    refine ⟨pk_in (7 * w + i) 14 (by omega), pk_le (L.getD i 0) c (fun z => nm_r (nI_1 i) (hw2 s ⟨by omega, ?_⟩)) (fun z => nm_r (e' := nI (ri_hf L r c (i - (r + 1)) + 1)) (by rw [hs2]; exact nI_1 _) (nm_r (nI_1 i) (hw2 _ ⟨by omega, ?_⟩)))⟩
    · rw [e, if_pos z]; exact hs2
    · rw [e, if_neg (by omega)]
theorem ri_kin {w : Nat} {L : List Nat} (hw : w < 2) (hL : ri_ml a4 w L) (hb : ∀ q, L.getD q 0 ≤ 7) (h1 : 0 < (ri_ks L 49).2.1) (h2 : (ri_ks L 49).1 < 2147483648) (h3 : (ri_ks L 49).2.1 < 2147483648) (h : post (nI ((ri_ks L 49).1 / (ri_ks L 49).2.1))) : wpX_kin post (f, a1, a2, a3, a4, a5, a6, a7, a8, a9) (nI w) := by
  unfold wpX_kin
  refine ri_badWord hw (br_t rfl ?_)
  refine pk_loop (σ := Int32 × Int32 × Int32) (fun n i s => wX_kin_20 post (nI w) f a1 a2 a3 a4 a5 a6 a7 a8 a9 n s.1 s.2.1 s.2.2 (nI i)) (fun i s => s = (nI (ri_ks L i).1, nI (ri_ks L i).2.1, nI (ri_ks L i).2.2)) 49 0 (1, 1, 0) (by omega) rfl ?_ ?_
  · intro n s hs
    have hs2 : s = (nI (ri_ks L 49).1, nI (ri_ks L 49).2.1, nI (ri_ks L 49).2.2) := hs
    subst hs2
    refine pk_le 49 49 (fun _ => ?_) (fun z => absurd z (by omega))
    refine pk_le (ri_ks L 49).2.1 0 (fun z => absurd z (by omega)) (fun _ => ⟨nI_ne0 h1 h3, ?_⟩)
    show post (nI (ri_ks L 49).1 / nI (ri_ks L 49).2.1)
    rw [pk_div h2 h1 h3]
    exact h
  · intro n i s hi hs hw2
    have hs2 : s = (nI (ri_ks L i).1, nI (ri_ks L i).2.1, nI (ri_ks L i).2.2) := hs
    subst hs2
    have hw3 : wX_kin_20 post (nI w) f a1 a2 a3 a4 a5 a6 a7 a8 a9 n (nI (ri_ks L (i + 1)).1) (nI (ri_ks L (i + 1)).2.1) (nI (ri_ks L (i + 1)).2.2) (nI (i + 1)) := hw2 _ rfl
    show wX_kin_20 post (nI w) f a1 a2 a3 a4 a5 a6 a7 a8 a9 (n + 1) (nI (ri_ks L i).1) (nI (ri_ks L i).2.1) (nI (ri_ks L i).2.2) (nI i)
    have hbi := hb (i / 7)
    refine pk_le 49 i (fun z => absurd z (by omega)) (fun _ => ⟨by decide, nm_r (e' := nI (i / 7)) (pk_div (d := 7) (by omega) (by omega) (by omega)) ⟨by decide, nm_r (e' := nI (i % 7)) (pk_rem (d := 7) (by omega) (by omega) (by omega)) ?_⟩⟩)
    rw [ri_i7, nI_clamp (by omega), hL (i / 7) (by omega)]
    refine ⟨pk_in (7 * w + i / 7) 14 (by omega), pk_le (L.getD (i / 7) 0) (i % 7) (fun z => nm_r (nI_1 i) ?_) (fun z => nm_r (nI_1 _) (nm_r (pk_mul _ _) (ri_hook hw (by omega) hL hb z (nm_r (pk_mul _ _) (nm_r (nI_1 i) ?_)))))⟩
    · rw [ri_ks, if_pos z] at hw3
      exact hw3
    · rw [ri_ks, if_neg (by omega)] at hw3
      exact hw3
theorem ri_codeW {w : Nat} {v : List Nat} (hw : w < 2) (hm : ri_mw a1 a2 w v) (h7 : v.length ≤ 7) (h : post (nI (ri_code v))) : wpX_code post (f, a1, a2, a3, a4, a5, a6, a7, a8, a9) (nI w) := by
  unfold wpX_code
  refine ri_badWord hw (br_t rfl ?_)
  refine pk_loop (σ := Int32) (fun n i s => wX_code_14 post (nI w) f a1 a2 a3 a4 a5 a6 a7 a8 a9 n s (nI i)) (fun i s => s = nI (ri_code (v.take i))) v.length 0 0 (by omega) rfl ?_ ?_
  · intro n s hs
    have hs2 : s = nI (ri_code (v.take v.length)) := hs
    rw [List.take_length] at hs2
    subst hs2
    refine ⟨pk_in w 2 hw, ?_⟩
    rw [nI_clamp (by omega), hm.1]
    exact pk_le v.length v.length (fun _ => h) (fun z => absurd z (by omega))
  · intro n i s hi hs hw2
    have hs2 : s = nI (ri_code (v.take i)) := hs
    subst hs2
    refine ⟨pk_in w 2 hw, ?_⟩
    rw [nI_clamp (by omega), hm.1]
    refine pk_le v.length i (fun z => absurd z (by omega)) (fun _ => ?_)
    rw [ri_i7, nI_clamp (by omega), hm.2 i hi]
    refine ⟨pk_in (7 * w + i) 14 (by omega), nm_r (ri_i8 _ _) (nm_r (nI_1 i) (hw2 _ ?_))⟩
    show nI _ = nI _
    rw [ri_take hi, ri_code_app]
theorem ri_rising {w k : Nat} {L : List Nat} (hw : w < 2) (hk : k ≤ 3) (hL : ri_ml a4 w L) (h : post (nI (ri_rf L k))) : wpX_rising post (f, a1, a2, a3, a4, a5, a6, a7, a8, a9) (nI w) (nI k) := by
  unfold wpX_rising
  refine ri_badWord hw (br_t rfl ?_)
  refine pk_lt k 0 (fun z => absurd z (by omega)) (fun _ => pk_le k 3 (fun _ => ?_) (fun z => absurd z (by omega)))
  refine pk_loop (σ := Int32) (fun n i s => wX_rising_24 post (nI w) (nI k) f a1 a2 a3 a4 a5 a6 a7 a8 a9 n s (nI i)) (fun i s => s = nI (ri_rf L i)) k 0 0 (by omega) rfl ?_ ?_
  · intro n s hs
    have hs2 : s = nI (ri_rf L k) := hs
    subst hs2
    exact pk_le k k (fun _ => h) (fun z => absurd z (by omega))
  · intro n i s hi hs hw2
    have hs2 : s = nI (ri_rf L i) := hs
    subst hs2
    refine pk_le k i (fun z => absurd z (by omega)) (fun _ => ?_)
    rw [ri_i7, nI_clamp (by omega), hL i (by omega)]
    exact ⟨pk_in (7 * w + i) 14 (by omega), nm_r (nI_add _ _) (nm_r (nI_1 i) (hw2 _ rfl))⟩
theorem ri_falling {w k : Nat} {L : List Nat} (hw : w < 2) (hk : k ≤ 3) (hL : ri_ml a4 w L) (hb : ∀ q, L.getD q 0 ≤ 7) (h : post (nI (ri_ff L k 7))) : wpX_falling post (f, a1, a2, a3, a4, a5, a6, a7, a8, a9) (nI w) (nI k) := by
  unfold wpX_falling
  refine ri_badWord hw (br_t rfl ?_)
  refine pk_lt k 0 (fun z => absurd z (by omega)) (fun _ => pk_le k 3 (fun _ => ?_) (fun z => absurd z (by omega)))
  refine pk_loop (σ := Int32) (fun n i s => wX_falling_24 post (nI w) (nI k) f a1 a2 a3 a4 a5 a6 a7 a8 a9 n s (nI i)) (fun i s => s = nI (ri_ff L k i)) 7 0 0 (by omega) rfl ?_ ?_
  · intro n s hs
    have hs2 : s = nI (ri_ff L k 7) := hs
    subst hs2
    exact pk_le 7 7 (fun _ => h) (fun z => absurd z (by omega))
  · intro n i s hi hs hw2
    have hs2 : s = nI (ri_ff L k i) := hs
    subst hs2
    have hbi := hb i
    refine pk_le 7 i (fun z => absurd z (by omega)) (fun _ => ?_)
    rw [ri_i7, nI_clamp (by omega), hL i (by omega)]
    refine ⟨pk_in (7 * w + i) 14 (by omega), nm_e (pk_le k (L.getD i 0) (fun z => nm_r (nI_add _ _) (nm_r (nI_1 i) (hw2 _ ?_))) (fun z => nm_r (nI_add _ _) (nm_r (nI_1 i) (hw2 _ ?_))))⟩
    · show nI _ = nI _
      rw [ri_ff, if_pos z]
    · show nI _ = nI _
      rw [ri_ff, if_neg (by omega)]
theorem ri_letter {w i : Nat} {v : List Nat} (hw : w < 2) (hi : i < 7) (hm : ri_mw a1 a2 w v) (h7 : v.length ≤ 7) (h1 : i < v.length → post (nI (v.getD i 0))) (h2 : v.length ≤ i → post (-4)) : wpX_letter post (f, a1, a2, a3, a4, a5, a6, a7, a8, a9) (nI w) (nI i) := by
  unfold wpX_letter
  refine ri_badWord hw (br_t rfl ?_)
  refine pk_lt i 0 (fun z => absurd z (by omega)) (fun _ => ⟨pk_in w 2 hw, ?_⟩)
  rw [nI_clamp (by omega), hm.1]
  refine pk_lt i v.length (fun z => ⟨pk_in (7 * w + i) 14 (by omega) (ri_i7 w i), ?_⟩) (fun z => h2 z)
  rw [ri_i7, nI_clamp (by omega), hm.2 i z]
  exact h1 z
theorem ri_isCorner {l r : Nat} {T : List (List Nat)} (hl : l < 8) (hr : r < 7) (h7 : T.length = 7) (hm : ri_ml a6 l (T.map List.length)) (hb : ∀ q, (T.getD q []).length ≤ 7) (h1 : ri_cor T r → post 1) (h0 : ¬ ri_cor T r → post 0) : wpX_isCorner post (f, a1, a2, a3, a4, a5, a6, a7, a8, a9) (nI l) (nI r) := by
  have e1 := hm r hr
  rw [ri_map_get] at e1
  have b1 := hb r
  have b2 := hb (r + 1)
  refine ⟨pk_in (7 * l + r) 56 (by omega) (ri_i7 l r), ?_⟩
  rw [ri_i7, nI_clamp (by omega), e1]
  refine nm_e (pk_le 7 (r + 1) (fun z => ?_) (fun z => ?_) rfl (nI_1 r))
  · have e2 : (T.getD (r + 1) []).length = 0 := by
      rw [List.getD_eq_getElem?_getD, List.getElem?_eq_none (by omega)]
      rfl
    refine pk_le (T.getD r []).length 0 (fun q => h0 ?_) (fun q => h1 ?_)
    · intro k
      unfold ri_cor at k
      omega
    · unfold ri_cor
      omega
  · have e2 := hm (r + 1) (by omega)
    rw [ri_map_get] at e2
    rw [nI_1, nI_clamp (by omega), show 7 * l + r + 1 = 7 * l + (r + 1) by omega, e2]
    refine ⟨pk_in (7 * l + (r + 1)) 56 (by omega), pk_le (T.getD r []).length (T.getD (r + 1) []).length (fun q => h0 ?_) (fun q => h1 q)⟩
    intro k
    unfold ri_cor at k
    omega
end
end
section
theorem ri_in {n N : Nat} (h : n < N) (hN : N < 2 ^ 31 := by omega) : vp_in (nI n) N := vp_in_nI h hN
theorem ri_fill {g s : Nat → Int32} {b i : Nat} {x : Int32} (h : ∀ k, k < i → s (b + k) = g k) (hx : x = g i) : ∀ k, k < i + 1 → upd s (b + i) x (b + k) = g k := by
  intro k hk
  by_cases e : k = i
  · rw [e, pk_us, hx]
  · rw [pk_un (by omega)]
    exact h k (by omega)
theorem ri_getD_set (T : List (List Nat)) (k q : Nat) (R : List Nat) (hk : k < T.length) : (T.set k R).getD q [] = if q = k then R else T.getD q [] := by
  rw [List.getD_eq_getElem?_getD, List.getD_eq_getElem?_getD, List.getElem?_set]
  by_cases e : q = k
  · rw [if_pos e, if_pos e.symm, if_pos (by omega)]
    rfl
  · rw [if_neg e, if_neg (fun z => e z.symm)]
theorem ri_getD_sn (R : List Nat) (k q x : Nat) (hk : k < R.length) : (R.set k x).getD q 0 = if q = k then x else R.getD q 0 := by
  rw [List.getD_eq_getElem?_getD, List.getD_eq_getElem?_getD, List.getElem?_set]
  by_cases e : q = k
  · rw [if_pos e, if_pos e.symm, if_pos (by omega)]
    rfl
  · rw [if_neg e, if_neg (fun z => e z.symm)]
theorem ri_getD_dl (R : List Nat) (c : Nat) (h : c + 1 < R.length) : R.dropLast.getD c 0 = R.getD c 0 := by
  rw [List.getD_eq_getElem?_getD, List.getD_eq_getElem?_getD, List.getElem?_dropLast, if_pos (by omega)]
theorem ri_srt_get {L : List Nat} (hs : L.Pairwise (· ≤ ·)) {j i : Nat} (h : j ≤ i) (hi : i < L.length) : L.getD j 0 ≤ L.getD i 0 := by
  induction L generalizing i j with
  | nil => simp at hi
  | cons a L ih =>
    have hs' := List.pairwise_cons.mp hs
    cases i with
    | zero =>
      have : j = 0 := by omega
      rw [this]
      exact Nat.le_refl _
    | succ i =>
      have hi' : i < L.length := by simpa using hi
      cases j with
      | zero =>
        refine hs'.1 _ ?_
        show L.getD i 0 ∈ L
        rw [List.getD_eq_getElem?_getD, List.getElem?_eq_getElem hi']
        exact List.getElem_mem hi'
      | succ j => exact ih hs'.2 (by omega) hi'
theorem ri_del_at {x : Nat} {R : List Nat} (hs : R.Pairwise (· ≤ ·)) {c : Nat} (hc : c < R.length) (h1 : c = 0 ∨ R.getD c 0 < x) (h2 : ∀ j, c < j → j < R.length → x ≤ R.getD j 0) : ri_del x R = (R.set c x, R.getD c 0) := by
  induction R generalizing c with
  | nil => simp at hc
  | cons a R ih =>
    have hs' := List.pairwise_cons.mp hs
    cases R with
    | nil =>
      have : c = 0 := by simpa using hc
      rw [this, ri_del_one]
      rfl
    | cons b R =>
      cases c with
      | zero =>
        have k : x ≤ b := h2 1 (by omega) (by simp)
        rw [ri_del_ge R k]
        rfl
      | succ c =>
        have hc' : c < (b :: R).length := by simpa using hc
        have k1 : (b :: R).getD c 0 < x := by
          rcases h1 with q | q
          · omega
          · exact q
        have k2 : b ≤ (b :: R).getD c 0 := ri_srt_get hs'.2 (Nat.zero_le c) hc'
        rw [ri_del_lt R (by omega), ih hs'.2 hc' (Or.inr k1) (fun j hj hl => h2 (j + 1) (by omega) (by simp only [List.length_cons] at hl ⊢; omega))]
        rfl
theorem ri_ss_mono {T : List (List Nat)} (h : ri_ss T) {q r : Nat} (hq : q ≤ r) : (T.getD r []).length ≤ (T.getD q []).length := by
  induction T generalizing q r with
  | nil => simp
  | cons R T ih =>
    cases r with
    | zero =>
      have : q = 0 := by omega
      rw [this]
      exact Nat.le_refl _
    | succ r =>
      cases q with
      | succ q => exact ih h.2.2 (by omega)
      | zero =>
        have k1 := ri_dom_len h.2.1
        have k2 := ih h.2.2 (Nat.zero_le r)
        rw [ri_headD] at k2
        show (T.getD r []).length ≤ R.length
        omega
theorem ri_get_mem {T : List (List Nat)} {q : Nat} (h : q < T.length) : T.getD q [] ∈ T := by
  rw [List.getD_eq_getElem?_getD, List.getElem?_eq_getElem h]
  exact List.getElem_mem h
theorem ri_get_memN {R : List Nat} {q : Nat} (h : q < R.length) : R.getD q 0 ∈ R := by
  rw [List.getD_eq_getElem?_getD, List.getElem?_eq_getElem h]
  exact List.getElem_mem h
theorem ri_get_out {T : List (List Nat)} {q : Nat} (h : T.length ≤ q) : T.getD q [] = [] := by
  rw [List.getD_eq_getElem?_getD, List.getElem?_eq_none h]
  rfl
theorem ri_get_outN {R : List Nat} {q : Nat} (h : R.length ≤ q) : R.getD q 0 = 0 := by
  rw [List.getD_eq_getElem?_getD, List.getElem?_eq_none h]
  rfl
/-- plain facts of good rows -/
def ri_pt (T : List (List Nat)) : Prop := T.length = 7 ∧ (∀ q, (T.getD q []).length ≤ 7) ∧ ∀ q c, c < (T.getD q []).length → ri_lt7 ((T.getD q []).getD c 0)
theorem ri_good_pt {n : Nat} {T : List (List Nat)} (hg : ri_good n T) (hn : n ≤ 7) : ri_pt T := by
  obtain ⟨h1, h2, h3, h4⟩ := hg
  refine ⟨h1, fun q => ?_, fun q c hc => ?_⟩
  · rcases Nat.lt_or_ge q T.length with k | k
    · have := ri_sz_mem (ri_get_mem k)
      omega
    · rw [ri_get_out k]
      exact Nat.zero_le _
  · rcases Nat.lt_or_ge q T.length with k | k
    · exact h4 _ (ri_get_mem k) _ (ri_get_memN hc)
    · rw [ri_get_out k] at hc
      simp at hc
theorem ri_pt_ent {T : List (List Nat)} (h : ri_pt T) (q c : Nat) : (T.getD q []).getD c 0 ≤ 7 := by
  rcases Nat.lt_or_ge c (T.getD q []).length with k | k
  · exact (h.2.2 q c k).2
  · rw [ri_get_outN k]
    exact Nat.zero_le _
theorem ri_me_put {a : Nat → Int32} {l r c x : Nat} {T : List (List Nat)} (hp : ri_pt T) (h : ri_me a l T) (hr : r < 7) (hc : c < (T.getD r []).length) : ri_me (upd a (49 * l + 7 * r + c) (nI x)) l (T.set r ((T.getD r []).set c x)) := by
  obtain ⟨h1, h2, h3⟩ := hp
  intro q hq d hd
  have hl := h2 q
  have hl2 := h2 r
  rw [ri_getD_set _ _ _ _ (by omega)] at hd ⊢
  by_cases e : q = r
  · rw [if_pos e] at hd ⊢
    rw [List.length_set] at hd
    rw [ri_getD_sn _ _ _ _ hc]
    by_cases e2 : d = c
    · rw [if_pos e2, e, e2, pk_us]
    · rw [if_neg e2, pk_un (by omega), e]
      exact h r hr d hd
  · rw [if_neg e] at hd ⊢
    rw [pk_un (by omega)]
    exact h q hq d hd
theorem ri_pt_put {r c x : Nat} {T : List (List Nat)} (hp : ri_pt T) (hr : r < 7) (hc : c < (T.getD r []).length) (hx : ri_lt7 x) : ri_pt (T.set r ((T.getD r []).set c x)) := by
  obtain ⟨h1, h2, h3⟩ := hp
  refine ⟨by rw [List.length_set, h1], fun q => ?_, fun q d hd => ?_⟩
  · rw [ri_getD_set _ _ _ _ (by omega)]
    by_cases e : q = r
    · rw [if_pos e, List.length_set]; exact h2 r
    · rw [if_neg e]; exact h2 q
  · rw [ri_getD_set _ _ _ _ (by omega)] at hd ⊢
    by_cases e : q = r
    · rw [if_pos e] at hd ⊢
      rw [List.length_set] at hd
      rw [ri_getD_sn _ _ _ _ hc]
      by_cases e2 : d = c
      · rw [if_pos e2]; exact hx
      · rw [if_neg e2]; exact h3 r d hd
    · rw [if_neg e] at hd ⊢
      exact h3 q d hd
theorem ri_ml_put {b : Nat → Int32} {l r c x : Nat} {T : List (List Nat)} (hr : r < T.length) (h : ri_ml b l (T.map List.length)) : ri_ml b l ((T.set r ((T.getD r []).set c x)).map List.length) := by
  intro q hq
  have := h q hq
  rw [ri_map_get] at this ⊢
  rw [this, ri_getD_set _ _ _ _ hr]
  by_cases e : q = r
  · rw [if_pos e, List.length_set, e]
  · rw [if_neg e]
section
variable {post : St1 → Prop} {f : Int32} {a1 a2 a3 a4 a5 a6 a7 a8 a9 : Nat → Int32}
theorem ri_startLevels {w n : Nat} (hw : w < 2) (hn : n ≤ 7) (h1 : a1 w = nI n) (H : ∀ a5' a6' : Nat → Int32, (∀ k, k < 49 → a5' (49 * n + k) = vp_nar .byte (a3 (49 * w + k))) → (∀ r, r < 7 → a6' (7 * n + r) = vp_nar .byte (a4 (7 * w + r))) → post (0, a1, a2, a3, a4, a5', a6', upd a7 n 0, a8, a9)) : wpX_startLevels post (f, a1, a2, a3, a4, a5, a6, a7, a8, a9) (nI w) := by
  refine ⟨pk_in w 2 hw, ?_⟩
  rw [nI_clamp (by omega), h1]
  refine nm_e ?_
  refine pk_loop (fun k i s => wX_startLevels_9 post (nI w) (nI n) f k (nI i) a1 a2 a3 a4 s a6 a7 a8 a9) (fun i s => ∀ k, k < i → s (49 * n + k) = vp_nar .byte (a3 (49 * w + k))) 49 0 a5 (by omega) (fun k hk => absurd hk (by omega)) ?_ ?_
  · intro m s hs
    refine pk_le 49 49 (fun _ => ?_) (fun z => absurd z (by omega))
    refine pk_loop (fun k i t => wX_startLevels_45 post (nI w) (nI n) f k (nI i) a1 a2 a3 a4 s t a7 a8 a9) (fun i t => ∀ r, r < i → t (7 * n + r) = vp_nar .byte (a4 (7 * w + r))) 7 0 a6 (by omega) (fun k hk => absurd hk (by omega)) ?_ ?_
    · intro m t ht
      refine pk_le 7 7 (fun _ => ⟨pk_in n 8 (by omega), ?_⟩) (fun z => absurd z (by omega))
      rw [nI_clamp (by omega)]
      exact nm_e (H s t hs ht)
    · intro m i t hi ht hw2
      refine pk_le 7 i (fun z => absurd z (by omega)) (fun _ => ?_)
      rw [ri_i7 w i, ri_i7 n i, nI_clamp (show 7 * w + i < 2 ^ 31 by omega), nI_clamp (show 7 * n + i < 2 ^ 31 by omega)]
      exact ⟨ri_in (by omega), ri_in (by omega), nm_e (nm_r (nI_1 i) (hw2 _ (ri_fill (g := fun r => vp_nar .byte (a4 (7 * w + r))) ht rfl)))⟩
  · intro m i s hi hs hw2
    refine pk_le 49 i (fun z => absurd z (by omega)) (fun _ => ?_)
    rw [ri_i49k w i, ri_i49k n i, nI_clamp (show 49 * w + i < 2 ^ 31 by omega), nI_clamp (show 49 * n + i < 2 ^ 31 by omega)]
    exact ⟨ri_in (by omega), ri_in (by omega), nm_e (nm_r (nI_1 i) (hw2 _ (ri_fill (g := fun k => vp_nar .byte (a3 (49 * w + k))) hs rfl)))⟩
theorem ri_lastBelow {post : Int32 → Prop} {l r x : Nat} {R : List Nat} (hl : l < 8) (hr : r < 7) (hx : x ≤ 7) (h6 : a6 (7 * l + r) = nI R.length) (h5 : ∀ c, c < R.length → a5 (49 * l + 7 * r + c) = nI (R.getD c 0)) (hs : R.Pairwise (· ≤ ·)) (hb : ∀ c, R.getD c 0 ≤ 7) (h0 : 0 < R.length) (h7 : R.length ≤ 7) (h : ∀ c, c < R.length → ri_del x R = (R.set c x, R.getD c 0) → post (nI c)) : wpX_lastBelow post (f, a1, a2, a3, a4, a5, a6, a7, a8, a9) (nI l) (nI r) (nI x) := by
  refine ⟨pk_in (7 * l + r) 56 (by omega) (ri_i7 l r), ?_⟩
  rw [ri_i7, nI_clamp (by omega), h6]
  obtain ⟨m, hm⟩ : ∃ m, R.length = m + 1 := ⟨R.length - 1, by omega⟩
  refine nm_r (e' := nI m) (by rw [hm]; exact nI_pred m) ⟨m + 1, ?_⟩
  refine pk_loopD (σ := Unit) (fun n i _ => wX_lastBelow_15 post (nI l) (nI r) (nI x) f a1 a2 a3 a4 a5 a6 a7 a8 a9 n (nI i)) (fun i _ => i < R.length ∧ ∀ j, i < j → j < R.length → x ≤ R.getD j 0) ?_ ?_ m () ⟨by omega, fun j h1 h2 => absurd h1 (by omega)⟩
  · intro n _ hi
    exact pk_le 0 0 (fun _ => h 0 h0 (ri_del_at hs h0 (Or.inl rfl) hi.2)) (fun z => absurd z (by omega))
  · intro n i _ hi hw
    have hi1 : i + 1 < R.length := hi.1
    have hi2 : ∀ j, i + 1 < j → j < R.length → x ≤ R.getD j 0 := hi.2
    have hbi := hb (i + 1)
    refine pk_le (i + 1) 0 (fun z => absurd z (by omega)) (fun _ => ?_)
    rw [ri_i49, nI_clamp (by omega), h5 (i + 1) hi1]
    refine ⟨ri_in (by omega), pk_lt (R.getD (i + 1) 0) x (fun z => h (i + 1) hi1 (ri_del_at hs hi1 (Or.inr z) hi2)) (fun z => nm_r (pk_m1 i) (hw () ⟨by omega, fun j hj1 hj2 => ?_⟩))⟩
    by_cases e : j = i + 1
    · rw [e]; exact z
    · exact hi2 j (by omega) hj2
theorem ri_takeOff_133 {l : Nat} (hl : l < 7) (k : Nat) : ∀ (T : List (List Nat)) (x : Nat) (a5 : Nat → Int32), k < 7 → ri_pt T → ri_lt7 x → ri_ml a6 l (T.map List.length) → ri_me a5 l T → (∀ q, q < k → (T.getD q []).Pairwise (· ≤ ·) ∧ 0 < (T.getD q []).length) →
    (∀ a5' : Nat → Int32, ri_me a5' l (ri_up k x T).1 → (∀ j, 49 * (l + 1) ≤ j → a5' j = a5 j) → post (f, a1, a2, a3, a4, a5', a6, upd a7 l 0, upd a8 l (nI (ri_up k x T).2), a9)) →
    wX_takeOff_133 post (nI l) f (k + 1) (nI x) (nI k - 1) a1 a2 a3 a4 a5 a6 a7 a8 a9 := by
  induction k with
  | zero =>
    intro T x a5 hk hp hx hml hme hq H
    have hx2 := hx.2
    refine br_t (by decide) ?_
    rw [nI_clamp (by omega), ri_nb x (by omega)]
    exact ⟨pk_in l 8 (by omega), nm_e ⟨pk_in l 8 (by omega), nm_e (H a5 hme (fun j _ => rfl))⟩⟩
  | succ k ih =>
    intro T x a5 hk hp hx hml hme hq H
    have hx2 := hx.2
    rw [nI_pred]
    have h6 := hml k (by omega)
    rw [ri_map_get] at h6
    refine br_f (nI_pos (by omega)) (ri_lastBelow (by omega) (by omega) hx2 h6 (hme k (by omega)) (hq k (by omega)).1 (ri_pt_ent hp k) (hq k (by omega)).2 (hp.2.1 k) (fun c hc hdel => ?_))
    have hc7 := hp.2.1 k
    refine nm_r (ri_i49 l k c) ?_
    rw [nI_clamp (by omega), ri_nb x (by omega), hme k (by omega) c hc]
    refine ⟨ri_in (by omega), nm_e ⟨ri_in (by omega), nm_e (nm_r (ri_pm _) ?_)⟩⟩
    have e : ri_up (k + 1) x T = ri_up k ((T.getD k []).getD c 0) (T.set k ((T.getD k []).set c x)) := by
      rw [ri_up, hdel]
    rw [e] at H
    have hlen := hp.1
    refine ih _ _ _ (by omega) (ri_pt_put hp (by omega) hc hx) (hp.2.2 k c hc) (ri_ml_put (by omega) hml) (ri_me_put hp hme (by omega) hc) (fun q hqk => ?_) (fun a5' m1 m2 => H a5' m1 (fun j hj => ?_))
    · rw [ri_getD_set _ _ _ _ (by omega), if_neg (by omega)]
      exact hq q (by omega)
    · rw [m2 j hj, pk_un (by omega)]
theorem ri_takeOff {l r : Nat} {T : List (List Nat)} (hl : l < 7) (hr : r < 7) (hg : ri_good (l + 1) T) (hc : ri_cor T r) (hml : ri_ml a6 (l + 1) (T.map List.length)) (hme : ri_me a5 (l + 1) T)
    (H : ∀ a5' a6' : Nat → Int32, ri_ml a6' l ((ri_off T r).1.map List.length) → ri_me a5' l (ri_off T r).1 → (∀ j, 49 * (l + 1) ≤ j → a5' j = a5 j) → (∀ j, 7 * (l + 1) ≤ j → a6' j = a6 j) → post (f, a1, a2, a3, a4, a5', a6', upd a7 l 0, upd a8 l (nI (ri_off T r).2), a9)) : wpX_takeOff post (f, a1, a2, a3, a4, a5, a6, a7, a8, a9) (nI (l + 1)) (nI r) := by
  have hp := ri_good_pt hg (by omega)
  have hlen := hp.1
  refine nm_r (nI_pred l) ?_
  refine pk_loop (fun k i s => wX_takeOff_7 post (nI (l + 1)) (nI r) (nI l) f k (nI i) a1 a2 a3 a4 s a6 a7 a8 a9) (fun i s => (∀ j, 49 * (l + 1) ≤ j → s j = a5 j) ∧ ∀ k, k < i → s (49 * l + k) = vp_nar .byte (a5 (49 * (l + 1) + k))) 49 0 a5 (by omega) ⟨fun j _ => rfl, fun k hk => absurd hk (by omega)⟩ ?_ ?_
  · intro m s hs
    have hs1 : ∀ j, 49 * (l + 1) ≤ j → s j = a5 j := hs.1
    have hs2 : ∀ k, k < 49 → s (49 * l + k) = vp_nar .byte (a5 (49 * (l + 1) + k)) := hs.2
    refine pk_le 49 49 (fun _ => ?_) (fun z => absurd z (by omega))
    refine pk_loop (fun k i t => wX_takeOff_47 post (nI (l + 1)) (nI r) (nI l) f k (nI i) a1 a2 a3 a4 s t a7 a8 a9) (fun i t => (∀ j, 7 * (l + 1) ≤ j → t j = a6 j) ∧ ∀ k, k < i → t (7 * l + k) = vp_nar .byte (a6 (7 * (l + 1) + k))) 7 0 a6 (by omega) ⟨fun j _ => rfl, fun k hk => absurd hk (by omega)⟩ ?_ ?_
    · intro m t ht
      have ht1 : ∀ j, 7 * (l + 1) ≤ j → t j = a6 j := ht.1
      have ht2 : ∀ k, k < 7 → t (7 * l + k) = nI (T.getD k []).length := by
        intro k hk
        have := ht.2 k hk
        rw [this, hml k hk, ri_map_get]
        have := hp.2.1 k
        exact ri_nv (by omega)
      obtain ⟨m', hm⟩ : ∃ m', (T.getD r []).length = m' + 1 := ⟨(T.getD r []).length - 1, by unfold ri_cor at hc; omega⟩
      have hm7 := hp.2.1 r
      have etr : t (7 * l + r) = nI (m' + 1) := by rw [ht2 r hr, hm]
      refine pk_le 7 7 (fun _ => ?_) (fun z => absurd z (by omega))
      rw [ri_i7, nI_clamp (by omega), etr, nI_pred, ri_nb m' (by omega)]
      refine ⟨ri_in (by omega), ri_in (by omega), nm_e ⟨ri_in (by omega), ?_⟩⟩
      rw [pk_us, ri_i49, nI_clamp (by omega), hs1 _ (by omega), hme r hr m' (by omega)]
      refine ⟨ri_in (by omega), nm_e (nm_e ⟨r + 1, ?_⟩)⟩
      have elast : (T.getD r []).getD m' 0 = ri_last (T.getD r []) := by
        rw [ri_last_get, hm]
        rfl
      rw [elast]
      have hsl : ∀ q c, q < 7 → c < (T.getD q []).length → s (49 * l + 7 * q + c) = nI ((T.getD q []).getD c 0) := by
        intro q c hq hcq
        have h7 := hp.2.1 q
        have := hs2 (7 * q + c) (by omega)
        rw [show 49 * l + 7 * q + c = 49 * l + (7 * q + c) by omega, this, show 49 * (l + 1) + (7 * q + c) = 49 * (l + 1) + 7 * q + c by omega, hme q hq c hcq]
        have := ri_pt_ent hp q c
        exact ri_nv (by omega)
      refine ri_takeOff_133 hl r (T.set r (T.getD r []).dropLast) (ri_last (T.getD r [])) s hr ?_ ?_ ?_ ?_ ?_ ?_
      · refine ⟨by rw [List.length_set, hlen], fun q => ?_, fun q c hcq => ?_⟩
        · rw [ri_getD_set _ _ _ _ (by omega)]
          by_cases e : q = r
          · rw [if_pos e, List.length_dropLast]
            omega
          · rw [if_neg e]; exact hp.2.1 q
        · rw [ri_getD_set _ _ _ _ (by omega)] at hcq ⊢
          by_cases e : q = r
          · rw [if_pos e] at hcq ⊢
            rw [List.length_dropLast] at hcq
            rw [ri_getD_dl _ _ (by omega)]
            exact hp.2.2 r c (by omega)
          · rw [if_neg e] at hcq ⊢
            exact hp.2.2 q c hcq
      · rw [← elast]
        exact hp.2.2 r m' (by omega)
      · intro q hq
        rw [ri_map_get, ri_getD_set _ _ _ _ (by omega)]
        by_cases e : q = r
        · rw [if_pos e, e, pk_us, List.length_dropLast, hm]
          rfl
        · rw [if_neg e, pk_un (by omega)]
          exact ht2 q hq
      · intro q hq c hcq
        rw [ri_getD_set _ _ _ _ (by omega)] at hcq ⊢
        by_cases e : q = r
        · rw [if_pos e] at hcq ⊢
          rw [List.length_dropLast] at hcq
          rw [ri_getD_dl _ _ (by omega), e]
          exact hsl r c hr (by omega)
        · rw [if_neg e] at hcq ⊢
          exact hsl q c hq hcq
      · intro q hq
        rw [ri_getD_set _ _ _ _ (by omega), if_neg (by omega)]
        refine ⟨ri_ss_srt hg.2.1 _ (ri_get_mem (by omega)), ?_⟩
        have := ri_ss_mono hg.2.1 (Nat.le_of_lt hq)
        omega
      · intro a5' m1 m2
        refine H a5' _ ?_ m1 (fun j hj => by rw [m2 j hj, hs1 j hj]) (fun j hj => by rw [pk_un (by omega), ht1 j hj])
        intro q hq
        rw [ri_off_shape T r (by omega), ri_dec_get]
        by_cases e : q = r
        · rw [if_pos e, e, pk_us, ri_map_get, hm]
          rfl
        · rw [if_neg e, pk_un (by omega), ri_map_get]
          exact ht2 q hq
    · intro m i t hi ht hw2
      have ht1 : ∀ j, 7 * (l + 1) ≤ j → t j = a6 j := ht.1
      have ht2 : ∀ k, k < i → t (7 * l + k) = vp_nar .byte (a6 (7 * (l + 1) + k)) := ht.2
      refine pk_le 7 i (fun z => absurd z (by omega)) (fun _ => ?_)
      rw [ri_i7 (l + 1) i, ri_i7 l i, nI_clamp (show 7 * (l + 1) + i < 2 ^ 31 by omega), nI_clamp (show 7 * l + i < 2 ^ 31 by omega), ht1 (7 * (l + 1) + i) (by omega)]
      refine ⟨ri_in (by omega), ri_in (by omega), nm_e (nm_r (nI_1 i) (hw2 _ ⟨fun j hj => ?_, ri_fill (g := fun k => vp_nar .byte (a6 (7 * (l + 1) + k))) ht2 rfl⟩))⟩
      rw [pk_un (by omega)]
      exact ht1 j hj
  · intro m i s hi hs hw2
    have hs1 : ∀ j, 49 * (l + 1) ≤ j → s j = a5 j := hs.1
    have hs2 : ∀ k, k < i → s (49 * l + k) = vp_nar .byte (a5 (49 * (l + 1) + k)) := hs.2
    refine pk_le 49 i (fun z => absurd z (by omega)) (fun _ => ?_)
    rw [ri_i49k (l + 1) i, ri_i49k l i, nI_clamp (show 49 * (l + 1) + i < 2 ^ 31 by omega), nI_clamp (show 49 * l + i < 2 ^ 31 by omega), hs1 (49 * (l + 1) + i) (by omega)]
    refine ⟨ri_in (by omega), ri_in (by omega), nm_e (nm_r (nI_1 i) (hw2 _ ⟨fun j hj => ?_, ri_fill (g := fun k => vp_nar .byte (a5 (49 * (l + 1) + k))) hs2 rfl⟩))⟩
    rw [pk_un (by omega)]
    exact hs1 j hj
end
end
section
theorem ri_getD_mid (L : List Nat) (p c j : Nat) (hp : p ≤ L.length) : (L.take p ++ c :: L.drop p).getD j 0 = if j < p then L.getD j 0 else if j = p then c else L.getD (j - 1) 0 := by
  induction p generalizing L j with
  | zero =>
    cases j with
    | zero => rfl
    | succ j =>
      rw [if_neg (by omega), if_neg (by omega)]
      rfl
  | succ p ih =>
    cases L with
    | nil => simp at hp
    | cons a L =>
      cases j with
      | zero =>
        rw [if_pos (by omega)]
        rfl
      | succ j =>
        have k := ih L j (by simpa using hp)
        show (L.take p ++ c :: L.drop p).getD j 0 = _
        rw [k]
        by_cases h : j < p
        · rw [if_pos h, if_pos (show j + 1 < p + 1 by omega)]
          rfl
        · rw [if_neg h, if_neg (show ¬ j + 1 < p + 1 by omega)]
          by_cases e : j = p
          · rw [if_pos e, if_pos (show j + 1 = p + 1 by omega)]
          · rw [if_neg e, if_neg (show ¬ j + 1 = p + 1 by omega)]
            obtain ⟨j', rfl⟩ : ∃ j', j = j' + 1 := ⟨j - 1, by omega⟩
            rfl
theorem ri_getD_b {L : List Nat} {b : Nat} (h : ∀ e ∈ L, e < b) (hb : 0 < b) (j : Nat) : L.getD j 0 < b := by
  rcases Nat.lt_or_ge j L.length with k | k
  · exact h _ (ri_get_memN k)
  · rw [ri_get_outN k]
    exact hb
section
variable {post : St1 → Prop} {f : Int32} {a1 a2 a3 a4 a5 a6 a7 a8 a9 : Nat → Int32}
theorem ri_kc68 {Lc : List Nat} {c p : Nat} (hp : p ≤ Lc.length) (h64 : Lc.length < 64) (h1 : ∀ j, j < p → a9 j = nI (Lc.getD j 0) ∧ Lc.getD j 0 ≤ c) (h2 : ∀ j, p ≤ j → j < Lc.length → a9 (j + 1) = nI (Lc.getD j 0) ∧ c < Lc.getD j 0)
    (H : ∀ a9' : Nat → Int32, (∀ j, j < Lc.length + 1 → a9' j = nI ((ri_si c Lc).getD j 0)) → post (nI (Lc.length + 1), a1, a2, a3, a4, a5, a6, a7, a8, a9')) : wX_keepCode_68 post (nI c) (nI p) (nI Lc.length) a1 a2 a3 a4 a5 a6 a7 a8 a9 := by
  unfold wX_keepCode_68
  rw [nI_clamp (by omega)]
  refine ⟨pk_in p 64 (by omega), nm_e (nm_r (nI_1 _) (H _ (fun j hj => ?_)))⟩
  rw [ri_si_at c Lc p hp (fun j hj => (h1 j hj).2) (fun j h3 h4 => (h2 j h3 h4).2), ri_getD_mid _ _ _ _ hp]
  by_cases e1 : j < p
  · rw [if_pos e1, pk_un (by omega)]
    exact (h1 j e1).1
  · rw [if_neg e1]
    by_cases e2 : j = p
    · rw [if_pos e2, e2, pk_us]
    · rw [if_neg e2, pk_un e2]
      have := (h2 (j - 1) (by omega) (by omega)).1
      rwa [show j - 1 + 1 = j by omega] at this
theorem ri_keepCode {n : Nat} {v Lc : List Nat} (hvn : v.length = n) (h7 : n ≤ 7) (h8 : ∀ j, j < v.length → a8 j = nI (v.getD j 0)) (hL : ∀ j, j < Lc.length → a9 j = nI (Lc.getD j 0)) (hs : Lc.Pairwise (· ≤ ·)) (hb : ∀ e ∈ Lc, e < 2147483648) (hcb : ri_code v < 2147483648) (h64 : Lc.length < 64)
    (H : ∀ a9' : Nat → Int32, (∀ j, j < Lc.length + 1 → a9' j = nI ((ri_si (ri_code v) Lc).getD j 0)) → post (nI (Lc.length + 1), a1, a2, a3, a4, a5, a6, a7, a8, a9')) : wpX_keepCode post (nI Lc.length, a1, a2, a3, a4, a5, a6, a7, a8, a9) (nI n) := by
  subst hvn
  refine pk_loop (σ := Int32) (fun n i s => wX_keepCode_4 post (nI v.length) (nI Lc.length) a1 a2 a3 a4 a5 a6 a7 a8 a9 n s (nI i)) (fun i s => s = nI (ri_code (v.take i))) v.length 0 0 (by omega) rfl ?_ ?_
  · intro n s hs2
    have hs3 : s = nI (ri_code (v.take v.length)) := hs2
    rw [List.take_length] at hs3
    subst hs3
    refine pk_le v.length v.length (fun _ => ⟨Lc.length + 1, ?_⟩) (fun z => absurd z (by omega))
    refine pk_loopD (fun n i s => wX_keepCode_32 post (nI (ri_code v)) (nI Lc.length) n (nI i) a1 a2 a3 a4 a5 a6 a7 a8 s) (fun i s => i ≤ Lc.length ∧ (∀ j, j < i → s j = nI (Lc.getD j 0)) ∧ ∀ j, i ≤ j → j < Lc.length → s (j + 1) = nI (Lc.getD j 0) ∧ ri_code v < Lc.getD j 0) ?_ ?_ Lc.length a9 ⟨Nat.le_refl _, hL, fun j h1 h2 => absurd h1 (by omega)⟩
    · intro n s hi
      exact pk_le 0 0 (fun _ => ri_kc68 (Nat.zero_le _) h64 (fun j hj => absurd hj (by omega)) hi.2.2 H) (fun z => absurd z (by omega))
    · intro n i s hi hw
      have hi1 : i + 1 ≤ Lc.length := hi.1
      have hi2 : ∀ j, j < i + 1 → s j = nI (Lc.getD j 0) := hi.2.1
      have hi3 : ∀ j, i + 1 ≤ j → j < Lc.length → s (j + 1) = nI (Lc.getD j 0) ∧ ri_code v < Lc.getD j 0 := hi.2.2
      have hbi := ri_getD_b hb (by omega) i
      refine pk_le (i + 1) 0 (fun z => absurd z (by omega)) (fun _ => ?_)
      rw [nI_pred, nI_clamp (show i < 2 ^ 31 by omega), hi2 i (by omega)]
      refine ⟨pk_in i 64 (by omega), pk_le (Lc.getD i 0) (ri_code v) (fun z => ri_kc68 hi1 h64 (fun j hj => ⟨hi2 j hj, ?_⟩) hi3 H) (fun z => ⟨pk_in i 64 (by omega), pk_in (i + 1) 64 (by omega), ?_⟩)⟩
      · exact Nat.le_trans (ri_srt_get hs (by omega) (by omega)) z
      · rw [nI_clamp (by omega)]
        refine nm_e (nm_r (pk_m1 i) (hw _ ⟨by omega, fun j hj => ?_, fun j h1 h2 => ?_⟩))
        · rw [pk_un (by omega)]
          exact hi2 j (by omega)
        · by_cases e : j = i
          · rw [e, pk_us]
            exact ⟨rfl, z⟩
          · rw [pk_un (by omega)]
            exact hi3 j (by omega) h2
  · intro n i s hi hs2 hw2
    have hs3 : s = nI (ri_code (v.take i)) := hs2
    subst hs3
    refine pk_le v.length i (fun z => absurd z (by omega)) (fun _ => ?_)
    rw [nI_clamp (by omega), h8 i hi]
    refine ⟨pk_in i 8 (by omega), nm_r (ri_i8 _ _) (nm_r (nI_1 i) (hw2 _ ?_))⟩
    show nI _ = nI _
    rw [ri_take hi, ri_code_app]
end
theorem ri_sl_app (L A B : List Nat) : ri_sl L (A ++ B) = ri_sl (ri_sl L A) B := by
  unfold ri_sl
  rw [List.foldl_append]
theorem ri_sl_len (L A : List Nat) : (ri_sl L A).length = L.length + A.length := by
  rw [(ri_sl_perm A L).length_eq, List.length_append]
  omega
theorem ri_sl_b {L A : List Nat} {b : Nat} (h1 : ∀ e ∈ L, e < b) (h2 : ∀ e ∈ A, e < b) : ∀ e ∈ ri_sl L A, e < b := by
  intro e he
  rcases List.mem_append.mp ((ri_sl_perm A L).mem_iff.mp he) with k | k
  · exact h2 e k
  · exact h1 e k
theorem ri_code_b {v : List Nat} (h : ∀ e ∈ v, ri_lt7 e) (h7 : v.length ≤ 7) : ri_code v < 2147483648 := by
  have k := ri_code_lt v h
  have k2 : 8 ^ v.length ≤ 8 ^ 7 := Nat.pow_le_pow_right (by omega) h7
  have k3 : 8 ^ 7 = 2097152 := by decide
  omega
/-- the words that come out through row r -/
def ri_wg (l : Nat) (T : List (List Nat)) (r : Nat) : List (List Nat) := if (T.getD (r + 1) []).length < (T.getD r []).length then (ri_ws l (ri_off T r).1).map (fun v => v ++ [(ri_off T r).2]) else []
def ri_sg (l : Nat) (L : List Nat) (r : Nat) : Nat := 1 + if L.getD (r + 1) 0 < L.getD r 0 then ri_stp l (ri_dec L r) else 0
theorem ri_ws_wr (l : Nat) (T : List (List Nat)) : ri_ws (l + 1) T = ri_wr (ri_wg l T) 7 := by
  rw [ri_ws, ri_wr_range]
  rfl
theorem ri_stp_sr (l : Nat) (L : List Nat) : ri_stp (l + 1) L = ri_sr (ri_sg l L) 7 + 1 := by
  rw [ri_stp]
  rfl
theorem ri_wg_mem {l : Nat} {T : List (List Nat)} {r : Nat} (hg : ri_good (l + 1) T) (hr : r < 7) : ∀ v ∈ ri_wg l T r, v.length = l + 1 ∧ ∀ e ∈ v, ri_lt7 e := by
  intro v hv
  have : v ∈ ri_ws (l + 1) T := by
    rw [ri_ws]
    exact List.mem_flatMap.mpr ⟨r, List.mem_range.mpr hr, hv⟩
  exact (ri_ws_P (l + 1) T v hg this).2
section
variable {post : St1 → Prop} {f : Int32} {a1 a2 a3 a4 a5 a6 a7 a8 a9 : Nat → Int32}
theorem ri_lk17 {n : Nat} (hn : n ≤ 7) (l : Nat) : ∀ (T : List (List Nat)) (s Lc : List Nat) (x4 : Nat) (a5 a6 a7 a8 a9 : Nat → Int32), l ≤ n → ri_good l T → ri_ml a6 l (T.map List.length) → ri_me a5 l T → a7 l = nI 0 → s.length + l = n → (∀ e ∈ s, ri_lt7 e) → (∀ j, j < s.length → a8 (l + j) = nI (s.getD j 0)) →
    (∀ j, j < Lc.length → a9 j = nI (Lc.getD j 0)) → Lc.Pairwise (· ≤ ·) → (∀ e ∈ Lc, e < 2147483648) → Lc.length + (ri_ws l T).length ≤ 64 → x4 + ri_stp l (T.map List.length) < 100000 →
    (∀ a5' a6' a7' a8' a9' : Nat → Int32, (∀ j, 49 * (l + 1) ≤ j → a5' j = a5 j) → (∀ j, 7 * (l + 1) ≤ j → a6' j = a6 j) → (∀ j, l + 1 ≤ j → a7' j = a7 j) → (∀ j, l ≤ j → a8' j = a8 j) →
      (∀ j, j < (ri_sl Lc ((ri_ws l T).map (fun u => ri_code (u ++ s)))).length → a9' j = nI ((ri_sl Lc ((ri_ws l T).map (fun u => ri_code (u ++ s)))).getD j 0)) →
      wX_listKin_17 post (nI n) (100001 - (x4 + ri_stp l (T.map List.length))) (nI (l + 1)) (nI (x4 + ri_stp l (T.map List.length))) (nI (ri_sl Lc ((ri_ws l T).map (fun u => ri_code (u ++ s)))).length) a1 a2 a3 a4 a5' a6' a7' a8' a9') →
    wX_listKin_17 post (nI n) (100001 - x4) (nI l) (nI x4) (nI Lc.length) a1 a2 a3 a4 a5 a6 a7 a8 a9 := by
  induction l with
  | zero =>
    intro T s Lc x4 a5 a6 a7 a8 a9 hl hg hml hme h7 hsn hs8 h8 h9 hLs hLb h64 hx H
    have e1 : (ri_ws 0 T).length = 1 := rfl
    have e2 : ri_stp 0 (T.map List.length) = 1 := rfl
    have e3 : (ri_ws 0 T).map (fun u => ri_code (u ++ s)) = [ri_code s] := rfl
    rw [e1] at h64
    rw [e2] at hx
    rw [e2, e3] at H
    rw [show 100001 - x4 = (100001 - (x4 + 1)) + 1 by omega]
    refine pk_le 100000 x4 (fun z => absurd z (by omega)) (fun _ => pk_lt n 0 (fun z => absurd z (by omega)) (fun _ => pk_eq 0 0 (fun _ => pk_le 64 Lc.length (fun z => absurd z (by omega)) (fun _ => ?_)) (fun z => absurd rfl z)))
    refine ri_keepCode (v := s) (by omega) hn (fun j hj => by have := h8 j hj; rwa [Nat.zero_add] at this) h9 hLs hLb (ri_code_b hs8 (by omega)) (by omega) (fun a9' m => nm_r (nI_1 0) (nm_r (nI_1 x4) ?_))
    have k := H a5 a6 a7 a8 a9' (fun _ _ => rfl) (fun _ _ => rfl) (fun _ _ => rfl) (fun _ _ => rfl) (fun j hj => by
      rw [ri_sl_len] at hj
      exact m j hj)
    rw [ri_sl_len] at k
    exact k
  | succ l ih =>
    intro T s Lc x4 a5 a6 a7 a8 a9 hl hg hml hme h7 hsn hs8 h8 h9 hLs hLb h64 hx H
    have hp := ri_good_pt hg (by omega)
    rw [ri_ws_wr] at h64
    rw [ri_stp_sr] at hx
    rw [ri_ws_wr, ri_stp_sr] at H
    have main : ∀ (k : Nat) (Lc : List Nat) (x4 : Nat) (a5 a6 a7 a8 a9 : Nat → Int32), k ≤ 7 → ri_ml a6 (l + 1) (T.map List.length) → ri_me a5 (l + 1) T → a7 (l + 1) = nI (7 - k) → (∀ j, j < s.length → a8 (l + 1 + j) = nI (s.getD j 0)) →
        (∀ j, j < Lc.length → a9 j = nI (Lc.getD j 0)) → Lc.Pairwise (· ≤ ·) → (∀ e ∈ Lc, e < 2147483648) → Lc.length + (ri_wr (ri_wg l T) k).length ≤ 64 → x4 + (ri_sr (ri_sg l (T.map List.length)) k + 1) < 100000 →
        (∀ a5' a6' a7' a8' a9' : Nat → Int32, (∀ j, 49 * (l + 1 + 1) ≤ j → a5' j = a5 j) → (∀ j, 7 * (l + 1 + 1) ≤ j → a6' j = a6 j) → (∀ j, l + 1 + 1 ≤ j → a7' j = a7 j) → (∀ j, l + 1 ≤ j → a8' j = a8 j) →
          (∀ j, j < (ri_sl Lc ((ri_wr (ri_wg l T) k).map (fun u => ri_code (u ++ s)))).length → a9' j = nI ((ri_sl Lc ((ri_wr (ri_wg l T) k).map (fun u => ri_code (u ++ s)))).getD j 0)) →
          wX_listKin_17 post (nI n) (100001 - (x4 + (ri_sr (ri_sg l (T.map List.length)) k + 1))) (nI (l + 1 + 1)) (nI (x4 + (ri_sr (ri_sg l (T.map List.length)) k + 1))) (nI (ri_sl Lc ((ri_wr (ri_wg l T) k).map (fun u => ri_code (u ++ s)))).length) a1 a2 a3 a4 a5' a6' a7' a8' a9') →
        wX_listKin_17 post (nI n) (100001 - x4) (nI (l + 1)) (nI x4) (nI Lc.length) a1 a2 a3 a4 a5 a6 a7 a8 a9 := by
      intro k
      induction k with
      | zero =>
        intro Lc x4 a5 a6 a7 a8 a9 hk hml hme h7 h8 h9 hLs hLb h64 hx H
        have e2 : ri_sr (ri_sg l (T.map List.length)) 0 = 0 := rfl
        have e3 : ri_wr (ri_wg l T) 0 = [] := rfl
        rw [e2] at hx
        rw [e2, e3] at H
        rw [show 100001 - x4 = (100001 - (x4 + 1)) + 1 by omega]
        refine pk_le 100000 x4 (fun z => absurd z (by omega)) (fun _ => pk_lt n (l + 1) (fun z => absurd z (by omega)) (fun _ => pk_eq (l + 1) 0 (fun z => absurd z (by omega)) (fun _ => ⟨pk_in (l + 1) 8 (by omega), ?_⟩)))
        rw [nI_clamp (by omega), h7]
        exact pk_eq (7 - 0) 7 (fun _ => nm_r (nI_1 (l + 1)) (nm_r (nI_1 x4) (H a5 a6 a7 a8 a9 (fun _ _ => rfl) (fun _ _ => rfl) (fun _ _ => rfl) (fun _ _ => rfl) h9))) (fun z => absurd rfl z)
      | succ k ihk =>
        intro Lc x4 a5 a6 a7 a8 a9 hk hml hme h7 h8 h9 hLs hLb h64 hx H
        have er : 7 - (k + 1) = 6 - k := by omega
        have er2 : 6 - k + 1 = 7 - k := by omega
        rw [er] at h7
        have e2 : ri_sr (ri_sg l (T.map List.length)) (k + 1) = ri_sg l (T.map List.length) (6 - k) + ri_sr (ri_sg l (T.map List.length)) k := rfl
        have e3 : ri_wr (ri_wg l T) (k + 1) = ri_wg l T (6 - k) ++ ri_wr (ri_wg l T) k := rfl
        rw [e2] at hx
        rw [e3, List.length_append] at h64
        rw [e2, e3, List.map_append, ri_sl_app] at H
        generalize hrr : 6 - k = r at *
        have hr : r < 7 := by omega
        have hsg : 1 ≤ ri_sg l (T.map List.length) r := by unfold ri_sg; omega
        rw [show 100001 - x4 = (100001 - (x4 + 1)) + 1 by omega]
        refine pk_le 100000 x4 (fun z => absurd z (by omega)) (fun _ => pk_lt n (l + 1) (fun z => absurd z (by omega)) (fun _ => pk_eq (l + 1) 0 (fun z => absurd z (by omega)) (fun _ => ⟨pk_in (l + 1) 8 (by omega), ?_⟩)))
        rw [nI_clamp (by omega), h7]
        refine pk_eq r 7 (fun z => absurd z (by omega)) (fun _ => ⟨pk_in (l + 1) 8 (by omega), nm_e ⟨pk_in (l + 1) 8 (by omega), pk_in (l + 1) 8 (by omega), ?_⟩⟩)
        rw [nI_1, ri_nb (r + 1) (by omega), er2]
        refine nm_e (ri_isCorner (T := T) (by omega) hr hp.1 hml hp.2.1 (fun hc => br_f (by decide) ?_) (fun hc => br_t rfl (nm_r (nI_1 x4) ?_)))
        · have hc' : (T.getD (r + 1) []).length < (T.getD r []).length := hc
          have ewg : ri_wg l T r = (ri_ws l (ri_off T r).1).map (fun v => v ++ [(ri_off T r).2]) := if_pos hc'
          have esg : ri_sg l (T.map List.length) r = 1 + ri_stp l ((ri_off T r).1.map List.length) := by
            have hlen := hp.1
            rw [ri_off_shape T r (by omega)]
            unfold ri_sg
            rw [ri_map_get, ri_map_get, if_pos hc']
          have ecs : (ri_wg l T r).map (fun u => ri_code (u ++ s)) = (ri_ws l (ri_off T r).1).map (fun u => ri_code (u ++ ((ri_off T r).2 :: s))) := by
            rw [ewg, List.map_map]
            refine List.map_congr_left (fun u _ => ?_)
            show ri_code ((u ++ [(ri_off T r).2]) ++ s) = _
            rw [List.append_assoc]
            rfl
          have hlg : (ri_wg l T r).length = (ri_ws l (ri_off T r).1).length := by rw [ewg, List.length_map]
          obtain ⟨g1, g2, g3⟩ := ri_good_off hg hr hc
          rw [esg] at hx hsg
          rw [ecs, esg] at H
          rw [hlg] at h64
          refine ri_takeOff (T := T) (by omega) hr hg hc hml hme (fun a5' a6' m1 m2 m3 m4 => nm_r (pk_m1 l) (nm_r (nI_1 x4) ?_))
          refine ih (ri_off T r).1 ((ri_off T r).2 :: s) Lc (x4 + 1) a5' a6' _ _ a9 (by omega) g1 m1 m2 pk_us (by simp only [List.length_cons]; omega) ?_ ?_ h9 hLs hLb (by omega) (by omega) ?_
          · intro e he
            rcases List.mem_cons.mp he with q | q
            · rw [q]; exact g2
            · exact hs8 e q
          · intro j hj
            cases j with
            | zero => exact pk_us
            | succ j =>
              rw [pk_un (by omega), show l + (j + 1) = l + 1 + j by omega]
              exact h8 j (by simpa using hj)
          · intro b5 b6 b7 b8 b9 n5 n6 n7 n8 n9
            have hb9 : ∀ e ∈ (ri_ws l (ri_off T r).1).map (fun u => ri_code (u ++ ((ri_off T r).2 :: s))), e < 2147483648 := by
              rw [← ecs]
              intro e he
              obtain ⟨v, hv, rfl⟩ := List.mem_map.mp he
              have q := ri_wg_mem hg hr v hv
              refine ri_code_b (fun e he => ?_) (by rw [List.length_append, q.1]; omega)
              rcases List.mem_append.mp he with q1 | q1
              · exact q.2 e q1
              · exact hs8 e q1
            refine ihk _ (x4 + 1 + ri_stp l ((ri_off T r).1.map List.length)) b5 b6 b7 b8 b9 (by omega) ?_ ?_ ?_ ?_ n9 (ri_sl_sorted _ _ hLs) (ri_sl_b hLb hb9) ?_ (by omega) ?_
            · intro q hq
              rw [n6 _ (by omega), m4 _ (by omega)]
              exact hml q hq
            · intro q hq c hc
              rw [n5 _ (by omega), m3 _ (by omega)]
              exact hme q hq c hc
            · rw [n7 _ (by omega), pk_un (by omega), pk_us]
            · intro j hj
              rw [n8 _ (by omega), pk_un (by omega)]
              exact h8 j hj
            · rw [ri_sl_len, List.length_map]
              omega
            · intro c5 c6 c7 c8 c9 p5 p6 p7 p8 p9
              rw [show x4 + 1 + ri_stp l ((ri_off T r).1.map List.length) + (ri_sr (ri_sg l (T.map List.length)) k + 1) = x4 + (1 + ri_stp l ((ri_off T r).1.map List.length) + ri_sr (ri_sg l (T.map List.length)) k + 1) by omega]
              refine H c5 c6 c7 c8 c9 (fun j hj => ?_) (fun j hj => ?_) (fun j hj => ?_) (fun j hj => ?_) p9
              · rw [p5 j hj, n5 j (by omega), m3 j (by omega)]
              · rw [p6 j hj, n6 j (by omega), m4 j (by omega)]
              · rw [p7 j hj, n7 j (by omega), pk_un (by omega), pk_un (by omega)]
              · rw [p8 j hj, n8 j (by omega), pk_un (by omega)]
        · have hc' : ¬ (T.getD (r + 1) []).length < (T.getD r []).length := hc
          have ewg : ri_wg l T r = [] := if_neg hc'
          have esg : ri_sg l (T.map List.length) r = 1 := by
            unfold ri_sg
            rw [ri_map_get, ri_map_get, if_neg hc']
          rw [esg] at hx
          rw [ewg, esg] at H
          rw [ewg] at h64
          refine ihk Lc (x4 + 1) a5 a6 _ a8 a9 (by omega) hml hme pk_us h8 h9 hLs hLb (by simpa using h64) (by omega) ?_
          intro b5 b6 b7 b8 b9 n5 n6 n7 n8 n9
          rw [show x4 + 1 + (ri_sr (ri_sg l (T.map List.length)) k + 1) = x4 + (1 + ri_sr (ri_sg l (T.map List.length)) k + 1) by omega]
          refine H b5 b6 b7 b8 b9 n5 n6 (fun j hj => ?_) n8 n9
          rw [n7 j hj, pk_un (by omega)]
    exact main 7 Lc x4 a5 a6 a7 a8 a9 (by omega) hml hme h7 h8 h9 hLs hLb h64 hx H
theorem ri_listKin {w n : Nat} {T : List (List Nat)} (hw : w < 2) (hn : n ≤ 7) (hg : ri_good n T) (h1 : a1 w = nI n) (hml : ri_ml a4 w (T.map List.length)) (hme : ri_me a3 w T)
    (H : ∀ a5' a6' a7' a8' a9' : Nat → Int32, (∀ j, j < (ri_lk n T).length → a9' j = nI ((ri_lk n T).getD j 0)) → post (nI (ri_lk n T).length, a1, a2, a3, a4, a5', a6', a7', a8', a9')) : wpX_listKin post (f, a1, a2, a3, a4, a5, a6, a7, a8, a9) (nI w) := by
  have hp := ri_good_pt hg hn
  have ok := ri_okS_T hg hn
  refine ⟨pk_in w 2 hw, ?_⟩
  rw [nI_clamp (by omega), h1]
  refine nm_e (ri_startLevels hw hn h1 (fun a5' a6' m1 m2 => ⟨100001, ?_⟩))
  have k := ri_lk17 (post := post) (a1 := a1) (a2 := a2) (a3 := a3) (a4 := a4) hn n T [] [] 0 a5' a6' (upd a7 n 0) a8 a9 (Nat.le_refl n) hg (fun r hr => by
      rw [m2 r hr, hml r hr, ri_map_get]
      have := hp.2.1 r
      exact ri_nv (by omega)) (fun r hr c hc => by
      have h7 := hp.2.1 r
      rw [show 49 * n + 7 * r + c = 49 * n + (7 * r + c) by omega, m1 _ (by omega), show 49 * w + (7 * r + c) = 49 * w + 7 * r + c by omega, hme r hr c hc]
      have := ri_pt_ent hp r c
      exact ri_nv (by omega)) pk_us (by simp) (by simp) (by simp) (by simp) List.Pairwise.nil (by simp) (by
      have := ok.2.2.2.2.2.1
      rw [ri_lk_len] at this
      simp only [List.length_nil]
      omega) (by omega) ?_
  · rw [Nat.sub_zero] at k
    exact k
  · intro b5 b6 b7 b8 b9 n5 n6 n7 n8 n9
    have e : (ri_ws n T).map (fun u => ri_code (u ++ [])) = (ri_ws n T).map ri_code := List.map_congr_left (fun u _ => by rw [List.append_nil])
    rw [e] at n9 ⊢
    obtain ⟨m, hm⟩ : ∃ m, 100001 - (0 + ri_stp n (T.map List.length)) = m + 1 := ⟨100000 - ri_stp n (T.map List.length), by omega⟩
    rw [hm]
    exact pk_le 100000 (0 + ri_stp n (T.map List.length)) (fun z => absurd z (by omega)) (fun _ => pk_lt n (n + 1) (fun _ => H b5 b6 b7 b8 b9 n9) (fun z => absurd z (by omega)))
/-- what kinAt answers -/
def ri_at (L : List Nat) (k : Nat) : Int32 := if k < L.length then nI (L.getD k 0) else -4
theorem ri_kinAt {post : Int32 → St1 → Prop} {w n k : Nat} {T : List (List Nat)} (hw : w < 2) (hn : n ≤ 7) (hk : k < 1000) (hg : ri_good n T) (h1 : a1 w = nI n) (hml : ri_ml a4 w (T.map List.length)) (hme : ri_me a3 w T)
    (H : ∀ (f' : Int32) (a5' a6' a7' a8' a9' : Nat → Int32), post (ri_at (ri_lk n T) k) (f', a1, a2, a3, a4, a5', a6', a7', a8', a9')) : wpX_kinAt post (f, a1, a2, a3, a4, a5, a6, a7, a8, a9) (nI w) (nI k) := by
  have ok := ri_okS_T hg hn
  unfold wpX_kinAt
  refine ri_badWord hw (br_t rfl (br_t (nI_pos' (by omega)) (ri_listKin hw hn hg h1 hml hme (fun a5' a6' a7' a8' a9' m => ?_))))
  refine pk_le (ri_lk n T).length k (fun z => ?_) (fun z => ⟨pk_in k 64 (by omega), ?_⟩)
  · have q := H (nI (ri_lk n T).length) a5' a6' a7' a8' a9'
    rw [ri_at, if_neg (by omega)] at q
    exact q
  · have q := H (nI (ri_lk n T).length) a5' a6' a7' a8' a9'
    rw [ri_at, if_pos z] at q
    rw [nI_clamp (by omega), m k z]
    exact q
end
end
section
/-- nothing but block w of size K is changed -/
def ri_fr (K w : Nat) (a a' : Nat → Int32) : Prop := ∀ j, (j < K * w ∨ K * w + K ≤ j) → a' j = a j
theorem ri_fr_refl (K w : Nat) (a : Nat → Int32) : ri_fr K w a a := fun _ _ => rfl
theorem ri_fr_trans {K w : Nat} {a b c : Nat → Int32} (h1 : ri_fr K w a b) (h2 : ri_fr K w b c) : ri_fr K w a c := fun j hj => by rw [h2 j hj, h1 j hj]
theorem ri_fr_upd {K w k : Nat} {a : Nat → Int32} {x : Int32} (h1 : K * w ≤ k) (h2 : k < K * w + K) : ri_fr K w a (upd a k x) := fun j hj => pk_un (by omega)
/-- the place of the first entry above x -/
def ri_fa (x : Nat) : List Nat → Nat
  | [] => 0
  | a :: R => if a ≤ x then ri_fa x R + 1 else 0
theorem ri_fa_len (x : Nat) (R : List Nat) : ri_fa x R ≤ R.length := by
  induction R with
  | nil => exact Nat.le_refl 0
  | cons a R ih =>
    rw [ri_fa, List.length_cons]
    split <;> omega
theorem ri_fa_lo {x : Nat} {R : List Nat} {j : Nat} (h : j < ri_fa x R) : R.getD j 0 ≤ x := by
  induction R generalizing j with
  | nil => exact absurd h (by rw [ri_fa]; omega)
  | cons a R ih =>
    rw [ri_fa] at h
    split at h
    · rename_i k
      cases j with
      | zero => exact k
      | succ j => exact ih (by omega)
    · omega
theorem ri_fa_hi {x : Nat} {R : List Nat} (h : ri_fa x R < R.length) : x < R.getD (ri_fa x R) 0 := by
  induction R with
  | nil => simp at h
  | cons a R ih =>
    rw [ri_fa] at h ⊢
    split
    · rename_i k
      rw [if_pos k, List.length_cons] at h
      exact ih (by omega)
    · rename_i k
      show x < a
      omega
theorem ri_fa_end {x : Nat} {R : List Nat} (h : ri_fa x R = R.length) : ri_ins x R = (R ++ [x], none) := by
  induction R with
  | nil => rfl
  | cons a R ih =>
    rw [ri_fa, List.length_cons] at h
    split at h
    · rename_i k
      rw [ri_ins_le R k, ih (by omega)]
      rfl
    · omega
theorem ri_fa_mid {x : Nat} {R : List Nat} (h : ri_fa x R < R.length) : ri_ins x R = (R.set (ri_fa x R) x, some (R.getD (ri_fa x R) 0)) := by
  induction R with
  | nil => simp at h
  | cons a R ih =>
    rw [ri_fa] at h ⊢
    split
    · rename_i k
      rw [if_pos k, List.length_cons] at h
      rw [ri_ins_le R k, ih (by omega)]
      rfl
    · rename_i k
      rw [ri_ins_gt R (by omega)]
      rfl
theorem ri_drop_get (T : List (List Nat)) (r : Nat) (h : r < T.length) : T.drop r = T.getD r [] :: T.drop (r + 1) := by
  rw [List.drop_eq_getElem_cons h, List.getD_eq_getElem?_getD, List.getElem?_eq_getElem h]
  rfl
theorem ri_set_split (T : List (List Nat)) (r : Nat) (R : List Nat) (h : r < T.length) : T.set r R = T.take r ++ R :: T.drop (r + 1) := by
  rw [List.set_eq_take_append_cons_drop, if_pos h]
theorem ri_take_set (T : List (List Nat)) (r : Nat) (R : List Nat) (h : r < T.length) : (T.set r R).take (r + 1) = T.take r ++ [R] := by
  have h2 : (T.take r).length = r := by rw [List.length_take]; omega
  rw [ri_set_split T r R h, List.take_append, h2, List.take_of_length_le (by omega), show r + 1 - r = 1 by omega]
  rfl
theorem ri_drop_set (T : List (List Nat)) (r : Nat) (R : List Nat) : (T.set r R).drop (r + 1) = T.drop (r + 1) := List.drop_set_of_lt (by omega)
theorem ri_me_app {a : Nat → Int32} {l r x : Nat} {T : List (List Nat)} (hp : ri_pt T) (h6 : ∀ q, (T.getD q []).length ≤ 6) (h : ri_me a l T) (hr : r < 7) : ri_me (upd a (49 * l + 7 * r + (T.getD r []).length) (nI x)) l (T.set r (T.getD r [] ++ [x])) := by
  obtain ⟨h1, h2, h3⟩ := hp
  intro q hq d hd
  have hl := h6 q
  have hl2 := h6 r
  rw [ri_getD_set _ _ _ _ (by omega)] at hd ⊢
  by_cases e : q = r
  · rw [if_pos e] at hd ⊢
    rw [List.length_append] at hd
    simp only [List.length_cons, List.length_nil] at hd
    by_cases e2 : d = (T.getD r []).length
    · rw [e, e2, pk_us, List.getD_eq_getElem?_getD, List.getElem?_append_right (Nat.le_refl _), Nat.sub_self]
      rfl
    · rw [pk_un (by omega), e, List.getD_eq_getElem?_getD, List.getElem?_append_left (by omega), ← List.getD_eq_getElem?_getD]
      exact h r hr d (by omega)
  · rw [if_neg e] at hd ⊢
    rw [pk_un (by omega)]
    exact h q hq d hd
theorem ri_ml_app {b : Nat → Int32} {l r x : Nat} {T : List (List Nat)} (h7 : T.length = 7) (hr : r < 7) (h : ri_ml b l (T.map List.length)) : ri_ml (upd b (7 * l + r) (nI ((T.getD r []).length + 1))) l ((T.set r (T.getD r [] ++ [x])).map List.length) := by
  intro q hq
  have k := h q hq
  rw [ri_map_get] at k ⊢
  rw [ri_getD_set _ _ _ _ (by omega)]
  by_cases e : q = r
  · rw [if_pos e, e, pk_us, List.length_append]
    rfl
  · rw [if_neg e, pk_un (by omega)]
    exact k
section
variable {post : Int32 → St1 → Prop} {f : Int32} {a1 a2 a3 a4 a5 a6 a7 a8 a9 : Nat → Int32}
theorem ri_firstAbove {post : Int32 → Prop} {w r x : Nat} {R : List Nat} (hw : w < 2) (hr : r < 7) (hx : x ≤ 7) (h4 : a4 (7 * w + r) = nI R.length) (h3 : ∀ c, c < R.length → a3 (49 * w + 7 * r + c) = nI (R.getD c 0)) (hb : ∀ c, R.getD c 0 ≤ 7) (h7 : R.length ≤ 7) (h : post (nI (ri_fa x R))) : wpX_firstAbove post (f, a1, a2, a3, a4, a5, a6, a7, a8, a9) (nI w) (nI r) (nI x) := by
  have hl := ri_fa_len x R
  refine pk_loop (σ := Unit) (fun n i _ => wX_firstAbove_3 post (nI w) (nI r) (nI x) f a1 a2 a3 a4 a5 a6 a7 a8 a9 n (nI i)) (fun _ _ => True) (ri_fa x R) 0 () (Nat.zero_le _) trivial ?_ ?_
  · intro n _ _
    have hbi := hb (ri_fa x R)
    refine ⟨pk_in (7 * w + r) 14 (by omega) (ri_i7 w r), ?_⟩
    rw [ri_i7, nI_clamp (by omega), h4]
    refine pk_le R.length (ri_fa x R) (fun _ => h) (fun z => ?_)
    rw [ri_i49, nI_clamp (by omega), h3 _ z]
    exact ⟨ri_in (by omega), pk_lt x (R.getD (ri_fa x R) 0) (fun _ => h) (fun q => absurd (ri_fa_hi z) (by omega))⟩
  · intro n i _ hi _ hw2
    have hbi := hb i
    refine ⟨pk_in (7 * w + r) 14 (by omega) (ri_i7 w r), ?_⟩
    rw [ri_i7, nI_clamp (by omega), h4]
    refine pk_le R.length i (fun z => absurd z (by omega)) (fun z => ?_)
    rw [ri_i49, nI_clamp (by omega), h3 i z]
    exact ⟨ri_in (by omega), pk_lt x (R.getD i 0) (fun q => absurd (ri_fa_lo hi) (by omega)) (fun _ => nm_r (nI_1 i) (hw2 () trivial))⟩
theorem ri_insert_8 {w : Nat} (hw : w < 2) (k : Nat) : ∀ (r : Nat) (T : List (List Nat)) (x : Nat) (a3 a4 : Nat → Int32), r + k = 7 → ri_pt T → (∀ q, (T.getD q []).length ≤ 6) → ri_lt7 x → ri_ml a4 w (T.map List.length) → ri_me a3 w T →
    (∀ (z : Int32) (a3' a4' : Nat → Int32), ri_ml a4' w ((T.take r ++ ri_tin (T.drop r) x).map List.length) → ri_me a3' w (T.take r ++ ri_tin (T.drop r) x) → ri_fr 49 w a3 a3' → ri_fr 7 w a4 a4' → post z (f, a1, a2, a3', a4', a5, a6, a7, a8, a9)) →
    wX_insert_8 post (nI w) f (k + 2) (nI x) (nI r) 1 a1 a2 a3 a4 a5 a6 a7 a8 a9 := by
  induction k with
  | zero =>
    intro r T x a3 a4 hrk hp h6 hx hml hme H
    have hlen := hp.1
    rw [List.take_of_length_le (by omega), List.drop_of_length_le (by omega), show ri_tin [] x = [] from rfl, List.append_nil] at H
    exact br_f (by decide) (pk_le 7 r (fun _ => H _ a3 a4 hml hme (ri_fr_refl _ _ _) (ri_fr_refl _ _ _)) (fun z => absurd z (by omega)))
  | succ k ih =>
    intro r T x a3 a4 hrk hp h6 hx hml hme H
    have hlen := hp.1
    have hx2 := hx.2
    have h4 := hml r (by omega)
    rw [ri_map_get] at h4
    have hl6 := h6 r
    have hl := ri_fa_len x (T.getD r [])
    rw [ri_drop_get T r (by omega)] at H
    refine br_f (by decide) (pk_le 7 r (fun z => absurd z (by omega)) (fun _ => ri_firstAbove hw (by omega) hx2 h4 (hme r (by omega)) (ri_pt_ent hp r) (by omega) ?_))
    refine nm_r (ri_i49 w r _) ⟨pk_in (7 * w + r) 14 (by omega) (ri_i7 w r), ?_⟩
    rw [ri_i7, nI_clamp (show 7 * w + r < 2 ^ 31 by omega), h4, nI_clamp (show 49 * w + 7 * r + ri_fa x (T.getD r []) < 2 ^ 31 by omega)]
    refine pk_eq (ri_fa x (T.getD r [])) (T.getD r []).length (fun e => ?_) (fun e => ?_)
    · rw [ri_nb x (by omega), nI_1, ri_nb _ (by omega), e]
      refine ⟨ri_in (by omega), nm_e ⟨ri_in (by omega), ri_in (by omega), nm_e ?_⟩⟩
      have ei := ri_fa_end e
      rw [ri_tin_none _ (by rw [ei]), ei, ← ri_set_split T r _ (by omega)] at H
      exact br_t rfl (H _ _ _ (ri_ml_app hlen (by omega) hml) (ri_me_app hp h6 hme (by omega)) (ri_fr_upd (by omega) (by omega)) (ri_fr_upd (by omega) (by omega)))
    · have hlt : ri_fa x (T.getD r []) < (T.getD r []).length := by omega
      rw [ri_nb x (by omega), hme r (by omega) _ hlt]
      refine ⟨ri_in (by omega), nm_e ⟨ri_in (by omega), nm_e (nm_r (nI_1 r) ?_)⟩⟩
      have ei := ri_fa_mid hlt
      rw [ri_tin_some _ (by rw [ei]), ei] at H
      refine ih (r + 1) (T.set r ((T.getD r []).set (ri_fa x (T.getD r [])) x)) _ _ a4 (by omega) (ri_pt_put hp (by omega) hlt hx) (fun q => ?_) (hp.2.2 r _ hlt) (ri_ml_put (by omega) hml) (ri_me_put hp hme (by omega) hlt) ?_
      · rw [ri_getD_set _ _ _ _ (by omega)]
        by_cases e2 : q = r
        · rw [if_pos e2, List.length_set]; exact h6 r
        · rw [if_neg e2]; exact h6 q
      · rw [ri_take_set T r _ (by omega), ri_drop_set, List.append_assoc]
        intro z a3' a4' m1 m2 m3 m4
        exact H z a3' a4' m1 m2 (ri_fr_trans (ri_fr_upd (by omega) (by omega)) m3) m4
theorem ri_insert {w n x : Nat} {T : List (List Nat)} (hw : w < 2) (hn : n < 7) (hg : ri_good n T) (hx : ri_lt7 x) (hml : ri_ml a4 w (T.map List.length)) (hme : ri_me a3 w T)
    (H : ∀ (z : Int32) (a3' a4' : Nat → Int32), ri_ml a4' w ((ri_tin T x).map List.length) → ri_me a3' w (ri_tin T x) → ri_fr 49 w a3 a3' → ri_fr 7 w a4 a4' → post z (f, a1, a2, a3', a4', a5, a6, a7, a8, a9)) : wpX_insert post (f, a1, a2, a3, a4, a5, a6, a7, a8, a9) (nI w) (nI x) := by
  refine ⟨9, ri_insert_8 hw 7 0 T x a3 a4 (by omega) (ri_good_pt hg (by omega)) (fun q => ?_) hx hml hme H⟩
  rcases Nat.lt_or_ge q T.length with k | k
  · have := ri_sz_mem (ri_get_mem k)
    have := hg.2.2.1
    omega
  · rw [ri_get_out k]
    exact Nat.zero_le _
theorem ri_rebuild {post : St1 → Prop} {w n : Nat} {v : List Nat} (hw : w < 2) (h7 : n ≤ 7) (hvn : v.length = n) (hl : ∀ e ∈ v, ri_lt7 e) (h2 : ∀ i, i < v.length → a2 (7 * w + i) = nI (v.getD i 0))
    (H : ∀ a3' a4' : Nat → Int32, ri_ml a4' w ((ri_P v).map List.length) → ri_me a3' w (ri_P v) → ri_fr 49 w a3 a3' → ri_fr 7 w a4 a4' → post (f, a1, a2, a3', a4', a5, a6, a7, a8, a9)) : wpX_rebuild post (f, a1, a2, a3, a4, a5, a6, a7, a8, a9) (nI w) (nI n) := by
  subst hvn
  refine pk_loop (fun k i s => wX_rebuild_2 post (nI w) (nI v.length) f k (nI i) a1 a2 a3 s a5 a6 a7 a8 a9) (fun i s => ri_fr 7 w a4 s ∧ ∀ r, r < i → s (7 * w + r) = 0) 7 0 a4 (by omega) ⟨ri_fr_refl _ _ _, fun k hk => absurd hk (by omega)⟩ ?_ ?_
  · intro m b4 hs
    have hs1 : ri_fr 7 w a4 b4 := hs.1
    have hs2 : ∀ r, r < 7 → b4 (7 * w + r) = 0 := hs.2
    refine pk_le 7 7 (fun _ => ?_) (fun z => absurd z (by omega))
    refine pk_loop (σ := (Nat → Int32) × (Nat → Int32)) (fun k i s => wX_rebuild_28 post (nI w) (nI v.length) k (nI i) f a1 a2 s.1 s.2 a5 a6 a7 a8 a9) (fun i s => ri_ml s.2 w ((ri_P (v.take i)).map List.length) ∧ ri_me s.1 w (ri_P (v.take i)) ∧ ri_fr 49 w a3 s.1 ∧ ri_fr 7 w a4 s.2) v.length 0 (a3, b4) (by omega) ?_ ?_ ?_
    · refine ⟨?_, ?_, ri_fr_refl _ _ _, hs1⟩
      · intro r hr
        show b4 (7 * w + r) = _
        rw [hs2 r hr, ri_map_get]
        have e : (ri_P (v.take 0)).getD r [] = [] := by
          have : r = 0 ∨ r = 1 ∨ r = 2 ∨ r = 3 ∨ r = 4 ∨ r = 5 ∨ r = 6 := by omega
          rcases this with q | q | q | q | q | q | q <;> subst q <;> rfl
        rw [e]
        rfl
      · intro r hr c hc
        have e : (ri_P (v.take 0)).getD r [] = [] := by
          have : r = 0 ∨ r = 1 ∨ r = 2 ∨ r = 3 ∨ r = 4 ∨ r = 5 ∨ r = 6 := by omega
          rcases this with q | q | q | q | q | q | q <;> subst q <;> rfl
        rw [e] at hc
        simp at hc
    · intro k s hi
      obtain ⟨i1, i2, i3, i4⟩ := hi
      rw [List.take_length] at i1 i2
      exact pk_le v.length v.length (fun _ => H s.1 s.2 i1 i2 i3 i4) (fun z => absurd z (by omega))
    · intro k i s hi hI hw2
      obtain ⟨i1, i2, i3, i4⟩ := hI
      have hlt : ∀ e ∈ v.take i, ri_lt7 e := fun e he => hl e (List.mem_of_mem_take he)
      have hll : (v.take i).length = i := by rw [List.length_take]; omega
      have hg := ri_good_P (v.take i) hlt (by omega)
      rw [hll] at hg
      refine pk_le v.length i (fun z => absurd z (by omega)) (fun _ => ⟨pk_in (7 * w + i) 14 (by omega) (ri_i7 w i), ?_⟩)
      rw [ri_i7, nI_clamp (by omega), h2 i hi]
      refine ri_insert hw (by omega) hg (hl _ (ri_get_memN hi)) i1 i2 (fun z b3 c4 m1 m2 m3 m4 => nm_r (nI_1 i) (hw2 (b3, c4) ⟨?_, ?_, ri_fr_trans i3 m3, ri_fr_trans i4 m4⟩))
      · rw [ri_take hi, ri_P_app]
        exact m1
      · rw [ri_take hi, ri_P_app]
        exact m2
  · intro m i s hi hs hw2
    have hs1 : ri_fr 7 w a4 s := hs.1
    have hs2 : ∀ r, r < i → s (7 * w + r) = 0 := hs.2
    refine pk_le 7 i (fun z => absurd z (by omega)) (fun _ => ?_)
    rw [ri_i7, nI_clamp (by omega)]
    exact ⟨ri_in (by omega), nm_e (nm_r (nI_1 i) (hw2 _ ⟨ri_fr_trans hs1 (ri_fr_upd (by omega) (by omega)), ri_fill (g := fun _ => 0) hs2 rfl⟩))⟩
end
end
section
/-- word w, its letters and its rows, in the arrays -/
def ri_wk (a1 a2 a3 a4 : Nat → Int32) (w : Nat) (v : List Nat) : Prop := v.length ≤ 7 ∧ (∀ e ∈ v, ri_lt7 e) ∧ ri_mw a1 a2 w v ∧ ri_ml a4 w ((ri_P v).map List.length) ∧ ri_me a3 w (ri_P v)
def ri_inv (V : Nat → List Nat) (a1 a2 a3 a4 : Nat → Int32) : Prop := ∀ w, w < 2 → ri_wk a1 a2 a3 a4 w (V w)
theorem ri_wk_fr {a1 a2 a3 a4 b1 b2 b3 b4 : Nat → Int32} {u w : Nat} {v : List Nat} (hwu : u ≠ w) (h : ri_wk a1 a2 a3 a4 u v) (f1 : ri_fr 1 w a1 b1) (f2 : ri_fr 7 w a2 b2) (f3 : ri_fr 49 w a3 b3) (f4 : ri_fr 7 w a4 b4) : ri_wk b1 b2 b3 b4 u v := by
  obtain ⟨h1, h2, h3, h4, h5⟩ := h
  have hp := ri_good_pt (ri_good_P v h2 h1) h1
  refine ⟨h1, h2, ⟨by rw [f1 u (by omega)]; exact h3.1, fun i hi => by rw [f2 _ (by omega)]; exact h3.2 i hi⟩, fun r hr => by rw [f4 _ (by omega)]; exact h4 r hr, fun r hr c hc => ?_⟩
  have := hp.2.1 r
  rw [f3 _ (by omega)]
  exact h5 r hr c hc
def ri_set (V : Nat → List Nat) (w : Nat) (v : List Nat) : Nat → List Nat := fun u => if u = w then v else V u
theorem ri_set_s (V : Nat → List Nat) (w : Nat) (v : List Nat) : ri_set V w v w = v := if_pos rfl
theorem ri_inv_upd {V : Nat → List Nat} {a1 a2 a3 a4 b1 b2 b3 b4 : Nat → Int32} {w : Nat} {v : List Nat} (h : ri_inv V a1 a2 a3 a4) (f1 : ri_fr 1 w a1 b1) (f2 : ri_fr 7 w a2 b2) (f3 : ri_fr 49 w a3 b3) (f4 : ri_fr 7 w a4 b4) (hk : ri_wk b1 b2 b3 b4 w v) : ri_inv (ri_set V w v) b1 b2 b3 b4 := by
  intro u hu
  by_cases e : u = w
  · rw [e, ri_set_s]; exact hk
  · have e2 : ri_set V w v u = V u := if_neg e
    rw [e2]
    exact ri_wk_fr e (h u hu) f1 f2 f3 f4
theorem ri_app_get (v : List Nat) (x j : Nat) (h : j < v.length + 1) : (v ++ [x]).getD j 0 = if j = v.length then x else v.getD j 0 := by
  by_cases e : j = v.length
  · rw [if_pos e, e, List.getD_eq_getElem?_getD, List.getElem?_append_right (Nat.le_refl _), Nat.sub_self]
    rfl
  · rw [if_neg e, List.getD_eq_getElem?_getD, List.getElem?_append_left (by omega), ← List.getD_eq_getElem?_getD]
/-- neighbours exchanged -/
def ri_sw (v : List Nat) (i : Nat) : List Nat := v.take i ++ v.getD (i + 1) 0 :: v.getD i 0 :: v.drop (i + 2)
theorem ri_sw_get (v : List Nat) (i j : Nat) (h : i + 1 < v.length) : (ri_sw v i).getD j 0 = if j = i then v.getD (i + 1) 0 else if j = i + 1 then v.getD i 0 else v.getD j 0 := by
  induction i generalizing v j with
  | zero =>
    match v, h with
    | a :: b :: t, _ =>
      match j with
      | 0 => rfl
      | 1 => rfl
      | j + 2 =>
        rw [if_neg (by omega), if_neg (by omega)]
        rfl
  | succ i ih =>
    cases v with
    | nil => simp at h
    | cons a v =>
      cases j with
      | zero =>
        rw [if_neg (by omega), if_neg (by omega)]
        rfl
      | succ j =>
        have k := ih v j (by simpa using h)
        show (ri_sw v i).getD j 0 = _
        rw [k]
        by_cases e1 : j = i
        · rw [if_pos e1, if_pos (show j + 1 = i + 1 by omega)]
          rfl
        · rw [if_neg e1, if_neg (show ¬ j + 1 = i + 1 by omega)]
          by_cases e2 : j = i + 1
          · rw [if_pos e2, if_pos (show j + 1 = i + 1 + 1 by omega)]
            rfl
          · rw [if_neg e2, if_neg (show ¬ j + 1 = i + 1 + 1 by omega)]
            rfl
theorem ri_sw_len (v : List Nat) (i : Nat) (h : i + 1 < v.length) : (ri_sw v i).length = v.length := by
  unfold ri_sw
  rw [List.length_append, List.length_cons, List.length_cons, List.length_take, List.length_drop]
  omega
theorem ri_sw_mem {v : List Nat} {i e : Nat} (h : i + 1 < v.length) (he : e ∈ ri_sw v i) : e ∈ v := by
  rcases List.mem_append.mp he with k | k
  · exact List.mem_of_mem_take k
  · rcases List.mem_cons.mp k with k | k
    · rw [k]; exact ri_get_memN h
    · rcases List.mem_cons.mp k with k | k
      · rw [k]; exact ri_get_memN (by omega)
      · exact List.mem_of_mem_drop k
theorem ri_dropN (v : List Nat) (i : Nat) (h : i < v.length) : v.drop i = v.getD i 0 :: v.drop (i + 1) := by
  rw [List.drop_eq_getElem_cons h, List.getD_eq_getElem?_getD, List.getElem?_eq_getElem h]
  rfl
theorem ri_split2 (v : List Nat) (i : Nat) (h : i + 1 < v.length) : v = v.take i ++ v.getD i 0 :: v.getD (i + 1) 0 :: v.drop (i + 2) := by
  have e := List.take_append_drop i v
  rw [ri_dropN v i (by omega), ri_dropN v (i + 1) h] at e
  exact e.symm
/-- a move is allowed -/
def ri_may (v : List Nat) (i : Nat) : Prop := ∃ x z, ((x = v.getD i 0 ∧ z = v.getD (i + 1) 0) ∨ (x = v.getD (i + 1) 0 ∧ z = v.getD i 0)) ∧ x < z ∧ ((0 < i ∧ x < v.getD (i - 1) 0 ∧ v.getD (i - 1) 0 ≤ z) ∨ (i + 2 < v.length ∧ x ≤ v.getD (i + 2) 0 ∧ v.getD (i + 2) 0 < z))
theorem ri_may_P {v : List Nat} {i : Nat} (h : i + 1 < v.length) (hm : ri_may v i) : ri_P (ri_sw v i) = ri_P v := by
  obtain ⟨x, z, hxz, hlt, k⟩ := hm
  have e := ri_split2 v i h
  rcases k with ⟨k1, k2, k3⟩ | ⟨k1, k2, k3⟩
  · obtain ⟨i', rfl⟩ : ∃ i', i = i' + 1 := ⟨i - 1, by omega⟩
    rw [show i' + 1 - 1 = i' by omega] at k2 k3
    have t := ri_take (show i' < v.length by omega)
    have es : ri_sw v (i' + 1) = v.take i' ++ v.getD i' 0 :: v.getD (i' + 1 + 1) 0 :: v.getD (i' + 1) 0 :: v.drop (i' + 1 + 2) := by
      unfold ri_sw
      rw [t, List.append_assoc]
      rfl
    have ev : v = v.take i' ++ v.getD i' 0 :: v.getD (i' + 1) 0 :: v.getD (i' + 1 + 1) 0 :: v.drop (i' + 1 + 2) := by
      rw [t, List.append_assoc] at e
      exact e
    have goal2 : ri_P (v.take i' ++ v.getD i' 0 :: v.getD (i' + 1 + 1) 0 :: v.getD (i' + 1) 0 :: v.drop (i' + 1 + 2)) = ri_P (v.take i' ++ v.getD i' 0 :: v.getD (i' + 1) 0 :: v.getD (i' + 1 + 1) 0 :: v.drop (i' + 1 + 2)) := by
      rcases hxz with ⟨q1, q2⟩ | ⟨q1, q2⟩
      · rw [q1] at k2
        rw [q2] at k3
        exact (ri_P_k1 _ _ k2 k3).symm
      · rw [q1] at k2
        rw [q2] at k3
        exact ri_P_k1 _ _ k2 k3
    rw [es, goal2]
    exact (congrArg ri_P ev).symm
  · have d := ri_dropN v (i + 2) k1
    have es : ri_sw v i = v.take i ++ v.getD (i + 1) 0 :: v.getD i 0 :: v.getD (i + 2) 0 :: v.drop (i + 2 + 1) := by
      unfold ri_sw
      rw [d]
    have ev : v = v.take i ++ v.getD i 0 :: v.getD (i + 1) 0 :: v.getD (i + 2) 0 :: v.drop (i + 2 + 1) := by
      rw [d] at e
      exact e
    have goal2 : ri_P (v.take i ++ v.getD (i + 1) 0 :: v.getD i 0 :: v.getD (i + 2) 0 :: v.drop (i + 2 + 1)) = ri_P (v.take i ++ v.getD i 0 :: v.getD (i + 1) 0 :: v.getD (i + 2) 0 :: v.drop (i + 2 + 1)) := by
      rcases hxz with ⟨q1, q2⟩ | ⟨q1, q2⟩
      · rw [q1] at k2
        rw [q2] at k3
        exact (ri_P_k2 _ _ k2 k3).symm
      · rw [q1] at k2
        rw [q2] at k3
        exact ri_P_k2 _ _ k2 k3
    rw [es, goal2]
    exact (congrArg ri_P ev).symm
theorem ri_p2 (n : Nat) : nI n + 2 = nI (n + 2) := nI_add n 2
section
variable {post : Int32 → Prop} {f : Int32} {a1 a2 a3 a4 a5 a6 a7 a8 a9 : Nat → Int32}
theorem ri_noPair {w i n : Nat} (hw : w < 2) (hi : i < 8) (hn : n ≤ 7) (h1 : a1 w = nI n) (g0 : i + 1 < n → post 0) (g1 : post 1) : wpX_noPair post (f, a1, a2, a3, a4, a5, a6, a7, a8, a9) (nI w) (nI i) := by
  refine pk_lt i 0 (fun z => absurd z (by omega)) (fun _ => ⟨pk_in w 2 hw, ?_⟩)
  rw [nI_clamp (by omega), h1]
  cases n with
  | zero =>
    have k : ∀ i, i < 8 → ¬ nI i < nI 0 - 1 := by decide +kernel
    exact br_f (k i hi) g1
  | succ n =>
    rw [nI_pred]
    exact pk_lt i n (fun z => g0 (by omega)) (fun _ => g1)
theorem ri_m159 {x z b d : Nat} (hx : x ≤ 7) (hz : z ≤ 7) (hb : b ≤ 1) (hd : d ≤ 1) (h1 : x < z → (b = 1 ∨ d = 1) → post 1) (h0 : post 0) : wX_mayMove_159 post (nI x) (nI z) (nI b) (nI d) f a1 a2 a3 a4 a5 a6 a7 a8 a9 :=
  pk_le z x (fun _ => h0) (fun q => pk_eq b 0 (fun _ => pk_eq d 0 (fun _ => h0) (fun e => h1 q (Or.inr (by omega)))) (fun e => h1 q (Or.inl (by omega))))
theorem ri_m114 {w i x z b : Nat} {v : List Nat} (hw : w < 2) (hi : i < 8) (hv : v.length ≤ 7) (hx : x ≤ 7) (hz : z ≤ 7) (hb : b ≤ 1) (he : ∀ j, v.getD j 0 ≤ 7) (hm : ri_mw a1 a2 w v) (h1 : x < z → (b = 1 ∨ (i + 2 < v.length ∧ x ≤ v.getD (i + 2) 0 ∧ v.getD (i + 2) 0 < z)) → post 1) (h0 : post 0) : wX_mayMove_114 post (nI w) (nI i) (nI (7 * w + i)) (nI x) (nI z) (nI b) f a1 a2 a3 a4 a5 a6 a7 a8 a9 := by
  have k0 : wX_mayMove_158 post (nI x) (nI z) (nI b) f a1 a2 a3 a4 a5 a6 a7 a8 a9 := ri_m159 (d := 0) hx hz hb (by omega) (fun q e => h1 q (Or.inl (by omega))) h0
  have hei := he (i + 2)
  refine ⟨pk_in w 2 hw, ?_⟩
  rw [nI_clamp (show w < 2 ^ 31 by omega), hm.1, ri_p2]
  refine pk_le v.length (i + 2) (fun _ => k0) (fun q => ?_)
  rw [ri_p2, nI_clamp (by omega), show 7 * w + i + 2 = 7 * w + (i + 2) by omega, hm.2 (i + 2) q]
  exact ⟨ri_in (by omega), pk_lt (v.getD (i + 2) 0) x (fun _ => k0) (fun q2 => ⟨ri_in (by omega), pk_le z (v.getD (i + 2) 0) (fun _ => k0) (fun q3 => ri_m159 (d := 1) hx hz hb (by omega) (fun q4 _ => h1 q4 (Or.inr ⟨q, q2, q3⟩)) h0)⟩)⟩
theorem ri_m77 {w i x z : Nat} {v : List Nat} (hw : w < 2) (hi : i < v.length) (hv : v.length ≤ 7) (hx : x ≤ 7) (hz : z ≤ 7) (he : ∀ j, v.getD j 0 ≤ 7) (hm : ri_mw a1 a2 w v) (h1 : x < z → ((0 < i ∧ x < v.getD (i - 1) 0 ∧ v.getD (i - 1) 0 ≤ z) ∨ (i + 2 < v.length ∧ x ≤ v.getD (i + 2) 0 ∧ v.getD (i + 2) 0 < z)) → post 1) (h0 : post 0) : wX_mayMove_77 post (nI w) (nI i) (nI (7 * w + i)) (nI x) (nI z) f a1 a2 a3 a4 a5 a6 a7 a8 a9 := by
  have k0 : wX_mayMove_113 post (nI w) (nI i) (nI (7 * w + i)) (nI x) (nI z) f a1 a2 a3 a4 a5 a6 a7 a8 a9 := ri_m114 (b := 0) hw (by omega) hv hx hz (by omega) he hm (fun q e => h1 q (Or.inr (by
    rcases e with e | e
    · omega
    · exact e))) h0
  refine pk_le i 0 (fun _ => k0) (fun q => ?_)
  obtain ⟨j, rfl⟩ : ∃ j, i = j + 1 := ⟨i - 1, by omega⟩
  have hei := he j
  rw [show j + 1 - 1 = j by omega] at h1
  rw [show 7 * w + (j + 1) = 7 * w + j + 1 by omega, nI_pred, nI_clamp (by omega), hm.2 j (by omega)]
  rw [show 7 * w + (j + 1) = 7 * w + j + 1 by omega] at k0
  refine ⟨ri_in (by omega), pk_le (v.getD j 0) x (fun _ => k0) (fun q2 => ⟨ri_in (by omega), pk_lt z (v.getD j 0) (fun _ => k0) (fun q3 => ?_)⟩)⟩
  rw [show 7 * w + j + 1 = 7 * w + (j + 1) by omega]
  exact ri_m114 (b := 1) hw (by omega) hv hx hz (by omega) he hm (fun q4 _ => h1 q4 (Or.inl ⟨q, q2, q3⟩)) h0
theorem ri_mayMove {w i : Nat} {v : List Nat} (hw : w < 2) (hi : i + 1 < v.length) (hv : v.length ≤ 7) (he : ∀ j, v.getD j 0 ≤ 7) (hm : ri_mw a1 a2 w v) (h1 : ri_may v i → post 1) (h0 : post 0) : wpX_mayMove post (f, a1, a2, a3, a4, a5, a6, a7, a8, a9) (nI w) (nI i) := by
  have e0 := he i
  have e1 := he (i + 1)
  have m1 := hm.2 (i + 1) hi
  rw [show 7 * w + (i + 1) = 7 * w + i + 1 by omega] at m1
  have m0 := hm.2 i (by omega)
  refine nm_r (ri_i7 w i) ?_
  rw [nI_1, nI_clamp (show 7 * w + i < 2 ^ 31 by omega), nI_clamp (show 7 * w + i + 1 < 2 ^ 31 by omega), m0, m1]
  refine ⟨ri_in (by omega), ri_in (by omega), pk_le (v.getD (i + 1) 0) (v.getD i 0) (fun q => ⟨ri_in (by omega), ?_⟩) (fun q => ⟨ri_in (by omega), ?_⟩)⟩
  · unfold wX_mayMove_41
    rw [nI_1, nI_clamp (show 7 * w + i < 2 ^ 31 by omega), nI_clamp (show 7 * w + i + 1 < 2 ^ 31 by omega), m0, m1]
    exact ⟨ri_in (by omega), ri_in (by omega), pk_le (v.getD (i + 1) 0) (v.getD i 0) (fun _ => ⟨ri_in (by omega), ri_m77 hw (by omega) hv e1 e0 he hm (fun q2 q3 => h1 ⟨_, _, Or.inr ⟨rfl, rfl⟩, q2, q3⟩) h0⟩) (fun q2 => absurd q2 (by omega))⟩
  · unfold wX_mayMove_41
    rw [nI_1, nI_clamp (show 7 * w + i < 2 ^ 31 by omega), nI_clamp (show 7 * w + i + 1 < 2 ^ 31 by omega), m0, m1]
    exact ⟨ri_in (by omega), ri_in (by omega), pk_le (v.getD (i + 1) 0) (v.getD i 0) (fun q2 => absurd q2 (by omega)) (fun _ => ⟨ri_in (by omega), ri_m77 hw (by omega) hv e0 e1 he hm (fun q2 q3 => h1 ⟨_, _, Or.inl ⟨rfl, rfl⟩, q2, q3⟩) h0⟩)⟩
theorem ri_swap {post : St1 → Prop} {w i : Nat} {v : List Nat} (hw : w < 2) (hi : i + 1 < v.length) (hv : v.length ≤ 7) (he : ∀ j, v.getD j 0 ≤ 7) (hm : ri_mw a1 a2 w v) (H : ∀ a2' : Nat → Int32, ri_mw a1 a2' w (ri_sw v i) → ri_fr 7 w a2 a2' → post (f, a1, a2', a3, a4, a5, a6, a7, a8, a9)) : wpX_swap post (f, a1, a2, a3, a4, a5, a6, a7, a8, a9) (nI w) (nI i) := by
  have e0 := he i
  have e1 := he (i + 1)
  have m1 := hm.2 (i + 1) hi
  rw [show 7 * w + (i + 1) = 7 * w + i + 1 by omega] at m1
  have m0 := hm.2 i (by omega)
  refine nm_r (ri_i7 w i) ?_
  rw [nI_1, nI_clamp (show 7 * w + i < 2 ^ 31 by omega), nI_clamp (show 7 * w + i + 1 < 2 ^ 31 by omega), m0, m1]
  refine ⟨ri_in (by omega), nm_e ?_⟩
  rw [ri_nv (v := v.getD (i + 1) 0) (by omega), ri_nv (v := v.getD i 0) (by omega)]
  refine ⟨ri_in (by omega), ri_in (by omega), nm_e ⟨ri_in (by omega), nm_e (H _ ⟨?_, fun j hj => ?_⟩ (ri_fr_trans (ri_fr_upd (by omega) (by omega)) (ri_fr_upd (by omega) (by omega))))⟩⟩
  · rw [ri_sw_len v i hi]
    exact hm.1
  · rw [ri_sw_len v i hi] at hj
    rw [ri_sw_get v i j hi]
    by_cases q1 : j = i
    · rw [if_pos q1, pk_un (by omega), q1, pk_us]
    · rw [if_neg q1]
      by_cases q2 : j = i + 1
      · rw [if_pos q2, q2, show 7 * w + (i + 1) = 7 * w + i + 1 by omega, pk_us]
      · rw [if_neg q2, pk_un (by omega), pk_un (by omega)]
        exact hm.2 j hj
end
theorem ri_lt7_get {v : List Nat} (h : ∀ e ∈ v, ri_lt7 e) (j : Nat) : v.getD j 0 ≤ 7 := by
  rcases Nat.lt_or_ge j v.length with k | k
  · exact (h _ (ri_get_memN k)).2
  · rw [ri_get_outN k]
    exact Nat.zero_le _
section
variable {post : Int32 → St1 → Prop} {f : Int32} {a1 a2 a3 a4 a5 a6 a7 a8 a9 : Nat → Int32}
theorem ri_move {V : Nat → List Nat} {w i : Nat} (hw : w < 2) (hi : i < 8) (hI : ri_inv V a1 a2 a3 a4) (H0 : post (-4) (f, a1, a2, a3, a4, a5, a6, a7, a8, a9)) (H1 : ∀ (a2' : Nat → Int32) (v' : List Nat), ri_inv (ri_set V w v') a1 a2' a3 a4 → v'.length = (V w).length → ri_P v' = ri_P (V w) → post 1 (f, a1, a2', a3, a4, a5, a6, a7, a8, a9)) : wpX_move post (f, a1, a2, a3, a4, a5, a6, a7, a8, a9) (nI w) (nI i) := by
  obtain ⟨h1, h2, h3, h4, h5⟩ := hI w hw
  have he := ri_lt7_get h2
  unfold wpX_move
  refine ri_badWord hw (br_t rfl (ri_noPair hw hi h1 h3.1 (fun hlt => br_t rfl (ri_mayMove hw hlt h1 he h3 (fun hmay => br_f (by decide) (ri_swap hw hlt h1 he h3 (fun a2' m1 m2 => ?_))) (br_t rfl H0))) (br_f (by decide) H0)))
  have eP := ri_may_P hlt hmay
  have el := ri_sw_len (V w) i hlt
  refine H1 a2' (ri_sw (V w) i) (ri_inv_upd hI (ri_fr_refl _ _ _) m2 (ri_fr_refl _ _ _) (ri_fr_refl _ _ _) ⟨by omega, fun e hm => h2 e (ri_sw_mem hlt hm), m1, ?_, ?_⟩) el eP
  · rw [eP]; exact h4
  · rw [eP]; exact h5
theorem ri_exchange {V : Nat → List Nat} {w i : Nat} (hw : w < 2) (hi : i < 8) (hI : ri_inv V a1 a2 a3 a4) (H : ∀ (z : Int32) (V' : Nat → List Nat) (a1' a2' a3' a4' : Nat → Int32), ri_inv V' a1' a2' a3' a4' → post z (f, a1', a2', a3', a4', a5, a6, a7, a8, a9)) : wpX_exchange post (f, a1, a2, a3, a4, a5, a6, a7, a8, a9) (nI w) (nI i) := by
  obtain ⟨h1, h2, h3, h4, h5⟩ := hI w hw
  have he := ri_lt7_get h2
  unfold wpX_exchange
  refine ri_badWord hw (br_t rfl (ri_noPair hw hi h1 h3.1 (fun hlt => br_t rfl (ri_mayMove hw hlt h1 he h3 (fun hmay => ri_swap hw hlt h1 he h3 (fun a2' m1 m2 => br_f (by decide) (br_f (by decide) ?_))) (ri_swap hw hlt h1 he h3 (fun a2' m1 m2 => br_t rfl ⟨pk_in w 2 hw, ?_⟩)))) (br_f (by decide) (H _ V _ _ _ _ hI))))
  · have eP := ri_may_P hlt hmay
    have el := ri_sw_len (V w) i hlt
    refine H _ (ri_set V w (ri_sw (V w) i)) _ _ _ _ (ri_inv_upd hI (ri_fr_refl _ _ _) m2 (ri_fr_refl _ _ _) (ri_fr_refl _ _ _) ⟨by omega, fun e hm => h2 e (ri_sw_mem hlt hm), m1, ?_, ?_⟩)
    · rw [eP]; exact h4
    · rw [eP]; exact h5
  · have el := ri_sw_len (V w) i hlt
    have hl : ∀ e ∈ ri_sw (V w) i, ri_lt7 e := fun e hm => h2 e (ri_sw_mem hlt hm)
    rw [nI_clamp (by omega), h3.1]
    refine ri_rebuild hw h1 el hl m1.2 (fun a3' a4' q1 q2 q3 q4 => br_t rfl ?_)
    exact H _ (ri_set V w (ri_sw (V w) i)) _ _ _ _ (ri_inv_upd hI (ri_fr_refl _ _ _) m2 q3 q4 ⟨by omega, hl, m1, q1, q2⟩)
theorem ri_drop {V : Nat → List Nat} {w : Nat} (hw : w < 2) (hI : ri_inv V a1 a2 a3 a4) (H : ∀ (z : Int32) (V' : Nat → List Nat) (a1' a2' a3' a4' : Nat → Int32), ri_inv V' a1' a2' a3' a4' → post z (f, a1', a2', a3', a4', a5, a6, a7, a8, a9)) : wpX_drop post (f, a1, a2, a3, a4, a5, a6, a7, a8, a9) (nI w) := by
  obtain ⟨h1, h2, h3, h4, h5⟩ := hI w hw
  unfold wpX_drop
  refine ri_badWord hw (br_t rfl ⟨pk_in w 2 hw, ?_⟩)
  rw [nI_clamp (by omega), h3.1]
  refine pk_eq (V w).length 0 (fun _ => H _ V _ _ _ _ hI) (fun e => ⟨pk_in w 2 hw, pk_in w 2 hw, ?_⟩)
  obtain ⟨m, hm⟩ : ∃ m, (V w).length = m + 1 := ⟨(V w).length - 1, by omega⟩
  have el : (V w).dropLast.length = m := by rw [List.length_dropLast, hm]; rfl
  have hl : ∀ e ∈ (V w).dropLast, ri_lt7 e := fun e he => h2 e (List.dropLast_subset _ he)
  rw [hm, nI_pred, ri_nb m (by omega)]
  refine nm_e ⟨pk_in w 2 hw, ?_⟩
  rw [pk_us]
  have hg : ∀ i, i < (V w).dropLast.length → a2 (7 * w + i) = nI ((V w).dropLast.getD i 0) := by
    intro i hi
    rw [ri_getD_dl _ _ (by omega)]
    exact h3.2 i (by omega)
  refine ri_rebuild hw (by omega) el hl hg (fun a3' a4' q1 q2 q3 q4 => ⟨pk_in w 2 hw, ?_⟩)
  rw [pk_us, ri_i7, nI_clamp (by omega)]
  refine ⟨ri_in (by omega), H _ (ri_set V w (V w).dropLast) _ _ _ _ (ri_inv_upd hI (ri_fr_upd (by omega) (by omega)) (ri_fr_refl _ _ _) q3 q4 ⟨by omega, hl, ⟨?_, hg⟩, q1, q2⟩)⟩
  rw [pk_us, el]
theorem ri_add {V : Nat → List Nat} {w x : Nat} (hw : w < 2) (hx : ri_lt7 x) (hI : ri_inv V a1 a2 a3 a4) (H : ∀ (z : Int32) (V' : Nat → List Nat) (a1' a2' a3' a4' : Nat → Int32), ri_inv V' a1' a2' a3' a4' → post z (f, a1', a2', a3', a4', a5, a6, a7, a8, a9)) : wpX_add post (f, a1, a2, a3, a4, a5, a6, a7, a8, a9) (nI w) (nI x) := by
  obtain ⟨h1, h2, h3, h4, h5⟩ := hI w hw
  have hx1 := hx.1
  have hx2 := hx.2
  unfold wpX_add
  refine ri_badWord hw (br_t rfl (pk_lt x 1 (fun z => absurd z (by omega)) (fun _ => pk_le x 7 (fun _ => ⟨pk_in w 2 hw, ?_⟩) (fun z => absurd z (by omega)))))
  rw [nI_clamp (by omega), h3.1]
  refine pk_eq (V w).length 7 (fun _ => H _ V _ _ _ _ hI) (fun e => ⟨pk_in w 2 hw, ?_⟩)
  rw [ri_i7, nI_clamp (by omega), ri_nb x (by omega), nI_1, ri_nb _ (by omega)]
  refine ⟨ri_in (by omega), nm_e ⟨pk_in w 2 hw, pk_in w 2 hw, nm_e ?_⟩⟩
  refine ri_insert hw (by omega) (ri_good_P (V w) h2 h1) hx h4 h5 (fun z b3 b4 m1 m2 m3 m4 => ⟨pk_in w 2 hw, ?_⟩)
  have ea : (V w ++ [x]).length = (V w).length + 1 := by rw [List.length_append]; rfl
  refine H _ (ri_set V w (V w ++ [x])) _ _ _ _ (ri_inv_upd hI (ri_fr_upd (by omega) (by omega)) (ri_fr_upd (by omega) (by omega)) m3 m4 ⟨by omega, fun e he => ?_, ⟨?_, fun j hj => ?_⟩, ?_, ?_⟩)
  · rcases List.mem_append.mp he with q | q
    · exact h2 e q
    · have : e = x := by simpa using q
      rw [this]; exact hx
  · rw [pk_us, ea]
  · rw [ea] at hj
    rw [ri_app_get _ _ _ hj]
    by_cases q : j = (V w).length
    · rw [if_pos q, q, pk_us]
    · rw [if_neg q, pk_un (by omega)]
      exact h3.2 j (by omega)
  · rw [ri_P_app]; exact m1
  · rw [ri_P_app]; exact m2
end
end
section
theorem ri_rc_get (v : List Nat) (j : Nat) (h : j < v.length) : (v.map (fun x => 8 - x)).reverse.getD j 0 = 8 - v.getD (v.length - 1 - j) 0 := by
  rw [List.getD_eq_getElem?_getD, List.getElem?_reverse (by rw [List.length_map]; exact h), List.getElem?_map, List.length_map, List.getD_eq_getElem?_getD, List.getElem?_eq_getElem (by omega)]
  rfl
theorem ri_tc : ∀ n, n < 8 → ∀ i, i < 4 → ((nI n - 1) - nI i ≤ nI i ↔ n ≤ 2 * i + 1) := by decide +kernel
theorem ri_hix {w n i : Nat} (h : i + 1 ≤ n) : (((7 : Int32) * nI w + nI n) - 1) - nI i = nI (7 * w + (n - 1 - i)) := by
  rw [ri_i7, show (1 : Int32) = nI 1 from rfl, pk_sub (by omega), pk_sub (by omega)]
  congr 1
  omega
section
variable {post : Int32 → St1 → Prop} {f : Int32} {a1 a2 a3 a4 a5 a6 a7 a8 a9 : Nat → Int32}
theorem ri_turn {w : Nat} {v : List Nat} (hw : w < 2) (hk : ri_wk a1 a2 a3 a4 w v) (H : ∀ (z : Int32) (a2' a3' a4' : Nat → Int32), ri_wk a1 a2' a3' a4' w (v.map (fun x => 8 - x)).reverse → ri_fr 7 w a2 a2' → ri_fr 49 w a3 a3' → ri_fr 7 w a4 a4' → post z (f, a1, a2', a3', a4', a5, a6, a7, a8, a9)) : wpX_turn post (f, a1, a2, a3, a4, a5, a6, a7, a8, a9) (nI w) := by
  obtain ⟨h1, h2, h3, h4, h5⟩ := hk
  have he := ri_lt7_get h2
  unfold wpX_turn
  refine ri_badWord hw (br_t rfl ⟨pk_in w 2 hw, ?_⟩)
  rw [nI_clamp (by omega), h3.1]
  refine nm_e ?_
  refine pk_loop (fun k i s => wX_turn_19 post (nI w) (nI v.length) f k (nI i) a1 s a3 a4 a5 a6 a7 a8 a9) (fun i s => ri_fr 7 w a2 s ∧ ∀ j, j < v.length → s (7 * w + j) = nI (if j < i ∨ v.length ≤ j + i then v.getD (v.length - 1 - j) 0 else v.getD j 0)) (v.length / 2) 0 a2 (by omega) ⟨ri_fr_refl _ _ _, fun j hj => ?_⟩ ?_ ?_
  · rw [if_neg (by omega)]
    exact h3.2 j hj
  · intro k s hs
    have hs1 : ri_fr 7 w a2 s := hs.1
    have hs2 : ∀ j, j < v.length → s (7 * w + j) = nI (v.getD (v.length - 1 - j) 0) := by
      intro j hj
      have q := hs.2 j hj
      rw [q]
      by_cases c : j < v.length / 2 ∨ v.length ≤ j + v.length / 2
      · rw [if_pos c]
      · rw [if_neg c, show v.length - 1 - j = j by omega]
    refine br_t ((ri_tc v.length (by omega) (v.length / 2) (by omega)).mpr (by omega)) ?_
    refine pk_loop (fun k i t => wX_turn_88 post (nI w) (nI v.length) f k (nI i) a1 t a3 a4 a5 a6 a7 a8 a9) (fun i t => ri_fr 7 w a2 t ∧ ∀ j, j < v.length → t (7 * w + j) = nI (if j < i then 8 - v.getD (v.length - 1 - j) 0 else v.getD (v.length - 1 - j) 0)) v.length 0 s (by omega) ⟨hs1, fun j hj => ?_⟩ ?_ ?_
    · rw [if_neg (by omega)]
      exact hs2 j hj
    · intro k t ht
      have ht1 : ri_fr 7 w a2 t := ht.1
      have el : (v.map (fun x => 8 - x)).reverse.length = v.length := by rw [List.length_reverse, List.length_map]
      have hl : ∀ e ∈ (v.map (fun x => 8 - x)).reverse, ri_lt7 e := by
        intro e hm
        obtain ⟨x, hx, rfl⟩ := List.mem_map.mp (List.mem_reverse.mp hm)
        have q1 := (h2 x hx).1
        have q2 := (h2 x hx).2
        exact ⟨by omega, by omega⟩
      have hg : ∀ j, j < (v.map (fun x => 8 - x)).reverse.length → t (7 * w + j) = nI ((v.map (fun x => 8 - x)).reverse.getD j 0) := by
        intro j hj
        rw [el] at hj
        have q := ht.2 j hj
        rw [if_pos hj] at q
        rw [q, ri_rc_get v j hj]
      refine pk_le v.length v.length (fun _ => ?_) (fun z => absurd z (by omega))
      exact ri_rebuild hw h1 el hl hg (fun a3' a4' q1 q2 q3 q4 => H _ t a3' a4' ⟨by omega, hl, ⟨by rw [el]; exact h3.1, hg⟩, q1, q2⟩ ht1 q3 q4)
    · intro k i t hi ht hw2
      have ht1 : ri_fr 7 w a2 t := ht.1
      have ht2 : ∀ j, j < v.length → t (7 * w + j) = nI (if j < i then 8 - v.getD (v.length - 1 - j) 0 else v.getD (v.length - 1 - j) 0) := ht.2
      have q := ht2 i hi
      rw [if_neg (by omega)] at q
      have hei := he (v.length - 1 - i)
      refine pk_le v.length i (fun z => absurd z (by omega)) (fun _ => ?_)
      rw [ri_i7, nI_clamp (by omega), q, show (8 : Int32) = nI 8 from rfl, pk_sub (by omega), ri_nb _ (by omega)]
      refine ⟨ri_in (by omega), ri_in (by omega), nm_e (nm_r (nI_1 i) (hw2 _ ⟨ri_fr_trans ht1 (ri_fr_upd (by omega) (by omega)), fun j hj => ?_⟩))⟩
      by_cases e : j = i
      · rw [e, pk_us, if_pos (by omega)]
      · rw [pk_un (by omega), ht2 j hj]
        by_cases e2 : j < i
        · rw [if_pos e2, if_pos (by omega)]
        · rw [if_neg e2, if_neg (by omega)]
  · intro k i s hi hs hw2
    have hs1 : ri_fr 7 w a2 s := hs.1
    have hs2 : ∀ j, j < v.length → s (7 * w + j) = nI (if j < i ∨ v.length ≤ j + i then v.getD (v.length - 1 - j) 0 else v.getD j 0) := hs.2
    have q1 := hs2 i (by omega)
    rw [if_neg (by omega)] at q1
    have q2 := hs2 (v.length - 1 - i) (by omega)
    rw [if_neg (by omega)] at q2
    have e1 := he i
    have e2 := he (v.length - 1 - i)
    refine br_f (fun z => absurd ((ri_tc v.length (by omega) i (by omega)).mp z) (by omega)) ?_
    refine nm_r (ri_i7 w i) (nm_r (ri_hix (by omega)) ?_)
    rw [nI_clamp (show 7 * w + i < 2 ^ 31 by omega), nI_clamp (show 7 * w + (v.length - 1 - i) < 2 ^ 31 by omega), q1, q2]
    refine ⟨ri_in (by omega), nm_e ?_⟩
    rw [ri_nv (v := v.getD (v.length - 1 - i) 0) (by omega), ri_nv (v := v.getD i 0) (by omega)]
    refine ⟨ri_in (by omega), ri_in (by omega), nm_e ⟨ri_in (by omega), nm_e (nm_r (nI_1 i) (hw2 _ ⟨ri_fr_trans hs1 (ri_fr_trans (ri_fr_upd (by omega) (by omega)) (ri_fr_upd (by omega) (by omega))), fun j hj => ?_⟩))⟩⟩
    by_cases c1 : j = v.length - 1 - i
    · rw [c1, pk_us, if_pos (by omega), show v.length - 1 - (v.length - 1 - i) = i by omega]
    · rw [pk_un (by omega)]
      by_cases c2 : j = i
      · rw [c2, pk_us, if_pos (by omega)]
      · rw [pk_un (by omega), hs2 j hj]
        by_cases c3 : j < i ∨ v.length ≤ j + i
        · rw [if_pos c3, if_pos (by omega)]
        · rw [if_neg c3, if_neg (by omega)]
end
end
section
def ri_kd (L : List Nat) (c : Nat) : Nat → Int32
  | 0 => nI c
  | i + 1 => ri_kd L c i * 64 + 8 * nI (ri_rf L i) + nI (ri_ff L i 7)
def ri_kl (b : Int32) (K : List Nat) : Nat → Int32
  | 0 => b
  | i + 1 => ri_kl b K i * 31 + ri_at K i
theorem ri_neg1 {x : Nat} (h : x < 2147483648) : (-1 : Int32) < nI x := by
  rw [Int32.lt_iff_toInt_lt, nI_toInt (by omega)]
  have : (-1 : Int32).toInt = -1 := by decide
  omega
theorem ri_lk_b {n : Nat} {T : List (List Nat)} (hg : ri_good n T) (hn : n ≤ 7) : ∀ e ∈ ri_lk n T, e < 2147483648 := by
  intro e he
  obtain ⟨v, hv, rfl⟩ := ri_lk_mem.mp he
  have k := ri_ws_P n T v hg hv
  exact ri_code_b k.2.2 (by omega)
theorem ri_pw_get {L : List Nat} (h : L.Pairwise (fun a b => a < b)) {i j : Nat} (hij : i < j) (hj : j < L.length) : L.getD i 0 < L.getD j 0 := by
  have k := List.pairwise_iff_getElem.mp h i j (by omega) hj hij
  rw [List.getD_eq_getElem?_getD, List.getD_eq_getElem?_getD, List.getElem?_eq_getElem hj, List.getElem?_eq_getElem (show i < L.length by omega)]
  exact k
section
variable {post : Int32 → St1 → Prop} {f : Int32} {a1 a2 a3 a4 a5 a6 a7 a8 a9 : Nat → Int32}
theorem ri_kinT {post : Int32 → Prop} {w n : Nat} {T : List (List Nat)} (hw : w < 2) (hn : n ≤ 7) (hg : ri_good n T) (hml : ri_ml a4 w (T.map List.length)) (h : post (nI (ri_lk n T).length)) : wpX_kin post (f, a1, a2, a3, a4, a5, a6, a7, a8, a9) (nI w) := by
  have ok := ri_okS_T hg hn
  have hp := ri_good_pt hg hn
  refine ri_kin hw hml (fun q => by rw [ri_map_get]; exact hp.2.1 q) ok.1 ok.2.1 ok.2.2.1 ?_
  rw [ok.2.2.2.1]
  exact h
theorem ri_kinds9 {w n : Nat} {T : List (List Nat)} {b : Int32} (hw : w < 2) (hn : n ≤ 7) (hg : ri_good n T) (hml : ri_ml a4 w (T.map List.length)) (h : ∃ k, wL_kinds_48 post (nI w) b k (ri_kd (T.map List.length) (ri_lk n T).length 4) 0 f a1 a2 a3 a4 a5 a6 a7 a8 a9) : wpL_kinds post (f, a1, a2, a3, a4, a5, a6, a7, a8, a9) (nI w) b := by
  have hp := ri_good_pt hg hn
  have hb : ∀ q, (T.map List.length).getD q 0 ≤ 7 := fun q => by rw [ri_map_get]; exact hp.2.1 q
  unfold wpL_kinds
  refine ri_kinT hw hn hg hml ?_
  refine pk_loop (σ := Int32) (fun k i s => wL_kinds_9 post (nI w) b f a1 a2 a3 a4 a5 a6 a7 a8 a9 k s (nI i)) (fun i s => s = ri_kd (T.map List.length) (ri_lk n T).length i) 4 0 _ (by omega) rfl ?_ ?_
  · intro k s hs
    have hs2 : s = ri_kd (T.map List.length) (ri_lk n T).length 4 := hs
    subst hs2
    exact pk_le 4 4 (fun _ => h) (fun z => absurd z (by omega))
  · intro k i s hi hs hw2
    have hs2 : s = ri_kd (T.map List.length) (ri_lk n T).length i := hs
    subst hs2
    exact pk_le 4 i (fun z => absurd z (by omega)) (fun _ => ri_rising hw (by omega) hml (ri_falling hw (by omega) hml hb (nm_e (nm_r (nI_1 i) (hw2 _ rfl)))))
theorem ri_kinds0 {w n : Nat} {T : List (List Nat)} (hw : w < 2) (hn : n ≤ 7) (hg : ri_good n T) (hml : ri_ml a4 w (T.map List.length)) (h : post (ri_kd (T.map List.length) (ri_lk n T).length 4) (f, a1, a2, a3, a4, a5, a6, a7, a8, a9)) : wpL_kinds post (f, a1, a2, a3, a4, a5, a6, a7, a8, a9) (nI w) 0 :=
  ri_kinds9 hw hn hg hml ⟨1, pk_le 36 0 (fun z => absurd z (by omega)) (fun _ => br_t rfl h)⟩
theorem ri_kinds1 {w n : Nat} {T : List (List Nat)} (hw : w < 2) (hn : n ≤ 7) (hg : ri_good n T) (h1 : a1 w = nI n) (hml : ri_ml a4 w (T.map List.length)) (hme : ri_me a3 w T)
    (H : ∀ (f' : Int32) (a5' a6' a7' a8' a9' : Nat → Int32), post (ri_kl (ri_kd (T.map List.length) (ri_lk n T).length 4) (ri_lk n T) 36) (f', a1, a2, a3, a4, a5', a6', a7', a8', a9')) : wpL_kinds post (f, a1, a2, a3, a4, a5, a6, a7, a8, a9) (nI w) 1 := by
  refine ri_kinds9 hw hn hg hml ?_
  refine pk_loop (σ := Int32 × Int32 × (Nat → Int32) × (Nat → Int32) × (Nat → Int32) × (Nat → Int32) × (Nat → Int32)) (fun k i s => wL_kinds_48 post (nI w) 1 k s.1 (nI i) s.2.1 a1 a2 a3 a4 s.2.2.1 s.2.2.2.1 s.2.2.2.2.1 s.2.2.2.2.2.1 s.2.2.2.2.2.2) (fun i s => s.1 = ri_kl (ri_kd (T.map List.length) (ri_lk n T).length 4) (ri_lk n T) i) 36 0 (_, f, a5, a6, a7, a8, a9) (by omega) rfl ?_ ?_
  · rintro k ⟨s, g, b5, b6, b7, b8, b9⟩ hs
    have hs2 : s = ri_kl (ri_kd (T.map List.length) (ri_lk n T).length 4) (ri_lk n T) 36 := hs
    subst hs2
    exact pk_le 36 36 (fun _ => H g b5 b6 b7 b8 b9) (fun z => absurd z (by omega))
  · rintro k i ⟨s, g, b5, b6, b7, b8, b9⟩ hi hs hw2
    have hs2 : s = ri_kl (ri_kd (T.map List.length) (ri_lk n T).length 4) (ri_lk n T) i := hs
    subst hs2
    exact pk_le 36 i (fun z => absurd z (by omega)) (fun _ => br_f (by decide) (ri_kinAt hw hn (by omega) hg h1 hml hme (fun f' c5 c6 c7 c8 c9 => nm_e (nm_r (nI_1 i) (hw2 (_, f', c5, c6, c7, c8, c9) rfl)))))
theorem ri_moved {V : Nat → List Nat} {w i : Nat} (hw : w < 2) (hi : i < 8) (hI : ri_inv V a1 a2 a3 a4) (H : ∀ (f' : Int32) (V' : Nat → List Nat) (a1' a2' a3' a4' a5' a6' a7' a8' a9' : Nat → Int32), ri_inv V' a1' a2' a3' a4' → post 1 (f', a1', a2', a3', a4', a5', a6', a7', a8', a9')) : wpL_moved post (f, a1, a2, a3, a4, a5, a6, a7, a8, a9) (nI w) (nI i) := by
  obtain ⟨h1, h2, h3, h4, h5⟩ := hI w hw
  have hg := ri_good_P (V w) h2 h1
  unfold wpL_moved
  refine ri_kinds1 hw h1 hg h3.1 h4 h5 (fun f' b5 b6 b7 b8 b9 => ?_)
  refine ri_move hw hi hI (br_f (by decide) (H _ V _ _ _ _ _ _ _ _ _ hI)) (fun a2' v' k1 k2 k3 => br_t rfl ?_)
  exact ri_kinds1 hw h1 hg h3.1 h4 h5 (fun g c5 c6 c7 c8 c9 => br_t rfl (H _ _ _ _ _ _ _ _ _ _ _ k1))
theorem ri_turned {V : Nat → List Nat} {w : Nat} (hw : w < 2) (hI : ri_inv V a1 a2 a3 a4) (H : ∀ (f' : Int32) (V' : Nat → List Nat) (a1' a2' a3' a4' a5' a6' a7' a8' a9' : Nat → Int32), ri_inv V' a1' a2' a3' a4' → post 1 (f', a1', a2', a3', a4', a5', a6', a7', a8', a9')) : wpL_turned post (f, a1, a2, a3, a4, a5, a6, a7, a8, a9) (nI w) := by
  have hk := hI w hw
  obtain ⟨h1, h2, h3, h4, h5⟩ := hI w hw
  have hg := ri_good_P (V w) h2 h1
  unfold wpL_turned
  refine ri_kinds0 hw h1 hg h4 ?_
  refine ri_turn hw hk (fun z b2 b3 b4 k1 k2 k3 k4 => ?_)
  have el : ((V w).map (fun x => 8 - x)).reverse.length = (V w).length := by rw [List.length_reverse, List.length_map]
  have hg2 := ri_good_P _ k1.2.1 k1.1
  rw [el] at hg2
  have es := ri_turn_P (V w) h2 h1
  refine ri_kinds0 hw h1 hg2 k1.2.2.2.1 (br_t ?_ (H _ _ _ _ _ _ _ _ _ _ _ (ri_inv_upd hI (ri_fr_refl _ _ _) k2 k3 k4 k1)))
  rw [ri_lk_len, ri_lk_len, ri_ws_len _ _ hg2.1, ri_ws_len _ _ hg.1, es]
theorem ri_listed90 {w : Nat} {v : List Nat} {K : Nat} (hw : w < 2) (hk : ri_wk a1 a2 a3 a4 w v) (hK : (ri_lk v.length (ri_P v)).length = K) (H : ∀ (f' : Int32) (a5' a6' a7' a8' a9' : Nat → Int32), post 1 (f', a1, a2, a3, a4, a5', a6', a7', a8', a9')) : wL_listed_90 post (nI w) (nI K) 1 (nI v.length) f a1 a2 a3 a4 a5 a6 a7 a8 a9 := by
  obtain ⟨h1, h2, h3, h4, h5⟩ := hk
  have hg := ri_good_P v h2 h1
  have ok := ri_okS_T hg h1
  have hp := ri_good_pt hg h1
  have hb : ∀ q, ((ri_P v).map List.length).getD q 0 ≤ 7 := fun q => by rw [ri_map_get]; exact hp.2.1 q
  rw [hK] at ok
  have e1 : ri_at (ri_lk v.length (ri_P v)) K = -4 := if_neg (by omega)
  have e2 : ri_at (ri_lk v.length (ri_P v)) (K + 5) = -4 := if_neg (by omega)
  refine br_t rfl (ri_kinAt hw h1 (by omega) hg h3.1 h4 h5 (fun f' b5 b6 b7 b8 b9 => br_t e1 ?_))
  rw [show nI K + 5 = nI (K + 5) from nI_add K 5]
  refine ri_kinAt hw h1 (by omega) hg h3.1 h4 h5 (fun g c5 c6 c7 c8 c9 => br_t e2 (ri_rising (k := 1) hw (by omega) h4 (ri_falling (k := 1) hw (by omega) h4 hb ?_)))
  rw [pk_mul]
  exact pk_lt (ri_rf ((ri_P v).map List.length) 1 * ri_ff ((ri_P v).map List.length) 1 7) v.length (fun z => absurd z (by omega)) (fun _ => H g c5 c6 c7 c8 c9)
theorem ri_listed {w : Nat} {v : List Nat} (hw : w < 2) (hk : ri_wk a1 a2 a3 a4 w v) (H : ∀ (f' : Int32) (a5' a6' a7' a8' a9' : Nat → Int32), post 1 (f', a1, a2, a3, a4, a5', a6', a7', a8', a9')) : wpL_listed post (f, a1, a2, a3, a4, a5, a6, a7, a8, a9) (nI w) := by
  have hk' := hk
  obtain ⟨h1, h2, h3, h4, h5⟩ := hk
  have hg := ri_good_P v h2 h1
  have ok := ri_okS_T hg h1
  have hlt := ri_lk_lt v.length (ri_P v) hg
  have hbd := ri_lk_b hg h1
  have hcb := ri_code_b h2 h1
  have hmem : ri_code v ∈ ri_lk v.length (ri_P v) := ri_lk_mem.mpr ⟨v, ri_ws_self v h2 h1, rfl⟩
  obtain ⟨q, hq, eq⟩ := List.getElem_of_mem hmem
  have eq2 : (ri_lk v.length (ri_P v)).getD q 0 = ri_code v := by
    rw [List.getD_eq_getElem?_getD, List.getElem?_eq_getElem hq]
    exact eq
  unfold wpL_listed
  refine ri_kinT hw h1 hg h4 (ri_codeW hw h3 h1 ?_)
  generalize hK : ri_lk v.length (ri_P v) = K at *
  refine pk_loop (σ := Int32 × Int32 × Int32 × (Nat → Int32) × (Nat → Int32) × (Nat → Int32) × (Nat → Int32) × (Nat → Int32)) (fun k i s => wL_listed_21 post (nI w) (nI K.length) (nI (ri_code v)) k s.1 s.2.1 (nI i) s.2.2.1 a1 a2 a3 a4 s.2.2.2.1 s.2.2.2.2.1 s.2.2.2.2.2.1 s.2.2.2.2.2.2.1 s.2.2.2.2.2.2.2) (fun i s => s.1 = (if i = 0 then -1 else nI (K.getD (i - 1) 0)) ∧ s.2.1 = nI (if q < i then 1 else 0)) K.length 0 (-1, 0, f, a5, a6, a7, a8, a9) (by omega) ⟨rfl, rfl⟩ ?_ ?_
  · rintro k ⟨x4, x5, g, b5, b6, b7, b8, b9⟩ hs
    have hs2 : x5 = nI (if q < K.length then 1 else 0) := hs.2
    rw [if_pos hq] at hs2
    subst hs2
    refine pk_le K.length K.length (fun _ => ?_) (fun z => absurd z (by omega))
    have k90 : ∀ m, wL_listed_67 post (nI w) (nI K.length) (nI 1) g a1 a2 a3 a4 b5 b6 b7 b8 b9 (m + 1) (nI v.length) := by
      intro m
      have k0 : wL_listed_90 post (nI w) (nI K.length) (nI 1) (nI v.length) g a1 a2 a3 a4 b5 b6 b7 b8 b9 := ri_listed90 hw hk' (by rw [hK]) H
      refine pk_le 7 v.length (fun _ => k0) (fun z => ri_letter hw (by omega) h3 h1 (fun z2 => absurd z2 (by omega)) (fun _ => br_t (by decide) k0))
    refine pk_loop (σ := Unit) (fun m i _ => wL_listed_67 post (nI w) (nI K.length) (nI 1) g a1 a2 a3 a4 b5 b6 b7 b8 b9 m (nI i)) (fun _ _ => True) v.length 0 () (by omega) trivial (fun m _ _ => k90 m) ?_
    intro m i _ hi _ hw2
    have hl := h2 _ (ri_get_memN hi)
    have hl1 := hl.1
    have hl2 := hl.2
    refine pk_le 7 i (fun z => absurd z (by omega)) (fun _ => ri_letter hw (by omega) h3 h1 (fun _ => ?_) (fun z => absurd z (by omega)))
    exact pk_le (v.getD i 0) 0 (fun z => absurd z (by omega)) (fun _ => nm_r (nI_1 i) (hw2 () trivial))
  · rintro k i ⟨x4, x5, g, b5, b6, b7, b8, b9⟩ hi hs hw2
    have hs1 : x4 = (if i = 0 then -1 else nI (K.getD (i - 1) 0)) := hs.1
    have hs2 : x5 = nI (if q < i then 1 else 0) := hs.2
    have eat : ri_at K i = nI (K.getD i 0) := if_pos hi
    have bi := ri_getD_b hbd (by omega) i
    have hlast : x4 < nI (K.getD i 0) := by
      rw [hs1]
      by_cases e : i = 0
      · rw [if_pos e]
        exact ri_neg1 bi
      · rw [if_neg e]
        exact nI_lt (ri_pw_get hlt (by omega) hi) (by omega)
    refine pk_le K.length i (fun z => absurd z (by omega)) (fun _ => ri_kinAt hw h1 (by omega) hg h3.1 h4 h5 (fun f' c5 c6 c7 c8 c9 => ?_))
    rw [hK, eat]
    refine br_t hlast (pk_eq (K.getD i 0) (ri_code v) (fun e => ?_) (fun e => ?_))
    · have eiq : i = q := by
        rcases Nat.lt_trichotomy i q with z | z | z
        · have := ri_pw_get hlt z hq
          omega
        · exact z
        · have := ri_pw_get hlt z hi
          omega
      refine nm_e (nm_r (nI_1 i) (hw2 (_, _, f', c5, c6, c7, c8, c9) ⟨?_, ?_⟩))
      · show nI (K.getD i 0) = if i + 1 = 0 then -1 else nI (K.getD (i + 1 - 1) 0)
        rw [if_neg (by omega), show i + 1 - 1 = i by omega]
      · show x5 + 1 = nI (if q < i + 1 then 1 else 0)
        rw [hs2, if_neg (by omega), if_pos (by omega)]
        exact nI_1 0
    · have eiq : i ≠ q := by
        intro z
        rw [z] at e
        exact e eq2
      refine nm_r (nI_1 i) (hw2 (_, _, f', c5, c6, c7, c8, c9) ⟨?_, ?_⟩)
      · show nI (K.getD i 0) = if i + 1 = 0 then -1 else nI (K.getD (i + 1 - 1) 0)
        rw [if_neg (by omega), show i + 1 - 1 = i by omega]
      · show x5 = nI (if q < i + 1 then 1 else 0)
        rw [hs2]
        by_cases z : q < i
        · rw [if_pos z, if_pos (by omega)]
        · rw [if_neg z, if_neg (by omega)]
end
end
section
theorem ri_ext {R S : List Nat} (hl : R.length = S.length) (h : ∀ d, d < R.length → R.getD d 0 = S.getD d 0) : R = S := by
  refine List.ext_getElem hl (fun d h1 h2 => ?_)
  have k := h d h1
  rw [List.getD_eq_getElem?_getD, List.getD_eq_getElem?_getD, List.getElem?_eq_getElem h1, List.getElem?_eq_getElem h2] at k
  exact k
theorem ri_extT {T U : List (List Nat)} (h1 : T.length = 7) (h2 : U.length = 7) (h : ∀ q, q < 7 → T.getD q [] = U.getD q []) : T = U := by
  refine List.ext_getElem (by omega) (fun d k1 k2 => ?_)
  have k := h d (by omega)
  rw [List.getD_eq_getElem?_getD, List.getD_eq_getElem?_getD, List.getElem?_eq_getElem k1, List.getElem?_eq_getElem k2] at k
  exact k
theorem ri_j7 (r : Nat) : (7 : Int32) + nI r = nI (7 + r) := nI_add 7 r
theorem ri_j7m (r c : Nat) : (7 : Int32) * nI r + nI c = nI (7 * r + c) := ri_i7 r c
theorem ri_j49 (r c : Nat) : (49 : Int32) + (7 : Int32) * nI r + nI c = nI (49 + 7 * r + c) := by
  rw [show (49 : Int32) = nI 49 from rfl, show (7 : Int32) = nI 7 from rfl, pk_mul, nI_add, nI_add]
section
variable {post : Int32 → Prop} {f : Int32} {a1 a2 a3 a4 a5 a6 a7 a8 a9 : Nat → Int32}
theorem ri_rel40 {J : Int32 → Int32 → Prop} {T U : List (List Nat)} {r : Nat} {x : Int32} (hr : r < 7) (pT : ri_pt T) (pU : ri_pt U) (hlT : ri_ml a4 0 (T.map List.length)) (heT : ri_me a3 0 T) (heU : ri_me a3 1 U)
    (h0 : (x = 1 ∧ (∀ q, q < r → T.getD q [] = U.getD q []) ∧ (T.getD r []).length = (U.getD r []).length) ∨ (x = 0 ∧ T ≠ U))
    (HJ : ∀ x', ((x' = 1 ∧ ∀ q, q < r + 1 → T.getD q [] = U.getD q []) ∨ (x' = 0 ∧ T ≠ U)) → J x' (nI (r + 1))) : ∃ k, wX_related_40 post J (nI r) f a1 a2 a3 a4 a5 a6 a7 a8 a9 k x 0 := by
  have h7 := pT.2.1 r
  have e4 := hlT r hr
  rw [ri_map_get, show 7 * 0 + r = r by omega] at e4
  refine pk_loop (σ := Int32) (fun k c s => wX_related_40 post J (nI r) f a1 a2 a3 a4 a5 a6 a7 a8 a9 k s (nI c)) (fun c s => (s = 1 ∧ ((∀ q, q < r → T.getD q [] = U.getD q []) ∧ (T.getD r []).length = (U.getD r []).length) ∧ ∀ d, d < c → (T.getD r []).getD d 0 = (U.getD r []).getD d 0) ∨ (s = 0 ∧ T ≠ U)) (T.getD r []).length 0 x (by omega) ?_ ?_ ?_
  · rcases h0 with ⟨k1, k2⟩ | k
    · exact Or.inl ⟨k1, k2, fun d hd => absurd hd (by omega)⟩
    · exact Or.inr k
  · intro k s hs
    refine ⟨pk_in r 14 (by omega), ?_⟩
    rw [nI_clamp (by omega), e4]
    refine pk_le (T.getD r []).length (T.getD r []).length (fun _ => nm_r (nI_1 r) (HJ s ?_)) (fun z => absurd z (by omega))
    rcases hs with ⟨k1, k2, k3⟩ | k
    · refine Or.inl ⟨k1, fun q hq => ?_⟩
      by_cases e : q = r
      · rw [e]; exact ri_ext k2.2 k3
      · exact k2.1 q (by omega)
    · exact Or.inr k
  · intro k c s hc hs hw2
    refine ⟨pk_in r 14 (by omega), ?_⟩
    rw [nI_clamp (by omega), e4]
    refine pk_le (T.getD r []).length c (fun z => absurd z (by omega)) (fun _ => ?_)
    rcases hs with ⟨k1, k2, k3⟩ | ⟨k1, k2⟩
    · rw [k1]
      refine br_f (by decide) ?_
      have eT := heT r hr c hc
      have eU := heU r hr c (by omega)
      rw [show 49 * 0 + 7 * r + c = 7 * r + c by omega] at eT
      rw [show 49 * 1 + 7 * r + c = 49 + 7 * r + c by omega] at eU
      have b1 := ri_pt_ent pT r c
      have b2 := ri_pt_ent pU r c
      rw [ri_j49, ri_j7m, nI_clamp (show 7 * r + c < 2 ^ 31 by omega), nI_clamp (show 49 + 7 * r + c < 2 ^ 31 by omega), eT, eU]
      refine ⟨ri_in (by omega), ri_in (by omega), pk_eq ((T.getD r []).getD c 0) ((U.getD r []).getD c 0) (fun e => nm_r (nI_1 c) (hw2 _ (Or.inl ⟨rfl, k2, ?_⟩))) (fun e => nm_r (nI_1 c) (hw2 _ (Or.inr ⟨rfl, ?_⟩)))⟩
      · intro d hd
        by_cases z : d = c
        · rw [z]; exact e
        · exact k3 d (by omega)
      · intro z
        rw [z] at e
        exact e rfl
    · rw [k1]
      exact br_t rfl (nm_r (nI_1 c) (hw2 _ (Or.inr ⟨rfl, k2⟩)))
theorem ri_related {T U : List (List Nat)} (pT : ri_pt T) (pU : ri_pt U) (hlT : ri_ml a4 0 (T.map List.length)) (heT : ri_me a3 0 T) (hlU : ri_ml a4 1 (U.map List.length)) (heU : ri_me a3 1 U) (h1 : T = U → post 1) (h0 : T ≠ U → post 0) : wpX_related post (f, a1, a2, a3, a4, a5, a6, a7, a8, a9) := by
  refine pk_loop (σ := Int32) (fun k r s => wX_related_4 post f a1 a2 a3 a4 a5 a6 a7 a8 a9 k s (nI r)) (fun r s => (s = 1 ∧ ∀ q, q < r → T.getD q [] = U.getD q []) ∨ (s = 0 ∧ T ≠ U)) 7 0 1 (by omega) (Or.inl ⟨rfl, fun q hq => absurd hq (by omega)⟩) ?_ ?_
  · intro k s hs
    refine pk_le 7 7 (fun _ => ?_) (fun z => absurd z (by omega))
    rcases hs with ⟨k1, k2⟩ | ⟨k1, k2⟩
    · rw [k1]
      exact br_f (by decide) (h1 (ri_extT pT.1 pU.1 k2))
    · rw [k1]
      exact br_t rfl (h0 k2)
  · intro k r s hr hs hw2
    refine pk_le 7 r (fun z => absurd z (by omega)) (fun _ => ?_)
    rcases hs with ⟨k1, k2⟩ | ⟨k1, k2⟩
    · rw [k1]
      refine br_f (by decide) ?_
      have eT := hlT r hr
      have eU := hlU r hr
      rw [ri_map_get, show 7 * 0 + r = r by omega] at eT
      rw [ri_map_get, show 7 * 1 + r = 7 + r by omega] at eU
      have b1 := pT.2.1 r
      have b2 := pU.2.1 r
      rw [ri_j7, nI_clamp (show r < 2 ^ 31 by omega), nI_clamp (show 7 + r < 2 ^ 31 by omega), eT, eU]
      refine ⟨ri_in (by omega), ri_in (by omega), pk_eq (T.getD r []).length (U.getD r []).length (fun e => ri_rel40 hr pT pU hlT heT heU (Or.inl ⟨rfl, k2, e⟩) hw2) (fun e => ri_rel40 hr pT pU hlT heT heU (Or.inr ⟨rfl, ?_⟩) hw2)⟩
      intro z
      rw [z] at e
      exact e rfl
    · rw [k1]
      exact br_t rfl (ri_rel40 hr pT pU hlT heT heU (Or.inr ⟨rfl, k2⟩) hw2)
theorem ri_paired {post : Int32 → St1 → Prop} {V : Nat → List Nat} (hI : ri_inv V a1 a2 a3 a4) (H : ∀ (f' : Int32) (a5' a6' a7' a8' a9' : Nat → Int32), post 1 (f', a1, a2, a3, a4, a5', a6', a7', a8', a9')) : wpL_paired post (f, a1, a2, a3, a4, a5, a6, a7, a8, a9) := by
  obtain ⟨h1, h2, h3, h4, h5⟩ := hI 0 (by omega)
  obtain ⟨g1, g2, g3, g4, g5⟩ := hI 1 (by omega)
  have hg := ri_good_P (V 0) h2 h1
  have gg := ri_good_P (V 1) g2 g1
  have hp := ri_good_pt hg h1
  have gp := ri_good_pt gg g1
  have hok := ri_okS_T hg h1
  have gok := ri_okS_T gg g1
  have elen : ri_P (V 0) = ri_P (V 1) → (V 0).length = (V 1).length := by
    intro e
    have q1 := hg.2.2.1
    have q2 := gg.2.2.1
    rw [e] at q1
    omega
  have k33 : ∀ (z : Int32) (f' : Int32) (b5 b6 b7 b8 b9 : Nat → Int32), (ri_P (V 0) = ri_P (V 1) → z = 1) → (ri_P (V 0) ≠ ri_P (V 1) → z = 0) → wL_paired_33 post z f' a1 a2 a3 a4 b5 b6 b7 b8 b9 := by
    intro z f' b5 b6 b7 b8 b9 z1 z0
    refine ri_related hp gp h4 h5 g4 g5 (fun e => ?_) (fun e => ?_)
    · rw [z1 e]
      exact br_f (by decide) (br_t rfl (H _ _ _ _ _ _))
    · rw [z0 e]
      exact br_t rfl (br_t rfl (H _ _ _ _ _ _))
  refine ri_kinT (w := 0) (by omega) h1 hg h4 (ri_kinT (w := 1) (by omega) g1 gg g4 (br_c (fun e => ?_) (fun e => ?_)))
  · refine ri_kinAt (w := 0) (k := 0) (by omega) h1 (by omega) hg h3.1 h4 h5 (fun f' b5 b6 b7 b8 b9 => ri_kinAt (w := 1) (k := 0) (by omega) g1 (by omega) gg g3.1 g4 g5 (fun g c5 c6 c7 c8 c9 => br_c (fun e2 => ?_) (fun e2 => ?_)))
    · refine k33 1 g c5 c6 c7 c8 c9 (fun _ => rfl) (fun ne => absurd ?_ ne)
      have a0 : ri_at (ri_lk (V 0).length (ri_P (V 0))) 0 = nI ((ri_lk (V 0).length (ri_P (V 0))).getD 0 0) := if_pos (by omega)
      have a1' : ri_at (ri_lk (V 1).length (ri_P (V 1))) 0 = nI ((ri_lk (V 1).length (ri_P (V 1))).getD 0 0) := if_pos (by omega)
      rw [a0, a1'] at e2
      have bb0 := ri_getD_b (ri_lk_b hg h1) (by omega) 0
      have bb1 := ri_getD_b (ri_lk_b gg g1) (by omega) 0
      have e3 := (nI_eq (by omega) (by omega)).mp e2
      obtain ⟨u0, m0, q0⟩ := ri_lk_mem.mp (ri_get_memN (R := ri_lk (V 0).length (ri_P (V 0))) (q := 0) (by omega))
      obtain ⟨u1, m1, q1⟩ := ri_lk_mem.mp (ri_get_memN (R := ri_lk (V 1).length (ri_P (V 1))) (q := 0) (by omega))
      have w0 := ri_ws_P _ _ u0 hg m0
      have w1 := ri_ws_P _ _ u1 gg m1
      have eu := ri_code_inj u0 u1 w0.2.2 w1.2.2 (by rw [q0, q1, e3])
      rw [← w0.1, ← w1.1, eu]
    · refine k33 0 g c5 c6 c7 c8 c9 (fun eP => absurd ?_ e2) (fun _ => rfl)
      rw [elen eP, eP]
  · refine k33 0 f a5 a6 a7 a8 a9 (fun eP => absurd ?_ e) (fun _ => rfl)
    rw [elen eP, eP]
end
end
section
section
variable {post : Int32 → Prop} {L : Nat} {xs : Nat → Int32} {kc ks : Nat} {f : Int32} {a1 a2 a3 a4 a5 a6 a7 a8 a9 : Nat → Int32}
theorem ri_cell {k : Nat} (hL : L ≤ 260) (hk : k < 1000) (H : ∀ r, post r) : wpL_cell post L xs () (nI k) :=
  pk_le L k (fun _ => H 0) (fun z => ⟨pk_in k L z, H _⟩)
theorem ri_151 {J : Int32 → Int32 → (Nat → Int32) → (Nat → Int32) → (Nat → Int32) → (Nat → Int32) → (Nat → Int32) → (Nat → Int32) → (Nat → Int32) → (Nat → Int32) → (Nat → Int32) → Prop} {V : Nat → List Nat} {k w : Nat} {x3 : Int32} (hw : w < 2) (hI : ri_inv V a1 a2 a3 a4) (HJ : ∀ (f' : Int32) (a5' a6' a7' a8' a9' : Nat → Int32), J (nI (k + 2)) f' a1 a2 a3 a4 a5' a6' a7' a8' a9') : wL_law_151 post L xs J (nI k) x3 (nI w) kc ks f a1 a2 a3 a4 a5 a6 a7 a8 a9 := by
  refine br_c (fun _ => ?_) (fun _ => nm_r (ri_p2 k) (HJ _ _ _ _ _ _))
  exact ri_listed hw (hI w hw) (fun f' b5 b6 b7 b8 b9 => br_f (by decide) (ri_paired hI (fun g c5 c6 c7 c8 c9 => br_f (by decide) (nm_r (ri_p2 k) (HJ _ _ _ _ _ _)))))
theorem ri_133 {J : Int32 → Int32 → (Nat → Int32) → (Nat → Int32) → (Nat → Int32) → (Nat → Int32) → (Nat → Int32) → (Nat → Int32) → (Nat → Int32) → (Nat → Int32) → (Nat → Int32) → Prop} {V : Nat → List Nat} {k w : Nat} {x3 x5 : Int32} (hw : w < 2) (hI : ri_inv V a1 a2 a3 a4) (HJ : ∀ (f' : Int32) (V' : Nat → List Nat) (a1' a2' a3' a4' a5' a6' a7' a8' a9' : Nat → Int32), ri_inv V' a1' a2' a3' a4' → J (nI (k + 2)) f' a1' a2' a3' a4' a5' a6' a7' a8' a9') : wL_law_133 post L xs J (nI k) x3 x5 (nI w) kc ks f a1 a2 a3 a4 a5 a6 a7 a8 a9 := by
  refine br_c (fun _ => ri_151 hw hI (fun f' b5 b6 b7 b8 b9 => HJ _ _ _ _ _ _ _ _ _ _ _ hI)) (fun _ => ?_)
  exact ri_turned hw hI (fun f' V' b1 b2 b3 b4 b5 b6 b7 b8 b9 hI' => br_f (by decide) (ri_151 hw hI' (fun f' b5 b6 b7 b8 b9 => HJ _ _ _ _ _ _ _ _ _ _ _ hI')))
theorem ri_law10 {V : Nat → List Nat} (hL : L ≤ 260) (h1 : post 1) (hI : ri_inv V a1 a2 a3 a4) : ∃ n, wL_law_10 post L xs kc ks n 0 f a1 a2 a3 a4 a5 a6 a7 a8 a9 := by
  refine pk_loop (σ := Int32 × (Nat → Int32) × (Nat → Int32) × (Nat → Int32) × (Nat → Int32) × (Nat → Int32) × (Nat → Int32) × (Nat → Int32) × (Nat → Int32) × (Nat → Int32)) (fun n i s => wL_law_10 post L xs kc ks n (nI (2 * i)) s.1 s.2.1 s.2.2.1 s.2.2.2.1 s.2.2.2.2.1 s.2.2.2.2.2.1 s.2.2.2.2.2.2.1 s.2.2.2.2.2.2.2.1 s.2.2.2.2.2.2.2.2.1 s.2.2.2.2.2.2.2.2.2) (fun i s => ∃ V, ri_inv V s.2.1 s.2.2.1 s.2.2.2.1 s.2.2.2.2.1) ((L + 1) / 2) 0 (f, a1, a2, a3, a4, a5, a6, a7, a8, a9) (by omega) ⟨V, hI⟩ ?_ ?_
  · rintro n ⟨f, a1, a2, a3, a4, a5, a6, a7, a8, a9⟩ ⟨V, hI⟩
    refine pk_le L (2 * ((L + 1) / 2)) (fun _ => ?_) (fun z => absurd z (by omega))
    exact ri_listed (w := 0) (by omega) (hI 0 (by omega)) (fun f' b5 b6 b7 b8 b9 => br_f (by decide) (ri_listed (w := 1) (by omega) (hI 1 (by omega)) (fun g c5 c6 c7 c8 c9 => br_f (by decide) (ri_paired hI (fun h d5 d6 d7 d8 d9 => br_f (by decide) h1)))))
  · rintro n i ⟨f, a1, a2, a3, a4, a5, a6, a7, a8, a9⟩ hi ⟨V, hI⟩ hw2
    have HJ : ∀ (f' : Int32) (V' : Nat → List Nat) (a1' a2' a3' a4' a5' a6' a7' a8' a9' : Nat → Int32), ri_inv V' a1' a2' a3' a4' → wL_law_10 post L xs kc ks n (nI (2 * i + 2)) f' a1' a2' a3' a4' a5' a6' a7' a8' a9' := by
      intro f' V' a1' a2' a3' a4' a5' a6' a7' a8' a9' hI'
      exact hw2 (f', a1', a2', a3', a4', a5', a6', a7', a8', a9') ⟨V', hI'⟩
    refine pk_le L (2 * i) (fun z => absurd z (by omega)) (fun _ => ri_cell hL (by omega) (fun c => ?_))
    rw [nI_1]
    refine ri_cell hL (by omega) (fun d => ?_)
    obtain ⟨op, hop, eop⟩ := pk_andE c (m := 15) 4 (by decide)
    obtain ⟨w, hw, ew⟩ := pk_andE (c >>> ((4 : Int32) &&& 31)) (m := 1) 1 (by decide)
    obtain ⟨j, hj, ej⟩ := pk_andE d (m := 7) 3 (by decide)
    obtain ⟨l, hl, el⟩ := pk_andE d (m := 127) 7 (by decide)
    refine nm_r eop (nm_r ew ?_)
    rw [ej, el]
    refine pk_le 9 op (fun _ => ?_) (fun _ => ⟨by decide, ?_⟩)
    · refine pk_eq op 9 (fun _ => ?_) (fun _ => pk_eq op 10 (fun _ => ?_) (fun _ => pk_le 14 op (fun _ => ?_) (fun _ => ?_)))
      · exact ri_drop hw hI (fun z V' b1 b2 b3 b4 hI' => ri_151 hw hI' (fun f' b5 b6 b7 b8 b9 => HJ _ _ _ _ _ _ _ _ _ _ _ hI'))
      · exact ri_exchange hw hj hI (fun z V' b1 b2 b3 b4 hI' => ri_151 hw hI' (fun f' b5 b6 b7 b8 b9 => HJ _ _ _ _ _ _ _ _ _ _ _ hI'))
      · exact ri_133 hw hI HJ
      · exact ri_moved hw hj hI (fun f' V' b1 b2 b3 b4 b5 b6 b7 b8 b9 hI' => br_f (by decide) (ri_133 hw hI' HJ))
    · rw [show nI l - nI l / 7 * 7 = nI (l % 7) from pk_rem (d := 7) (by omega) (by omega) (by omega), show (1 : Int32) + nI (l % 7) = nI (1 + l % 7) from nI_add 1 (l % 7)]
      exact ri_add hw ⟨by omega, by omega⟩ hI (fun z V' b1 b2 b3 b4 hI' => ri_151 hw hI' (fun f' b5 b6 b7 b8 b9 => HJ _ _ _ _ _ _ _ _ _ _ _ hI'))
end
theorem ri_inv0 : ri_inv (fun _ => []) (fun _ => 0) (fun _ => 0) (fun _ => 0) (fun _ => 0) := by
  intro w hw
  have e : ∀ r, r < 7 → (ri_P []).getD r [] = [] := by
    intro r hr
    have : r = 0 ∨ r = 1 ∨ r = 2 ∨ r = 3 ∨ r = 4 ∨ r = 5 ∨ r = 6 := by omega
    rcases this with q | q | q | q | q | q | q <;> subst q <;> rfl
  refine ⟨by simp, fun e he => by simp at he, ⟨rfl, fun i hi => by simp at hi⟩, fun r hr => ?_, fun r hr c hc => ?_⟩
  · rw [ri_map_get, e r hr]
    rfl
  · rw [e r hr] at hc
    simp at hc
theorem i_vc (xs : Nat → Int32) (L : Nat) (hL : L ≤ 260) : wpL_law (fun r => r = 1) L xs := by
  refine ⟨9, 656, by omega, by omega, by omega, by omega, by omega, by omega, by omega, by omega, by omega, by omega, by omega, by omega, by omega, by omega, by omega, by omega, by omega, by omega, by omega, by omega, ?_⟩
  exact ri_law10 hL rfl ri_inv0
end
