section
/-- a row takes x: the new row -/
def rs_row (x : Nat) : List Nat → List Nat
  | [] => [x]
  | a :: l => bif Nat.ble a x then a :: rs_row x l else x :: l
/-- what x pushes out of a row -/
def rs_out (x : Nat) : List Nat → Option Nat
  | [] => none
  | a :: l => bif Nat.ble a x then rs_out x l else some a
/-- the place of the first entry above x -/
def rs_fa (x : Nat) : List Nat → Nat
  | [] => 0
  | a :: l => bif Nat.ble a x then rs_fa x l + 1 else 0
/-- rows take x -/
def rs_ins : List (List Nat) → Nat → List (List Nat)
  | [], _ => []
  | R :: T, x => match rs_out x R with
    | none => rs_row x R :: T
    | some y => rs_row x R :: rs_ins T y
/-- the row that becomes longer -/
def rs_gr : List (List Nat) → Nat → Nat
  | [], _ => 0
  | R :: T, x => match rs_out x R with
    | none => 0
    | some y => rs_gr T y + 1
def rs_e7 : List (List Nat) := [[], [], [], [], [], [], []]
def rs_P (w : List Nat) : List (List Nat) := w.foldl rs_ins rs_e7
def rs_sh (T : List (List Nat)) : List Nat := T.map List.length
theorem rs_bt {a x : Nat} (h : a ≤ x) : Nat.ble a x = true := Nat.ble_eq_true_of_le h
theorem rs_bf {a x : Nat} (h : x < a) : Nat.ble a x = false := by
  cases hb : Nat.ble a x with
  | false => rfl
  | true => exact absurd (Nat.le_of_ble_eq_true hb) (by omega)
theorem rs_row_le {a x : Nat} {l : List Nat} (h : a ≤ x) : rs_row x (a :: l) = a :: rs_row x l := by
  simp only [rs_row, rs_bt h, cond_true]
theorem rs_row_gt {a x : Nat} {l : List Nat} (h : x < a) : rs_row x (a :: l) = x :: l := by
  simp only [rs_row, rs_bf h, cond_false]
theorem rs_out_le {a x : Nat} {l : List Nat} (h : a ≤ x) : rs_out x (a :: l) = rs_out x l := by
  simp only [rs_out, rs_bt h, cond_true]
theorem rs_out_gt {a x : Nat} {l : List Nat} (h : x < a) : rs_out x (a :: l) = some a := by
  simp only [rs_out, rs_bf h, cond_false]
theorem rs_fa_le {a x : Nat} {l : List Nat} (h : a ≤ x) : rs_fa x (a :: l) = rs_fa x l + 1 := by
  simp only [rs_fa, rs_bt h, cond_true]
theorem rs_fa_gt {a x : Nat} {l : List Nat} (h : x < a) : rs_fa x (a :: l) = 0 := by
  simp only [rs_fa, rs_bf h, cond_false]
theorem rs_ins_n {R : List Nat} {T : List (List Nat)} {x : Nat} (h : rs_out x R = none) : rs_ins (R :: T) x = rs_row x R :: T := by
  simp only [rs_ins, h]
theorem rs_ins_s {R : List Nat} {T : List (List Nat)} {x y : Nat} (h : rs_out x R = some y) : rs_ins (R :: T) x = rs_row x R :: rs_ins T y := by
  simp only [rs_ins, h]
theorem rs_gr_n {R : List Nat} {T : List (List Nat)} {x : Nat} (h : rs_out x R = none) : rs_gr (R :: T) x = 0 := by
  simp only [rs_gr, h]
theorem rs_gr_s {R : List Nat} {T : List (List Nat)} {x y : Nat} (h : rs_out x R = some y) : rs_gr (R :: T) x = rs_gr T y + 1 := by
  simp only [rs_gr, h]
/-! rows: members, order -/
theorem rs_out_mem {x y : Nat} : ∀ {R : List Nat}, rs_out x R = some y → y ∈ R ∧ x < y := by
  intro R
  induction R with
  | nil => intro h; exact absurd h (by simp [rs_out])
  | cons a l ih =>
    intro h
    by_cases ha : a ≤ x
    · rw [rs_out_le ha] at h
      exact ⟨List.mem_cons_of_mem a (ih h).1, (ih h).2⟩
    · have ha' : x < a := by omega
      rw [rs_out_gt ha'] at h
      have e : a = y := Option.some.inj h
      subst e
      exact ⟨List.mem_cons_self, ha'⟩
theorem rs_row_mem {x e : Nat} : ∀ {R : List Nat}, e ∈ rs_row x R → e = x ∨ e ∈ R := by
  intro R
  induction R with
  | nil => intro h; exact Or.inl (List.mem_singleton.mp h)
  | cons a l ih =>
    intro h
    by_cases ha : a ≤ x
    · rw [rs_row_le ha] at h
      rcases List.mem_cons.mp h with z | z
      · exact Or.inr (z ▸ List.mem_cons_self)
      · rcases ih z with y | y
        · exact Or.inl y
        · exact Or.inr (List.mem_cons_of_mem a y)
    · rw [rs_row_gt (by omega)] at h
      rcases List.mem_cons.mp h with z | z
      · exact Or.inl z
      · exact Or.inr (List.mem_cons_of_mem a z)
theorem rs_row_srt {x : Nat} : ∀ {R : List Nat}, R.Pairwise (fun a b => a ≤ b) → (rs_row x R).Pairwise (fun a b => a ≤ b) := by
  intro R
  induction R with
  | nil => intro _; exact List.pairwise_cons.mpr ⟨fun _ h => absurd h (by simp), List.Pairwise.nil⟩
  | cons a l ih =>
    intro h
    have h1 := (List.pairwise_cons.mp h).1
    have h2 := (List.pairwise_cons.mp h).2
    by_cases ha : a ≤ x
    · rw [rs_row_le ha]
      refine List.pairwise_cons.mpr ⟨fun e he => ?_, ih h2⟩
      rcases rs_row_mem he with z | z
      · omega
      · exact h1 e z
    · rw [rs_row_gt (by omega)]
      refine List.pairwise_cons.mpr ⟨fun e he => ?_, h2⟩
      have := h1 e he
      omega
theorem rs_row_mem2 {x y e : Nat} : ∀ {R : List Nat}, R.Pairwise (fun a b => a ≤ b) → rs_out x R = some y → e ∈ rs_row x R → e = x ∨ (e ∈ R ∧ (e ≤ x ∨ y ≤ e)) := by
  intro R
  induction R with
  | nil => intro _ h; exact absurd h (by simp [rs_out])
  | cons a l ih =>
    intro hp ho he
    have h1 := (List.pairwise_cons.mp hp).1
    have h2 := (List.pairwise_cons.mp hp).2
    by_cases ha : a ≤ x
    · rw [rs_row_le ha] at he
      rw [rs_out_le ha] at ho
      rcases List.mem_cons.mp he with z | z
      · exact Or.inr ⟨z ▸ List.mem_cons_self, Or.inl (by omega)⟩
      · rcases ih h2 ho z with t | ⟨t1, t2⟩
        · exact Or.inl t
        · exact Or.inr ⟨List.mem_cons_of_mem a t1, t2⟩
    · have ha' : x < a := by omega
      rw [rs_row_gt ha'] at he
      rw [rs_out_gt ha'] at ho
      have e2 : a = y := Option.some.inj ho
      rcases List.mem_cons.mp he with z | z
      · exact Or.inl z
      · exact Or.inr ⟨List.mem_cons_of_mem a z, Or.inr (e2 ▸ h1 e z)⟩
theorem rs_row_map (f : Nat → Nat) (x : Nat) : ∀ (R : List Nat), (∀ a, a ∈ R → (f a ≤ f x ↔ a ≤ x)) → rs_row (f x) (R.map f) = (rs_row x R).map f ∧ rs_out (f x) (R.map f) = (rs_out x R).map f := by
  intro R
  induction R with
  | nil => intro _; exact ⟨rfl, rfl⟩
  | cons a l ih =>
    intro h
    have h0 := h a List.mem_cons_self
    have hl := ih (fun b hb => h b (List.mem_cons_of_mem a hb))
    by_cases ha : a ≤ x
    · have hf := h0.mpr ha
      rw [List.map_cons, rs_row_le hf, rs_out_le hf, rs_row_le ha, rs_out_le ha, List.map_cons, hl.1, hl.2]
      exact ⟨rfl, rfl⟩
    · have hf : f x < f a := by
        rcases Nat.lt_or_ge (f x) (f a) with z | z
        · exact z
        · exact absurd (h0.mp z) ha
      have ha' : x < a := by omega
      rw [List.map_cons, rs_row_gt hf, rs_out_gt hf, rs_row_gt ha', rs_out_gt ha', List.map_cons]
      exact ⟨rfl, rfl⟩
/-! rows of rows -/
theorem rs_ins_mem {e : Nat} : ∀ {T : List (List Nat)} {x : Nat} {R : List Nat}, R ∈ rs_ins T x → e ∈ R → e = x ∨ ∃ R', R' ∈ T ∧ e ∈ R' := by
  intro T
  induction T with
  | nil => intro x R h; exact absurd h (by simp [rs_ins])
  | cons Q T ih =>
    intro x R h he
    cases ho : rs_out x Q with
    | none =>
      rw [rs_ins_n ho] at h
      rcases List.mem_cons.mp h with z | z
      · rw [z] at he
        rcases rs_row_mem he with y | y
        · exact Or.inl y
        · exact Or.inr ⟨Q, List.mem_cons_self, y⟩
      · exact Or.inr ⟨R, List.mem_cons_of_mem Q z, he⟩
    | some y =>
      rw [rs_ins_s ho] at h
      rcases List.mem_cons.mp h with z | z
      · rw [z] at he
        rcases rs_row_mem he with t | t
        · exact Or.inl t
        · exact Or.inr ⟨Q, List.mem_cons_self, t⟩
      · rcases ih z he with t | ⟨R', t1, t2⟩
        · exact Or.inr ⟨Q, List.mem_cons_self, t ▸ (rs_out_mem ho).1⟩
        · exact Or.inr ⟨R', List.mem_cons_of_mem Q t1, t2⟩
theorem rs_ins_len : ∀ (T : List (List Nat)) (x : Nat), (rs_ins T x).length = T.length := by
  intro T
  induction T with
  | nil => intro x; rfl
  | cons Q T ih =>
    intro x
    cases ho : rs_out x Q with
    | none => rw [rs_ins_n ho]; rfl
    | some y => rw [rs_ins_s ho, List.length_cons, List.length_cons, ih y]
theorem rs_fold_len : ∀ (w : List Nat) (T : List (List Nat)), (w.foldl rs_ins T).length = T.length := by
  intro w
  induction w with
  | nil => intro T; rfl
  | cons a w ih => intro T; rw [List.foldl_cons, ih, rs_ins_len]
theorem rs_P_len (w : List Nat) : (rs_P w).length = 7 := rs_fold_len w rs_e7
theorem rs_P_snoc (u : List Nat) (x : Nat) : rs_P (u ++ [x]) = rs_ins (rs_P u) x := by
  unfold rs_P
  rw [List.foldl_append]
  rfl
theorem rs_fold_mem {e : Nat} : ∀ (w : List Nat) (T : List (List Nat)) (R : List Nat), R ∈ w.foldl rs_ins T → e ∈ R → e ∈ w ∨ ∃ R', R' ∈ T ∧ e ∈ R' := by
  intro w
  induction w with
  | nil => intro T R h he; exact Or.inr ⟨R, h, he⟩
  | cons a w ih =>
    intro T R h he
    rw [List.foldl_cons] at h
    rcases ih _ R h he with z | ⟨R', z1, z2⟩
    · exact Or.inl (List.mem_cons_of_mem a z)
    · rcases rs_ins_mem z1 z2 with y | y
      · exact Or.inl (y ▸ List.mem_cons_self)
      · exact Or.inr y
theorem rs_e7_mem {R : List Nat} (h : R ∈ rs_e7) : R = [] := by
  simp [rs_e7] at h
  exact h
theorem rs_P_mem {w R : List Nat} {e : Nat} (h : R ∈ rs_P w) (he : e ∈ R) : e ∈ w := by
  rcases rs_fold_mem w rs_e7 R h he with z | ⟨R', z1, z2⟩
  · exact z
  · rw [rs_e7_mem z1] at z2
    exact absurd z2 (by simp)
theorem rs_ins_srt : ∀ (T : List (List Nat)) (x : Nat), (∀ R, R ∈ T → R.Pairwise (fun a b => a ≤ b)) → ∀ R, R ∈ rs_ins T x → R.Pairwise (fun a b => a ≤ b) := by
  intro T
  induction T with
  | nil => intro x _ R h; exact absurd h (by simp [rs_ins])
  | cons Q T ih =>
    intro x hs R h
    have hQ := hs Q List.mem_cons_self
    have hT : ∀ R, R ∈ T → R.Pairwise (fun a b => a ≤ b) := fun R hR => hs R (List.mem_cons_of_mem Q hR)
    cases ho : rs_out x Q with
    | none =>
      rw [rs_ins_n ho] at h
      rcases List.mem_cons.mp h with z | z
      · rw [z]; exact rs_row_srt hQ
      · exact hT R z
    | some y =>
      rw [rs_ins_s ho] at h
      rcases List.mem_cons.mp h with z | z
      · rw [z]; exact rs_row_srt hQ
      · exact ih y hT R z
theorem rs_fold_srt : ∀ (w : List Nat) (T : List (List Nat)), (∀ R, R ∈ T → R.Pairwise (fun a b => a ≤ b)) → ∀ R, R ∈ w.foldl rs_ins T → R.Pairwise (fun a b => a ≤ b) := by
  intro w
  induction w with
  | nil => intro T h; exact h
  | cons a w ih => intro T h; exact ih _ (rs_ins_srt T a h)
theorem rs_P_srt (w : List Nat) : ∀ R, R ∈ rs_P w → R.Pairwise (fun a b => a ≤ b) := by
  refine rs_fold_srt w rs_e7 (fun R h => ?_)
  rw [rs_e7_mem h]
  exact List.Pairwise.nil
/-! insertion and a map that keeps the order -/
theorem rs_ins_map (f : Nat → Nat) (S : Nat → Prop) (hf : ∀ a b, S a → S b → (f a ≤ f b ↔ a ≤ b)) : ∀ (T : List (List Nat)) (x : Nat), S x → (∀ R, R ∈ T → ∀ a, a ∈ R → S a) → rs_ins (T.map (List.map f)) (f x) = (rs_ins T x).map (List.map f) := by
  intro T
  induction T with
  | nil => intro x _ _; rfl
  | cons R T ih =>
    intro x hx hT
    have hR := hT R List.mem_cons_self
    obtain ⟨h1, h2⟩ := rs_row_map f x R (fun a ha => hf a x (hR a ha) hx)
    cases ho : rs_out x R with
    | none =>
      rw [ho] at h2
      rw [List.map_cons, rs_ins_n h2, rs_ins_n ho, List.map_cons, h1]
    | some y =>
      rw [ho] at h2
      rw [List.map_cons, rs_ins_s h2, rs_ins_s ho, List.map_cons, h1, ih y (hR y (rs_out_mem ho).1) (fun Q hQ => hT Q (List.mem_cons_of_mem R hQ))]
theorem rs_fold_map (f : Nat → Nat) (S : Nat → Prop) (hf : ∀ a b, S a → S b → (f a ≤ f b ↔ a ≤ b)) : ∀ (w : List Nat) (T : List (List Nat)), (∀ a, a ∈ w → S a) → (∀ R, R ∈ T → ∀ a, a ∈ R → S a) → (w.map f).foldl rs_ins (T.map (List.map f)) = (w.foldl rs_ins T).map (List.map f) := by
  intro w
  induction w with
  | nil => intro T _ _; rfl
  | cons a w ih =>
    intro T hw hT
    rw [List.map_cons, List.foldl_cons, List.foldl_cons, rs_ins_map f S hf T a (hw a List.mem_cons_self) hT]
    refine ih (rs_ins T a) (fun b hb => hw b (List.mem_cons_of_mem a hb)) (fun R hR b hb => ?_)
    rcases rs_ins_mem hR hb with z | ⟨R', z1, z2⟩
    · exact z ▸ hw a List.mem_cons_self
    · exact hT R' z1 b z2
theorem rs_sh_map (f : Nat → Nat) (T : List (List Nat)) : rs_sh (T.map (List.map f)) = rs_sh T := by
  induction T with
  | nil => rfl
  | cons R T ih =>
    show (R.map f).length :: rs_sh (T.map (List.map f)) = R.length :: rs_sh T
    rw [ih, List.length_map]
theorem rs_sh_rk (f : Nat → Nat) (w : List Nat) (hf : ∀ a b, a ∈ w → b ∈ w → (f a ≤ f b ↔ a ≤ b)) : rs_sh (rs_P (w.map f)) = rs_sh (rs_P w) := by
  have h := rs_fold_map f (fun a => a ∈ w) hf w rs_e7 (fun a h => h) (fun R hR a ha => by rw [rs_e7_mem hR] at ha; exact absurd ha (by simp))
  have h' : rs_P (w.map f) = (rs_P w).map (List.map f) := h
  rw [h', rs_sh_map]
/-! insertion and the letters' places -/
def rs_I (f : Nat → Nat) : List (List Nat) → Prop
  | [] => True
  | R :: T => R.Pairwise (fun a b => a ≤ b) ∧ (∀ e, e ∈ R → ∀ R', R' ∈ T → ∀ e', e' ∈ R' → f e' = f e → e' ≤ e) ∧ rs_I f T
theorem rs_std (f : Nat → Nat) (hf : ∀ a b, a ≤ b → f a ≤ f b) : ∀ (T : List (List Nat)) (x : Nat), rs_I f T → (∀ R, R ∈ T → ∀ e, e ∈ R → f e = f x → e ≤ x) → rs_ins (T.map (List.map f)) (f x) = (rs_ins T x).map (List.map f) ∧ rs_I f (rs_ins T x) := by
  intro T
  induction T with
  | nil => intro x _ _; exact ⟨rfl, trivial⟩
  | cons R T ih =>
    intro x hI hC
    obtain ⟨hs, hRT, hT⟩ := hI
    have hCR := hC R List.mem_cons_self
    have hcmp : ∀ a, a ∈ R → (f a ≤ f x ↔ a ≤ x) := by
      intro a ha
      constructor
      · intro h
        rcases Nat.lt_or_ge x a with z | z
        · have h' := hf x a (Nat.le_of_lt z)
          exact hCR a ha (Nat.le_antisymm h h')
        · exact z
      · exact hf a x
    obtain ⟨h1, h2⟩ := rs_row_map f x R hcmp
    cases ho : rs_out x R with
    | none =>
      rw [ho] at h2
      rw [List.map_cons, rs_ins_n h2, rs_ins_n ho, List.map_cons, h1]
      refine ⟨rfl, rs_row_srt hs, ?_, hT⟩
      intro e he R' hR' e' he' hfe
      rcases rs_row_mem he with z | z
      · rw [z] at hfe ⊢
        exact hC R' (List.mem_cons_of_mem R hR') e' he' hfe
      · exact hRT e z R' hR' e' he' hfe
    | some y =>
      rw [ho] at h2
      have hy := rs_out_mem ho
      obtain ⟨i1, i2⟩ := ih y hT (fun R' hR' e he hfe => hRT y hy.1 R' hR' e he hfe)
      rw [List.map_cons, rs_ins_s h2, rs_ins_s ho, List.map_cons, h1, i1]
      refine ⟨rfl, rs_row_srt hs, ?_, i2⟩
      intro e he R' hR' e' he' hfe
      rcases rs_ins_mem hR' he' with z | ⟨R2, z1, z2⟩
      · rw [z] at hfe ⊢
        rcases rs_row_mem2 hs ho he with t | ⟨_, t | t⟩
        · rw [t] at hfe ⊢
          exact hCR y hy.1 hfe
        · have g1 := hf e x t
          have g2 := hf x y (Nat.le_of_lt hy.2)
          have g3 := hCR y hy.1 (by omega)
          omega
        · exact t
      · rcases rs_row_mem he with t | t
        · rw [t] at hfe ⊢
          exact hC R2 (List.mem_cons_of_mem R z1) e' z2 hfe
        · exact hRT e t R2 z1 e' z2 hfe
theorem rs_std_fold (f : Nat → Nat) (hf : ∀ a b, a ≤ b → f a ≤ f b) : ∀ (s : List Nat) (T : List (List Nat)), rs_I f T → s.Pairwise (fun e x => f e = f x → e ≤ x) → (∀ x, x ∈ s → ∀ R, R ∈ T → ∀ e, e ∈ R → f e = f x → e ≤ x) → (s.map f).foldl rs_ins (T.map (List.map f)) = (s.foldl rs_ins T).map (List.map f) := by
  intro s
  induction s with
  | nil => intro T _ _ _; rfl
  | cons a s ih =>
    intro T hI hp hC
    have h1 := (List.pairwise_cons.mp hp).1
    have h2 := (List.pairwise_cons.mp hp).2
    obtain ⟨i1, i2⟩ := rs_std f hf T a hI (hC a List.mem_cons_self)
    rw [List.map_cons, List.foldl_cons, List.foldl_cons, i1]
    refine ih (rs_ins T a) i2 h2 (fun x hx R hR e he hfe => ?_)
    rcases rs_ins_mem hR he with z | ⟨R', z1, z2⟩
    · rw [z] at hfe ⊢
      exact h1 x hx hfe
    · exact hC x (List.mem_cons_of_mem a hx) R' z1 e z2 hfe
theorem rs_I7 (f : Nat → Nat) : rs_I f rs_e7 := by
  have hn : ∀ (T : List (List Nat)), rs_I f T → rs_I f ([] :: T) := fun T h => ⟨List.Pairwise.nil, fun e he => absurd he (by simp), h⟩
  exact hn _ (hn _ (hn _ (hn _ (hn _ (hn _ (hn _ trivial))))))
theorem rs_sh_std (f : Nat → Nat) (hf : ∀ a b, a ≤ b → f a ≤ f b) (s : List Nat) (hp : s.Pairwise (fun e x => f e = f x → e ≤ x)) : rs_sh (rs_P (s.map f)) = rs_sh (rs_P s) := by
  have h := rs_std_fold f hf s rs_e7 (rs_I7 f) hp (fun x _ R hR e he => by rw [rs_e7_mem hR] at he; exact absurd he (by simp))
  have h' : rs_P (s.map f) = (rs_P s).map (List.map f) := h
  rw [h', rs_sh_map]
/-! ranks -/
def rs_rk (s : List Nat) (a : Nat) : Nat := match s with
  | [] => 0
  | b :: l => (if b < a then 1 else 0) + rs_rk l a
theorem rs_rk_le {a b : Nat} (h : a ≤ b) : ∀ s : List Nat, rs_rk s a ≤ rs_rk s b := by
  intro s
  induction s with
  | nil => exact Nat.le_refl 0
  | cons c l ih =>
    simp only [rs_rk]
    split <;> split <;> omega
theorem rs_rk_lt {a b : Nat} (h : a < b) : ∀ s : List Nat, a ∈ s → rs_rk s a < rs_rk s b := by
  intro s
  induction s with
  | nil => intro hm; exact absurd hm (by simp)
  | cons c l ih =>
    intro hm
    have hl := rs_rk_le (Nat.le_of_lt h) l
    simp only [rs_rk]
    rcases List.mem_cons.mp hm with z | z
    · rw [if_neg (by omega), if_pos (by omega)]
      omega
    · have := ih z
      split <;> split <;> omega
theorem rs_rk_up : ∀ (s : List Nat) (a : Nat), rs_rk s a ≤ s.length := by
  intro s a
  induction s with
  | nil => exact Nat.le_refl 0
  | cons c l ih =>
    simp only [rs_rk, List.length_cons]
    split <;> omega
theorem rs_rk_len {a : Nat} : ∀ s : List Nat, a ∈ s → rs_rk s a < s.length := by
  intro s
  induction s with
  | nil => intro hm; exact absurd hm (by simp)
  | cons c l ih =>
    intro hm
    simp only [rs_rk, List.length_cons]
    rcases List.mem_cons.mp hm with z | z
    · rw [if_neg (by omega)]
      have := rs_rk_up l a
      omega
    · have := ih z
      split <;> omega
theorem rs_rk_iff {a b : Nat} {s : List Nat} (ha : a ∈ s) (hb : b ∈ s) : rs_rk s a ≤ rs_rk s b ↔ a ≤ b := by
  constructor
  · intro h
    rcases Nat.lt_or_ge b a with z | z
    · have := rs_rk_lt z s hb
      omega
    · exact z
  · intro h
    exact rs_rk_le h s
end
section
/-! the finite check over orders of at most seven things -/
def rs_has (a : Nat) : List Nat → Bool
  | [] => false
  | b :: l => Nat.beq a b || rs_has a l
def rs_eqL : List Nat → List Nat → Bool
  | [], [] => true
  | a :: l, b :: k => Nat.beq a b && rs_eqL l k
  | _, _ => false
def rs_isP : List Nat → Nat → Bool
  | [], _ => true
  | a :: l, b => Nat.ble a b && rs_isP l a
def rs_sm : List Nat → Nat
  | [] => 0
  | a :: l => a + rs_sm l
/-- the words one move away, the smaller letter of the pair in front -/
def rs_mv : List Nat → List (List Nat)
  | a :: b :: c :: l => (bif (!Nat.ble a b) && Nat.ble a c then [a :: c :: b :: l] else []) ++ ((bif Nat.ble a c && (!Nat.ble b c) then [b :: a :: c :: l] else []) ++ (rs_mv (b :: c :: l)).map (List.cons a))
  | _ => []
def rs_allr (f : Nat → Bool) : Nat → Bool
  | 0 => true
  | n + 1 => f n && rs_allr f n
def rs_alll (f : List Nat → Bool) : List (List Nat) → Bool
  | [] => true
  | a :: l => f a && rs_alll f l
/-- reversed, and each letter turned over -/
def rs_rc (c : Nat) (w : List Nat) : List Nat := (w.map (fun a => c - a)).reverse
def rs_tS (p S : List Nat) : Bool := rs_isP S 7 && (Nat.beq (rs_sm S) p.length && (rs_eqL (rs_sh (rs_P (rs_rc 6 p))) S && rs_alll (fun q => rs_eqL (rs_sh (rs_P q)) S) (rs_mv p)))
def rs_t (p : List Nat) : Bool := rs_tS p (rs_sh (rs_P p))
def rs_chk (t : List Nat → Bool) (n : Nat) : Nat → List Nat → Bool
  | 0, acc => t acc
  | k + 1, acc => rs_allr (fun a => rs_has a acc || rs_chk t n k (acc ++ [a])) n
set_option maxRecDepth 100000 in
theorem rs_c0 : rs_chk rs_t 0 0 [] = true := by decide +kernel
set_option maxRecDepth 100000 in
theorem rs_c1 : rs_chk rs_t 1 1 [] = true := by decide +kernel
set_option maxRecDepth 100000 in
theorem rs_c2 : rs_chk rs_t 2 2 [] = true := by decide +kernel
set_option maxRecDepth 100000 in
theorem rs_c3 : rs_chk rs_t 3 3 [] = true := by decide +kernel
set_option maxRecDepth 100000 in
theorem rs_c4 : rs_chk rs_t 4 4 [] = true := by decide +kernel
set_option maxRecDepth 100000 in
theorem rs_c5 : rs_chk rs_t 5 5 [] = true := by decide +kernel
set_option maxRecDepth 100000 in
theorem rs_c6 : rs_chk rs_t 6 6 [] = true := by decide +kernel
set_option maxRecDepth 100000 in
theorem rs_c70 : rs_chk rs_t 7 6 [0] = true := by decide +kernel
set_option maxRecDepth 100000 in
theorem rs_c71 : rs_chk rs_t 7 6 [1] = true := by decide +kernel
set_option maxRecDepth 100000 in
theorem rs_c72 : rs_chk rs_t 7 6 [2] = true := by decide +kernel
set_option maxRecDepth 100000 in
theorem rs_c73 : rs_chk rs_t 7 6 [3] = true := by decide +kernel
set_option maxRecDepth 100000 in
theorem rs_c74 : rs_chk rs_t 7 6 [4] = true := by decide +kernel
set_option maxRecDepth 100000 in
theorem rs_c75 : rs_chk rs_t 7 6 [5] = true := by decide +kernel
set_option maxRecDepth 100000 in
theorem rs_c76 : rs_chk rs_t 7 6 [6] = true := by decide +kernel
end
section
/-! lists by place -/
theorem rs_gmem {α : Type} {l : List α} {i : Nat} {d : α} (h : i < l.length) : l.getD i d ∈ l := by
  rw [List.getD_eq_getElem?_getD, List.getElem?_eq_getElem h]
  exact List.getElem_mem h
theorem rs_gmap {α β : Type} (f : α → β) {l : List α} {i : Nat} {d : α} {e : β} (h : i < l.length) : (l.map f).getD i e = f (l.getD i d) := by
  rw [List.getD_eq_getElem?_getD, List.getD_eq_getElem?_getD, List.getElem?_map, List.getElem?_eq_getElem h]
  rfl
theorem rs_gset {α : Type} {l : List α} {i : Nat} (j : Nat) {a d : α} (hi : i < l.length) : (l.set i a).getD j d = if j = i then a else l.getD j d := by
  rw [List.getD_eq_getElem?_getD, List.getD_eq_getElem?_getD, List.getElem?_set]
  by_cases h : i = j
  · subst h
    rw [if_pos rfl, if_pos rfl, if_pos hi]
    rfl
  · rw [if_neg h, if_neg (fun z => h z.symm)]
theorem rs_gapp {α : Type} {l : List α} {x d : α} (j : Nat) : (l ++ [x]).getD j d = if j = l.length then x else l.getD j d := by
  rw [List.getD_eq_getElem?_getD, List.getD_eq_getElem?_getD, List.getElem?_append]
  by_cases h : j < l.length
  · rw [if_pos h, if_neg (by omega)]
  · rw [if_neg h]
    by_cases e : j = l.length
    · rw [if_pos e, e, Nat.sub_self]
      rfl
    · rw [if_neg e, List.getElem?_eq_none (by omega : l.length ≤ j), List.getElem?_eq_none (by simp; omega)]
theorem rs_gpre {α : Type} {pre rest : List α} {R d : α} : (pre ++ R :: rest).getD pre.length d = R := by
  rw [List.getD_eq_getElem?_getD, List.getElem?_append_right (Nat.le_refl _), Nat.sub_self]
  rfl
theorem rs_spre {α : Type} {pre rest : List α} {R R' : α} : (pre ++ R :: rest).set pre.length R' = pre ++ R' :: rest := by
  rw [List.set_append_right _ _ (Nat.le_refl _), Nat.sub_self]
  rfl
theorem rs_gge {α : Type} {l : List α} {i : Nat} {d : α} (h : l.length ≤ i) : l.getD i d = d := by
  rw [List.getD_eq_getElem?_getD, List.getElem?_eq_none h]
  rfl
theorem rs_gext {l k : List Nat} (h : l.length = k.length) (hi : ∀ i, i < l.length → l.getD i 0 = k.getD i 0) : l = k := by
  refine List.ext_getElem h (fun i h1 h2 => ?_)
  have := hi i h1
  rw [List.getD_eq_getElem?_getD, List.getD_eq_getElem?_getD, List.getElem?_eq_getElem h1, List.getElem?_eq_getElem h2] at this
  exact this
/-! the check, read -/
theorem rs_has_ok {a : Nat} : ∀ {l : List Nat}, rs_has a l = true → a ∈ l := by
  intro l
  induction l with
  | nil => intro h; exact absurd h (by simp [rs_has])
  | cons b l ih =>
    intro h
    rw [rs_has, Bool.or_eq_true] at h
    rcases h with z | z
    · rw [Nat.eq_of_beq_eq_true z]
      exact List.mem_cons_self
    · exact List.mem_cons_of_mem b (ih z)
theorem rs_eqL_ok : ∀ {l k : List Nat}, rs_eqL l k = true → l = k := by
  intro l
  induction l with
  | nil =>
    intro k h
    cases k with
    | nil => rfl
    | cons b k => exact absurd h (by simp [rs_eqL])
  | cons a l ih =>
    intro k h
    cases k with
    | nil => exact absurd h (by simp [rs_eqL])
    | cons b k =>
      rw [rs_eqL, Bool.and_eq_true] at h
      rw [Nat.eq_of_beq_eq_true h.1, ih h.2]
theorem rs_allr_ok {f : Nat → Bool} : ∀ {n : Nat}, rs_allr f n = true → ∀ i, i < n → f i = true := by
  intro n
  induction n with
  | zero => intro _ i hi; exact absurd hi (by omega)
  | succ n ih =>
    intro h i hi
    rw [rs_allr, Bool.and_eq_true] at h
    by_cases e : i = n
    · rw [e]; exact h.1
    · exact ih h.2 i (by omega)
theorem rs_alll_ok {f : List Nat → Bool} : ∀ {l : List (List Nat)}, rs_alll f l = true → ∀ a, a ∈ l → f a = true := by
  intro l
  induction l with
  | nil => intro _ a ha; exact absurd ha (by simp)
  | cons b l ih =>
    intro h a ha
    rw [rs_alll, Bool.and_eq_true] at h
    rcases List.mem_cons.mp ha with z | z
    · rw [z]; exact h.1
    · exact ih h.2 a z
theorem rs_chk_ok {t : List Nat → Bool} {n : Nat} : ∀ (k : Nat) (acc p : List Nat), rs_chk t n k acc = true → p.length = k → (∀ a, a ∈ p → a < n) → (acc ++ p).Nodup → t (acc ++ p) = true := by
  intro k
  induction k with
  | zero =>
    intro acc p h hl _ _
    rw [List.eq_nil_of_length_eq_zero hl, List.append_nil]
    exact h
  | succ k ih =>
    intro acc p h hl hb hn
    cases p with
    | nil => exact absurd hl (by simp)
    | cons a q =>
      rw [rs_chk] at h
      have h1 := rs_allr_ok h a (hb a List.mem_cons_self)
      rw [Bool.or_eq_true] at h1
      rcases h1 with z | z
      · exact absurd rfl ((List.nodup_append.mp hn).2.2 a (rs_has_ok z) a List.mem_cons_self)
      · have h2 := ih (acc ++ [a]) q z (by simpa using hl) (fun b hb' => hb b (List.mem_cons_of_mem a hb')) (by rw [List.append_assoc]; exact hn)
        rw [List.append_assoc] at h2
        exact h2
theorem rs_c7 : rs_chk rs_t 7 7 [] = true := by
  have e : rs_chk rs_t 7 7 [] = rs_allr (fun a => rs_has a [] || rs_chk rs_t 7 6 ([] ++ [a])) 7 := by rw [rs_chk]
  rw [e]
  simp only [rs_allr, rs_has, List.nil_append, rs_c70, rs_c71, rs_c72, rs_c73, rs_c74, rs_c75, rs_c76, Bool.false_or, Bool.and_self, Bool.and_true]
theorem rs_perm {p : List Nat} (hl : p.length ≤ 7) (hb : ∀ a, a ∈ p → a < p.length) (hn : p.Nodup) : rs_t p = true := by
  have key : ∀ n, p.length = n → rs_chk rs_t n n [] = true → rs_t p = true := by
    intro n hn' hc
    have := rs_chk_ok n [] p hc hn' (fun a ha => hn' ▸ hb a ha) hn
    exact this
  have hc : p.length = 0 ∨ p.length = 1 ∨ p.length = 2 ∨ p.length = 3 ∨ p.length = 4 ∨ p.length = 5 ∨ p.length = 6 ∨ p.length = 7 := by omega
  rcases hc with z | z | z | z | z | z | z | z
  · exact key 0 z rs_c0
  · exact key 1 z rs_c1
  · exact key 2 z rs_c2
  · exact key 3 z rs_c3
  · exact key 4 z rs_c4
  · exact key 5 z rs_c5
  · exact key 6 z rs_c6
  · exact key 7 z rs_c7
theorem rs_t_1 {p : List Nat} (h : rs_t p = true) : rs_isP (rs_sh (rs_P p)) 7 = true ∧ rs_sm (rs_sh (rs_P p)) = p.length ∧ rs_sh (rs_P (rs_rc 6 p)) = rs_sh (rs_P p) ∧ ∀ q, q ∈ rs_mv p → rs_sh (rs_P q) = rs_sh (rs_P p) := by
  rw [rs_t, rs_tS, Bool.and_eq_true, Bool.and_eq_true, Bool.and_eq_true] at h
  exact ⟨h.1, Nat.eq_of_beq_eq_true h.2.1, rs_eqL_ok h.2.2.1, fun q hq => rs_eqL_ok (rs_alll_ok h.2.2.2 q hq)⟩
/-! letters and places as one number -/
def rs_sd : Nat → List Nat → List Nat
  | _, [] => []
  | i, a :: l => (8 * a + i) :: rs_sd (i + 1) l
theorem rs_sd_len : ∀ (w : List Nat) (i : Nat), (rs_sd i w).length = w.length := by
  intro w
  induction w with
  | nil => intro i; rfl
  | cons a l ih => intro i; rw [rs_sd, List.length_cons, List.length_cons, ih]
theorem rs_sd_map : ∀ (w : List Nat) (i : Nat), i + w.length ≤ 8 → (rs_sd i w).map (fun e => e / 8) = w := by
  intro w
  induction w with
  | nil => intro i _; rfl
  | cons a l ih =>
    intro i h
    rw [List.length_cons] at h
    rw [rs_sd, List.map_cons, ih (i + 1) (by omega)]
    have : (8 * a + i) / 8 = a := by omega
    rw [this]
theorem rs_sd_mem : ∀ (w : List Nat) (i : Nat), i + w.length ≤ 8 → ∀ x, x ∈ rs_sd i w → i ≤ x % 8 ∧ x / 8 ∈ w := by
  intro w
  induction w with
  | nil => intro i _ x h; exact absurd h (by simp [rs_sd])
  | cons a l ih =>
    intro i h x hx
    rw [List.length_cons] at h
    rw [rs_sd] at hx
    rcases List.mem_cons.mp hx with z | z
    · have e : x / 8 = a := by omega
      exact ⟨by omega, e ▸ List.mem_cons_self⟩
    · have := ih (i + 1) (by omega) x z
      exact ⟨by omega, List.mem_cons_of_mem a this.2⟩
theorem rs_sd_pw : ∀ (w : List Nat) (i : Nat), i + w.length ≤ 8 → (rs_sd i w).Pairwise (fun e x => e % 8 < x % 8) := by
  intro w
  induction w with
  | nil => intro i _; exact List.Pairwise.nil
  | cons a l ih =>
    intro i h
    rw [List.length_cons] at h
    rw [rs_sd]
    refine List.pairwise_cons.mpr ⟨fun x hx => ?_, ih (i + 1) (by omega)⟩
    have := (rs_sd_mem l (i + 1) (by omega) x hx).1
    omega
theorem rs_sd_get : ∀ (w : List Nat) (i j : Nat), j < w.length → (rs_sd i w).getD j 0 = 8 * w.getD j 0 + (i + j) := by
  intro w
  induction w with
  | nil => intro i j h; exact absurd h (by simp)
  | cons a l ih =>
    intro i j h
    cases j with
    | zero => rfl
    | succ j =>
      rw [rs_sd, List.getD_cons_succ, List.getD_cons_succ, ih (i + 1) j (by simpa using h)]
      omega
def rs_p (w : List Nat) : List Nat := (rs_sd 0 w).map (rs_rk (rs_sd 0 w))
theorem rs_p_len (w : List Nat) : (rs_p w).length = w.length := by
  rw [rs_p, List.length_map, rs_sd_len]
theorem rs_p_lt {w : List Nat} : ∀ a, a ∈ rs_p w → a < (rs_p w).length := by
  intro a ha
  obtain ⟨e, he, rfl⟩ := List.mem_map.mp ha
  rw [rs_p_len, ← rs_sd_len w 0]
  exact rs_rk_len _ he
theorem rs_p_nd {w : List Nat} (h : w.length ≤ 7) : (rs_p w).Nodup := by
  refine List.pairwise_map.mpr (List.Pairwise.imp_of_mem (fun {a b} ha hb hab => ?_) (rs_sd_pw w 0 (by omega)))
  intro z
  have h1 := (rs_rk_iff ha hb).mp (Nat.le_of_eq z)
  have h2 := (rs_rk_iff hb ha).mp (Nat.le_of_eq z.symm)
  have : a = b := Nat.le_antisymm h1 h2
  rw [this] at hab
  exact absurd hab (Nat.lt_irrefl _)
theorem rs_p_t {w : List Nat} (h : w.length ≤ 7) : rs_t (rs_p w) = true := rs_perm (by rw [rs_p_len]; exact h) rs_p_lt (rs_p_nd h)
theorem rs_d8 : ∀ a b : Nat, a ≤ b → (fun e => e / 8) a ≤ (fun e => e / 8) b := fun a b h => Nat.div_le_div_right h
theorem rs_sh_p {w : List Nat} (h : w.length ≤ 7) : rs_sh (rs_P (rs_p w)) = rs_sh (rs_P w) := by
  have h1 := rs_sh_std (fun e => e / 8) rs_d8 (rs_sd 0 w) (List.Pairwise.imp (fun {a b} hab he => by omega) (rs_sd_pw w 0 (by omega)))
  rw [rs_sd_map w 0 (by omega)] at h1
  rw [h1]
  exact rs_sh_rk (rs_rk (rs_sd 0 w)) (rs_sd 0 w) (fun a b ha hb => rs_rk_iff ha hb)
/-- the shape is one of so many cells -/
theorem rs_part {w : List Nat} (h : w.length ≤ 7) : rs_isP (rs_sh (rs_P w)) 7 = true ∧ rs_sm (rs_sh (rs_P w)) = w.length := by
  have := rs_t_1 (rs_p_t h)
  rw [rs_sh_p h, rs_p_len] at this
  exact ⟨this.1, this.2.1⟩
/-- (B) a turn keeps the shape -/
theorem rs_turn {w : List Nat} (h : w.length ≤ 7) (hb : ∀ a, a ∈ w → a ≤ 7) : rs_sh (rs_P (rs_rc 8 w)) = rs_sh (rs_P w) := by
  have hm : ∀ e, e ∈ rs_sd 0 w → e ≤ 63 := by
    intro e he
    have := hb _ (rs_sd_mem w 0 (by omega) e he).2
    omega
  have hr : ∀ e, e ∈ rs_sd 0 w → rs_rk (rs_sd 0 w) e ≤ 6 := by
    intro e he
    have := rs_rk_len _ he
    rw [rs_sd_len] at this
    omega
  have e1 : (rs_rc 71 (rs_sd 0 w)).map (fun e => e / 8) = rs_rc 8 w := by
    have : rs_rc 8 w = rs_rc 8 ((rs_sd 0 w).map (fun e => e / 8)) := by rw [rs_sd_map w 0 (by omega)]
    rw [this, rs_rc, rs_rc, List.map_reverse, List.map_map, List.map_map]
    refine congrArg List.reverse (List.map_congr_left (fun e he => ?_))
    show (71 - e) / 8 = 8 - e / 8
    omega
  have e2 : (rs_rc 71 (rs_sd 0 w)).map (fun b => 6 - rs_rk (rs_sd 0 w) (71 - b)) = rs_rc 6 (rs_p w) := by
    rw [rs_p, rs_rc, rs_rc, List.map_reverse, List.map_map, List.map_map]
    refine congrArg List.reverse (List.map_congr_left (fun e he => ?_))
    have := hm e he
    show 6 - rs_rk (rs_sd 0 w) (71 - (71 - e)) = 6 - rs_rk (rs_sd 0 w) e
    rw [show 71 - (71 - e) = e by omega]
  have h1 := rs_sh_std (fun e => e / 8) rs_d8 (rs_rc 71 (rs_sd 0 w)) (by
    rw [rs_rc, List.pairwise_reverse, List.pairwise_map]
    refine List.Pairwise.imp_of_mem (fun {a b} ha hb hab he => ?_) (rs_sd_pw w 0 (by omega))
    have g1 := hm a ha
    have g2 := hm b hb
    omega)
  rw [e1] at h1
  have h2 := rs_sh_rk (fun b => 6 - rs_rk (rs_sd 0 w) (71 - b)) (rs_rc 71 (rs_sd 0 w)) (by
    intro b b' hb hb'
    rw [rs_rc, List.mem_reverse] at hb hb'
    obtain ⟨e, he, rfl⟩ := List.mem_map.mp hb
    obtain ⟨e', he', rfl⟩ := List.mem_map.mp hb'
    have g1 := hm e he
    have g2 := hm e' he'
    have g3 := hr e he
    have g4 := hr e' he'
    have g5 := rs_rk_iff he' he
    rw [show 71 - (71 - e) = e by omega, show 71 - (71 - e') = e' by omega]
    constructor
    · intro z
      have := g5.mp (by omega)
      omega
    · intro z
      have := g5.mpr (by omega)
      omega)
  rw [e2] at h2
  rw [h1, ← h2, (rs_t_1 (rs_p_t h)).2.2.1, rs_sh_p h]
end
section
/-! two neighbours change places -/
def rs_swap : Nat → List Nat → List Nat
  | 0, a :: b :: l => b :: a :: l
  | i + 1, a :: l => a :: rs_swap i l
  | _, l => l
theorem rs_swap_len : ∀ (i : Nat) (w : List Nat), (rs_swap i w).length = w.length := by
  intro i
  induction i with
  | zero =>
    intro w
    match w with
    | [] => rfl
    | [a] => rfl
    | a :: b :: l => rfl
  | succ i ih =>
    intro w
    match w with
    | [] => rfl
    | a :: l =>
      show (a :: rs_swap i l).length = (a :: l).length
      rw [List.length_cons, List.length_cons, ih l]
theorem rs_swap_map (f : Nat → Nat) : ∀ (i : Nat) (w : List Nat), rs_swap i (w.map f) = (rs_swap i w).map f := by
  intro i
  induction i with
  | zero =>
    intro w
    match w with
    | [] => rfl
    | [a] => rfl
    | a :: b :: l => rfl
  | succ i ih =>
    intro w
    match w with
    | [] => rfl
    | a :: l =>
      show f a :: rs_swap i (l.map f) = f a :: (rs_swap i l).map f
      rw [ih l]
theorem rs_swap_mem {x : Nat} : ∀ (i : Nat) (w : List Nat), x ∈ rs_swap i w → x ∈ w := by
  intro i
  induction i with
  | zero =>
    intro w
    match w with
    | [] => intro h; exact h
    | [a] => intro h; exact h
    | a :: b :: l =>
      intro h
      have h' : x ∈ b :: a :: l := h
      simp only [List.mem_cons] at h' ⊢
      rcases h' with z | z | z
      · exact Or.inr (Or.inl z)
      · exact Or.inl z
      · exact Or.inr (Or.inr z)
  | succ i ih =>
    intro w
    match w with
    | [] => intro h; exact h
    | a :: l =>
      intro h
      have h' : x ∈ a :: rs_swap i l := h
      rcases List.mem_cons.mp h' with z | z
      · exact z ▸ List.mem_cons_self
      · exact List.mem_cons_of_mem a (ih l z)
theorem rs_swap_pw (R : Nat → Nat → Prop) : ∀ (i : Nat) (w : List Nat), w.Pairwise R → R (w.getD (i + 1) 0) (w.getD i 0) → (rs_swap i w).Pairwise R := by
  intro i
  induction i with
  | zero =>
    intro w
    match w with
    | [] => intro h _; exact h
    | [a] => intro h _; exact h
    | a :: b :: l =>
      intro h hr
      have h1 := (List.pairwise_cons.mp h).1
      have h2 := (List.pairwise_cons.mp (List.pairwise_cons.mp h).2).1
      have h3 := (List.pairwise_cons.mp (List.pairwise_cons.mp h).2).2
      have hr' : R b a := hr
      show (b :: a :: l).Pairwise R
      refine List.pairwise_cons.mpr ⟨fun x hx => ?_, List.pairwise_cons.mpr ⟨fun x hx => h1 x (List.mem_cons_of_mem b hx), h3⟩⟩
      rcases List.mem_cons.mp hx with z | z
      · rw [z]; exact hr'
      · exact h2 x z
  | succ i ih =>
    intro w
    match w with
    | [] => intro h _; exact h
    | a :: l =>
      intro h hr
      show (a :: rs_swap i l).Pairwise R
      exact List.pairwise_cons.mpr ⟨fun x hx => (List.pairwise_cons.mp h).1 x (rs_swap_mem i l hx), ih l (List.pairwise_cons.mp h).2 hr⟩
theorem rs_swap_get : ∀ (i : Nat) (w : List Nat) (j : Nat), i + 1 < w.length → (rs_swap i w).getD j 0 = if j = i then w.getD (i + 1) 0 else if j = i + 1 then w.getD i 0 else w.getD j 0 := by
  intro i
  induction i with
  | zero =>
    intro w j h
    match w with
    | [] => exact absurd h (by simp)
    | [a] => exact absurd h (by simp)
    | a :: b :: l =>
      match j with
      | 0 => rfl
      | 1 => rfl
      | j + 2 => rw [if_neg (by omega), if_neg (by omega)]; rfl
  | succ i ih =>
    intro w j h
    match w with
    | [] => exact absurd h (by simp)
    | a :: l =>
      match j with
      | 0 => rw [if_neg (by omega), if_neg (by omega)]; rfl
      | j + 1 =>
        have := ih l j (by simpa using h)
        show (rs_swap i l).getD j 0 = _
        rw [this]
        by_cases e1 : j = i
        · rw [if_pos e1, if_pos (by omega : j + 1 = i + 1)]; rfl
        · rw [if_neg e1, if_neg (by omega : ¬ j + 1 = i + 1)]
          by_cases e2 : j = i + 1
          · rw [if_pos e2, if_pos (by omega : j + 1 = i + 1 + 1)]; rfl
          · rw [if_neg e2, if_neg (by omega : ¬ j + 1 = i + 1 + 1)]; rfl
theorem rs_swap_swap (i : Nat) (w : List Nat) (h : i + 1 < w.length) : rs_swap i (rs_swap i w) = w := by
  refine rs_gext (by rw [rs_swap_len, rs_swap_len]) (fun j _ => ?_)
  rw [rs_swap_get i _ j (by rw [rs_swap_len]; exact h), rs_swap_get i w (i + 1) h, rs_swap_get i w i h, rs_swap_get i w j h]
  by_cases e1 : j = i
  · rw [if_pos e1, if_neg (by omega), if_pos rfl, e1]
  · rw [if_neg e1]
    by_cases e2 : j = i + 1
    · rw [if_pos e2, if_pos rfl, e2]
    · rw [if_neg e2, if_neg e1, if_neg e2]
/-! moves -/
def rs_leg (w : List Nat) (i : Nat) : Prop := i + 1 < w.length ∧ w.getD i 0 ≠ w.getD (i + 1) 0 ∧ ((0 < i ∧ min (w.getD i 0) (w.getD (i + 1) 0) < w.getD (i - 1) 0 ∧ w.getD (i - 1) 0 ≤ max (w.getD i 0) (w.getD (i + 1) 0)) ∨ (i + 2 < w.length ∧ min (w.getD i 0) (w.getD (i + 1) 0) ≤ w.getD (i + 2) 0 ∧ w.getD (i + 2) 0 < max (w.getD i 0) (w.getD (i + 1) 0)))
theorem rs_mv_c {a b c : Nat} {l q : List Nat} (h : q ∈ rs_mv (b :: c :: l)) : a :: q ∈ rs_mv (a :: b :: c :: l) := by
  rw [rs_mv]
  exact List.mem_append.mpr (Or.inr (List.mem_append.mpr (Or.inr (List.mem_map.mpr ⟨q, h, rfl⟩))))
theorem rs_mv_l {a b c : Nat} {l : List Nat} (h1 : b < a) (h2 : a ≤ c) : a :: c :: b :: l ∈ rs_mv (a :: b :: c :: l) := by
  rw [rs_mv, rs_bf h1, rs_bt h2]
  exact List.mem_append.mpr (Or.inl List.mem_cons_self)
theorem rs_mv_r {a b c : Nat} {l : List Nat} (h1 : a ≤ c) (h2 : c < b) : b :: a :: c :: l ∈ rs_mv (a :: b :: c :: l) := by
  rw [rs_mv, rs_bt h1, rs_bf h2]
  exact List.mem_append.mpr (Or.inr (List.mem_append.mpr (Or.inl List.mem_cons_self)))
theorem rs_leg_mv : ∀ (i : Nat) (p : List Nat), rs_leg p i → p.getD i 0 < p.getD (i + 1) 0 → rs_swap i p ∈ rs_mv p := by
  intro i
  induction i with
  | zero =>
    intro p hl ho
    obtain ⟨h1, h2, h3⟩ := hl
    rcases h3 with z | z
    · exact absurd z.1 (by omega)
    · match p with
      | [] => exact absurd h1 (by simp)
      | [a] => exact absurd h1 (by simp)
      | [a, b] => exact absurd z.1 (by simp)
      | a :: b :: c :: l =>
        have z2 : min a b ≤ c := z.2.1
        have z3 : c < max a b := z.2.2
        have ho' : a < b := ho
        exact rs_mv_r (by omega) (by omega)
  | succ i ih =>
    intro p hl ho
    obtain ⟨h1, h2, h3⟩ := hl
    match p with
    | [] => exact absurd h1 (by simp)
    | [a] => exact absurd h1 (by simp)
    | [a, b] => exact absurd h1 (by simp)
    | a :: b :: c :: l =>
      have ho' : (b :: c :: l).getD i 0 < (b :: c :: l).getD (i + 1) 0 := ho
      by_cases hz : i = 0 ∧ (min b c < a ∧ a ≤ max b c)
      · obtain ⟨z0, z1, z2⟩ := hz
        subst z0
        have ho2 : b < c := ho
        exact rs_mv_l (by omega) (by omega)
      · have hl' : rs_leg (b :: c :: l) i := by
          refine ⟨by simpa using h1, h2, ?_⟩
          rcases h3 with z | z
          · match i with
            | 0 => exact absurd ⟨rfl, z.2⟩ hz
            | i + 1 => exact Or.inl ⟨by omega, z.2⟩
          · exact Or.inr ⟨by simpa using z.1, z.2⟩
        exact rs_mv_c (ih (b :: c :: l) hl' ho')
/-- comparisons go over from a word to its order -/
theorem rs_leg_tr {w p : List Nat} (hl : p.length = w.length) (h1 : ∀ j k, j < w.length → k < w.length → w.getD j 0 < w.getD k 0 → p.getD j 0 < p.getD k 0) (h2 : ∀ j k, j < k → k < w.length → w.getD j 0 ≤ w.getD k 0 → p.getD j 0 ≤ p.getD k 0) (i : Nat) (h : rs_leg w i) : rs_leg p i := by
  obtain ⟨g1, g2, g3⟩ := h
  have a1 := h1 i (i + 1) (by omega) (by omega)
  have a2 := h1 (i + 1) i (by omega) (by omega)
  refine ⟨by omega, fun z => by omega, ?_⟩
  rcases g3 with z | z
  · have b1 := h1 i (i - 1) (by omega) (by omega)
    have b2 := h1 (i + 1) (i - 1) (by omega) (by omega)
    have b3 := h2 (i - 1) i (by omega) (by omega)
    have b4 := h2 (i - 1) (i + 1) (by omega) (by omega)
    exact Or.inl ⟨z.1, by omega, by omega⟩
  · have b1 := h1 (i + 2) i (by omega) (by omega)
    have b2 := h1 (i + 2) (i + 1) (by omega) (by omega)
    have b3 := h2 i (i + 2) (by omega) (by omega)
    have b4 := h2 (i + 1) (i + 2) (by omega) (by omega)
    exact Or.inr ⟨by omega, by omega, by omega⟩
theorem rs_p_get {w : List Nat} {j : Nat} (h : j < w.length) : (rs_p w).getD j 0 = rs_rk (rs_sd 0 w) (8 * w.getD j 0 + j) := by
  rw [rs_p, rs_gmap (rs_rk (rs_sd 0 w)) (d := 0) (by rw [rs_sd_len]; exact h), rs_sd_get w 0 j h, Nat.zero_add]
theorem rs_sd_in {w : List Nat} {j : Nat} (h : j < w.length) : 8 * w.getD j 0 + j ∈ rs_sd 0 w := by
  have := rs_sd_get w 0 j h
  rw [Nat.zero_add] at this
  rw [← this]
  exact rs_gmem (by rw [rs_sd_len]; exact h)
theorem rs_leg_p {w : List Nat} (hw : w.length ≤ 7) (i : Nat) (h : rs_leg w i) : rs_leg (rs_p w) i := by
  refine rs_leg_tr (rs_p_len w) (fun j k hj hk z => ?_) (fun j k hj hk z => ?_) i h
  · rw [rs_p_get hj, rs_p_get hk]
    exact rs_rk_lt (by omega) _ (rs_sd_in hj)
  · rw [rs_p_get (by omega), rs_p_get hk]
    exact rs_rk_le (by omega) _
theorem rs_leg_swap {w : List Nat} {i : Nat} (h : rs_leg w i) : rs_leg (rs_swap i w) i := by
  obtain ⟨g1, g2, g3⟩ := h
  refine ⟨by rw [rs_swap_len]; exact g1, ?_, ?_⟩
  · rw [rs_swap_get i w i g1, rs_swap_get i w (i + 1) g1, if_pos rfl, if_neg (by omega), if_pos rfl]
    exact fun z => g2 z.symm
  · rw [rs_swap_get i w i g1, rs_swap_get i w (i + 1) g1, rs_swap_get i w (i - 1) g1, rs_swap_get i w (i + 2) g1, if_pos rfl, if_neg (by omega : ¬ i + 1 = i), if_pos rfl, rs_swap_len, if_neg (by omega : ¬ i + 2 = i), if_neg (by omega : ¬ i + 2 = i + 1), Nat.min_comm, Nat.max_comm]
    rcases g3 with z | z
    · rw [if_neg (by omega : ¬ i - 1 = i), if_neg (by omega : ¬ i - 1 = i + 1)]
      exact Or.inl z
    · exact Or.inr z
theorem rs_mv_sh {p : List Nat} (hl : p.length ≤ 7) (hb : ∀ a, a ∈ p → a < p.length) (hn : p.Nodup) {i : Nat} (h : rs_leg p i) : rs_sh (rs_P (rs_swap i p)) = rs_sh (rs_P p) := by
  rcases Nat.lt_or_ge (p.getD i 0) (p.getD (i + 1) 0) with z | z
  · exact (rs_t_1 (rs_perm hl hb hn)).2.2.2 _ (rs_leg_mv i p h z)
  · have hq : rs_t (rs_swap i p) = true := rs_perm (by rw [rs_swap_len]; exact hl) (fun a ha => by rw [rs_swap_len]; exact hb a (rs_swap_mem i p ha)) (rs_swap_pw _ i p hn (fun y => h.2.1 y.symm))
    have h1 := (rs_t_1 hq).2.2.2 _ (rs_leg_mv i (rs_swap i p) (rs_leg_swap h) (by
      rw [rs_swap_get i p i h.1, rs_swap_get i p (i + 1) h.1, if_pos rfl, if_neg (by omega), if_pos rfl]
      have := h.2.1
      omega))
    rw [rs_swap_swap i p h.1] at h1
    exact h1.symm
/-- (A) a move keeps the shape -/
theorem rs_move {w : List Nat} (hw : w.length ≤ 7) {i : Nat} (h : rs_leg w i) : rs_sh (rs_P (rs_swap i w)) = rs_sh (rs_P w) := by
  have h1 := rs_sh_std (fun e => e / 8) rs_d8 (rs_swap i (rs_sd 0 w)) (by
    refine rs_swap_pw _ i _ (List.Pairwise.imp (fun {a b} hab he => by omega) (rs_sd_pw w 0 (by omega))) ?_
    have g1 := h.1
    have g2 := h.2.1
    rw [rs_sd_get w 0 i (by omega), rs_sd_get w 0 (i + 1) g1]
    intro he
    omega)
  rw [← rs_swap_map, rs_sd_map w 0 (by omega)] at h1
  have h2 := rs_sh_rk (rs_rk (rs_sd 0 w)) (rs_swap i (rs_sd 0 w)) (fun a b ha hb => rs_rk_iff (rs_swap_mem i _ ha) (rs_swap_mem i _ hb))
  rw [← rs_swap_map] at h2
  have h3 := rs_mv_sh (by rw [rs_p_len]; exact hw) rs_p_lt (rs_p_nd hw) (rs_leg_p hw i h)
  have h4 : rs_sh (rs_P (rs_swap i (rs_p w))) = rs_sh (rs_P (rs_swap i (rs_sd 0 w))) := h2
  rw [h1, ← h4, h3, rs_sh_p hw]
end
section
/-! a row by place -/
theorem rs_fa_up (x : Nat) : ∀ R : List Nat, rs_fa x R ≤ R.length := by
  intro R
  induction R with
  | nil => exact Nat.le_refl 0
  | cons a l ih =>
    by_cases ha : a ≤ x
    · rw [rs_fa_le ha, List.length_cons]; omega
    · rw [rs_fa_gt (by omega)]; omega
theorem rs_fa_lo {x : Nat} : ∀ {R : List Nat} {j : Nat}, j < rs_fa x R → R.getD j 0 ≤ x := by
  intro R
  induction R with
  | nil => intro j h; exact absurd h (by simp [rs_fa])
  | cons a l ih =>
    intro j h
    by_cases ha : a ≤ x
    · rw [rs_fa_le ha] at h
      cases j with
      | zero => exact ha
      | succ j => exact ih (j := j) (by omega)
    · rw [rs_fa_gt (by omega)] at h
      exact absurd h (by omega)
theorem rs_fa_at {x : Nat} : ∀ {R : List Nat}, rs_fa x R < R.length → x < R.getD (rs_fa x R) 0 := by
  intro R
  induction R with
  | nil => intro h; exact absurd h (by simp)
  | cons a l ih =>
    intro h
    by_cases ha : a ≤ x
    · rw [rs_fa_le ha, List.length_cons] at h
      rw [rs_fa_le ha, List.getD_cons_succ]
      exact ih (by omega)
    · rw [rs_fa_gt (by omega)]
      show x < a
      omega
theorem rs_fa_row {x : Nat} : ∀ {R : List Nat}, rs_fa x R < R.length → rs_row x R = R.set (rs_fa x R) x ∧ rs_out x R = some (R.getD (rs_fa x R) 0) := by
  intro R
  induction R with
  | nil => intro h; exact absurd h (by simp)
  | cons a l ih =>
    intro h
    by_cases ha : a ≤ x
    · rw [rs_fa_le ha, List.length_cons] at h
      have := ih (by omega)
      rw [rs_fa_le ha, List.getD_cons_succ, rs_row_le ha, rs_out_le ha, List.set_cons_succ, this.1, this.2]
      exact ⟨rfl, rfl⟩
    · have ha' : x < a := by omega
      rw [rs_fa_gt ha', rs_row_gt ha', rs_out_gt ha']
      exact ⟨rfl, rfl⟩
theorem rs_fa_end {x : Nat} : ∀ {R : List Nat}, rs_fa x R = R.length → rs_row x R = R ++ [x] ∧ rs_out x R = none := by
  intro R
  induction R with
  | nil => intro _; exact ⟨rfl, rfl⟩
  | cons a l ih =>
    intro h
    by_cases ha : a ≤ x
    · rw [rs_fa_le ha, List.length_cons] at h
      have := ih (by omega)
      rw [rs_row_le ha, rs_out_le ha, this.1, this.2]
      exact ⟨rfl, rfl⟩
    · rw [rs_fa_gt (by omega), List.length_cons] at h
      exact absurd h (by omega)
theorem rs_out_none {x : Nat} {R : List Nat} (h : rs_out x R = none) : rs_fa x R = R.length := by
  rcases Nat.lt_or_ge (rs_fa x R) R.length with z | z
  · rw [(rs_fa_row z).2] at h
    exact absurd h (by simp)
  · have := rs_fa_up x R
    omega
theorem rs_out_some {x y : Nat} {R : List Nat} (h : rs_out x R = some y) : rs_fa x R < R.length ∧ R.getD (rs_fa x R) 0 = y := by
  rcases Nat.lt_or_ge (rs_fa x R) R.length with z | z
  · rw [(rs_fa_row z).2] at h
    exact ⟨z, Option.some.inj h⟩
  · have := rs_fa_up x R
    rw [(rs_fa_end (by omega : rs_fa x R = R.length)).2] at h
    exact absurd h (by simp)
theorem rs_srt_get : ∀ {R : List Nat} {i j : Nat}, R.Pairwise (fun a b => a ≤ b) → i ≤ j → j < R.length → R.getD i 0 ≤ R.getD j 0 := by
  intro R
  induction R with
  | nil => intro i j _ _ h; exact absurd h (by simp)
  | cons a l ih =>
    intro i j hp hij hj
    have h1 := (List.pairwise_cons.mp hp).1
    have h2 := (List.pairwise_cons.mp hp).2
    rw [List.length_cons] at hj
    cases i with
    | zero =>
      cases j with
      | zero => exact Nat.le_refl _
      | succ j => exact h1 _ (rs_gmem (by omega))
    | succ i =>
      cases j with
      | zero => exact absurd hij (by omega)
      | succ j => exact ih h2 (by omega) (by omega)
/-! rows taken apart -/
def rs_lb (x : Nat) (R : List Nat) : Nat → Nat
  | 0 => 0
  | c + 1 => if R.getD (c + 1) 0 < x then c + 1 else rs_lb x R c
def rs_unr (R : List Nat) (p : Nat × List (List Nat)) : Nat × List (List Nat) := (R.getD (rs_lb p.1 R (R.length - 1)) 0, R.set (rs_lb p.1 R (R.length - 1)) p.1 :: p.2)
def rs_un : List (List Nat) → Nat × List (List Nat) → Nat × List (List Nat)
  | [], p => p
  | R :: pre, p => rs_unr R (rs_un pre p)
def rs_take (T : List (List Nat)) (r : Nat) : Nat × List (List Nat) := rs_un (T.take r) ((T.getD r []).getD ((T.getD r []).length - 1) 0, (T.getD r []).take ((T.getD r []).length - 1) :: T.drop (r + 1))
theorem rs_un_snoc (R : List Nat) (p : Nat × List (List Nat)) : ∀ pre : List (List Nat), rs_un (pre ++ [R]) p = rs_un pre (rs_unr R p) := by
  intro pre
  induction pre with
  | nil => rfl
  | cons Q pre ih =>
    show rs_unr Q (rs_un (pre ++ [R]) p) = rs_unr Q (rs_un pre (rs_unr R p))
    rw [ih]
theorem rs_take_s (R : List Nat) (T : List (List Nat)) (r : Nat) : rs_take (R :: T) (r + 1) = rs_unr R (rs_take T r) := rfl
theorem rs_lb_eq {x c : Nat} {R : List Nat} : ∀ {k : Nat}, c ≤ k → (∀ j, c < j → j ≤ k → ¬ R.getD j 0 < x) → (c = 0 ∨ R.getD c 0 < x) → rs_lb x R k = c := by
  intro k
  induction k with
  | zero => intro h _ _; rw [rs_lb]; omega
  | succ k ih =>
    intro h h1 h2
    rw [rs_lb]
    by_cases e : c = k + 1
    · subst e
      rw [if_pos (by rcases h2 with z | z; exact absurd z (by omega); exact z)]
    · rw [if_neg (h1 (k + 1) (by omega) (by omega))]
      exact ih (by omega) (fun j a b => h1 j a (by omega)) h2
theorem rs_lb_up (x : Nat) (R : List Nat) : ∀ k : Nat, rs_lb x R k ≤ k := by
  intro k
  induction k with
  | zero => exact Nat.le_refl 0
  | succ k ih =>
    rw [rs_lb]
    split
    · exact Nat.le_refl _
    · omega
theorem rs_unr_ins {x y : Nat} {R : List Nat} (hs : R.Pairwise (fun a b => a ≤ b)) (ho : rs_out x R = some y) (T : List (List Nat)) : rs_unr (rs_row x R) (y, T) = (x, R :: T) := by
  obtain ⟨h1, h2⟩ := rs_out_some ho
  have hx := rs_fa_at h1
  have hl : rs_lb y (rs_row x R) ((rs_row x R).length - 1) = rs_fa x R := by
    rw [(rs_fa_row h1).1, List.length_set]
    refine rs_lb_eq (by omega) (fun j a b => ?_) (Or.inr ?_)
    · rw [rs_gset j h1, if_neg (by omega), ← h2]
      have := rs_srt_get hs (Nat.le_of_lt a) (by omega : j < R.length)
      omega
    · rw [rs_gset _ h1, if_pos rfl]
      omega
  unfold rs_unr
  rw [hl, (rs_fa_row h1).1, rs_gset _ h1, if_pos rfl, List.set_set]
  have e : R.set (rs_fa x R) y = R := by
    refine rs_gext (by rw [List.length_set]) (fun j _ => ?_)
    rw [rs_gset j h1]
    by_cases e : j = rs_fa x R
    · rw [if_pos e, e, h2]
    · rw [if_neg e]
  rw [e]
/-- (E) taking off undoes putting in -/
theorem rs_take_ins : ∀ (T : List (List Nat)) (x : Nat), (∀ R, R ∈ T → R.Pairwise (fun a b => a ≤ b)) → rs_gr T x < T.length → rs_take (rs_ins T x) (rs_gr T x) = (x, T) := by
  intro T
  induction T with
  | nil => intro x _ h; exact absurd h (by simp)
  | cons R T ih =>
    intro x hs hg
    cases ho : rs_out x R with
    | none =>
      rw [rs_gr_n ho, rs_ins_n ho, (rs_fa_end (rs_out_none ho)).1]
      show ((R ++ [x]).getD ((R ++ [x]).length - 1) 0, (R ++ [x]).take ((R ++ [x]).length - 1) :: T) = (x, R :: T)
      rw [List.length_append, List.length_singleton, Nat.add_sub_cancel, rs_gapp, if_pos rfl, List.take_left]
    | some y =>
      rw [rs_gr_s ho, List.length_cons] at hg
      rw [rs_gr_s ho, rs_ins_s ho, rs_take_s, ih y (fun Q hQ => hs Q (List.mem_cons_of_mem R hQ)) (by omega)]
      exact rs_unr_ins (hs R List.mem_cons_self) ho T
theorem rs_row_len {x : Nat} {R : List Nat} : (rs_row x R).length = match rs_out x R with
    | none => R.length + 1
    | some _ => R.length := by
  cases ho : rs_out x R with
  | none => rw [(rs_fa_end (rs_out_none ho)).1, List.length_append]; rfl
  | some y => rw [(rs_fa_row (rs_out_some ho).1).1, List.length_set]
theorem rs_sh_ins : ∀ (T : List (List Nat)) (x : Nat), rs_sh (rs_ins T x) = if rs_gr T x < T.length then (rs_sh T).set (rs_gr T x) ((rs_sh T).getD (rs_gr T x) 0 + 1) else rs_sh T := by
  intro T
  induction T with
  | nil => intro x; rfl
  | cons R T ih =>
    intro x
    have hl := rs_row_len (x := x) (R := R)
    cases ho : rs_out x R with
    | none =>
      rw [ho] at hl
      rw [rs_gr_n ho, rs_ins_n ho, if_pos (by simp)]
      show (rs_row x R).length :: rs_sh T = (R.length + 1) :: rs_sh T
      rw [hl]
    | some y =>
      rw [ho] at hl
      rw [rs_gr_s ho, rs_ins_s ho]
      show (rs_row x R).length :: rs_sh (rs_ins T y) = _
      rw [hl, ih y, List.length_cons]
      by_cases h : rs_gr T y < T.length
      · rw [if_pos h, if_pos (by omega)]
        rfl
      · rw [if_neg h, if_neg (by omega)]
        rfl
theorem rs_sh_get (T : List (List Nat)) (r : Nat) : (rs_sh T).getD r 0 = (T.getD r []).length := by
  rcases Nat.lt_or_ge r T.length with z | z
  · exact rs_gmap List.length z
  · rw [rs_gge z, rs_gge (by rw [rs_sh, List.length_map]; exact z)]
    rfl
theorem rs_sh_len (T : List (List Nat)) : (rs_sh T).length = T.length := List.length_map ..
theorem rs_sh_take : ∀ (T : List (List Nat)) (r : Nat), r < T.length → rs_sh (rs_take T r).2 = (rs_sh T).set r ((rs_sh T).getD r 0 - 1) := by
  intro T
  induction T with
  | nil => intro r h; exact absurd h (by simp)
  | cons R T ih =>
    intro r h
    cases r with
    | zero =>
      show (R.take (R.length - 1)).length :: rs_sh T = (R.length - 1) :: rs_sh T
      rw [List.length_take]
      have : min (R.length - 1) R.length = R.length - 1 := by omega
      rw [this]
    | succ r =>
      rw [rs_take_s]
      show (R.set _ _).length :: rs_sh (rs_take T r).2 = R.length :: (rs_sh T).set r ((rs_sh T).getD r 0 - 1)
      rw [List.length_set, ih r (by simpa using h)]
theorem rs_take_len (T : List (List Nat)) (r : Nat) (h : r < T.length) : (rs_take T r).2.length = T.length := by
  rw [← rs_sh_len, rs_sh_take T r h, List.length_set, rs_sh_len]
/-! letters at most 7 -/
def rs_B (T : List (List Nat)) : Prop := ∀ R, R ∈ T → ∀ a, a ∈ R → a ≤ 7
theorem rs_g7 {R : List Nat} (h : ∀ a, a ∈ R → a ≤ 7) (i : Nat) : R.getD i 0 ≤ 7 := by
  rcases Nat.lt_or_ge i R.length with z | z
  · exact h _ (rs_gmem z)
  · rw [rs_gge z]; omega
theorem rs_un_B : ∀ (pre : List (List Nat)) (p : Nat × List (List Nat)), rs_B pre → p.1 ≤ 7 → rs_B p.2 → (rs_un pre p).1 ≤ 7 ∧ rs_B (rs_un pre p).2 := by
  intro pre
  induction pre with
  | nil => intro p _ h1 h2; exact ⟨h1, h2⟩
  | cons R pre ih =>
    intro p hb h1 h2
    have hR := hb R List.mem_cons_self
    obtain ⟨i1, i2⟩ := ih p (fun Q hQ => hb Q (List.mem_cons_of_mem R hQ)) h1 h2
    refine ⟨rs_g7 hR _, fun Q hQ a ha => ?_⟩
    rcases List.mem_cons.mp hQ with z | z
    · rw [z] at ha
      rcases List.mem_or_eq_of_mem_set ha with t | t
      · exact hR a t
      · rw [t]; exact i1
    · exact i2 Q z a ha
theorem rs_take_B {T : List (List Nat)} {r : Nat} (h : rs_B T) : (rs_take T r).1 ≤ 7 ∧ rs_B (rs_take T r).2 := by
  have hR : ∀ a, a ∈ T.getD r [] → a ≤ 7 := by
    rcases Nat.lt_or_ge r T.length with z | z
    · exact h _ (rs_gmem z)
    · rw [rs_gge z]
      intro a ha
      exact absurd ha (by simp)
  refine rs_un_B _ _ (fun R hR' => h R (List.mem_of_mem_take hR')) (rs_g7 hR _) (fun Q hQ a ha => ?_)
  rcases List.mem_cons.mp hQ with z | z
  · rw [z] at ha
    exact hR a (List.mem_of_mem_take ha)
  · exact h Q (List.mem_of_mem_drop z) a ha
theorem rs_P_B {w : List Nat} (h : ∀ a, a ∈ w → a ≤ 7) : rs_B (rs_P w) := fun R hR a ha => h a (rs_P_mem hR ha)
/-! shapes -/
theorem rs_isP_s : ∀ {S : List Nat} {b : Nat}, rs_isP S b = true → S.getD 0 0 ≤ b ∧ ∀ r, S.getD (r + 1) 0 ≤ S.getD r 0 := by
  intro S
  induction S with
  | nil => intro b _; exact ⟨Nat.zero_le _, fun r => Nat.le_refl _⟩
  | cons a l ih =>
    intro b h
    rw [rs_isP, Bool.and_eq_true] at h
    have := ih h.2
    refine ⟨Nat.le_of_ble_eq_true h.1, fun r => ?_⟩
    cases r with
    | zero => exact this.1
    | succ r => exact this.2 r
theorem rs_isP_of : ∀ {S : List Nat} {b : Nat}, S.getD 0 0 ≤ b → (∀ r, S.getD (r + 1) 0 ≤ S.getD r 0) → rs_isP S b = true := by
  intro S
  induction S with
  | nil => intro b _ _; rfl
  | cons a l ih =>
    intro b h0 h
    rw [rs_isP, Bool.and_eq_true]
    exact ⟨rs_bt h0, ih (h 0) (fun r => h (r + 1))⟩
theorem rs_isP_up {S : List Nat} {b : Nat} (h : rs_isP S b = true) : ∀ r, S.getD r 0 ≤ b := by
  intro r
  induction r with
  | zero => exact (rs_isP_s h).1
  | succ r ih => exact Nat.le_trans ((rs_isP_s h).2 r) ih
theorem rs_isP_mono {S : List Nat} {b : Nat} (h : rs_isP S b = true) {i j : Nat} (hij : i ≤ j) : S.getD j 0 ≤ S.getD i 0 := by
  induction j with
  | zero => rw [show i = 0 by omega]; exact Nat.le_refl _
  | succ j ih =>
    by_cases e : i = j + 1
    · rw [e]; exact Nat.le_refl _
    · exact Nat.le_trans ((rs_isP_s h).2 j) (ih (by omega))
def rs_crn (S : List Nat) (r : Nat) : Bool := Nat.ble (S.getD (r + 1) 0 + 1) (S.getD r 0)
theorem rs_crn_t {S : List Nat} {r : Nat} (h : S.getD (r + 1) 0 < S.getD r 0) : rs_crn S r = true := rs_bt h
theorem rs_crn_f {S : List Nat} {r : Nat} (h : S.getD r 0 ≤ S.getD (r + 1) 0) : rs_crn S r = false := rs_bf (by omega)
theorem rs_crn_o {S : List Nat} {r : Nat} (h : rs_crn S r = true) : S.getD (r + 1) 0 < S.getD r 0 := Nat.le_of_ble_eq_true h
theorem rs_isP_dec {S : List Nat} {b r : Nat} (h : rs_isP S b = true) (hr : r < S.length) (hc : rs_crn S r = true) : rs_isP (S.set r (S.getD r 0 - 1)) b = true := by
  have h0 := rs_isP_s h
  have hc' := rs_crn_o hc
  refine rs_isP_of ?_ (fun q => ?_)
  · rw [rs_gset 0 hr]
    split
    · next e => have := h0.1; rw [← e]; omega
    · exact h0.1
  · rw [rs_gset q hr, rs_gset (q + 1) hr]
    have := h0.2 q
    by_cases e1 : q = r
    · rw [if_pos e1, if_neg (by omega), e1]
      omega
    · rw [if_neg e1]
      by_cases e2 : q + 1 = r
      · rw [if_pos e2, ← e2]
        omega
      · rw [if_neg e2]
        exact this
theorem rs_sm_set : ∀ (S : List Nat) (r v : Nat), r < S.length → rs_sm (S.set r v) + S.getD r 0 = rs_sm S + v := by
  intro S
  induction S with
  | nil => intro r v h; exact absurd h (by simp)
  | cons a l ih =>
    intro r v h
    cases r with
    | zero =>
      show v + rs_sm l + a = a + rs_sm l + v
      omega
    | succ r =>
      have := ih r v (by simpa using h)
      show a + rs_sm (l.set r v) + l.getD r 0 = a + rs_sm l + v
      omega
theorem rs_sm_get : ∀ (S : List Nat) (r : Nat), S.getD r 0 ≤ rs_sm S := by
  intro S
  induction S with
  | nil => intro r; exact Nat.zero_le _
  | cons a l ih =>
    intro r
    cases r with
    | zero =>
      show a ≤ a + rs_sm l
      omega
    | succ r =>
      have := ih r
      show l.getD r 0 ≤ a + rs_sm l
      omega
end
section
/-! all words with given rows -/
def rs_cat (f : Nat → List Nat) : Nat → List Nat
  | 0 => []
  | k + 1 => f (6 - k) ++ rs_cat f k
def rs_sum (f : Nat → Nat) : Nat → Nat
  | 0 => 0
  | k + 1 => f (6 - k) + rs_sum f k
def rs_code (l : List Nat) : Nat := l.foldl (fun c x => 8 * c + x) 0
def rs_all : Nat → List (List Nat) → List Nat → List Nat
  | 0, _, acc => [rs_code acc]
  | m + 1, T, acc => rs_cat (fun r => bif rs_crn (rs_sh T) r then rs_all m (rs_take T r).2 ((rs_take T r).1 :: acc) else []) 7
def rs_cnt : Nat → List Nat → Nat
  | 0, _ => 1
  | m + 1, S => rs_sum (fun r => bif rs_crn S r then rs_cnt m (S.set r (S.getD r 0 - 1)) else 0) 7
/-- how many turns the listing takes -/
def rs_cst : Nat → List Nat → Nat
  | 0, _ => 1
  | m + 1, S => rs_sum (fun r => (bif rs_crn S r then rs_cst m (S.set r (S.getD r 0 - 1)) else 0) + 1) 7 + 1
theorem rs_cat_len (f : Nat → List Nat) (g : Nat → Nat) (h : ∀ r, r < 7 → (f r).length = g r) : ∀ k, (rs_cat f k).length = rs_sum g k := by
  intro k
  induction k with
  | zero => rfl
  | succ k ih => rw [rs_cat, rs_sum, List.length_append, ih, h (6 - k) (by omega)]
theorem rs_all_len : ∀ (m : Nat) (T : List (List Nat)) (acc : List Nat), T.length = 7 → (rs_all m T acc).length = rs_cnt m (rs_sh T) := by
  intro m
  induction m with
  | zero => intro T acc _; rfl
  | succ m ih =>
    intro T acc hT
    rw [rs_all, rs_cnt]
    refine rs_cat_len _ _ (fun r hr => ?_) 7
    cases hc : rs_crn (rs_sh T) r with
    | false => rfl
    | true =>
      rw [cond_true, cond_true, ih _ _ (by rw [rs_take_len T r (by omega)]; exact hT), rs_sh_take T r (by omega)]
theorem rs_cat_mem {f : Nat → List Nat} {a r : Nat} (hr : r < 7) (ha : a ∈ f r) : ∀ k, k ≤ 7 → 7 - k ≤ r → a ∈ rs_cat f k := by
  intro k
  induction k with
  | zero => intro _ h; exact absurd h (by omega)
  | succ k ih =>
    intro hk h
    rw [rs_cat]
    by_cases e : r = 6 - k
    · exact List.mem_append.mpr (Or.inl (e ▸ ha))
    · exact List.mem_append.mpr (Or.inr (ih (by omega) (by omega)))
theorem rs_cat_of {f : Nat → List Nat} {a : Nat} : ∀ k, a ∈ rs_cat f k → ∃ r, r < 7 ∧ a ∈ f r := by
  intro k
  induction k with
  | zero => intro h; exact absurd h (by simp [rs_cat])
  | succ k ih =>
    intro h
    rw [rs_cat] at h
    rcases List.mem_append.mp h with z | z
    · exact ⟨6 - k, by omega, z⟩
    · exact ih z
theorem rs_gr_lt {u : List Nat} {x : Nat} (h : u.length + 1 ≤ 7) : rs_gr (rs_P u) x < (rs_P u).length := by
  have h1 := (rs_part (w := u) (by omega)).2
  have h2 := (rs_part (w := u ++ [x]) (by rw [List.length_append]; exact h)).2
  rw [rs_P_snoc, rs_sh_ins, List.length_append, List.length_singleton] at h2
  rcases Nat.lt_or_ge (rs_gr (rs_P u) x) (rs_P u).length with z | z
  · exact z
  · rw [if_neg (by omega)] at h2
    omega
theorem rs_all_mem : ∀ (m : Nat) (w acc : List Nat), w.length = m → m ≤ 7 → rs_code (w ++ acc) ∈ rs_all m (rs_P w) acc := by
  intro m
  induction m with
  | zero =>
    intro w acc hw _
    rw [List.eq_nil_of_length_eq_zero hw, List.nil_append, rs_all]
    exact List.mem_cons_self
  | succ m ih =>
    intro w acc hw hm
    rcases List.eq_nil_or_concat w with z | ⟨u, x, z⟩
    · rw [z] at hw
      exact absurd hw (by simp)
    · rw [List.concat_eq_append] at z
      rw [z, List.length_append, List.length_singleton] at hw
      have hg := rs_gr_lt (u := u) (x := x) (by omega)
      have ht := rs_take_ins (rs_P u) x (rs_P_srt u) hg
      have hg7 : rs_gr (rs_P u) x < 7 := by rw [rs_P_len] at hg; exact hg
      have hp := rs_isP_s (rs_part (w := u) (by omega)).1
      have hc : rs_crn (rs_sh (rs_ins (rs_P u) x)) (rs_gr (rs_P u) x) = true := by
        refine rs_crn_t ?_
        rw [rs_sh_ins, if_pos hg, rs_gset _ (by rw [rs_sh_len]; exact hg), rs_gset _ (by rw [rs_sh_len]; exact hg), if_pos rfl, if_neg (by omega)]
        have := hp.2 (rs_gr (rs_P u) x)
        omega
      have hi := ih u (x :: acc) (by omega) (by omega)
      rw [z, rs_P_snoc, rs_all, List.append_assoc]
      refine rs_cat_mem (r := rs_gr (rs_P u) x) hg7 ?_ 7 (Nat.le_refl 7) (by omega)
      rw [hc, cond_true, ht]
      exact hi
theorem rs_code_lt : ∀ (l : List Nat) (c : Nat), (∀ a, a ∈ l → a ≤ 7) → l.foldl (fun c x => 8 * c + x) c < (c + 1) * 8 ^ l.length := by
  intro l
  induction l with
  | nil => intro c _; simp
  | cons a l ih =>
    intro c h
    have h1 := h a List.mem_cons_self
    have h2 := ih (8 * c + a) (fun b hb => h b (List.mem_cons_of_mem a hb))
    rw [List.foldl_cons, List.length_cons, Nat.pow_succ]
    have h3 : (8 * c + a + 1) * 8 ^ l.length ≤ (8 * (c + 1)) * 8 ^ l.length := Nat.mul_le_mul_right _ (by omega)
    have h4 : (8 * (c + 1)) * 8 ^ l.length = (c + 1) * (8 ^ l.length * 8) := by
      rw [Nat.mul_comm 8 (c + 1), Nat.mul_assoc, Nat.mul_comm 8]
    omega
theorem rs_code_7 {l : List Nat} (hl : l.length ≤ 7) (h : ∀ a, a ∈ l → a ≤ 7) : rs_code l < 2097152 := by
  have h1 := rs_code_lt l 0 h
  have h2 : 8 ^ l.length ≤ 8 ^ 7 := Nat.pow_le_pow_right (by omega) hl
  have h3 : 8 ^ 7 = 2097152 := by decide
  unfold rs_code
  omega
theorem rs_all_lt : ∀ (m : Nat) (T : List (List Nat)) (acc : List Nat), rs_B T → (∀ a, a ∈ acc → a ≤ 7) → m + acc.length ≤ 7 → ∀ c, c ∈ rs_all m T acc → c < 2097152 := by
  intro m
  induction m with
  | zero =>
    intro T acc _ ha hl c hc
    rw [rs_all] at hc
    rw [List.mem_singleton.mp hc]
    exact rs_code_7 (by omega) ha
  | succ m ih =>
    intro T acc hT ha hl c hc
    rw [rs_all] at hc
    obtain ⟨r, hr, h⟩ := rs_cat_of 7 hc
    cases hk : rs_crn (rs_sh T) r with
    | false =>
      rw [hk, cond_false] at h
      exact absurd h (by simp)
    | true =>
      rw [hk, cond_true] at h
      refine ih _ _ (rs_take_B hT).2 (fun a hm => ?_) (by rw [List.length_cons]; omega) c h
      rcases List.mem_cons.mp hm with z | z
      · rw [z]; exact (rs_take_B hT).1
      · exact ha a z
/-! a list in order -/
def rs_sins (c : Nat) : List Nat → List Nat
  | [] => [c]
  | a :: l => if a ≤ c then a :: rs_sins c l else c :: a :: l
theorem rs_sins_app {c : Nat} {B : List Nat} (hB : ∀ b, b ∈ B → c < b) : ∀ A : List Nat, (∀ a, a ∈ A → a ≤ c) → rs_sins c (A ++ B) = A ++ c :: B := by
  intro A
  induction A with
  | nil =>
    intro _
    cases B with
    | nil => rfl
    | cons b B =>
      have := hB b List.mem_cons_self
      show rs_sins c (b :: B) = c :: b :: B
      rw [rs_sins, if_neg (by omega)]
  | cons a A ih =>
    intro hA
    show rs_sins c (a :: (A ++ B)) = a :: (A ++ c :: B)
    rw [rs_sins, if_pos (hA a List.mem_cons_self), ih (fun x hx => hA x (List.mem_cons_of_mem a hx))]
theorem rs_sins_len (c : Nat) : ∀ L : List Nat, (rs_sins c L).length = L.length + 1 := by
  intro L
  induction L with
  | nil => rfl
  | cons a l ih =>
    rw [rs_sins]
    split
    · rw [List.length_cons, List.length_cons, ih]
    · rfl
theorem rs_sins_mem {c x : Nat} : ∀ L : List Nat, x ∈ rs_sins c L ↔ x = c ∨ x ∈ L := by
  intro L
  induction L with
  | nil => rw [rs_sins]; simp
  | cons a l ih =>
    rw [rs_sins]
    split
    · rw [List.mem_cons, List.mem_cons, ih]
      constructor
      · rintro (z | z | z)
        · exact Or.inr (Or.inl z)
        · exact Or.inl z
        · exact Or.inr (Or.inr z)
      · rintro (z | z | z)
        · exact Or.inr (Or.inl z)
        · exact Or.inl z
        · exact Or.inr (Or.inr z)
    · rw [List.mem_cons]
theorem rs_sins_srt {c : Nat} : ∀ L : List Nat, L.Pairwise (fun a b => a ≤ b) → (rs_sins c L).Pairwise (fun a b => a ≤ b) := by
  intro L
  induction L with
  | nil => intro _; exact List.pairwise_cons.mpr ⟨fun x hx => absurd hx (by simp), List.Pairwise.nil⟩
  | cons a l ih =>
    intro h
    have h1 := (List.pairwise_cons.mp h).1
    have h2 := (List.pairwise_cons.mp h).2
    rw [rs_sins]
    split
    · next ha =>
      refine List.pairwise_cons.mpr ⟨fun x hx => ?_, ih h2⟩
      rcases (rs_sins_mem l).mp hx with z | z
      · omega
      · exact h1 x z
    · next ha =>
      refine List.pairwise_cons.mpr ⟨fun x hx => ?_, h⟩
      rcases List.mem_cons.mp hx with z | z
      · omega
      · have := h1 x z
        omega
def rs_add (L cs : List Nat) : List Nat := cs.foldl (fun L c => rs_sins c L) L
theorem rs_add_app (L a b : List Nat) : rs_add L (a ++ b) = rs_add (rs_add L a) b := List.foldl_append ..
theorem rs_add_len : ∀ (cs L : List Nat), (rs_add L cs).length = L.length + cs.length := by
  intro cs
  induction cs with
  | nil => intro L; rfl
  | cons c cs ih =>
    intro L
    show (rs_add (rs_sins c L) cs).length = L.length + (cs.length + 1)
    rw [ih, rs_sins_len]
    omega
theorem rs_add_mem {x : Nat} : ∀ (cs L : List Nat), x ∈ rs_add L cs ↔ x ∈ L ∨ x ∈ cs := by
  intro cs
  induction cs with
  | nil => intro L; simp [rs_add]
  | cons c cs ih =>
    intro L
    show x ∈ rs_add (rs_sins c L) cs ↔ _
    rw [ih, rs_sins_mem, List.mem_cons]
    constructor
    · rintro ((z | z) | z)
      · exact Or.inr (Or.inl z)
      · exact Or.inl z
      · exact Or.inr (Or.inr z)
    · rintro (z | z | z)
      · exact Or.inl (Or.inr z)
      · exact Or.inl (Or.inl z)
      · exact Or.inr z
theorem rs_add_srt : ∀ (cs L : List Nat), L.Pairwise (fun a b => a ≤ b) → (rs_add L cs).Pairwise (fun a b => a ≤ b) := by
  intro cs
  induction cs with
  | nil => intro L h; exact h
  | cons c cs ih => intro L h; exact ih _ (rs_sins_srt L h)
theorem rs_srt_ends {L : List Nat} {c : Nat} (h : L.Pairwise (fun a b => a ≤ b)) (hc : c ∈ L) : L.getD 0 0 ≤ c ∧ c ≤ L.getD (L.length - 1) 0 := by
  obtain ⟨i, hi, e⟩ := List.mem_iff_getElem.mp hc
  have e' : L.getD i 0 = c := by
    rw [List.getD_eq_getElem?_getD, List.getElem?_eq_getElem hi, e]
    rfl
  rw [← e']
  exact ⟨rs_srt_get h (by omega) hi, rs_srt_get h (by omega) (by omega)⟩
/-! the hook number, counted as the code counts it -/
def rs_hk (S : List Nat) (c : Int32) : Nat → Int32 → Int32
  | 0, n => n
  | k + 1, n => rs_hk S c k (if nI (S.getD (6 - k) 0) ≤ c then n else n + 1)
def rs_kn (S : List Nat) : Nat → Int32 → Int32 → Int32 → Int32
  | 0, wy, hk, _ => if hk ≤ 0 then wy / 1 else wy / hk
  | k + 1, wy, hk, tk => if nI (S.getD ((48 - k) / 7) 0) ≤ nI ((48 - k) % 7) then rs_kn S k wy hk tk else rs_kn S k (wy * (tk + 1)) (hk * rs_hk S (nI ((48 - k) % 7)) (6 - (48 - k) / 7) (nI (S.getD ((48 - k) / 7) 0) - nI ((48 - k) % 7))) (tk + 1)
def rs_kin (S : List Nat) : Int32 := rs_kn S 49 1 1 0
def rs_tK (S : List Nat) : Bool := decide (rs_kin S = nI (rs_cnt (rs_sm S) S)) && (Nat.ble (rs_cst (rs_sm S) S) 5000 && (Nat.ble (rs_cnt (rs_sm S) S) 63 && (Nat.ble 1 (rs_cnt (rs_sm S) S) && (bif Nat.ble (rs_sm S) 1 then Nat.beq (rs_cnt (rs_sm S) S) 1 else true))))
def rs_chS (t : List Nat → Bool) : Nat → Nat → Nat → List Nat → Bool
  | 0, _, _, acc => t acc
  | k + 1, b, m, acc => rs_allr (fun a => rs_chS t k a (m - a) (acc ++ [a])) (min b m + 1)
set_option maxRecDepth 100000 in
theorem rs_cS : rs_chS rs_tK 7 7 7 [] = true := by decide +kernel
theorem rs_chS_ok {t : List Nat → Bool} : ∀ (k b m : Nat) (acc S : List Nat), rs_chS t k b m acc = true → S.length = k → rs_isP S b = true → rs_sm S ≤ m → t (acc ++ S) = true := by
  intro k
  induction k with
  | zero =>
    intro b m acc S h hl _ _
    rw [List.eq_nil_of_length_eq_zero hl, List.append_nil]
    exact h
  | succ k ih =>
    intro b m acc S h hl hp hs
    cases S with
    | nil => exact absurd hl (by simp)
    | cons a q =>
      rw [rs_isP, Bool.and_eq_true] at hp
      have hab := Nat.le_of_ble_eq_true hp.1
      have hs' : a + rs_sm q ≤ m := hs
      rw [rs_chS] at h
      have h1 := rs_allr_ok h a (by omega)
      have h2 := ih a (m - a) (acc ++ [a]) q h1 (by simpa using hl) hp.2 (by omega)
      rw [List.append_assoc] at h2
      exact h2
/-- (C) the hook number counts the words listed -/
theorem rs_shape {S : List Nat} (hl : S.length = 7) (hp : rs_isP S 7 = true) (hs : rs_sm S ≤ 7) : rs_kin S = nI (rs_cnt (rs_sm S) S) ∧ rs_cst (rs_sm S) S ≤ 5000 ∧ rs_cnt (rs_sm S) S ≤ 63 ∧ 1 ≤ rs_cnt (rs_sm S) S ∧ (rs_sm S ≤ 1 → rs_cnt (rs_sm S) S = 1) := by
  have h := rs_chS_ok 7 7 7 [] S rs_cS hl hp hs
  rw [List.nil_append, rs_tK, Bool.and_eq_true, Bool.and_eq_true, Bool.and_eq_true, Bool.and_eq_true] at h
  obtain ⟨h1, h2, h3, h4, h5⟩ := h
  refine ⟨of_decide_eq_true h1, Nat.le_of_ble_eq_true h2, Nat.le_of_ble_eq_true h3, Nat.le_of_ble_eq_true h4, fun z => ?_⟩
  rw [rs_bt z, cond_true] at h5
  exact Nat.eq_of_beq_eq_true h5
end
section
/-! places -/
theorem rs_ix (w i : Nat) : (7 : Int32) * nI w + nI i = nI (7 * w + i) := by
  rw [show (7 : Int32) = nI 7 from rfl, pk_mul, nI_add]
theorem rs_iz (w i : Nat) : (49 : Int32) * nI w + nI i = nI (49 * w + i) := by
  rw [show (49 : Int32) = nI 49 from rfl, pk_mul, nI_add]
theorem rs_iy (w r c : Nat) : (49 : Int32) * nI w + (7 : Int32) * nI r + nI c = nI (49 * w + 7 * r + c) := by
  rw [show (49 : Int32) = nI 49 from rfl, show (7 : Int32) = nI 7 from rfl, pk_mul, pk_mul, nI_add, nI_add]
theorem rs_iw (r c : Nat) : (49 : Int32) + (7 : Int32) * nI r + nI c = nI (49 + 7 * r + c) := by
  rw [show (49 : Int32) = nI 49 from rfl, show (7 : Int32) = nI 7 from rfl, pk_mul, nI_add, nI_add]
theorem rs_i7 (r : Nat) : (7 : Int32) + nI r = nI (7 + r) := nI_add 7 r
theorem rs_i8 (a b : Nat) : (8 : Int32) * nI a + nI b = nI (8 * a + b) := by
  rw [show (8 : Int32) = nI 8 from rfl, pk_mul, nI_add]
theorem rs_i2 (a : Nat) : nI a + 2 = nI (a + 2) := nI_add a 2
theorem rs_im {a : Nat} (h : 0 < a) : nI a - 1 = nI (a - 1) := pk_sub (b := 1) h
theorem rs_cl {n : Nat} (h : n < 2 ^ 31) : (nI n).toNatClampNeg = n := nI_clamp h
theorem rs_by : ∀ v, v < 128 → (nI v).toInt8.toInt32 = nI v := by decide +kernel
theorem rs_nb {v : Nat} (h : v < 128) : vp_nar .byte (nI v) = nI v := by
  rw [vp_nar_byte, rs_by v h]
theorem rs_tk1 {α : Type} {l : List α} {i : Nat} {d : α} (h : i < l.length) : l.take (i + 1) = l.take i ++ [l.getD i d] := by
  rw [List.take_succ_eq_append_getElem h, List.getD_eq_getElem?_getD, List.getElem?_eq_getElem h]
  rfl
theorem rs_code_snoc (l : List Nat) (x : Nat) : rs_code (l ++ [x]) = 8 * rs_code l + x := by
  unfold rs_code
  rw [List.foldl_append]
  rfl
/-! words -/
def rs_W (a1 a2 : Nat → Int32) (w : Nat) (wd : List Nat) : Prop := a1 w = nI wd.length ∧ wd.length ≤ 7 ∧ (∀ a, a ∈ wd → 1 ≤ a ∧ a ≤ 7) ∧ ∀ i, i < wd.length → a2 (7 * w + i) = nI (wd.getD i 0)
theorem rs_w7 {wd : List Nat} (h : ∀ a, a ∈ wd → 1 ≤ a ∧ a ≤ 7) (i : Nat) : wd.getD i 0 ≤ 7 := rs_g7 (fun a ha => (h a ha).2) i
theorem rs_bad {post : Int32 → Prop} {f : Int32} {a1 a2 a3 a4 a5 a6 a7 a8 a9 : Nat → Int32} {w : Nat} (hw : w < 2) (h : post 0) : wpX_badWord post (f, a1, a2, a3, a4, a5, a6, a7, a8, a9) (nI w) :=
  br_f (nI_pos (by omega)) (br_t (nI_le (b := 1) (by omega) (by decide)) h)
theorem rs_bad2 {post : Int32 → Prop} {f : Int32} {a1 a2 a3 a4 a5 a6 a7 a8 a9 : Nat → Int32} (h : post 1) : wpX_badWord post (f, a1, a2, a3, a4, a5, a6, a7, a8, a9) 2 :=
  br_f (by decide) (br_f (by decide) h)
theorem rs_badm {post : Int32 → Prop} {f : Int32} {a1 a2 a3 a4 a5 a6 a7 a8 a9 : Nat → Int32} (h : post 1) : wpX_badWord post (f, a1, a2, a3, a4, a5, a6, a7, a8, a9) (-1) :=
  br_t (by decide) h
theorem rs_letter {post : Int32 → Prop} {f : Int32} {a1 a2 a3 a4 a5 a6 a7 a8 a9 : Nat → Int32} {w : Nat} {wd : List Nat} (hw : w < 2) (hW : rs_W a1 a2 w wd) {i : Nat} (hi : i < wd.length) (h : post (nI (wd.getD i 0))) : wpX_letter post (f, a1, a2, a3, a4, a5, a6, a7, a8, a9) (nI w) (nI i) := by
  obtain ⟨h1, h2, h3, h4⟩ := hW
  unfold wpX_letter
  refine rs_bad hw (br_t rfl (br_f (nI_pos (by omega)) ⟨vp_in_nI hw (by decide), br_t ?_ ⟨pk_in (7 * w + i) 14 (by omega) (rs_ix w i), ?_⟩⟩))
  · rw [rs_cl (by omega), h1]
    exact nI_lt hi (by omega)
  · rw [pk_cl (7 * w + i) (rs_ix w i), h4 i hi]
    exact h
theorem rs_letterN {post : Int32 → Prop} {f : Int32} {a1 a2 a3 a4 a5 a6 a7 a8 a9 : Nat → Int32} {w : Nat} {wd : List Nat} (hw : w < 2) (hW : rs_W a1 a2 w wd) {i : Nat} (hi : wd.length ≤ i) (hi' : i < 2 ^ 31) (h : post (-4)) : wpX_letter post (f, a1, a2, a3, a4, a5, a6, a7, a8, a9) (nI w) (nI i) := by
  obtain ⟨h1, h2, h3, h4⟩ := hW
  unfold wpX_letter
  refine rs_bad hw (br_t rfl (br_f (nI_pos hi') ⟨vp_in_nI hw (by decide), br_f ?_ h⟩))
  rw [rs_cl (by omega), h1]
  exact nI_nlt hi hi'
theorem rs_letter2 {post : Int32 → Prop} {f : Int32} {a1 a2 a3 a4 a5 a6 a7 a8 a9 : Nat → Int32} {p : Int32} (h : post (-1)) : wpX_letter post (f, a1, a2, a3, a4, a5, a6, a7, a8, a9) 2 p := by
  unfold wpX_letter
  exact rs_bad2 (br_f (by decide) h)
theorem rs_codeW {post : Int32 → Prop} {f : Int32} {a1 a2 a3 a4 a5 a6 a7 a8 a9 : Nat → Int32} {w : Nat} {wd : List Nat} (hw : w < 2) (hW : rs_W a1 a2 w wd) (hp : post (nI (rs_code wd))) : wpX_code post (f, a1, a2, a3, a4, a5, a6, a7, a8, a9) (nI w) := by
  obtain ⟨h1, h2, h3, h4⟩ := hW
  unfold wpX_code
  refine rs_bad hw (br_t rfl ?_)
  refine pk_loop (σ := Int32) (fun n i s => wX_code_14 post (nI w) f a1 a2 a3 a4 a5 a6 a7 a8 a9 n s (nI i)) (fun i s => s = nI (rs_code (wd.take i))) wd.length 0 0 (Nat.zero_le _) rfl (fun n s h => ?_) (fun n i s hi h hn => ?_)
  · refine ⟨vp_in_nI hw (by decide), br_t ?_ ?_⟩
    · rw [rs_cl (by omega), h1]
      exact nI_le (Nat.le_refl _) (by omega)
    · rw [h, List.take_length]
      exact hp
  · refine ⟨vp_in_nI hw (by decide), br_f ?_ ⟨pk_in (7 * w + i) 14 (by omega) (rs_ix w i), nm_r ?_ (nm_r (nI_1 i) (hn (nI (rs_code (wd.take (i + 1)))) rfl))⟩⟩
    · rw [rs_cl (by omega), h1]
      exact nI_ge hi (by omega)
    · rw [h, pk_cl (7 * w + i) (rs_ix w i), h4 i hi, rs_tk1 (d := 0) hi, rs_code_snoc]
      exact rs_i8 _ _
/-! the law's own question: may the letters be exchanged -/
theorem rs_f119 {post : Int32 → Prop} {f : Int32} {a1 a2 a3 a4 a5 a6 a7 a8 a9 : Nat → Int32} {x z y : Nat} (hx : x < 99) (hz : z < 99) (hy : y < 99) (h1 : (x ≤ y ∧ y < z) → post 1) (h0 : ¬ (x ≤ y ∧ y < z) → post 0) : wL_fits_119 post (nI x) (nI z) (nI y) f a1 a2 a3 a4 a5 a6 a7 a8 a9 :=
  pk_lt y x (fun q => h0 (fun t => by omega)) (fun q => pk_le z y (fun q2 => h0 (fun t => by omega)) (fun q2 => h1 ⟨by omega, by omega⟩))
theorem rs_f96 {post : Int32 → Prop} {f : Int32} {a1 a2 a3 a4 a5 a6 a7 a8 a9 : Nat → Int32} {x z l y : Nat} (hx : x < 99) (hz : z < 99) (hl : l < 99) (hy : y < 99) (h1 : (x < z ∧ ((x < l ∧ l ≤ z) ∨ (x ≤ y ∧ y < z))) → post 1) (h0 : ¬ (x < z ∧ ((x < l ∧ l ≤ z) ∨ (x ≤ y ∧ y < z))) → post 0) : wL_fits_96 post (nI x) (nI z) (nI l) (nI y) f a1 a2 a3 a4 a5 a6 a7 a8 a9 :=
  pk_le z x (fun q => h0 (fun t => by omega)) (fun q => pk_le l x (fun q2 => rs_f119 hx hz hy (fun t => h1 ⟨q, Or.inr t⟩) (fun t => h0 (fun s => by omega)))
    (fun q2 => pk_le l z (fun q3 => h1 ⟨q, Or.inl ⟨q2, q3⟩⟩) (fun q3 => rs_f119 hx hz hy (fun t => h1 ⟨q, Or.inr t⟩) (fun t => h0 (fun s => by omega)))))
theorem rs_f74 {post : Int32 → Prop} {f : Int32} {a1 a2 a3 a4 a5 a6 a7 a8 a9 : Nat → Int32} {wd : List Nat} (hW : rs_W a1 a2 0 wd) {i x z l : Nat} (hi : i < 99) (hx : x < 99) (hz : z < 8) (hl : l < 99) (h1 : (x < z ∧ ((x < l ∧ l ≤ z) ∨ (i + 2 < wd.length ∧ x ≤ wd.getD (i + 2) 0 ∧ wd.getD (i + 2) 0 < z))) → post 1) (h0 : ¬ (x < z ∧ ((x < l ∧ l ≤ z) ∨ (i + 2 < wd.length ∧ x ≤ wd.getD (i + 2) 0 ∧ wd.getD (i + 2) 0 < z))) → post 0) : wL_fits_74 post (nI wd.length) (nI i) (nI x) (nI z) (nI l) f a1 a2 a3 a4 a5 a6 a7 a8 a9 := by
  have h7 := hW.2.1
  have hg := rs_w7 hW.2.2.1 (i + 2)
  refine pk_le wd.length (i + 2) (fun q => ?_) (fun q => ?_) rfl (rs_i2 i)
  · exact rs_f96 (y := 9) hx (by omega) hl (by omega) (fun t => h1 ⟨t.1, by rcases t.2 with s | s; exact Or.inl s; exact absurd s.2 (by omega)⟩) (fun t => h0 (fun s => t ⟨s.1, by rcases s.2 with u | u; exact Or.inl u; exact absurd u.1 (by omega)⟩))
  · rw [rs_i2 i]
    refine rs_letter (w := 0) (by omega) hW q ?_
    exact rs_f96 hx (by omega) hl (by omega) (fun t => h1 ⟨t.1, by rcases t.2 with s | s; exact Or.inl s; exact Or.inr ⟨q, s⟩⟩) (fun t => h0 (fun s => t ⟨s.1, by rcases s.2 with u | u; exact Or.inl u; exact Or.inr u.2⟩))
theorem rs_f56 {post : Int32 → Prop} {f : Int32} {a1 a2 a3 a4 a5 a6 a7 a8 a9 : Nat → Int32} {wd : List Nat} (hW : rs_W a1 a2 0 wd) {i x z : Nat} (hi : i + 1 < wd.length) (hx : x < 99) (hz : z < 8) (h1 : (x < z ∧ ((0 < i ∧ x < wd.getD (i - 1) 0 ∧ wd.getD (i - 1) 0 ≤ z) ∨ (i + 2 < wd.length ∧ x ≤ wd.getD (i + 2) 0 ∧ wd.getD (i + 2) 0 < z))) → post 1) (h0 : ¬ (x < z ∧ ((0 < i ∧ x < wd.getD (i - 1) 0 ∧ wd.getD (i - 1) 0 ≤ z) ∨ (i + 2 < wd.length ∧ x ≤ wd.getD (i + 2) 0 ∧ wd.getD (i + 2) 0 < z))) → post 0) : wL_fits_56 post (nI wd.length) (nI i) (nI x) (nI z) f a1 a2 a3 a4 a5 a6 a7 a8 a9 := by
  have h7 := hW.2.1
  have hg := rs_w7 hW.2.2.1 (i - 1)
  refine pk_le i 0 (fun q => ?_) (fun q => ?_)
  · exact rs_f74 (l := 0) hW (by omega) hx hz (by omega) (fun t => h1 ⟨t.1, by rcases t.2 with s | s; exact absurd s.1 (by omega); exact Or.inr s⟩) (fun t => h0 (fun s => t ⟨s.1, by rcases s.2 with u | u; exact absurd u.1 (by omega); exact Or.inr u⟩))
  · rw [rs_im q]
    refine rs_letter (w := 0) (by omega) hW (by omega) ?_
    exact rs_f74 hW (by omega) hx hz (by omega) (fun t => h1 ⟨t.1, by rcases t.2 with s | s; exact Or.inl ⟨q, s⟩; exact Or.inr s⟩) (fun t => h0 (fun s => t ⟨s.1, by rcases s.2 with u | u; exact Or.inl u.2; exact Or.inr u⟩))
theorem rs_fits {post : Int32 → Prop} {f : Int32} {a1 a2 a3 a4 a5 a6 a7 a8 a9 : Nat → Int32} {wd : List Nat} (hW : rs_W a1 a2 0 wd) {i : Nat} (hi : i < 99) (h1 : rs_leg wd i → post 1) (h0 : ¬ rs_leg wd i → post 0) : wpL_fits post (f, a1, a2, a3, a4, a5, a6, a7, a8, a9) (nI wd.length) (nI i) := by
  have h7 := hW.2.1
  unfold wpL_fits
  refine br_f (nI_pos (by omega)) (pk_lt (i + 1) wd.length (fun q => ?_) (fun q => h0 (fun t => absurd t.1 (by omega))) (nI_1 i) rfl)
  have ga := rs_w7 hW.2.2.1 i
  have gb := rs_w7 hW.2.2.1 (i + 1)
  refine rs_letter (w := 0) (by omega) hW (by omega) ?_
  rw [nI_1 i]
  refine rs_letter (w := 0) (by omega) hW q ?_
  refine pk_le (wd.getD (i + 1) 0) (wd.getD i 0) (fun q1 => ?_) (fun q1 => ?_)
  · refine pk_le (wd.getD (i + 1) 0) (wd.getD i 0) (fun q2 => ?_) (fun q2 => absurd q2 (by omega))
    refine rs_f56 hW q (by omega) (by omega) (fun t => h1 ⟨q, by omega, ?_⟩) (fun t => h0 (fun s => t ⟨by have := s.2.1; omega, ?_⟩))
    · rw [Nat.min_eq_right q1, Nat.max_eq_left q1]
      exact t.2
    · have s2 := s.2.2
      rw [Nat.min_eq_right q1, Nat.max_eq_left q1] at s2
      exact s2
  · refine pk_le (wd.getD (i + 1) 0) (wd.getD i 0) (fun q2 => absurd q2 (by omega)) (fun q2 => ?_)
    refine rs_f56 hW q (by omega) (by omega) (fun t => h1 ⟨q, by omega, ?_⟩) (fun t => h0 (fun s => t ⟨by have := s.2.1; omega, ?_⟩))
    · rw [Nat.min_eq_left (Nat.le_of_lt q1), Nat.max_eq_right (Nat.le_of_lt q1)]
      exact t.2
    · have s2 := s.2.2
      rw [Nat.min_eq_left (Nat.le_of_lt q1), Nat.max_eq_right (Nat.le_of_lt q1)] at s2
      exact s2
end
section
/-! moves in the component -/
theorem rs_noPair {post : Int32 → Prop} {f : Int32} {a1 a2 a3 a4 a5 a6 a7 a8 a9 : Nat → Int32} {w : Nat} {wd : List Nat} (hw : w < 2) (hW : rs_W a1 a2 w wd) {i : Nat} (hi : i < 99) (h0 : i + 1 < wd.length → post 0) (h1 : ¬ i + 1 < wd.length → post 1) : wpX_noPair post (f, a1, a2, a3, a4, a5, a6, a7, a8, a9) (nI w) (nI i) := by
  obtain ⟨g1, g2, g3, g4⟩ := hW
  unfold wpX_noPair
  refine br_f (nI_pos (by omega)) ⟨vp_in_nI hw (by decide), ?_⟩
  rw [rs_cl (by omega), g1]
  by_cases hz : wd.length = 0
  · rw [hz]
    refine br_f ?_ (h1 (by omega))
    intro t
    have t' : nI i < -1 := t
    rw [Int32.lt_iff_toInt_lt, nI_toInt (by omega)] at t'
    have e : (-1 : Int32).toInt = -1 := by decide
    omega
  · rw [rs_im (by omega)]
    exact pk_lt i (wd.length - 1) (fun q => h0 (by omega)) (fun q => h1 (by omega))
theorem rs_m159 {post : Int32 → Prop} {f : Int32} {a1 a2 a3 a4 a5 a6 a7 a8 a9 : Nat → Int32} {x z : Nat} {p q : Int32} {P Q : Prop} (hx : x < 99) (hz : z < 99) (hp : (p = 1 ∧ P) ∨ (p = 0 ∧ ¬ P)) (hq : (q = 1 ∧ Q) ∨ (q = 0 ∧ ¬ Q)) (h1 : (x < z ∧ (P ∨ Q)) → post 1) (h0 : ¬ (x < z ∧ (P ∨ Q)) → post 0) : wX_mayMove_159 post (nI x) (nI z) p q f a1 a2 a3 a4 a5 a6 a7 a8 a9 := by
  refine pk_le z x (fun t => h0 (fun s => absurd s.1 (by omega))) (fun t => ?_)
  rcases hp with ⟨e, hP⟩ | ⟨e, hP⟩
  · rw [e]
    exact br_f (by decide) (h1 ⟨t, Or.inl hP⟩)
  · rw [e]
    refine br_t rfl ?_
    rcases hq with ⟨e', hQ⟩ | ⟨e', hQ⟩
    · rw [e']
      exact br_f (by decide) (h1 ⟨t, Or.inr hQ⟩)
    · rw [e']
      exact br_t rfl (h0 (fun s => s.2.elim hP hQ))
theorem rs_m114 {post : Int32 → Prop} {f : Int32} {a1 a2 a3 a4 a5 a6 a7 a8 a9 : Nat → Int32} {w : Nat} {wd : List Nat} (hw : w < 2) (hW : rs_W a1 a2 w wd) {i x z : Nat} {p : Int32} {P : Prop} (hi : i + 1 < wd.length) (hx : x < 99) (hz : z < 99) (hp : (p = 1 ∧ P) ∨ (p = 0 ∧ ¬ P)) (h1 : (x < z ∧ (P ∨ (i + 2 < wd.length ∧ x ≤ wd.getD (i + 2) 0 ∧ wd.getD (i + 2) 0 < z))) → post 1) (h0 : ¬ (x < z ∧ (P ∨ (i + 2 < wd.length ∧ x ≤ wd.getD (i + 2) 0 ∧ wd.getD (i + 2) 0 < z))) → post 0) : wX_mayMove_114 post (nI w) (nI i) (nI (7 * w + i)) (nI x) (nI z) p f a1 a2 a3 a4 a5 a6 a7 a8 a9 := by
  obtain ⟨g1, g2, g3, g4⟩ := hW
  have hg := rs_w7 g3 (i + 2)
  refine ⟨vp_in_nI hw (by decide), ?_⟩
  rw [rs_cl (by omega), g1]
  refine pk_le wd.length (i + 2) (fun q => ?_) (fun q => ?_) rfl (rs_i2 i)
  · exact rs_m159 hx hz hp (Or.inr ⟨rfl, fun t => absurd t.1 (by omega)⟩) h1 h0
  · refine ⟨pk_in (7 * w + (i + 2)) 14 (by omega) (rs_i2 (7 * w + i)), ?_⟩
    rw [pk_cl (7 * w + (i + 2)) (rs_i2 (7 * w + i)), g4 (i + 2) q]
    refine pk_lt (wd.getD (i + 2) 0) x (fun q2 => ?_) (fun q2 => ⟨pk_in (7 * w + (i + 2)) 14 (by omega) (rs_i2 (7 * w + i)), ?_⟩)
    · exact rs_m159 hx hz hp (Or.inr ⟨rfl, fun t => absurd t.2.1 (by omega)⟩) h1 h0
    · refine pk_le z (wd.getD (i + 2) 0) (fun q3 => ?_) (fun q3 => ?_)
      · exact rs_m159 hx hz hp (Or.inr ⟨rfl, fun t => absurd t.2.2 (by omega)⟩) h1 h0
      · exact rs_m159 hx hz hp (Or.inl ⟨rfl, q, q2, q3⟩) h1 h0
theorem rs_m77 {post : Int32 → Prop} {f : Int32} {a1 a2 a3 a4 a5 a6 a7 a8 a9 : Nat → Int32} {w : Nat} {wd : List Nat} (hw : w < 2) (hW : rs_W a1 a2 w wd) {i x z : Nat} (hi : i + 1 < wd.length) (hx : x < 99) (hz : z < 99) (h1 : (x < z ∧ ((0 < i ∧ x < wd.getD (i - 1) 0 ∧ wd.getD (i - 1) 0 ≤ z) ∨ (i + 2 < wd.length ∧ x ≤ wd.getD (i + 2) 0 ∧ wd.getD (i + 2) 0 < z))) → post 1) (h0 : ¬ (x < z ∧ ((0 < i ∧ x < wd.getD (i - 1) 0 ∧ wd.getD (i - 1) 0 ≤ z) ∨ (i + 2 < wd.length ∧ x ≤ wd.getD (i + 2) 0 ∧ wd.getD (i + 2) 0 < z))) → post 0) : wX_mayMove_77 post (nI w) (nI i) (nI (7 * w + i)) (nI x) (nI z) f a1 a2 a3 a4 a5 a6 a7 a8 a9 := by
  have g2 := hW.2.1
  have g4 := hW.2.2.2
  have hg := rs_w7 hW.2.2.1 (i - 1)
  refine pk_le i 0 (fun q => ?_) (fun q => ?_)
  · exact rs_m114 hw hW hi hx hz (Or.inr ⟨rfl, fun t => absurd t.1 (by omega)⟩) h1 h0
  · have em : nI (7 * w + i) - 1 = nI (7 * w + (i - 1)) := by
      rw [rs_im (by omega)]
      exact congrArg nI (by omega)
    refine ⟨pk_in (7 * w + (i - 1)) 14 (by omega) em, ?_⟩
    rw [pk_cl (7 * w + (i - 1)) em, g4 (i - 1) (by omega)]
    refine pk_le (wd.getD (i - 1) 0) x (fun q2 => ?_) (fun q2 => ⟨pk_in (7 * w + (i - 1)) 14 (by omega) em, ?_⟩)
    · exact rs_m114 hw hW hi hx hz (Or.inr ⟨rfl, fun t => absurd t.2.1 (by omega)⟩) h1 h0
    · refine pk_lt z (wd.getD (i - 1) 0) (fun q3 => ?_) (fun q3 => ?_)
      · exact rs_m114 hw hW hi hx hz (Or.inr ⟨rfl, fun t => absurd t.2.2 (by omega)⟩) h1 h0
      · exact rs_m114 hw hW hi hx hz (Or.inl ⟨rfl, q, q2, q3⟩) h1 h0
theorem rs_mayMove {post : Int32 → Prop} {f : Int32} {a1 a2 a3 a4 a5 a6 a7 a8 a9 : Nat → Int32} {w : Nat} {wd : List Nat} (hw : w < 2) (hW : rs_W a1 a2 w wd) {i : Nat} (hi : i + 1 < wd.length) (h1 : rs_leg wd i → post 1) (h0 : ¬ rs_leg wd i → post 0) : wpX_mayMove post (f, a1, a2, a3, a4, a5, a6, a7, a8, a9) (nI w) (nI i) := by
  have g2 := hW.2.1
  have g4 := hW.2.2.2
  have ga := rs_w7 hW.2.2.1 i
  have gb := rs_w7 hW.2.2.1 (i + 1)
  unfold wpX_mayMove
  refine nm_r (rs_ix w i) ⟨pk_in (7 * w + i) 14 (by omega), pk_in (7 * w + (i + 1)) 14 (by omega) (nI_1 (7 * w + i)), ?_⟩
  rw [pk_cl (7 * w + (i + 1)) (nI_1 (7 * w + i)), rs_cl (by omega), g4 i (by omega), g4 (i + 1) hi]
  refine pk_le (wd.getD (i + 1) 0) (wd.getD i 0) (fun q1 => ⟨pk_in (7 * w + (i + 1)) 14 (by omega) (nI_1 (7 * w + i)), ?_⟩) (fun q1 => ⟨pk_in (7 * w + i) 14 (by omega), ?_⟩)
  · refine ⟨pk_in (7 * w + i) 14 (by omega), pk_in (7 * w + (i + 1)) 14 (by omega) (nI_1 (7 * w + i)), ?_⟩
    rw [pk_cl (7 * w + (i + 1)) (nI_1 (7 * w + i)), rs_cl (by omega), g4 i (by omega), g4 (i + 1) hi]
    refine pk_le (wd.getD (i + 1) 0) (wd.getD i 0) (fun q2 => ⟨pk_in (7 * w + i) 14 (by omega), ?_⟩) (fun q2 => absurd q2 (by omega))
    refine rs_m77 hw hW hi (by omega) (by omega) (fun t => h1 ⟨hi, by omega, ?_⟩) (fun t => h0 (fun s => t ⟨by have := s.2.1; omega, ?_⟩))
    · rw [Nat.min_eq_right q1, Nat.max_eq_left q1]
      exact t.2
    · have s2 := s.2.2
      rw [Nat.min_eq_right q1, Nat.max_eq_left q1] at s2
      exact s2
  · refine ⟨pk_in (7 * w + i) 14 (by omega), pk_in (7 * w + (i + 1)) 14 (by omega) (nI_1 (7 * w + i)), ?_⟩
    rw [pk_cl (7 * w + (i + 1)) (nI_1 (7 * w + i)), rs_cl (by omega), g4 i (by omega), g4 (i + 1) hi]
    refine pk_le (wd.getD (i + 1) 0) (wd.getD i 0) (fun q2 => absurd q2 (by omega)) (fun q2 => ⟨pk_in (7 * w + (i + 1)) 14 (by omega) (nI_1 (7 * w + i)), ?_⟩)
    refine rs_m77 hw hW hi (by omega) (by omega) (fun t => h1 ⟨hi, by omega, ?_⟩) (fun t => h0 (fun s => t ⟨by have := s.2.1; omega, ?_⟩))
    · rw [Nat.min_eq_left (Nat.le_of_lt q1), Nat.max_eq_right (Nat.le_of_lt q1)]
      exact t.2
    · have s2 := s.2.2
      rw [Nat.min_eq_left (Nat.le_of_lt q1), Nat.max_eq_right (Nat.le_of_lt q1)] at s2
      exact s2
theorem rs_swapW {post : St2 → Prop} {f : Int32} {a1 a2 a3 a4 a5 a6 a7 a8 a9 : Nat → Int32} {w : Nat} {wd : List Nat} (hw : w < 2) (hW : rs_W a1 a2 w wd) {i : Nat} (hi : i + 1 < wd.length) (h : ∀ b2, rs_W a1 b2 w (rs_swap i wd) → (∀ j, j < 7 * w ∨ 7 * w + 7 ≤ j → b2 j = a2 j) → post (f, a1, b2, a3, a4, a5, a6, a7, a8, a9)) : wpX_swap post (f, a1, a2, a3, a4, a5, a6, a7, a8, a9) (nI w) (nI i) := by
  obtain ⟨g1, g2, g3, g4⟩ := hW
  have ga := rs_w7 g3 i
  have gb := rs_w7 g3 (i + 1)
  unfold wpX_swap
  refine nm_r (rs_ix w i) ⟨pk_in (7 * w + i) 14 (by omega), nm_e ⟨pk_in (7 * w + (i + 1)) 14 (by omega) (nI_1 (7 * w + i)), pk_in (7 * w + i) 14 (by omega), nm_e ⟨pk_in (7 * w + (i + 1)) 14 (by omega) (nI_1 (7 * w + i)), nm_e ?_⟩⟩⟩
  rw [pk_cl (7 * w + (i + 1)) (nI_1 (7 * w + i)), rs_cl (by omega), g4 i (by omega), g4 (i + 1) hi, rs_nb (by omega), rs_nb (by omega)]
  refine h _ ⟨by rw [rs_swap_len]; exact g1, by rw [rs_swap_len]; exact g2, fun a ha => g3 a (rs_swap_mem i wd ha), fun j hj => ?_⟩ (fun j hj => ?_)
  · rw [rs_swap_len] at hj
    rw [rs_swap_get i wd j hi]
    by_cases e1 : j = i
    · rw [if_pos e1, pk_un (by omega), e1, pk_us]
    · rw [if_neg e1]
      by_cases e2 : j = i + 1
      · rw [if_pos e2, e2, pk_us]
      · rw [if_neg e2, pk_un (by omega), pk_un (by omega)]
        exact g4 j hj
  · rw [pk_un (by omega), pk_un (by omega)]
theorem rs_moveW {post : Int32 → St2 → Prop} {f : Int32} {a1 a2 a3 a4 a5 a6 a7 a8 a9 : Nat → Int32} {w : Nat} {wd : List Nat} (hw : w < 2) (hW : rs_W a1 a2 w wd) {i : Nat} (hi : i < 99) (h1 : rs_leg wd i → ∀ b2, rs_W a1 b2 w (rs_swap i wd) → (∀ j, j < 7 * w ∨ 7 * w + 7 ≤ j → b2 j = a2 j) → post 1 (f, a1, b2, a3, a4, a5, a6, a7, a8, a9)) (h0 : ¬ rs_leg wd i → post (-4) (f, a1, a2, a3, a4, a5, a6, a7, a8, a9)) : wpX_move post (f, a1, a2, a3, a4, a5, a6, a7, a8, a9) (nI w) (nI i) := by
  unfold wpX_move
  refine rs_bad hw (br_t rfl (rs_noPair hw hW hi (fun q => br_t rfl (rs_mayMove hw hW q (fun t => br_f (by decide) (rs_swapW hw hW q (fun b2 k1 k2 => h1 t b2 k1 k2))) (fun t => br_t rfl (h0 t)))) (fun q => br_f (by decide) (h0 (fun t => q t.1)))))
theorem rs_movem {post : Int32 → St2 → Prop} {f : Int32} {a1 a2 a3 a4 a5 a6 a7 a8 a9 : Nat → Int32} {p : Int32} (h : post (-1) (f, a1, a2, a3, a4, a5, a6, a7, a8, a9)) : wpX_move post (f, a1, a2, a3, a4, a5, a6, a7, a8, a9) (-1) p := by
  unfold wpX_move
  exact rs_badm (br_f (by decide) h)
theorem rs_desc2 {post : Int32 → Prop} {f : Int32} {a1 a2 a3 a4 a5 a6 a7 a8 a9 : Nat → Int32} (h : post (-1)) : wpX_descents post (f, a1, a2, a3, a4, a5, a6, a7, a8, a9) 2 := by
  unfold wpX_descents
  exact rs_bad2 (br_f (by decide) h)
/-! are the rows the same -/
def rs_Row (a3 a4 : Nat → Int32) (L : Nat → Nat) (r : Nat) : Prop := a4 r = a4 (7 + r) ∧ ∀ c, c < L r → a3 (7 * r + c) = a3 (49 + 7 * r + c)
theorem rs_rel40 {post : Int32 → Prop} {J : Int32 → Int32 → Prop} {f : Int32} {a1 a2 a3 a4 a5 a6 a7 a8 a9 : Nat → Int32} {L : Nat → Nat} {i : Nat} {s : Int32} (hi : i < 7) (hL : L i ≤ 7) (h4 : a4 i = nI (L i)) (hs : (s = 1 ∧ (∀ r, r < i → rs_Row a3 a4 L r) ∧ a4 i = a4 (7 + i)) ∨ (s = 0 ∧ ¬ ∀ r, r < 7 → rs_Row a3 a4 L r))
    (hJ : ∀ s, ((s = 1 ∧ ∀ r, r < i + 1 → rs_Row a3 a4 L r) ∨ (s = 0 ∧ ¬ ∀ r, r < 7 → rs_Row a3 a4 L r)) → J s (nI (i + 1))) : ∃ n, wX_related_40 post J (nI i) f a1 a2 a3 a4 a5 a6 a7 a8 a9 n s 0 := by
  refine pk_loop (σ := Int32) (fun n c s => wX_related_40 post J (nI i) f a1 a2 a3 a4 a5 a6 a7 a8 a9 n s (nI c)) (fun c s => (s = 1 ∧ (∀ r, r < i → rs_Row a3 a4 L r) ∧ a4 i = a4 (7 + i) ∧ ∀ c', c' < c → a3 (7 * i + c') = a3 (49 + 7 * i + c')) ∨ (s = 0 ∧ ¬ ∀ r, r < 7 → rs_Row a3 a4 L r)) (L i) 0 s (Nat.zero_le _) ?_ (fun n s h => ?_) (fun n c s hc h hn => ?_)
  · rcases hs with ⟨e, k1, k2⟩ | k
    · exact Or.inl ⟨e, k1, k2, fun c' z => absurd z (by omega)⟩
    · exact Or.inr k
  · refine ⟨vp_in_nI (by omega) (by decide), br_t ?_ (nm_r (nI_1 i) (hJ s ?_))⟩
    · rw [rs_cl (by omega), h4]
      exact nI_le (Nat.le_refl _) (by omega)
    · rcases h with ⟨e, k1, k2, k3⟩ | k
      · refine Or.inl ⟨e, fun r hr => ?_⟩
        by_cases e' : r = i
        · rw [e']; exact ⟨k2, k3⟩
        · exact k1 r (by omega)
      · exact Or.inr k
  · refine ⟨vp_in_nI (by omega) (by decide), br_f ?_ ?_⟩
    · rw [rs_cl (by omega), h4]
      exact nI_ge hc (by omega)
    · rcases h with ⟨e, k1, k2, k3⟩ | ⟨e, k⟩
      · rw [e]
        refine br_f (by decide) ⟨pk_in (7 * i + c) 98 (by omega) (rs_ix i c), pk_in (49 + 7 * i + c) 98 (by omega) (rs_iw i c), ?_⟩
        rw [pk_cl (7 * i + c) (rs_ix i c), pk_cl (49 + 7 * i + c) (rs_iw i c)]
        refine br_c (fun q => nm_r (nI_1 c) (hn 1 (Or.inl ⟨rfl, k1, k2, fun c' hc' => ?_⟩))) (fun q => nm_r (nI_1 c) (hn 0 (Or.inr ⟨rfl, fun t => q ((t i hi).2 c hc)⟩)))
        by_cases e' : c' = c
        · rw [e']; exact q
        · exact k3 c' (by omega)
      · rw [e]
        exact br_t rfl (nm_r (nI_1 c) (hn 0 (Or.inr ⟨rfl, k⟩)))
theorem rs_rel {post : Int32 → Prop} {f : Int32} {a1 a2 a3 a4 a5 a6 a7 a8 a9 : Nat → Int32} {L : Nat → Nat} (hL : ∀ r, r < 7 → L r ≤ 7 ∧ a4 r = nI (L r)) (h1 : (∀ r, r < 7 → rs_Row a3 a4 L r) → post 1) (h0 : (¬ ∀ r, r < 7 → rs_Row a3 a4 L r) → post 0) : wpX_related post (f, a1, a2, a3, a4, a5, a6, a7, a8, a9) := by
  unfold wpX_related
  refine pk_loop (σ := Int32) (fun n i s => wX_related_4 post f a1 a2 a3 a4 a5 a6 a7 a8 a9 n s (nI i)) (fun i s => (s = 1 ∧ ∀ r, r < i → rs_Row a3 a4 L r) ∨ (s = 0 ∧ ¬ ∀ r, r < 7 → rs_Row a3 a4 L r)) 7 0 1 (Nat.zero_le _) (Or.inl ⟨rfl, fun r hr => absurd hr (by omega)⟩) (fun n s h => ?_) (fun n i s hi h hn => ?_)
  · refine br_t (nI_le (a := 7) (Nat.le_refl _) (by decide)) ?_
    rcases h with ⟨e, k⟩ | ⟨e, k⟩
    · rw [e]; exact br_f (by decide) (h1 k)
    · rw [e]; exact br_t rfl (h0 k)
  · have hi' := hL i hi
    refine br_f (nI_ge (b := 7) hi (by decide)) ?_
    rcases h with ⟨e, k⟩ | ⟨e, k⟩
    · rw [e]
      refine br_f (by decide) ⟨vp_in_nI (by omega) (by decide), pk_in (7 + i) 14 (by omega) (rs_i7 i), ?_⟩
      rw [pk_cl (7 + i) (rs_i7 i), rs_cl (by omega)]
      exact br_c (fun q => rs_rel40 hi hi'.1 hi'.2 (Or.inl ⟨rfl, k, q⟩) (fun s hs => hn s hs)) (fun q => rs_rel40 hi hi'.1 hi'.2 (Or.inr ⟨rfl, fun t => q (t i hi).1⟩) (fun s hs => hn s hs))
    · rw [e]
      exact br_t rfl (rs_rel40 hi hi'.1 hi'.2 (Or.inr ⟨rfl, k⟩) (fun s hs => hn s hs))
/-! what the lengths of the rows say -/
def rs_Ls (a4 : Nat → Int32) (w : Nat) (S : List Nat) : Prop := S.length = 7 ∧ (∀ r, S.getD r 0 ≤ 7) ∧ ∀ r, r < 7 → a4 (7 * w + r) = nI (S.getD r 0)
theorem rs_hook {post : Int32 → Prop} {f : Int32} {a1 a2 a3 a4 a5 a6 a7 a8 a9 : Nat → Int32} {w : Nat} {S : List Nat} (hw : w < 2) (hS : rs_Ls a4 w S) {r c : Nat} (hr : r < 7) (h : post (rs_hk S (nI c) (6 - r) (nI (S.getD r 0) - nI c))) : wpX_hook post (f, a1, a2, a3, a4, a5, a6, a7, a8, a9) (nI w) (nI r) (nI c) := by
  obtain ⟨g1, g2, g3⟩ := hS
  unfold wpX_hook
  refine ⟨pk_in (7 * w + r) 14 (by omega) (rs_ix w r), ?_⟩
  rw [pk_cl (7 * w + r) (rs_ix w r), g3 r hr]
  refine nm_e (nm_r (nI_1 r) ?_)
  refine pk_loop (σ := Int32) (fun n i s => wX_hook_20 post (nI w) (nI c) f a1 a2 a3 a4 a5 a6 a7 a8 a9 n s (nI i)) (fun i s => rs_hk S (nI c) (7 - i) s = rs_hk S (nI c) (6 - r) (nI (S.getD r 0) - nI c)) 7 (r + 1) _ (by omega) (by rw [show 7 - (r + 1) = 6 - r by omega]) (fun n s hs => ?_) (fun n i s hi hs hn => ?_)
  · refine br_t (nI_le (a := 7) (Nat.le_refl _) (by decide)) ?_
    have hs' : s = rs_hk S (nI c) (6 - r) (nI (S.getD r 0) - nI c) := hs
    rw [hs']
    exact h
  · refine br_f (nI_ge (b := 7) hi (by decide)) ⟨pk_in (7 * w + i) 14 (by omega) (rs_ix w i), ?_⟩
    rw [pk_cl (7 * w + i) (rs_ix w i), g3 i hi]
    rw [show 7 - i = (6 - i) + 1 by omega, rs_hk, show 6 - (6 - i) = i by omega] at hs
    refine br_c (fun q => nm_r (nI_1 i) (hn s ?_)) (fun q => nm_e (nm_r (nI_1 i) (hn (s + 1) ?_)))
    · rw [if_pos q] at hs
      rw [show 7 - (i + 1) = 6 - i by omega]
      exact hs
    · rw [if_neg q] at hs
      rw [show 7 - (i + 1) = 6 - i by omega]
      exact hs
theorem rs_kinW {post : Int32 → Prop} {f : Int32} {a1 a2 a3 a4 a5 a6 a7 a8 a9 : Nat → Int32} {w : Nat} {S : List Nat} (hw : w < 2) (hS : rs_Ls a4 w S) (h : post (rs_kin S)) : wpX_kin post (f, a1, a2, a3, a4, a5, a6, a7, a8, a9) (nI w) := by
  have hS' := hS
  obtain ⟨g1, g2, g3⟩ := hS
  unfold wpX_kin
  refine rs_bad hw (br_t rfl ?_)
  refine pk_loop (σ := Int32 × Int32 × Int32) (fun n i s => wX_kin_20 post (nI w) f a1 a2 a3 a4 a5 a6 a7 a8 a9 n s.1 s.2.1 s.2.2 (nI i)) (fun i s => rs_kn S (49 - i) s.1 s.2.1 s.2.2 = rs_kin S) 49 0 (1, 1, 0) (Nat.zero_le _) rfl (fun n s hs => ?_) (fun n i s hi hs hn => ?_)
  · refine br_t (nI_le (a := 49) (Nat.le_refl _) (by decide)) ?_
    have hs' : (if s.2.1 ≤ 0 then s.1 / 1 else s.1 / s.2.1) = rs_kin S := hs
    refine br_c (fun q => ⟨by decide, ?_⟩) (fun q => ⟨fun z => q (by rw [z]; decide), ?_⟩)
    · rw [if_pos q] at hs'
      rw [hs']; exact h
    · rw [if_neg q] at hs'
      rw [hs']; exact h
  · have ed : nI i / 7 = nI (i / 7) := pk_div (d := 7) (by omega) (by omega) (by omega)
    have er : nI i - nI i / 7 * 7 = nI (i % 7) := pk_rem (d := 7) (by omega) (by omega) (by omega)
    rw [show 49 - i = (48 - i) + 1 by omega, rs_kn, show 48 - (48 - i) = i by omega] at hs
    refine br_f (nI_ge (b := 49) hi (by decide)) ⟨by decide, nm_r ed ⟨by decide, nm_r er ⟨pk_in (7 * w + i / 7) 14 (by omega) (rs_ix w _), ?_⟩⟩⟩
    rw [pk_cl (7 * w + i / 7) (rs_ix w _), g3 (i / 7) (by omega)]
    refine br_c (fun q => nm_r (nI_1 i) (hn s ?_)) (fun q => nm_e (nm_e (rs_hook hw hS' (by omega) (nm_e (nm_r (nI_1 i) (hn (s.1 * (s.2.2 + 1), s.2.1 * _, s.2.2 + 1) ?_))))))
    · rw [if_pos q] at hs
      rw [show 49 - (i + 1) = 48 - i by omega]
      exact hs
    · rw [if_neg q] at hs
      rw [show 49 - (i + 1) = 48 - i by omega]
      exact hs
def rs_fl (k : Nat) : List Nat → Nat
  | [] => 0
  | a :: l => min a k + rs_fl k l
theorem rs_fl_snoc (k x : Nat) : ∀ l : List Nat, rs_fl k (l ++ [x]) = rs_fl k l + min x k := by
  intro l
  induction l with
  | nil => show min x k + 0 = 0 + min x k; omega
  | cons a l ih =>
    show min a k + rs_fl k (l ++ [x]) = min a k + rs_fl k l + min x k
    rw [ih]; omega
theorem rs_fl_le (k : Nat) : ∀ l : List Nat, rs_fl k l ≤ rs_sm l := by
  intro l
  induction l with
  | nil => exact Nat.le_refl 0
  | cons a l ih =>
    show min a k + rs_fl k l ≤ a + rs_sm l
    omega
theorem rs_sm_snoc (x : Nat) : ∀ l : List Nat, rs_sm (l ++ [x]) = rs_sm l + x := by
  intro l
  induction l with
  | nil => show x + 0 = 0 + x; omega
  | cons a l ih =>
    show a + rs_sm (l ++ [x]) = a + rs_sm l + x
    rw [ih]; omega
theorem rs_falling {post : Int32 → Prop} {f : Int32} {a1 a2 a3 a4 a5 a6 a7 a8 a9 : Nat → Int32} {w : Nat} {S : List Nat} (hw : w < 2) (hS : rs_Ls a4 w S) {k : Nat} (hk : k ≤ 3) (h : post (nI (rs_fl k S))) : wpX_falling post (f, a1, a2, a3, a4, a5, a6, a7, a8, a9) (nI w) (nI k) := by
  obtain ⟨g1, g2, g3⟩ := hS
  unfold wpX_falling
  refine rs_bad hw (br_t rfl (br_f (nI_pos (by omega)) (br_t (nI_le (b := 3) hk (by decide)) ?_)))
  refine pk_loop (σ := Int32) (fun n i s => wX_falling_24 post (nI w) (nI k) f a1 a2 a3 a4 a5 a6 a7 a8 a9 n s (nI i)) (fun i s => s = nI (rs_fl k (S.take i))) 7 0 0 (Nat.zero_le _) rfl (fun n s hs => ?_) (fun n i s hi hs hn => ?_)
  · refine br_t (nI_le (a := 7) (Nat.le_refl _) (by decide)) ?_
    rw [hs, ← g1, List.take_length]
    exact h
  · have hg := g2 i
    refine br_f (nI_ge (b := 7) hi (by decide)) ⟨pk_in (7 * w + i) 14 (by omega) (rs_ix w i), nm_r (by rw [pk_cl (7 * w + i) (rs_ix w i), g3 i hi]) ?_⟩
    refine pk_le k (S.getD i 0) (fun q => nm_r ?_ (nm_r (nI_1 i) (hn (nI (rs_fl k (S.take (i + 1)))) rfl))) (fun q => nm_r ?_ (nm_r (nI_1 i) (hn (nI (rs_fl k (S.take (i + 1)))) rfl)))
    · rw [hs, nI_add, rs_tk1 (d := 0) (by omega), rs_fl_snoc, Nat.min_eq_right q]
    · rw [hs, nI_add, rs_tk1 (d := 0) (by omega), rs_fl_snoc, Nat.min_eq_left (Nat.le_of_lt q)]
theorem rs_rising {post : Int32 → Prop} {f : Int32} {a1 a2 a3 a4 a5 a6 a7 a8 a9 : Nat → Int32} {w : Nat} {S : List Nat} (hw : w < 2) (hS : rs_Ls a4 w S) {k : Nat} (hk : k ≤ 3) (h : post (nI (rs_sm (S.take k)))) : wpX_rising post (f, a1, a2, a3, a4, a5, a6, a7, a8, a9) (nI w) (nI k) := by
  obtain ⟨g1, g2, g3⟩ := hS
  unfold wpX_rising
  refine rs_bad hw (br_t rfl (br_f (nI_pos (by omega)) (br_t (nI_le (b := 3) hk (by decide)) ?_)))
  refine pk_loop (σ := Int32) (fun n i s => wX_rising_24 post (nI w) (nI k) f a1 a2 a3 a4 a5 a6 a7 a8 a9 n s (nI i)) (fun i s => s = nI (rs_sm (S.take i))) k 0 0 (Nat.zero_le _) rfl (fun n s hs => ?_) (fun n i s hi hs hn => ?_)
  · refine br_t (nI_le (Nat.le_refl _) (by omega)) ?_
    rw [hs]
    exact h
  · refine br_f (nI_ge hi (by omega)) ⟨pk_in (7 * w + i) 14 (by omega) (rs_ix w i), nm_r ?_ (nm_r (nI_1 i) (hn (nI (rs_sm (S.take (i + 1)))) rfl))⟩
    rw [hs, pk_cl (7 * w + i) (rs_ix w i), g3 i (by omega), nI_add, rs_tk1 (d := 0) (by omega), rs_sm_snoc]
end
section
/-! rows in an array -/
def rs_M (e l : Nat → Int32) (E O : Nat) (T : List (List Nat)) : Prop := T.length = 7 ∧ (∀ r, r < 7 → (T.getD r []).length ≤ 7) ∧ rs_B T ∧ (∀ r, r < 7 → l (O + r) = nI (T.getD r []).length) ∧ ∀ r c, r < 7 → c < (T.getD r []).length → e (E + 7 * r + c) = nI ((T.getD r []).getD c 0)
theorem rs_M_Ls {e l : Nat → Int32} {E w : Nat} {T : List (List Nat)} (h : rs_M e l E (7 * w) T) : rs_Ls l w (rs_sh T) := by
  obtain ⟨h1, h2, h3, h4, h5⟩ := h
  refine ⟨by rw [rs_sh_len]; exact h1, fun r => ?_, fun r hr => ?_⟩
  · rw [rs_sh_get]
    rcases Nat.lt_or_ge r 7 with z | z
    · exact h2 r z
    · rw [rs_gge (by omega)]
      exact Nat.zero_le _
  · rw [rs_sh_get]
    exact h4 r hr
theorem rs_M_cell {e l : Nat → Int32} {E O : Nat} {T : List (List Nat)} (h : rs_M e l E O T) {r c : Nat} : (T.getD r []).getD c 0 ≤ 7 := by
  refine rs_g7 (fun a ha => ?_) c
  rcases Nat.lt_or_ge r T.length with z | z
  · exact h.2.2.1 _ (rs_gmem z) a ha
  · rw [rs_gge z] at ha
    exact absurd ha (by simp)
theorem rs_B_set {T : List (List Nat)} {r : Nat} {R : List Nat} (h : rs_B T) (hR : ∀ a, a ∈ R → a ≤ 7) : rs_B (T.set r R) := by
  intro Q hQ a ha
  rcases List.mem_or_eq_of_mem_set hQ with z | z
  · exact h Q z a ha
  · rw [z] at ha
    exact hR a ha
theorem rs_M_set {e l : Nat → Int32} {E O : Nat} {T : List (List Nat)} (h : rs_M e l E O T) {r c x : Nat} (hr : r < 7) (hc : c < (T.getD r []).length) (hx : x ≤ 7) : rs_M (upd e (E + 7 * r + c) (nI x)) l E O (T.set r ((T.getD r []).set c x)) := by
  obtain ⟨h1, h2, h3, h4, h5⟩ := h
  have hrT : r < T.length := by omega
  have hR := h3 _ (rs_gmem (d := []) hrT)
  have hr7 := h2 r hr
  refine ⟨by rw [List.length_set]; exact h1, fun q hq => ?_, rs_B_set h3 (fun a ha => ?_), fun q hq => ?_, fun q k hq hk => ?_⟩
  · rw [rs_gset q hrT]
    split
    · rw [List.length_set]; exact h2 r hr
    · exact h2 q hq
  · rcases List.mem_or_eq_of_mem_set ha with z | z
    · exact hR a z
    · omega
  · rw [rs_gset q hrT]
    split
    · next z => rw [List.length_set, z]; exact h4 r hr
    · exact h4 q hq
  · rw [rs_gset q hrT] at hk ⊢
    by_cases z : q = r
    · rw [if_pos z, List.length_set] at hk
      rw [if_pos z, rs_gset k hc, z]
      by_cases y : k = c
      · rw [if_pos y, y, pk_us]
      · rw [if_neg y, pk_un (by omega)]
        exact h5 r k hr hk
    · rw [if_neg z] at hk
      have hq7 := h2 q hq
      rw [if_neg z, pk_un (by omega)]
      exact h5 q k hq hk
theorem rs_M_app {e l : Nat → Int32} {E O : Nat} {T : List (List Nat)} (h : rs_M e l E O T) {r x : Nat} (hr : r < 7) (hc : (T.getD r []).length < 7) (hx : x ≤ 7) : rs_M (upd e (E + 7 * r + (T.getD r []).length) (nI x)) (upd l (O + r) (nI ((T.getD r []).length + 1))) E O (T.set r (T.getD r [] ++ [x])) := by
  obtain ⟨h1, h2, h3, h4, h5⟩ := h
  have hrT : r < T.length := by omega
  have hR := h3 _ (rs_gmem (d := []) hrT)
  refine ⟨by rw [List.length_set]; exact h1, fun q hq => ?_, rs_B_set h3 (fun a ha => ?_), fun q hq => ?_, fun q k hq hk => ?_⟩
  · rw [rs_gset q hrT]
    split
    · rw [List.length_append, List.length_singleton]; omega
    · exact h2 q hq
  · rcases List.mem_append.mp ha with z | z
    · exact hR a z
    · rw [List.mem_singleton.mp z]; exact hx
  · rw [rs_gset q hrT]
    by_cases z : q = r
    · rw [if_pos z, List.length_append, List.length_singleton, z, pk_us]
    · rw [if_neg z, pk_un (by omega)]
      exact h4 q hq
  · rw [rs_gset q hrT] at hk ⊢
    by_cases z : q = r
    · rw [if_pos z, List.length_append, List.length_singleton] at hk
      rw [if_pos z, rs_gapp, z]
      by_cases y : k = (T.getD r []).length
      · rw [if_pos y, y, pk_us]
      · rw [if_neg y, pk_un (by omega)]
        exact h5 r k hr (by omega)
    · rw [if_neg z] at hk
      have hq7 := h2 q hq
      rw [if_neg z, pk_un (by omega)]
      exact h5 q k hq hk
theorem rs_M_cp {e l e' l' : Nat → Int32} {E O E' O' : Nat} {T : List (List Nat)} (h : rs_M e l E O T) (he : ∀ k, k < 49 → e' (E' + k) = vp_nar .byte (e (E + k))) (hl : ∀ r, r < 7 → l' (O' + r) = vp_nar .byte (l (O + r))) : rs_M e' l' E' O' T := by
  have hcell := fun r c => rs_M_cell h (r := r) (c := c)
  obtain ⟨h1, h2, h3, h4, h5⟩ := h
  refine ⟨h1, h2, h3, fun r hr => ?_, fun r c hr hc => ?_⟩
  · have := h2 r hr
    rw [hl r hr, h4 r hr, rs_nb (by omega)]
  · have := h2 r hr
    have g := hcell r c
    rw [Nat.add_assoc, he (7 * r + c) (by omega), ← Nat.add_assoc, h5 r c hr hc, rs_nb (by omega)]
theorem rs_M_eq {e l e' l' : Nat → Int32} {E O E' O' : Nat} {T : List (List Nat)} (h : rs_M e l E O T) (he : ∀ k, k < 49 → e' (E' + k) = e (E + k)) (hl : ∀ r, r < 7 → l' (O' + r) = l (O + r)) : rs_M e' l' E' O' T := by
  obtain ⟨h1, h2, h3, h4, h5⟩ := h
  refine ⟨h1, h2, h3, fun r hr => ?_, fun r c hr hc => ?_⟩
  · rw [hl r hr, h4 r hr]
  · have := h2 r hr
    rw [Nat.add_assoc, he (7 * r + c) (by omega), ← Nat.add_assoc, h5 r c hr hc]
/-! a letter is put in -/
theorem rs_first {post : Int32 → Prop} {f : Int32} {a1 a2 a3 a4 a5 a6 a7 a8 a9 : Nat → Int32} {w : Nat} {T : List (List Nat)} (hw : w < 2) (hM : rs_M a3 a4 (49 * w) (7 * w) T) {r x : Nat} (hr : r < 7) (hx : x ≤ 7) (h : post (nI (rs_fa x (T.getD r [])))) : wpX_firstAbove post (f, a1, a2, a3, a4, a5, a6, a7, a8, a9) (nI w) (nI r) (nI x) := by
  have hcell := fun c => rs_M_cell hM (r := r) (c := c)
  obtain ⟨h1, h2, h3, h4, h5⟩ := hM
  have h2r := h2 r hr
  have hup := rs_fa_up x (T.getD r [])
  unfold wpX_firstAbove
  refine pk_loop (σ := Unit) (fun n i _ => wX_firstAbove_3 post (nI w) (nI r) (nI x) f a1 a2 a3 a4 a5 a6 a7 a8 a9 n (nI i)) (fun _ _ => True) (rs_fa x (T.getD r [])) 0 () (Nat.zero_le _) trivial (fun n _ _ => ?_) (fun n i _ hi _ hn => ?_)
  · refine ⟨pk_in (7 * w + r) 14 (by omega) (rs_ix w r), ?_⟩
    rw [pk_cl (7 * w + r) (rs_ix w r), h4 r hr]
    refine pk_le (T.getD r []).length (rs_fa x (T.getD r [])) (fun _ => h) (fun q => ⟨pk_in (49 * w + 7 * r + rs_fa x (T.getD r [])) 98 (by omega) (rs_iy w r _), ?_⟩)
    rw [pk_cl (49 * w + 7 * r + rs_fa x (T.getD r [])) (rs_iy w r _), h5 r _ hr q]
    have := hcell (rs_fa x (T.getD r []))
    exact br_t (nI_lt (rs_fa_at q) (by omega)) h
  · refine ⟨pk_in (7 * w + r) 14 (by omega) (rs_ix w r), ?_⟩
    rw [pk_cl (7 * w + r) (rs_ix w r), h4 r hr]
    refine pk_le (T.getD r []).length i (fun q => absurd q (by omega)) (fun q => ⟨pk_in (49 * w + 7 * r + i) 98 (by omega) (rs_iy w r _), ?_⟩)
    rw [pk_cl (49 * w + 7 * r + i) (rs_iy w r _), h5 r i hr q]
    exact br_f (nI_nlt (rs_fa_lo hi) (by omega)) (nm_r (nI_1 i) (hn () trivial))
theorem rs_insL {post : Int32 → St2 → Prop} {f : Int32} {a1 a2 a5 a6 a7 a8 a9 : Nat → Int32} {w : Nat} (hw : w < 2) : ∀ (rest pre : List (List Nat)) (x : Nat) (a3 a4 : Nat → Int32), rs_M a3 a4 (49 * w) (7 * w) (pre ++ rest) → (∀ R, R ∈ pre ++ rest → R.length < 7) → x ≤ 7 →
    (∀ q b3 b4, rs_M b3 b4 (49 * w) (7 * w) (pre ++ rs_ins rest x) → (∀ j, j < 49 * w ∨ 49 * w + 49 ≤ j → b3 j = a3 j) → (∀ j, j < 7 * w ∨ 7 * w + 7 ≤ j → b4 j = a4 j) → post q (f, a1, a2, b3, b4, a5, a6, a7, a8, a9)) → ∀ n, rest.length + 2 ≤ n → wX_insert_8 post (nI w) f n (nI x) (nI pre.length) 1 a1 a2 a3 a4 a5 a6 a7 a8 a9 := by
  intro rest
  induction rest with
  | nil =>
    intro pre x a3 a4 hM hl hx h n hn
    obtain ⟨n', rfl⟩ : ∃ n', n = n' + 1 := ⟨n - 1, by omega⟩
    have hp : pre.length = 7 := by
      have := hM.1
      rw [List.append_nil] at this
      exact this
    refine br_f (by decide) (br_t ?_ (h _ a3 a4 hM (fun _ _ => rfl) (fun _ _ => rfl)))
    rw [hp]
    exact nI_le (a := 7) (Nat.le_refl _) (by decide)
  | cons R rest ih =>
    intro pre x a3 a4 hM hl hx h n hn
    rw [List.length_cons] at hn
    obtain ⟨n', rfl⟩ : ∃ n', n = n' + 1 := ⟨n - 1, by omega⟩
    have hT : (pre ++ R :: rest).getD pre.length [] = R := rs_gpre
    have hp : pre.length < 7 := by
      have := hM.1
      rw [List.length_append, List.length_cons] at this
      omega
    have hR7 : R.length < 7 := hl R (List.mem_append.mpr (Or.inr List.mem_cons_self))
    have hlen : a4 (7 * w + pre.length) = nI R.length := by
      have := hM.2.2.2.1 pre.length hp
      rw [hT] at this
      exact this
    have hent : ∀ c, c < R.length → a3 (49 * w + 7 * pre.length + c) = nI (R.getD c 0) := by
      intro c hc
      have := hM.2.2.2.2 pre.length c hp (by rw [hT]; exact hc)
      rw [hT] at this
      exact this
    have hcell : ∀ c, R.getD c 0 ≤ 7 := by
      intro c
      have := rs_M_cell hM (r := pre.length) (c := c)
      rw [hT] at this
      exact this
    have hup := rs_fa_up x R
    refine br_f (by decide) (br_f (nI_ge (b := 7) hp (by decide)) ?_)
    refine rs_first hw hM hp hx ?_
    rw [hT]
    refine nm_r (rs_iy w pre.length (rs_fa x R)) ⟨pk_in (7 * w + pre.length) 14 (by omega) (rs_ix w _), ?_⟩
    rw [pk_cl (7 * w + pre.length) (rs_ix w _), hlen, rs_cl (by omega)]
    refine pk_eq (rs_fa x R) R.length (fun q => ?_) (fun q => ?_)
    · refine ⟨pk_in (49 * w + 7 * pre.length + rs_fa x R) 98 (by omega), nm_e ⟨pk_in (7 * w + pre.length) 14 (by omega) (rs_ix w _), pk_in (7 * w + pre.length) 14 (by omega) (rs_ix w _), nm_e ?_⟩⟩
      obtain ⟨n2, rfl⟩ : ∃ n2, n' = n2 + 1 := ⟨n' - 1, by omega⟩
      refine br_t rfl ?_
      have hA := rs_M_app hM (r := pre.length) (x := x) hp (by rw [hT]; exact hR7) hx
      rw [hT, rs_spre] at hA
      rw [nI_1, rs_by x (by omega), rs_by (R.length + 1) (by omega), q]
      refine h _ _ _ ?_ (fun j hj => pk_un (by omega)) (fun j hj => pk_un (by omega))
      rw [rs_ins_n (rs_fa_end q).2, (rs_fa_end q).1]
      exact hA
    · have hq : rs_fa x R < R.length := by omega
      refine ⟨pk_in (49 * w + 7 * pre.length + rs_fa x R) 98 (by omega), nm_r (hent _ hq) ⟨pk_in (49 * w + 7 * pre.length + rs_fa x R) 98 (by omega), nm_e (nm_r (nI_1 _) ?_)⟩⟩
      have hA := rs_M_set hM (r := pre.length) (c := rs_fa x R) (x := x) hp (by rw [hT]; exact hq) hx
      rw [hT, rs_spre] at hA
      rw [rs_by x (by omega)]
      have e1 : pre ++ R.set (rs_fa x R) x :: rest = (pre ++ [R.set (rs_fa x R) x]) ++ rest := by rw [List.append_assoc]; rfl
      rw [e1] at hA
      have hi := ih (pre ++ [R.set (rs_fa x R) x]) (R.getD (rs_fa x R) 0) _ a4 hA (fun Q hQ => ?_) (hcell _) (fun q' b3 b4 k1 k2 k3 => h q' b3 b4 ?_ (fun j hj => ?_) k3) n' (by omega)
      · rw [List.length_append, List.length_singleton] at hi
        exact hi
      · rw [List.append_assoc] at hQ
        rcases List.mem_append.mp hQ with z | z
        · exact hl Q (List.mem_append.mpr (Or.inl z))
        · rcases List.mem_append.mp z with y | y
          · rw [List.mem_singleton.mp y, List.length_set]
            exact hR7
          · exact hl Q (List.mem_append.mpr (Or.inr (List.mem_cons_of_mem R y)))
      · rw [rs_ins_s (rs_fa_row hq).2, (rs_fa_row hq).1]
        rw [List.append_assoc] at k1
        exact k1
      · rw [k2 j hj, pk_un (by omega)]
theorem rs_insW {post : Int32 → St2 → Prop} {f : Int32} {a1 a2 a3 a4 a5 a6 a7 a8 a9 : Nat → Int32} {w x : Nat} {T : List (List Nat)} (hw : w < 2) (hM : rs_M a3 a4 (49 * w) (7 * w) T) (hl : ∀ R, R ∈ T → R.length < 7) (hx : x ≤ 7) (h : ∀ q b3 b4, rs_M b3 b4 (49 * w) (7 * w) (rs_ins T x) → (∀ j, j < 49 * w ∨ 49 * w + 49 ≤ j → b3 j = a3 j) → (∀ j, j < 7 * w ∨ 7 * w + 7 ≤ j → b4 j = a4 j) → post q (f, a1, a2, b3, b4, a5, a6, a7, a8, a9)) : wpX_insert post (f, a1, a2, a3, a4, a5, a6, a7, a8, a9) (nI w) (nI x) := by
  unfold wpX_insert
  exact ⟨9, rs_insL hw T [] x a3 a4 hM hl hx h 9 (by have := hM.1; omega)⟩
theorem rs_P_rl {u : List Nat} (h : u.length ≤ 7) : ∀ R, R ∈ rs_P u → R.length ≤ u.length := by
  intro R hR
  obtain ⟨i, hi, e⟩ := List.mem_iff_getElem.mp hR
  have h1 := rs_sm_get (rs_sh (rs_P u)) i
  rw [(rs_part h).2, rs_sh_get, List.getD_eq_getElem?_getD, List.getElem?_eq_getElem hi, e] at h1
  exact h1
theorem rs_e7_M {e l : Nat → Int32} {E O : Nat} (h : ∀ r, r < 7 → l (O + r) = 0) : rs_M e l E O rs_e7 := by
  have hg : ∀ r, rs_e7.getD r [] = [] := by
    intro r
    rcases Nat.lt_or_ge r rs_e7.length with z | z
    · exact rs_e7_mem (rs_gmem z)
    · exact rs_gge z
  refine ⟨rfl, fun r _ => by rw [hg]; exact Nat.zero_le _, fun R hR a ha => ?_, fun r hr => by rw [hg]; exact h r hr, fun r c _ hc => ?_⟩
  · rw [rs_e7_mem hR] at ha
    exact absurd ha (by simp)
  · rw [hg] at hc
    exact absurd hc (by simp)
theorem rs_reb28 {post : St2 → Prop} {f : Int32} {a1 a2 a3 a4 a5 a6 a7 a8 a9 : Nat → Int32} {w : Nat} {wd : List Nat} (hw : w < 2) (hW : rs_W a1 a2 w wd) (hM : rs_M a3 a4 (49 * w) (7 * w) rs_e7) (h : ∀ b3 b4, rs_M b3 b4 (49 * w) (7 * w) (rs_P wd) → (∀ j, j < 49 * w ∨ 49 * w + 49 ≤ j → b3 j = a3 j) → (∀ j, j < 7 * w ∨ 7 * w + 7 ≤ j → b4 j = a4 j) → post (f, a1, a2, b3, b4, a5, a6, a7, a8, a9)) : ∃ n, wX_rebuild_28 post (nI w) (nI wd.length) n 0 f a1 a2 a3 a4 a5 a6 a7 a8 a9 := by
  obtain ⟨g1, g2, g3, g4⟩ := hW
  refine pk_loop (σ := (Nat → Int32) × (Nat → Int32)) (fun n i s => wX_rebuild_28 post (nI w) (nI wd.length) n (nI i) f a1 a2 (s.1) (s.2) a5 a6 a7 a8 a9) (fun i s => rs_M s.1 s.2 (49 * w) (7 * w) (rs_P (wd.take i)) ∧ (∀ j, j < 49 * w ∨ 49 * w + 49 ≤ j → s.1 j = a3 j) ∧ (∀ j, j < 7 * w ∨ 7 * w + 7 ≤ j → s.2 j = a4 j)) wd.length 0 (a3, a4) (Nat.zero_le _) ⟨hM, fun _ _ => rfl, fun _ _ => rfl⟩ (fun n s hs => ?_) (fun n i s hi hs hn => ?_)
  · refine br_t (nI_le (Nat.le_refl _) (by omega)) (h s.1 s.2 ?_ hs.2.1 hs.2.2)
    have := hs.1
    rw [List.take_length] at this
    exact this
  · obtain ⟨k1, k2, k3⟩ := hs
    have hg := rs_w7 g3 i
    refine br_f (nI_ge hi (by omega)) ⟨pk_in (7 * w + i) 14 (by omega) (rs_ix w i), ?_⟩
    rw [pk_cl (7 * w + i) (rs_ix w i), g4 i hi]
    refine rs_insW hw k1 (fun R hR => ?_) hg (fun q b3 b4 m1 m2 m3 => nm_r (nI_1 i) (hn (b3, b4) ⟨?_, fun j hj => ?_, fun j hj => ?_⟩))
    · have hlt : (wd.take i).length = i := by rw [List.length_take]; omega
      have := rs_P_rl (by omega) R hR
      omega
    · rw [rs_tk1 (d := 0) hi, rs_P_snoc]
      exact m1
    · exact (m2 j hj).trans (k2 j hj)
    · exact (m3 j hj).trans (k3 j hj)
theorem rs_rebuild {post : St2 → Prop} {f : Int32} {a1 a2 a3 a4 a5 a6 a7 a8 a9 : Nat → Int32} {w : Nat} {wd : List Nat} (hw : w < 2) (hW : rs_W a1 a2 w wd) (h : ∀ b3 b4, rs_M b3 b4 (49 * w) (7 * w) (rs_P wd) → (∀ j, j < 49 * w ∨ 49 * w + 49 ≤ j → b3 j = a3 j) → (∀ j, j < 7 * w ∨ 7 * w + 7 ≤ j → b4 j = a4 j) → post (f, a1, a2, b3, b4, a5, a6, a7, a8, a9)) : wpX_rebuild post (f, a1, a2, a3, a4, a5, a6, a7, a8, a9) (nI w) (nI wd.length) := by
  unfold wpX_rebuild
  refine pk_loop (σ := Nat → Int32) (fun n i s => wX_rebuild_2 post (nI w) (nI wd.length) f n (nI i) a1 a2 a3 s a5 a6 a7 a8 a9) (fun i s => (∀ r, r < i → s (7 * w + r) = 0) ∧ (∀ j, j < 7 * w ∨ 7 * w + 7 ≤ j → s j = a4 j)) 7 0 a4 (Nat.zero_le _) ⟨fun r hr => absurd hr (by omega), fun _ _ => rfl⟩ (fun n s hs => ?_) (fun n i s hi hs hn => ?_)
  · exact br_t (nI_le (a := 7) (Nat.le_refl _) (by decide)) (rs_reb28 hw hW (rs_e7_M hs.1) (fun b3 b4 m1 m2 m3 => h b3 b4 m1 m2 (fun j hj => (m3 j hj).trans (hs.2 j hj))))
  · refine br_f (nI_ge (b := 7) hi (by decide)) ⟨pk_in (7 * w + i) 14 (by omega) (rs_ix w i), nm_r (by rw [pk_cl (7 * w + i) (rs_ix w i)]) (nm_r (nI_1 i) (hn _ ⟨fun r hr => ?_, fun j hj => ?_⟩))⟩
    · by_cases e : r = i
      · rw [e, pk_us]
      · rw [pk_un (by omega)]
        exact hs.1 r (by omega)
    · rw [pk_un (by omega)]
      exact hs.2 j hj
end
section
/-! a letter is added -/
theorem rs_addW {post : Int32 → St2 → Prop} {f : Int32} {a1 a2 a3 a4 a5 a6 a7 a8 a9 : Nat → Int32} {w x : Nat} {wd : List Nat} (hw : w < 2) (hW : rs_W a1 a2 w wd) (hlt : wd.length < 7) (hM : rs_M a3 a4 (49 * w) (7 * w) (rs_P wd)) (hx1 : 1 ≤ x) (hx : x ≤ 7)
    (h : ∀ b1 b2 b3 b4, rs_W b1 b2 w (wd ++ [x]) → rs_M b3 b4 (49 * w) (7 * w) (rs_P (wd ++ [x])) → (∀ j, j ≠ w → b1 j = a1 j) → (∀ j, j < 7 * w ∨ 7 * w + 7 ≤ j → b2 j = a2 j) → (∀ j, j < 49 * w ∨ 49 * w + 49 ≤ j → b3 j = a3 j) → (∀ j, j < 7 * w ∨ 7 * w + 7 ≤ j → b4 j = a4 j) → post (nI (wd.length + 1)) (f, b1, b2, b3, b4, a5, a6, a7, a8, a9)) : wpX_add post (f, a1, a2, a3, a4, a5, a6, a7, a8, a9) (nI w) (nI x) := by
  obtain ⟨g1, g2, g3, g4⟩ := hW
  unfold wpX_add
  refine rs_bad hw (br_t rfl (br_f (nI_nlt (b := 1) hx1 (by omega)) (br_t (nI_le (b := 7) hx (by decide)) ⟨vp_in_nI hw (by decide), ?_⟩)))
  rw [rs_cl (by omega), g1]
  refine pk_eq wd.length 7 (fun q => absurd q (by omega)) (fun q => ⟨vp_in_nI hw (by decide), pk_in (7 * w + wd.length) 14 (by omega) (rs_ix w _), nm_e ⟨vp_in_nI hw (by decide), vp_in_nI hw (by decide), nm_e ?_⟩⟩)
  rw [pk_cl (7 * w + wd.length) (rs_ix w _), rs_by x (by omega), nI_1, rs_by (wd.length + 1) (by omega)]
  refine rs_insW hw hM (fun R hR => ?_) hx (fun q b3 b4 m1 m2 m3 => ⟨vp_in_nI hw (by decide), ?_⟩)
  · have := rs_P_rl (by omega) R hR
    omega
  · rw [pk_us]
    refine h _ _ b3 b4 ⟨?_, ?_, ?_, ?_⟩ ?_ (fun j hj => pk_un hj) (fun j hj => pk_un (by omega)) m2 m3
    · rw [pk_us, List.length_append, List.length_singleton]
    · rw [List.length_append, List.length_singleton]; omega
    · intro a ha
      rcases List.mem_append.mp ha with z | z
      · exact g3 a z
      · rw [List.mem_singleton.mp z]; exact ⟨hx1, hx⟩
    · intro i hi
      rw [List.length_append, List.length_singleton] at hi
      rw [rs_gapp]
      by_cases e : i = wd.length
      · rw [if_pos e, e, pk_us]
      · rw [if_neg e, pk_un (by omega)]
        exact g4 i (by omega)
    · rw [rs_P_snoc]
      exact m1
theorem rs_addF {post : Int32 → St2 → Prop} {f : Int32} {a1 a2 a3 a4 a5 a6 a7 a8 a9 : Nat → Int32} {w x : Nat} {wd : List Nat} (hw : w < 2) (hW : rs_W a1 a2 w wd) (hl : wd.length = 7) (hx1 : 1 ≤ x) (hx : x ≤ 7) (h : post (-2) (f, a1, a2, a3, a4, a5, a6, a7, a8, a9)) : wpX_add post (f, a1, a2, a3, a4, a5, a6, a7, a8, a9) (nI w) (nI x) := by
  obtain ⟨g1, g2, g3, g4⟩ := hW
  unfold wpX_add
  refine rs_bad hw (br_t rfl (br_f (nI_nlt (b := 1) hx1 (by omega)) (br_t (nI_le (b := 7) hx (by decide)) ⟨vp_in_nI hw (by decide), br_t ?_ h⟩)))
  rw [rs_cl (by omega), g1, hl]
  rfl
/-! two letters change places -/
theorem rs_exch {post : Int32 → St2 → Prop} {f : Int32} {a1 a2 a3 a4 a5 a6 a7 a8 a9 : Nat → Int32} {w i : Nat} {wd : List Nat} (hw : w < 2) (hW : rs_W a1 a2 w wd) (hi : i < 99) (hN : ¬ i + 1 < wd.length → post (-4) (f, a1, a2, a3, a4, a5, a6, a7, a8, a9))
    (h1 : rs_leg wd i → ∀ b2, rs_W a1 b2 w (rs_swap i wd) → (∀ j, j < 7 * w ∨ 7 * w + 7 ≤ j → b2 j = a2 j) → post 1 (f, a1, b2, a3, a4, a5, a6, a7, a8, a9))
    (h0 : i + 1 < wd.length → ¬ rs_leg wd i → ∀ b2 b3 b4, rs_W a1 b2 w (rs_swap i wd) → (∀ j, j < 7 * w ∨ 7 * w + 7 ≤ j → b2 j = a2 j) → rs_M b3 b4 (49 * w) (7 * w) (rs_P (rs_swap i wd)) → (∀ j, j < 49 * w ∨ 49 * w + 49 ≤ j → b3 j = a3 j) → (∀ j, j < 7 * w ∨ 7 * w + 7 ≤ j → b4 j = a4 j) → post 0 (f, a1, b2, b3, b4, a5, a6, a7, a8, a9)) : wpX_exchange post (f, a1, a2, a3, a4, a5, a6, a7, a8, a9) (nI w) (nI i) := by
  unfold wpX_exchange
  refine rs_bad hw (br_t rfl (rs_noPair hw hW hi (fun q => br_t rfl (rs_mayMove hw hW q (fun t => ?_) (fun t => ?_))) (fun q => br_f (by decide) (hN q))))
  · refine rs_swapW hw hW q (fun b2 k1 k2 => ?_)
    exact br_f (by decide) (br_f (by decide) (h1 t b2 k1 k2))
  · refine rs_swapW hw hW q (fun b2 k1 k2 => ?_)
    refine br_t rfl ⟨vp_in_nI hw (by decide), ?_⟩
    have e : a1 (nI w).toNatClampNeg = nI (rs_swap i wd).length := by
      rw [rs_cl (by omega)]
      exact k1.1
    rw [e]
    exact rs_rebuild hw k1 (fun b3 b4 m1 m2 m3 => br_t rfl (h0 q t b2 b3 b4 k1 k2 m1 m2 m3))
/-! a word is turned -/
theorem rs_rc_len (c : Nat) (w : List Nat) : (rs_rc c w).length = w.length := by
  rw [rs_rc, List.length_reverse, List.length_map]
theorem rs_rc_get {c : Nat} {w : List Nat} {j : Nat} (h : j < w.length) : (rs_rc c w).getD j 0 = c - w.getD (w.length - 1 - j) 0 := by
  rw [rs_rc, List.getD_eq_getElem?_getD, List.getElem?_reverse (by rw [List.length_map]; exact h), ← List.getD_eq_getElem?_getD, List.length_map, rs_gmap (fun a => c - a) (d := 0) (by omega)]
theorem rs_rc_rc {w : List Nat} (h : ∀ a, a ∈ w → a ≤ 8) : rs_rc 8 (rs_rc 8 w) = w := by
  refine rs_gext (by rw [rs_rc_len, rs_rc_len]) (fun j hj => ?_)
  rw [rs_rc_len, rs_rc_len] at hj
  rw [rs_rc_get (by rw [rs_rc_len]; exact hj), rs_rc_len, rs_rc_get (by omega)]
  have e : w.length - 1 - (w.length - 1 - j) = j := by omega
  rw [e]
  have := h _ (rs_gmem (d := 0) hj)
  omega
theorem rs_rc_mem {w : List Nat} (h : ∀ a, a ∈ w → 1 ≤ a ∧ a ≤ 7) : ∀ a, a ∈ rs_rc 8 w → 1 ≤ a ∧ a ≤ 7 := by
  intro a ha
  rw [rs_rc, List.mem_reverse] at ha
  obtain ⟨b, hb, rfl⟩ := List.mem_map.mp ha
  have := h b hb
  omega
theorem rs_turn88 {post : Int32 → St2 → Prop} {f : Int32} {a1 a2 a3 a4 a5 a6 a7 a8 a9 : Nat → Int32} {w : Nat} {wd : List Nat} (hw : w < 2) (hl : wd.length ≤ 7) (hb : ∀ a, a ∈ wd → 1 ≤ a ∧ a ≤ 7) (h1 : a1 w = nI wd.length) (h2 : ∀ j, j < wd.length → a2 (7 * w + j) = nI (wd.getD (wd.length - 1 - j) 0))
    (h : ∀ b2 b3 b4, rs_W a1 b2 w (rs_rc 8 wd) → rs_M b3 b4 (49 * w) (7 * w) (rs_P (rs_rc 8 wd)) → post (nI wd.length) (f, a1, b2, b3, b4, a5, a6, a7, a8, a9)) : ∃ n, wX_turn_88 post (nI w) (nI wd.length) f n 0 a1 a2 a3 a4 a5 a6 a7 a8 a9 := by
  refine pk_loop (σ := Nat → Int32) (fun n i s => wX_turn_88 post (nI w) (nI wd.length) f n (nI i) a1 s a3 a4 a5 a6 a7 a8 a9) (fun i s => ∀ j, j < wd.length → s (7 * w + j) = if j < i then nI (8 - wd.getD (wd.length - 1 - j) 0) else nI (wd.getD (wd.length - 1 - j) 0)) wd.length 0 a2 (Nat.zero_le _) (fun j hj => by rw [if_neg (by omega)]; exact h2 j hj) (fun n s hs => ?_) (fun n i s hi hs hn => ?_)
  · refine br_t (nI_le (Nat.le_refl _) (by omega)) ?_
    have k1 : rs_W a1 s w (rs_rc 8 wd) := by
      refine ⟨by rw [rs_rc_len]; exact h1, by rw [rs_rc_len]; exact hl, rs_rc_mem hb, fun i hi => ?_⟩
      rw [rs_rc_len] at hi
      rw [hs i hi, if_pos hi, rs_rc_get hi]
    have := rs_rebuild (f := f) (a3 := a3) (a4 := a4) (a5 := a5) (a6 := a6) (a7 := a7) (a8 := a8) (a9 := a9) (post := fun u => match u with | (f, a1, a2, a3, a4, a5, a6, a7, a8, a9) => post (nI wd.length) (f, a1, a2, a3, a4, a5, a6, a7, a8, a9)) hw k1 (fun b3 b4 m1 _ _ => h s b3 b4 k1 m1)
    rw [rs_rc_len] at this
    exact this
  · have hg := rs_w7 hb (wd.length - 1 - i)
    refine br_f (nI_ge hi (by omega)) ⟨pk_in (7 * w + i) 14 (by omega) (rs_ix w i), pk_in (7 * w + i) 14 (by omega) (rs_ix w i), nm_r (e' := upd s (7 * w + i) (nI (8 - wd.getD (wd.length - 1 - i) 0))) ?_ (nm_r (nI_1 i) (hn _ (fun j hj => ?_)))⟩
    · rw [pk_cl (7 * w + i) (rs_ix w i), hs i hi, if_neg (by omega), show (8 : Int32) = nI 8 from rfl, pk_sub (by omega), rs_by _ (by omega)]
    · by_cases e : j = i
      · rw [e, pk_us, if_pos (by omega)]
      · rw [pk_un (by omega), hs j hj]
        by_cases e2 : j < i
        · rw [if_pos e2, if_pos (by omega)]
        · rw [if_neg e2, if_neg (by omega)]
theorem rs_turnW {post : Int32 → St2 → Prop} {f : Int32} {a1 a2 a3 a4 a5 a6 a7 a8 a9 : Nat → Int32} {w : Nat} {wd : List Nat} (hw : w < 2) (hW : rs_W a1 a2 w wd)
    (h : ∀ b2 b3 b4, rs_W a1 b2 w (rs_rc 8 wd) → rs_M b3 b4 (49 * w) (7 * w) (rs_P (rs_rc 8 wd)) → post (nI wd.length) (f, a1, b2, b3, b4, a5, a6, a7, a8, a9)) : wpX_turn post (f, a1, a2, a3, a4, a5, a6, a7, a8, a9) (nI w) := by
  obtain ⟨g1, g2, g3, g4⟩ := hW
  unfold wpX_turn
  refine rs_bad hw (br_t rfl ⟨vp_in_nI hw (by decide), nm_r (by rw [rs_cl (by omega), g1]) ?_⟩)
  refine pk_loop (σ := Nat → Int32) (fun n i s => wX_turn_19 post (nI w) (nI wd.length) f n (nI i) a1 s a3 a4 a5 a6 a7 a8 a9) (fun i s => ∀ j, j < wd.length → s (7 * w + j) = if j < i ∨ wd.length ≤ j + i then nI (wd.getD (wd.length - 1 - j) 0) else nI (wd.getD j 0)) (wd.length / 2) 0 a2 (Nat.zero_le _) (fun j hj => by rw [if_neg (by omega)]; exact g4 j hj) (fun n s hs => ?_) (fun n i s hi hs hn => ?_)
  · refine br_t ?_ (rs_turn88 hw g2 g3 g1 (fun j hj => ?_) h)
    · by_cases e : wd.length = 0
      · rw [e]
        decide
      · rw [rs_im (by omega), pk_sub (by omega)]
        exact nI_le (by omega) (by omega)
    · rw [hs j hj]
      by_cases e : j < wd.length / 2 ∨ wd.length ≤ j + wd.length / 2
      · rw [if_pos e]
      · rw [if_neg e]
        have : wd.length - 1 - j = j := by omega
        rw [this]
  · have em : nI wd.length - 1 - nI i = nI (wd.length - 1 - i) := by
      rw [rs_im (by omega), pk_sub (by omega)]
    have eh : (7 : Int32) * nI w + nI wd.length - 1 - nI i = nI (7 * w + (wd.length - 1 - i)) := by
      rw [rs_ix, rs_im (by omega), pk_sub (by omega)]
      exact congrArg nI (by omega)
    have hg1 := rs_w7 g3 i
    have hg2 := rs_w7 g3 (wd.length - 1 - i)
    have s1 := hs i (by omega)
    have s2 := hs (wd.length - 1 - i) (by omega)
    rw [if_neg (by omega)] at s1 s2
    refine br_f ?_ (nm_r (rs_ix w i) (nm_r eh ⟨pk_in (7 * w + i) 14 (by omega), nm_r (by rw [rs_cl (by omega), s1]) ⟨pk_in (7 * w + (wd.length - 1 - i)) 14 (by omega), pk_in (7 * w + i) 14 (by omega), nm_r (e' := upd s (7 * w + i) (nI (wd.getD (wd.length - 1 - i) 0))) ?_ ⟨pk_in (7 * w + (wd.length - 1 - i)) 14 (by omega), nm_r (e' := upd (upd s (7 * w + i) (nI (wd.getD (wd.length - 1 - i) 0))) (7 * w + (wd.length - 1 - i)) (nI (wd.getD i 0))) ?_ (nm_r (nI_1 i) (hn _ (fun j hj => ?_)))⟩⟩⟩))
    · rw [em]
      exact nI_ge (by omega) (by omega)
    · rw [rs_cl (by omega), rs_cl (by omega), s2, rs_nb (by omega)]
    · rw [rs_cl (by omega), rs_nb (by omega)]
    · by_cases e1 : j = wd.length - 1 - i
      · rw [e1, pk_us, if_pos (by omega)]
        have : wd.length - 1 - (wd.length - 1 - i) = i := by omega
        rw [this]
      · rw [pk_un (by omega)]
        by_cases e2 : j = i
        · rw [e2, pk_us, if_pos (by omega)]
        · rw [pk_un (by omega), hs j hj]
          by_cases e3 : j < i ∨ wd.length ≤ j + i
          · rw [if_pos e3, if_pos (by omega)]
          · rw [if_neg e3, if_neg (by omega)]
end
section
/-! rows go to the levels -/
theorem rs_start45 {post : St2 → Prop} {f : Int32} {a1 a2 a3 a4 a5 a6 a7 a8 a9 : Nat → Int32} {w n : Nat} {T : List (List Nat)} (hw : w < 2) (hn : n ≤ 7) {e3 : Nat → Int32} (hM : rs_M e3 a4 (49 * w) (7 * w) T) (h5 : ∀ k, k < 49 → a5 (49 * n + k) = vp_nar .byte (e3 (49 * w + k))) (h : ∀ b6, rs_M a5 b6 (49 * n) (7 * n) T → post (0, a1, a2, a3, a4, a5, b6, upd a7 n 0, a8, a9)) : ∃ k, wX_startLevels_45 post (nI w) (nI n) f k 0 a1 a2 a3 a4 a5 a6 a7 a8 a9 := by
  refine pk_loop (σ := Nat → Int32) (fun k i s => wX_startLevels_45 post (nI w) (nI n) f k (nI i) a1 a2 a3 a4 a5 s a7 a8 a9) (fun i s => ∀ r, r < i → s (7 * n + r) = vp_nar .byte (a4 (7 * w + r))) 7 0 a6 (Nat.zero_le _) (fun r hr => absurd hr (by omega)) (fun k s hs => ?_) (fun k i s hi hs hk => ?_)
  · exact br_t (nI_le (a := 7) (Nat.le_refl _) (by decide)) ⟨vp_in_nI (by omega) (by decide), nm_r (by rw [rs_cl (by omega)]) (h s (rs_M_cp hM h5 hs))⟩
  · refine br_f (nI_ge (b := 7) hi (by decide)) ⟨pk_in (7 * w + i) 14 (by omega) (rs_ix w i), pk_in (7 * n + i) 56 (by omega) (rs_ix n i), nm_r (by rw [pk_cl (7 * w + i) (rs_ix w i), pk_cl (7 * n + i) (rs_ix n i)]) (nm_r (nI_1 i) (hk _ (fun r hr => ?_)))⟩
    by_cases e : r = i
    · rw [e, pk_us]
    · rw [pk_un (by omega)]
      exact hs r (by omega)
theorem rs_start {post : St2 → Prop} {f : Int32} {a1 a2 a3 a4 a5 a6 a7 a8 a9 : Nat → Int32} {w n : Nat} {T : List (List Nat)} (hw : w < 2) (h1 : a1 w = nI n) (hn : n ≤ 7) (hM : rs_M a3 a4 (49 * w) (7 * w) T) (h : ∀ b5 b6, rs_M b5 b6 (49 * n) (7 * n) T → post (0, a1, a2, a3, a4, b5, b6, upd a7 n 0, a8, a9)) : wpX_startLevels post (f, a1, a2, a3, a4, a5, a6, a7, a8, a9) (nI w) := by
  unfold wpX_startLevels
  refine ⟨vp_in_nI hw (by decide), nm_r (by rw [rs_cl (by omega), h1]) ?_⟩
  refine pk_loop (σ := Nat → Int32) (fun k i s => wX_startLevels_9 post (nI w) (nI n) f k (nI i) a1 a2 a3 a4 s a6 a7 a8 a9) (fun i s => ∀ k, k < i → s (49 * n + k) = vp_nar .byte (a3 (49 * w + k))) 49 0 a5 (Nat.zero_le _) (fun r hr => absurd hr (by omega)) (fun k s hs => ?_) (fun k i s hi hs hk => ?_)
  · exact br_t (nI_le (a := 49) (Nat.le_refl _) (by decide)) (rs_start45 hw hn hM hs (fun b6 m => h s b6 m))
  · refine br_f (nI_ge (b := 49) hi (by decide)) ⟨pk_in (49 * w + i) 98 (by omega) (rs_iz w i), pk_in (49 * n + i) 392 (by omega) (rs_iz n i), nm_r (by rw [pk_cl (49 * w + i) (rs_iz w i), pk_cl (49 * n + i) (rs_iz n i)]) (nm_r (nI_1 i) (hk _ (fun r hr => ?_)))⟩
    by_cases e : r = i
    · rw [e, pk_us]
    · rw [pk_un (by omega)]
      exact hs r (by omega)
theorem rs_isC {post : Int32 → Prop} {f : Int32} {a1 a2 a3 a4 a5 a6 a7 a8 a9 : Nat → Int32} {n r : Nat} {T : List (List Nat)} (hn : n ≤ 7) (hr : r < 7) (hM : rs_M a5 a6 (49 * n) (7 * n) T) (h1 : rs_crn (rs_sh T) r = true → post 1) (h0 : rs_crn (rs_sh T) r = false → post 0) : wpX_isCorner post (f, a1, a2, a3, a4, a5, a6, a7, a8, a9) (nI n) (nI r) := by
  obtain ⟨g1, g2, g3, g4, g5⟩ := hM
  have k1 := g2 r hr
  have key : ∀ z, z ≤ 7 → (rs_sh T).getD (r + 1) 0 = z → wX_isCorner_37 post (nI (T.getD r []).length) (nI z) f a1 a2 a3 a4 a5 a6 a7 a8 a9 := by
    intro z hz e
    refine pk_le (T.getD r []).length z (fun q => h0 (rs_crn_f ?_)) (fun q => h1 (rs_crn_t ?_))
    · rw [e, rs_sh_get]; exact q
    · rw [e, rs_sh_get]; exact q
  unfold wpX_isCorner
  refine ⟨pk_in (7 * n + r) 56 (by omega) (rs_ix n r), nm_r (by rw [pk_cl (7 * n + r) (rs_ix n r), g4 r hr]) ?_⟩
  refine pk_le 7 (r + 1) (fun q => key 0 (by omega) ?_) (fun q => ⟨pk_in (7 * n + (r + 1)) 56 (by omega) (by rw [rs_ix]; exact nI_1 _), ?_⟩) rfl (nI_1 r)
  · rw [rs_sh_get, rs_gge (by omega)]
    rfl
  · rw [pk_cl (7 * n + (r + 1)) (by rw [rs_ix]; exact nI_1 _), g4 (r + 1) q]
    exact key _ (g2 (r + 1) q) (rs_sh_get T (r + 1))
theorem rs_last {post : Int32 → Prop} {f : Int32} {a1 a2 a3 a4 a5 a6 a7 a8 a9 : Nat → Int32} {n r x : Nat} {T : List (List Nat)} (hn : n ≤ 7) (hr : r < 7) (hM : rs_M a5 a6 (49 * n) (7 * n) T) (hx : x ≤ 7) (hne : 0 < (T.getD r []).length) (h : post (nI (rs_lb x (T.getD r []) ((T.getD r []).length - 1)))) : wpX_lastBelow post (f, a1, a2, a3, a4, a5, a6, a7, a8, a9) (nI n) (nI r) (nI x) := by
  have hcell := fun c => rs_M_cell hM (r := r) (c := c)
  obtain ⟨g1, g2, g3, g4, g5⟩ := hM
  have k1 := g2 r hr
  have key : ∀ c, c < (T.getD r []).length → post (nI (rs_lb x (T.getD r []) c)) → wX_lastBelow_15 post (nI n) (nI r) (nI x) f a1 a2 a3 a4 a5 a6 a7 a8 a9 (c + 1) (nI c) := by
    intro c
    induction c with
    | zero =>
      intro _ hp
      exact br_t (nI_le (a := 0) (b := 0) (Nat.le_refl _) (by decide)) hp
    | succ c ih =>
      intro hc hp
      refine br_f (nI_nle (by omega) (by omega)) ⟨pk_in (49 * n + 7 * r + (c + 1)) 392 (by omega) (rs_iy n r _), ?_⟩
      rw [pk_cl (49 * n + 7 * r + (c + 1)) (rs_iy n r _), g5 r (c + 1) hr hc]
      have hv := hcell (c + 1)
      rw [rs_lb] at hp
      refine pk_lt ((T.getD r []).getD (c + 1) 0) x (fun q => ?_) (fun q => nm_r (pk_m1 c) (ih (by omega) ?_))
      · rw [if_pos q] at hp
        exact hp
      · rw [if_neg (by omega)] at hp
        exact hp
  unfold wpX_lastBelow
  refine ⟨pk_in (7 * n + r) 56 (by omega) (rs_ix n r), nm_r (by rw [pk_cl (7 * n + r) (rs_ix n r), g4 r hr, rs_im hne]) ⟨(T.getD r []).length - 1 + 1, key _ (by omega) h⟩⟩
/-! a cell is taken off -/
theorem rs_sm1 (x : Int32) : x + (-1) = x - 1 := (Int32.sub_eq_add_neg x 1).symm
theorem rs_tk133 {post : St2 → Prop} {f : Int32} {a1 a2 a3 a4 a6 a7 a8 a9 : Nat → Int32} {m : Nat} (hm : m < 7) : ∀ (k : Nat) (pre done : List (List Nat)) (x : Nat) (a5 : Nat → Int32), pre.length = k → rs_M a5 a6 (49 * m) (7 * m) (pre ++ done) → (∀ R, R ∈ pre → 0 < R.length) → x ≤ 7 →
    (∀ b5, rs_M b5 a6 (49 * m) (7 * m) (rs_un pre (x, done)).2 → (∀ j, 49 * m + 49 ≤ j → b5 j = a5 j) → post (f, a1, a2, a3, a4, b5, a6, upd a7 m 0, upd a8 m (nI (rs_un pre (x, done)).1), a9)) → wX_takeOff_133 post (nI m) f (k + 1) (nI x) (nI k - 1) a1 a2 a3 a4 a5 a6 a7 a8 a9 := by
  intro k
  induction k with
  | zero =>
    intro pre done x a5 hl hM _ hx h
    have hp : pre = [] := List.eq_nil_of_length_eq_zero hl
    subst hp
    refine br_t (by decide) ⟨vp_in_nI (by omega) (by decide), nm_r (by rw [rs_cl (by omega), rs_by x (by omega)]; rfl) ⟨vp_in_nI (by omega) (by decide), nm_r (by rw [rs_cl (by omega)]) (h a5 hM (fun _ _ => rfl))⟩⟩
  | succ k ih =>
    intro pre done x a5 hl hM hne hx h
    rcases List.eq_nil_or_concat pre with z | ⟨pr, R, z⟩
    · rw [z] at hl
      exact absurd hl (by simp)
    · rw [List.concat_eq_append] at z
      subst z
      rw [List.length_append, List.length_singleton] at hl
      have hlk : pr.length = k := by omega
      have hM0 : rs_M a5 a6 (49 * m) (7 * m) (pr ++ R :: done) := by
        rw [List.append_assoc] at hM
        exact hM
      have hT : (pr ++ R :: done).getD k [] = R := by
        rw [← hlk]; exact rs_gpre
      have hk : k < 7 := by
        have := hM0.1
        rw [List.length_append, List.length_cons] at this
        omega
      have hR : 0 < R.length := hne R (List.mem_append.mpr (Or.inr List.mem_cons_self))
      have hup := rs_lb_up x R (R.length - 1)
      have hR7 : R.length ≤ 7 := by
        have := hM0.2.1 k hk
        rw [hT] at this
        exact this
      have hc : rs_lb x R (R.length - 1) < R.length := by omega
      rw [nI_pred k]
      refine br_f (nI_pos (by omega)) (rs_last (T := pr ++ R :: done) (by omega) hk hM0 hx (by rw [hT]; exact hR) ?_)
      rw [hT]
      have hent := hM0.2.2.2.2 k (rs_lb x R (R.length - 1)) hk (by rw [hT]; exact hc)
      rw [hT] at hent
      have hcell := rs_M_cell hM0 (r := k) (c := rs_lb x R (R.length - 1))
      rw [hT] at hcell
      have hS := rs_M_set hM0 (r := k) (c := rs_lb x R (R.length - 1)) (x := x) hk (by rw [hT]; exact hc) hx
      rw [hT] at hS
      have e1 : (pr ++ R :: done).set k (R.set (rs_lb x R (R.length - 1)) x) = pr ++ R.set (rs_lb x R (R.length - 1)) x :: done := by
        rw [← hlk]; exact rs_spre
      rw [e1] at hS
      refine nm_r (rs_iy m k _) ⟨pk_in (49 * m + 7 * k + rs_lb x R (R.length - 1)) 392 (by omega), nm_r (by rw [rs_cl (by omega), hent]) ⟨pk_in (49 * m + 7 * k + rs_lb x R (R.length - 1)) 392 (by omega), nm_r (by rw [rs_cl (by omega), rs_by x (by omega)]) (nm_r (rs_sm1 _) ?_)⟩⟩
      refine ih pr (R.set (rs_lb x R (R.length - 1)) x :: done) (R.getD (rs_lb x R (R.length - 1)) 0) _ hlk hS (fun Q hQ => hne Q (List.mem_append.mpr (Or.inl hQ))) hcell (fun b5 m1 m2 => ?_)
      have e2 : rs_un (pr ++ [R]) (x, done) = rs_un pr (R.getD (rs_lb x R (R.length - 1)) 0, R.set (rs_lb x R (R.length - 1)) x :: done) := rs_un_snoc R (x, done) pr
      have h' := h b5
      rw [e2] at h'
      exact h' m1 (fun j hj => by rw [m2 j hj, pk_un (by omega)])
theorem rs_gtk {R : List Nat} {k p : Nat} (h : k < p) : (R.take p).getD k 0 = R.getD k 0 := by
  rw [List.getD_eq_getElem?_getD, List.getD_eq_getElem?_getD, List.getElem?_take_of_lt h]
theorem rs_M_dec {e l : Nat → Int32} {E O : Nat} {T : List (List Nat)} (h : rs_M e l E O T) {r : Nat} (hr : r < 7) : rs_M e (upd l (O + r) (nI ((T.getD r []).length - 1))) E O (T.set r ((T.getD r []).take ((T.getD r []).length - 1))) := by
  obtain ⟨h1, h2, h3, h4, h5⟩ := h
  have hrT : r < T.length := by omega
  have hR := h3 _ (rs_gmem (d := []) hrT)
  have hr7 := h2 r hr
  have hlt : ((T.getD r []).take ((T.getD r []).length - 1)).length = (T.getD r []).length - 1 := by
    rw [List.length_take]; omega
  refine ⟨by rw [List.length_set]; exact h1, fun q hq => ?_, rs_B_set h3 (fun a ha => hR a (List.mem_of_mem_take ha)), fun q hq => ?_, fun q k hq hk => ?_⟩
  · rw [rs_gset q hrT]
    split
    · rw [hlt]; omega
    · exact h2 q hq
  · rw [rs_gset q hrT]
    by_cases z : q = r
    · rw [if_pos z, hlt, z, pk_us]
    · rw [if_neg z, pk_un (by omega)]
      exact h4 q hq
  · rw [rs_gset q hrT] at hk ⊢
    by_cases z : q = r
    · rw [if_pos z, hlt] at hk
      rw [if_pos z, z, h5 r k hr (by omega), rs_gtk hk]
    · rw [if_neg z] at hk
      rw [if_neg z]
      exact h5 q k hq hk
theorem rs_tk47 {post : St2 → Prop} {f : Int32} {a1 a2 a3 a4 a5 a6 a7 a8 a9 : Nat → Int32} {m r : Nat} {T : List (List Nat)} (hm : m < 7) (hr : r < 7) {e5 : Nat → Int32} (hM : rs_M e5 a6 (49 * (m + 1)) (7 * (m + 1)) T) (h5 : ∀ k, k < 49 → a5 (49 * m + k) = vp_nar .byte (e5 (49 * (m + 1) + k))) (h5' : ∀ j, 49 * m + 49 ≤ j → a5 j = e5 j) (hne : ∀ q, q ≤ r → 0 < (T.getD q []).length)
    (h : ∀ b5 b6, rs_M b5 b6 (49 * m) (7 * m) (rs_take T r).2 → (∀ j, 49 * m + 49 ≤ j → b5 j = e5 j) → (∀ j, 7 * m + 7 ≤ j → b6 j = a6 j) → post (f, a1, a2, a3, a4, b5, b6, upd a7 m 0, upd a8 m (nI (rs_take T r).1), a9)) : ∃ k, wX_takeOff_47 post (nI (m + 1)) (nI r) (nI m) f k 0 a1 a2 a3 a4 a5 a6 a7 a8 a9 := by
  refine pk_loop (σ := Nat → Int32) (fun k i s => wX_takeOff_47 post (nI (m + 1)) (nI r) (nI m) f k (nI i) a1 a2 a3 a4 a5 s a7 a8 a9) (fun i s => (∀ q, q < i → s (7 * m + q) = vp_nar .byte (a6 (7 * (m + 1) + q))) ∧ (∀ j, 7 * m + 7 ≤ j → s j = a6 j)) 7 0 a6 (Nat.zero_le _) ⟨fun q hq => absurd hq (by omega), fun _ _ => rfl⟩ (fun k s hs => ?_) (fun k i s hi hs hk => ?_)
  · have hS := rs_M_cp hM h5 hs.1
    have hT := hM.1
    have hlen := hS.2.2.2.1 r hr
    have hR0 := hne r (Nat.le_refl r)
    have hR7 := hS.2.1 r hr
    have hD := rs_M_dec hS hr
    rw [List.set_eq_take_append_cons_drop, if_pos (by omega)] at hD
    have hcell := rs_M_cell hM (r := r) (c := (T.getD r []).length - 1)
    have hent : a5 (49 * (m + 1) + 7 * r + ((T.getD r []).length - 1)) = nI ((T.getD r []).getD ((T.getD r []).length - 1) 0) := by
      rw [h5' _ (by omega)]
      exact hM.2.2.2.2 r _ hr (by omega)
    refine br_t (nI_le (a := 7) (Nat.le_refl _) (by decide)) ⟨pk_in (7 * m + r) 56 (by omega) (rs_ix m r), pk_in (7 * m + r) 56 (by omega) (rs_ix m r), nm_r (e' := upd s (7 * m + r) (nI ((T.getD r []).length - 1))) ?_ ?_⟩
    · rw [pk_cl (7 * m + r) (rs_ix m r), hlen, rs_im hR0, rs_by _ (by omega)]
    · rw [pk_cl (7 * m + r) (rs_ix m r), pk_us]
      refine ⟨pk_in (7 * m + r) 56 (by omega) (rs_ix m r), pk_in (49 * (m + 1) + 7 * r + ((T.getD r []).length - 1)) 392 (by omega) (rs_iy (m + 1) r _), nm_r (by rw [pk_cl (49 * (m + 1) + 7 * r + ((T.getD r []).length - 1)) (rs_iy (m + 1) r _), hent]) (nm_e ⟨r + 1, ?_⟩)⟩
      refine rs_tk133 hm r (T.take r) _ _ a5 (by rw [List.length_take]; omega) hD (fun R hR => ?_) hcell (fun b5 m1 m2 => h b5 _ m1 (fun j hj => (m2 j hj).trans (h5' j hj)) (fun j hj => ?_))
      · obtain ⟨i, hi, e⟩ := List.mem_iff_getElem.mp hR
        rw [List.length_take] at hi
        have hq := hne i (by omega)
        rw [List.getElem_take] at e
        rw [List.getD_eq_getElem?_getD, List.getElem?_eq_getElem (by omega : i < T.length), e] at hq
        exact hq
      · rw [pk_un (by omega)]
        exact hs.2 j hj
  · refine br_f (nI_ge (b := 7) hi (by decide)) ⟨pk_in (7 * (m + 1) + i) 56 (by omega) (rs_ix (m + 1) i), pk_in (7 * m + i) 56 (by omega) (rs_ix m i), nm_r (by rw [pk_cl (7 * (m + 1) + i) (rs_ix (m + 1) i), pk_cl (7 * m + i) (rs_ix m i)]) (nm_r (nI_1 i) (hk _ ⟨fun q hq => ?_, fun j hj => ?_⟩))⟩
    · by_cases e : q = i
      · rw [e, pk_us, hs.2 _ (by omega)]
      · rw [pk_un (by omega)]
        exact hs.1 q (by omega)
    · rw [pk_un (by omega)]
      exact hs.2 j hj
theorem rs_takeW {post : St2 → Prop} {f : Int32} {a1 a2 a3 a4 a5 a6 a7 a8 a9 : Nat → Int32} {m r : Nat} {T : List (List Nat)} (hm : m < 7) (hr : r < 7) (hM : rs_M a5 a6 (49 * (m + 1)) (7 * (m + 1)) T) (hne : ∀ q, q ≤ r → 0 < (T.getD q []).length)
    (h : ∀ b5 b6, rs_M b5 b6 (49 * m) (7 * m) (rs_take T r).2 → (∀ j, 49 * m + 49 ≤ j → b5 j = a5 j) → (∀ j, 7 * m + 7 ≤ j → b6 j = a6 j) → post (f, a1, a2, a3, a4, b5, b6, upd a7 m 0, upd a8 m (nI (rs_take T r).1), a9)) : wpX_takeOff post (f, a1, a2, a3, a4, a5, a6, a7, a8, a9) (nI (m + 1)) (nI r) := by
  unfold wpX_takeOff
  refine nm_r (nI_pred m) ?_
  refine pk_loop (σ := Nat → Int32) (fun k i s => wX_takeOff_7 post (nI (m + 1)) (nI r) (nI m) f k (nI i) a1 a2 a3 a4 s a6 a7 a8 a9) (fun i s => (∀ q, q < i → s (49 * m + q) = vp_nar .byte (a5 (49 * (m + 1) + q))) ∧ (∀ j, 49 * m + 49 ≤ j → s j = a5 j)) 49 0 a5 (Nat.zero_le _) ⟨fun q hq => absurd hq (by omega), fun _ _ => rfl⟩ (fun k s hs => ?_) (fun k i s hi hs hk => ?_)
  · exact br_t (nI_le (a := 49) (Nat.le_refl _) (by decide)) (rs_tk47 hm hr hM hs.1 hs.2 hne h)
  · refine br_f (nI_ge (b := 49) hi (by decide)) ⟨pk_in (49 * (m + 1) + i) 392 (by omega) (rs_iz (m + 1) i), pk_in (49 * m + i) 392 (by omega) (rs_iz m i), nm_r (by rw [pk_cl (49 * (m + 1) + i) (rs_iz (m + 1) i), pk_cl (49 * m + i) (rs_iz m i)]) (nm_r (nI_1 i) (hk _ ⟨fun q hq => ?_, fun j hj => ?_⟩))⟩
    · by_cases e : q = i
      · rw [e, pk_us, hs.2 _ (by omega)]
      · rw [pk_un (by omega)]
        exact hs.1 q (by omega)
    · rw [pk_un (by omega)]
      exact hs.2 j hj
end
section
/-! the list of codes -/
def rs_K (L : List Nat) (f : Int32) (a9 : Nat → Int32) : Prop := f = nI L.length ∧ (∀ j, j < L.length → a9 j = nI (L.getD j 0)) ∧ (∀ a, a ∈ L → a < 2097152) ∧ L.Pairwise (fun a b => a ≤ b)
theorem rs_put_get {L : List Nat} {p c : Nat} (hp : p ≤ L.length) (j : Nat) : (L.take p ++ c :: L.drop p).getD j 0 = if j < p then L.getD j 0 else if j = p then c else L.getD (j - 1) 0 := by
  have hl : (L.take p).length = p := by rw [List.length_take]; omega
  rw [List.getD_eq_getElem?_getD, List.getElem?_append, hl]
  by_cases h1 : j < p
  · rw [if_pos h1, if_pos h1, List.getElem?_take_of_lt h1, List.getD_eq_getElem?_getD]
  · rw [if_neg h1, if_neg h1]
    by_cases h2 : j = p
    · rw [if_pos h2, h2, Nat.sub_self]
      rfl
    · rw [if_neg h2]
      obtain ⟨q, hq⟩ : ∃ q, j - p = q + 1 := ⟨j - p - 1, by omega⟩
      rw [hq, List.getElem?_cons_succ, List.getElem?_drop, List.getD_eq_getElem?_getD]
      have : p + q = j - 1 := by omega
      rw [this]
theorem rs_k68 {post : St2 → Prop} {f : Int32} {a1 a2 a3 a4 a5 a6 a7 a8 a9 : Nat → Int32} {L : List Nat} {c p : Nat} (hf : f = nI L.length) (hL : L.length < 64) (hs : L.Pairwise (fun a b => a ≤ b)) (hp : p ≤ L.length) (h1 : ∀ j, j < p → a9 j = nI (L.getD j 0)) (h2 : ∀ j, p < j → j ≤ L.length → a9 j = nI (L.getD (j - 1) 0)) (h3 : ∀ j, p ≤ j → j < L.length → c < L.getD j 0) (h4 : p = 0 ∨ L.getD (p - 1) 0 ≤ c)
    (h : ∀ b9, (∀ j, j < L.length + 1 → b9 j = nI ((rs_sins c L).getD j 0)) → post (nI (L.length + 1), a1, a2, a3, a4, a5, a6, a7, a8, b9)) : wX_keepCode_68 post (nI c) (nI p) f a1 a2 a3 a4 a5 a6 a7 a8 a9 := by
  refine ⟨vp_in_nI (by omega) (by decide), nm_r (by rw [rs_cl (by omega)]) (nm_r (by rw [hf, nI_1]) (h _ (fun j hj => ?_)))⟩
  have e : rs_sins c L = L.take p ++ c :: L.drop p := by
    have hA := rs_sins_app (c := c) (B := L.drop p) (fun b hb => ?_) (L.take p) (fun a ha => ?_)
    · rw [List.take_append_drop] at hA
      exact hA
    · obtain ⟨i, hi, e⟩ := List.mem_iff_getElem.mp hb
      rw [List.length_drop] at hi
      rw [List.getElem_drop] at e
      have := h3 (p + i) (by omega) (by omega)
      rw [List.getD_eq_getElem?_getD, List.getElem?_eq_getElem (by omega), e] at this
      exact this
    · obtain ⟨i, hi, e⟩ := List.mem_iff_getElem.mp ha
      rw [List.length_take] at hi
      rw [List.getElem_take] at e
      rcases h4 with z | z
      · omega
      · have g := rs_srt_get hs (by omega : i ≤ p - 1) (by omega)
        rw [List.getD_eq_getElem?_getD, List.getElem?_eq_getElem (by omega), e] at g
        exact Nat.le_trans g z
  rw [e, rs_put_get hp]
  by_cases e1 : j = p
  · rw [e1, pk_us, if_neg (by omega), if_pos rfl]
  · rw [pk_un e1]
    by_cases e2 : j < p
    · rw [if_pos e2]
      exact h1 j e2
    · rw [if_neg e2, if_neg e1]
      exact h2 j (by omega) (by omega)
theorem rs_k32 {post : St2 → Prop} {f : Int32} {a1 a2 a3 a4 a5 a6 a7 a8 : Nat → Int32} {L : List Nat} {c : Nat} (hc : c < 2097152) (hf : f = nI L.length) (hL : L.length < 64) (hs : L.Pairwise (fun a b => a ≤ b)) (hb : ∀ a, a ∈ L → a < 2097152) (h : ∀ b9, (∀ j, j < L.length + 1 → b9 j = nI ((rs_sins c L).getD j 0)) → post (nI (L.length + 1), a1, a2, a3, a4, a5, a6, a7, a8, b9)) :
    ∀ (p : Nat) (a9 : Nat → Int32), p ≤ L.length → (∀ j, j < p → a9 j = nI (L.getD j 0)) → (∀ j, p < j → j ≤ L.length → a9 j = nI (L.getD (j - 1) 0)) → (∀ j, p ≤ j → j < L.length → c < L.getD j 0) → wX_keepCode_32 post (nI c) f (p + 1) (nI p) a1 a2 a3 a4 a5 a6 a7 a8 a9 := by
  intro p
  induction p with
  | zero =>
    intro a9 hp h1 h2 h3
    exact br_t (nI_le (a := 0) (b := 0) (Nat.le_refl _) (by decide)) (rs_k68 (p := 0) hf hL hs hp h1 h2 h3 (Or.inl rfl) h)
  | succ p ih =>
    intro a9 hp h1 h2 h3
    have hv := hb _ (rs_gmem (d := 0) (by omega : p < L.length))
    refine br_f (nI_nle (by omega) (by omega)) ⟨pk_in p 64 (by omega) (nI_pred p), ?_⟩
    rw [pk_cl p (nI_pred p), h1 p (by omega)]
    refine pk_le (L.getD p 0) c (fun q => rs_k68 hf hL hs hp h1 h2 h3 (Or.inr q) h) (fun q => ⟨pk_in p 64 (by omega) (nI_pred p), pk_in (p + 1) 64 (by omega), nm_r (by rw [rs_cl (by omega)]) (nm_r (pk_m1 p) (ih _ (by omega) (fun j hj => ?_) (fun j hj hj2 => ?_) (fun j hj hj2 => ?_)))⟩)
    · rw [pk_un (by omega)]
      exact h1 j (by omega)
    · by_cases e : j = p + 1
      · rw [e, pk_us]
        rfl
      · rw [pk_un e]
        exact h2 j (by omega) hj2
    · by_cases e : j = p
      · rw [e]; exact q
      · exact h3 j (by omega) hj2
theorem rs_keep {post : St2 → Prop} {f : Int32} {a1 a2 a3 a4 a5 a6 a7 a8 a9 : Nat → Int32} {acc L : List Nat} (hacc : acc.length ≤ 7) (h8 : ∀ i, i < acc.length → a8 i = nI (acc.getD i 0)) (hab : ∀ a, a ∈ acc → a ≤ 7) (hK : rs_K L f a9) (hL : L.length < 64) (h : ∀ b9, rs_K (rs_sins (rs_code acc) L) (nI (L.length + 1)) b9 → post (nI (L.length + 1), a1, a2, a3, a4, a5, a6, a7, a8, b9)) : wpX_keepCode post (f, a1, a2, a3, a4, a5, a6, a7, a8, a9) (nI acc.length) := by
  obtain ⟨k1, k2, k3, k4⟩ := hK
  have hc := rs_code_7 hacc hab
  unfold wpX_keepCode
  refine pk_loop (σ := Int32) (fun n i s => wX_keepCode_4 post (nI acc.length) f a1 a2 a3 a4 a5 a6 a7 a8 a9 n s (nI i)) (fun i s => s = nI (rs_code (acc.take i))) acc.length 0 0 (Nat.zero_le _) rfl (fun n s hs => ?_) (fun n i s hi hs hn => ?_)
  · refine br_t (nI_le (Nat.le_refl _) (by omega)) ⟨L.length + 1, ?_⟩
    rw [List.take_length] at hs
    have := rs_k32 (a1 := a1) (a2 := a2) (a3 := a3) (a4 := a4) (a5 := a5) (a6 := a6) (a7 := a7) (a8 := a8) (post := post) hc k1 hL k4 k3 (fun b9 hb9 => h b9 ⟨?_, ?_, ?_, rs_sins_srt L k4⟩) L.length a9 (Nat.le_refl _) k2 (fun j a b => absurd a (by omega)) (fun j a b => absurd a (by omega))
    · rw [hs]
      rw [← k1] at this
      exact this
    · rw [rs_sins_len]
    · rw [rs_sins_len]; exact hb9
    · intro a ha
      rcases (rs_sins_mem L).mp ha with z | z
      · rw [z]; exact hc
      · exact k3 a z
  · refine br_f (nI_ge hi (by omega)) ⟨vp_in_nI (by omega) (by decide), nm_r ?_ (nm_r (nI_1 i) (hn (nI (rs_code (acc.take (i + 1)))) rfl))⟩
    rw [hs, rs_cl (by omega), h8 i hi, rs_tk1 (d := 0) hi, rs_code_snoc]
    exact rs_i8 _ _
/-! the listing -/
def rs_D (n m : Nat) (T : List (List Nat)) (acc L : List Nat) (f : Int32) (a5 a6 a8 a9 : Nat → Int32) : Prop := rs_M a5 a6 (49 * m) (7 * m) T ∧ rs_isP (rs_sh T) 7 = true ∧ rs_sm (rs_sh T) = m ∧ acc.length + m = n ∧ (∀ a, a ∈ acc → a ≤ 7) ∧ (∀ i, i < acc.length → a8 (m + i) = nI (acc.getD i 0)) ∧ rs_K L f a9
theorem rs_dfs {post : St2 → Prop} {a1 a2 a3 a4 : Nat → Int32} {n : Nat} (hn : n ≤ 7) : ∀ (m : Nat), m ≤ n → ∀ (T : List (List Nat)) (acc L : List Nat) (F t : Nat) (f : Int32) (a5 a6 a7 a8 a9 : Nat → Int32), rs_D n m T acc L f a5 a6 a8 a9 → a7 m = 0 → L.length + (rs_all m T acc).length ≤ 64 → t + rs_cst m (rs_sh T) ≤ 99999 →
    (∀ f' b5 b6 b7 b8 b9, rs_K (rs_add L (rs_all m T acc)) f' b9 → (∀ j, 49 * m + 49 ≤ j → b5 j = a5 j) → (∀ j, 7 * m + 7 ≤ j → b6 j = a6 j) → (∀ j, m < j → b7 j = a7 j) → (∀ j, m ≤ j → b8 j = a8 j) → wX_listKin_17 post (nI n) F (nI (m + 1)) (nI (t + rs_cst m (rs_sh T))) f' a1 a2 a3 a4 b5 b6 b7 b8 b9) →
    wX_listKin_17 post (nI n) (F + rs_cst m (rs_sh T)) (nI m) (nI t) f a1 a2 a3 a4 a5 a6 a7 a8 a9 := by
  intro m
  induction m with
  | zero =>
    intro hmn T acc L F t f a5 a6 a7 a8 a9 hD h7 hlen ht h
    obtain ⟨d1, d2, d3, d4, d5, d6, d7⟩ := hD
    have hacc : acc.length = n := by omega
    have hl1 : (rs_all 0 T acc).length = 1 := rfl
    have ec : rs_cst 0 (rs_sh T) = 1 := rfl
    rw [ec] at ht h ⊢
    have hf := d7.1
    refine br_f (nI_ge (b := 100000) (by omega) (by decide)) (br_f (nI_nlt (a := n) (b := 0) (by omega) (by omega)) (br_t rfl (br_f ?_ ?_)))
    · rw [hf]
      exact nI_ge (b := 64) (by omega) (by decide)
    · rw [← hacc]
      refine rs_keep (by omega) (fun i hi => ?_) d5 d7 (by omega) (fun b9 k => nm_r (nI_1 0) (nm_r (nI_1 t) ?_))
      · have := d6 i hi
        rw [Nat.zero_add] at this
        exact this
      · rw [hacc]
        exact h _ a5 a6 a7 a8 b9 k (fun _ _ => rfl) (fun _ _ => rfl) (fun _ _ => rfl) (fun _ _ => rfl)
  | succ m ih =>
    intro hmn T acc L F t f a5 a6 a7 a8 a9 hD h7 hlen ht h
    have node : ∀ (k : Nat), k ≤ 7 → ∀ (L : List Nat) (F t : Nat) (f : Int32) (b5 b6 b7 b8 b9 : Nat → Int32), rs_D n (m + 1) T acc L f b5 b6 b8 b9 → b7 (m + 1) = nI (7 - k) → L.length + (rs_cat (fun r => bif rs_crn (rs_sh T) r then rs_all m (rs_take T r).2 ((rs_take T r).1 :: acc) else []) k).length ≤ 64 → t + (rs_sum (fun r => (bif rs_crn (rs_sh T) r then rs_cst m ((rs_sh T).set r ((rs_sh T).getD r 0 - 1)) else 0) + 1) k + 1) ≤ 99999 →
        (∀ f' c5 c6 c7 c8 c9, rs_K (rs_add L (rs_cat (fun r => bif rs_crn (rs_sh T) r then rs_all m (rs_take T r).2 ((rs_take T r).1 :: acc) else []) k)) f' c9 → (∀ j, 49 * (m + 1) + 49 ≤ j → c5 j = b5 j) → (∀ j, 7 * (m + 1) + 7 ≤ j → c6 j = b6 j) → (∀ j, m + 1 < j → c7 j = b7 j) → (∀ j, m + 1 ≤ j → c8 j = b8 j) → wX_listKin_17 post (nI n) F (nI (m + 1 + 1)) (nI (t + (rs_sum (fun r => (bif rs_crn (rs_sh T) r then rs_cst m ((rs_sh T).set r ((rs_sh T).getD r 0 - 1)) else 0) + 1) k + 1))) f' a1 a2 a3 a4 c5 c6 c7 c8 c9) →
        wX_listKin_17 post (nI n) (F + (rs_sum (fun r => (bif rs_crn (rs_sh T) r then rs_cst m ((rs_sh T).set r ((rs_sh T).getD r 0 - 1)) else 0) + 1) k + 1)) (nI (m + 1)) (nI t) f a1 a2 a3 a4 b5 b6 b7 b8 b9 := by
      intro k
      induction k with
      | zero =>
        intro _ L F t f b5 b6 b7 b8 b9 hD h7 hlen ht h
        have es : rs_sum (fun r => (bif rs_crn (rs_sh T) r then rs_cst m ((rs_sh T).set r ((rs_sh T).getD r 0 - 1)) else 0) + 1) 0 = 0 := rfl
        rw [es] at ht h ⊢
        refine br_f (nI_ge (b := 100000) (by omega) (by decide)) (br_f (nI_nlt (by omega) (by omega)) (br_f (nI_ne0 (by omega) (by omega)) ⟨vp_in_nI (by omega) (by decide), br_t ?_ (nm_r (nI_1 (m + 1)) (nm_r (nI_1 t) ?_))⟩))
        · rw [rs_cl (by omega), h7]
          rfl
        · exact h f b5 b6 b7 b8 b9 hD.2.2.2.2.2.2 (fun _ _ => rfl) (fun _ _ => rfl) (fun _ _ => rfl) (fun _ _ => rfl)
      | succ k ihk =>
        intro hk7 L F t f b5 b6 b7 b8 b9 hD h7 hlen ht h
        obtain ⟨d1, d2, d3, d4, d5, d6, d7⟩ := hD
        have er : 7 - (k + 1) = 6 - k := by omega
        rw [er] at h7
        have hr : 6 - k < 7 := by omega
        have e7 : upd b7 (nI (m + 1)).toNatClampNeg ((nI (6 - k) + 1).toInt8.toInt32) = upd b7 (m + 1) (nI (7 - k)) := by
          rw [rs_cl (by omega), nI_1, rs_by _ (by omega), show 6 - k + 1 = 7 - k by omega]
        rw [rs_sum] at ht h ⊢
        rw [rs_cat] at hlen h
        cases hc : rs_crn (rs_sh T) (6 - k) with
        | false =>
          rw [hc] at ht h hlen
          rw [cond_false] at ht h hlen ⊢
          rw [cond_false] at h
          rw [List.nil_append] at hlen h
          have eF : ∀ s : Nat, F + (0 + 1 + s + 1) = (F + (s + 1)) + 1 := by intro s; omega
          have et : ∀ s : Nat, t + (0 + 1 + s + 1) = t + 1 + (s + 1) := by intro s; omega
          rw [eF]
          rw [et] at h ht
          refine br_f (nI_ge (b := 100000) (by omega) (by decide)) (br_f (nI_nlt (by omega) (by omega)) (br_f (nI_ne0 (by omega) (by omega)) ⟨vp_in_nI (by omega) (by decide), ?_⟩))
          have e0 : b7 (nI (m + 1)).toNatClampNeg = nI (6 - k) := by rw [rs_cl (by omega), h7]
          rw [e0]
          refine pk_eq (6 - k) 7 (fun q => absurd q (by omega)) (fun q => ⟨vp_in_nI (by omega) (by decide), nm_e ⟨vp_in_nI (by omega) (by decide), vp_in_nI (by omega) (by decide), nm_r e7 ?_⟩⟩)
          refine rs_isC (by omega) hr d1 (fun q2 => absurd q2 (by rw [hc]; decide)) (fun q2 => br_t rfl (nm_r (nI_1 t) ?_))
          refine ihk (by omega) L F (t + 1) f b5 b6 _ b8 b9 ⟨d1, d2, d3, d4, d5, d6, d7⟩ pk_us hlen ht (fun f' c5 c6 c7 c8 c9 m1 m2 m3 m4 m5 => h f' c5 c6 c7 c8 c9 m1 m2 m3 (fun j hj => ?_) m5)
          rw [m4 j hj, pk_un (by omega)]
        | true =>
          rw [hc] at ht h hlen
          rw [cond_true] at ht h hlen ⊢
          rw [cond_true] at h
          rw [List.length_append] at hlen
          have hTl := d1.1
          have eS : rs_sh (rs_take T (6 - k)).2 = (rs_sh T).set (6 - k) ((rs_sh T).getD (6 - k) 0 - 1) := rs_sh_take T (6 - k) (by omega)
          rw [← eS] at ht h ⊢
          have eF : ∀ c s : Nat, F + (c + 1 + s + 1) = (F + (s + 1) + c) + 1 := by intro c s; omega
          have et : ∀ c s : Nat, t + (c + 1 + s + 1) = t + 1 + c + (s + 1) := by intro c s; omega
          rw [eF]
          rw [et] at h ht
          refine br_f (nI_ge (b := 100000) (by omega) (by decide)) (br_f (nI_nlt (by omega) (by omega)) (br_f (nI_ne0 (by omega) (by omega)) ⟨vp_in_nI (by omega) (by decide), ?_⟩))
          have e0 : b7 (nI (m + 1)).toNatClampNeg = nI (6 - k) := by rw [rs_cl (by omega), h7]
          rw [e0]
          refine pk_eq (6 - k) 7 (fun q => absurd q (by omega)) (fun q => ⟨vp_in_nI (by omega) (by decide), nm_e ⟨vp_in_nI (by omega) (by decide), vp_in_nI (by omega) (by decide), nm_r e7 ?_⟩⟩)
          have hcr := rs_crn_o hc
          refine rs_isC (by omega) hr d1 (fun q2 => br_f (by decide) ?_) (fun q2 => absurd q2 (by rw [hc]; decide))
          refine rs_takeW (by omega) hr d1 (fun q hq => ?_) (fun e5 e6 g1 g2 g3 => nm_r (pk_m1 m) (nm_r (nI_1 t) ?_))
          · have := rs_isP_mono d2 hq
            rw [rs_sh_get T q] at this
            omega
          · have hdec := rs_sm_set (rs_sh T) (6 - k) ((rs_sh T).getD (6 - k) 0 - 1) (by rw [rs_sh_len]; omega)
            rw [← eS] at hdec
            have hB := rs_take_B (r := 6 - k) d1.2.2.1
            refine ih (by omega) (rs_take T (6 - k)).2 ((rs_take T (6 - k)).1 :: acc) L _ (t + 1) f e5 e6 _ _ b9 ⟨g1, ?_, by omega, by rw [List.length_cons]; omega, fun a ha => ?_, fun i hi => ?_, d7⟩ pk_us (by omega) (by omega) (fun f' c5 c6 c7 c8 c9 m1 m2 m3 m4 m5 => ?_)
            · rw [eS]
              exact rs_isP_dec d2 (by rw [rs_sh_len]; omega) hc
            · rcases List.mem_cons.mp ha with z | z
              · rw [z]; exact hB.1
              · exact d5 a z
            · rw [List.length_cons] at hi
              cases i with
              | zero => rw [Nat.add_zero, pk_us]; rfl
              | succ i =>
                rw [pk_un (by omega), List.getD_cons_succ]
                have := d6 i (by omega)
                rw [show m + (i + 1) = m + 1 + i by omega]
                exact this
            · refine ihk (by omega) _ F _ f' c5 c6 c7 c8 c9 ⟨rs_M_eq d1 (fun j hj => ?_) (fun j hj => ?_), d2, d3, d4, d5, fun i hi => ?_, m1⟩ ?_ (by rw [rs_add_len]; omega) (by omega) (fun f2 x5 x6 x7 x8 x9 p1 p2 p3 p4 p5 => h f2 x5 x6 x7 x8 x9 ?_ (fun j hj => ?_) (fun j hj => ?_) (fun j hj => ?_) (fun j hj => ?_))
              · rw [m2 _ (by omega), g2 _ (by omega)]
              · rw [m3 _ (by omega), g3 _ (by omega)]
              · rw [m5 _ (by omega), pk_un (by omega)]
                exact d6 i hi
              · rw [m4 _ (by omega), pk_un (by omega), pk_us]
              · rw [rs_add_app]
                exact p1
              · rw [p2 j hj, m2 j (by omega), g2 j (by omega)]
              · rw [p3 j hj, m3 j (by omega), g3 j (by omega)]
              · rw [p4 j hj, m4 j (by omega), pk_un (by omega), pk_un (by omega)]
              · rw [p5 j hj, m5 j (by omega), pk_un (by omega)]
    have e1 : rs_cst (m + 1) (rs_sh T) = rs_sum (fun r => (bif rs_crn (rs_sh T) r then rs_cst m ((rs_sh T).set r ((rs_sh T).getD r 0 - 1)) else 0) + 1) 7 + 1 := by rw [rs_cst]
    have e2 : rs_all (m + 1) T acc = rs_cat (fun r => bif rs_crn (rs_sh T) r then rs_all m (rs_take T r).2 ((rs_take T r).1 :: acc) else []) 7 := by rw [rs_all]
    rw [e1] at ht h ⊢
    rw [e2] at hlen h
    exact node 7 (Nat.le_refl 7) L F t f a5 a6 a7 a8 a9 hD h7 hlen ht h
end
section
/-! listKin, kinAt -/
theorem rs_list {post : St2 → Prop} {f : Int32} {a1 a2 a3 a4 a5 a6 a7 a8 a9 : Nat → Int32} {w n : Nat} {T : List (List Nat)} (hw : w < 2) (h1 : a1 w = nI n) (hn : n ≤ 7) (hM : rs_M a3 a4 (49 * w) (7 * w) T) (hp : rs_isP (rs_sh T) 7 = true) (hs : rs_sm (rs_sh T) = n) (h : ∀ f' b5 b6 b7 b8 b9, rs_K (rs_add [] (rs_all n T [])) f' b9 → post (f', a1, a2, a3, a4, b5, b6, b7, b8, b9)) : wpX_listKin post (f, a1, a2, a3, a4, a5, a6, a7, a8, a9) (nI w) := by
  have hsh := rs_shape (by rw [rs_sh_len]; exact hM.1) hp (by omega)
  rw [hs] at hsh
  unfold wpX_listKin
  refine ⟨vp_in_nI hw (by decide), nm_r (by rw [rs_cl (by omega), h1]) (rs_start hw h1 hn hM (fun b5 b6 m => ⟨1 + rs_cst n (rs_sh T), ?_⟩))⟩
  refine rs_dfs hn n (Nat.le_refl n) T [] [] 1 0 0 b5 b6 (upd a7 n 0) a8 a9 ⟨m, hp, hs, by simp, fun a ha => absurd ha (by simp), fun i hi => absurd hi (by simp), rfl, fun j hj => absurd hj (by simp), fun a ha => absurd ha (by simp), List.Pairwise.nil⟩ pk_us ?_ (by omega) (fun f' c5 c6 c7 c8 c9 k _ _ _ _ => ?_)
  · rw [rs_all_len n T [] hM.1, List.length_nil]
    omega
  · refine br_f (nI_ge (b := 100000) (by omega) (by decide)) (br_t (nI_lt (by omega) (by omega)) (h f' c5 c6 c7 c8 c9 k))
/-- what kinAt answers -/
def rs_kv (L : List Nat) (q : Nat) : Int32 := if q < L.length then nI (L.getD q 0) else -4
theorem rs_kinAt {post : Int32 → St2 → Prop} {f : Int32} {a1 a2 a3 a4 a5 a6 a7 a8 a9 : Nat → Int32} {w n q : Nat} {T : List (List Nat)} (hw : w < 2) (h1 : a1 w = nI n) (hn : n ≤ 7) (hM : rs_M a3 a4 (49 * w) (7 * w) T) (hp : rs_isP (rs_sh T) 7 = true) (hs : rs_sm (rs_sh T) = n) (hq : q < 2 ^ 31) (h : ∀ f' b5 b6 b7 b8 b9, post (rs_kv (rs_add [] (rs_all n T [])) q) (f', a1, a2, a3, a4, b5, b6, b7, b8, b9)) : wpX_kinAt post (f, a1, a2, a3, a4, a5, a6, a7, a8, a9) (nI w) (nI q) := by
  have hsh := rs_shape (by rw [rs_sh_len]; exact hM.1) hp (by omega)
  rw [hs] at hsh
  have hlen : (rs_add [] (rs_all n T [])).length = rs_cnt n (rs_sh T) := by
    rw [rs_add_len, rs_all_len n T [] hM.1, List.length_nil, Nat.zero_add]
  unfold wpX_kinAt
  refine rs_bad hw (br_t rfl (br_t (nI_pos' hq) (rs_list hw h1 hn hM hp hs (fun f' b5 b6 b7 b8 b9 k => ?_))))
  have hh := h f' b5 b6 b7 b8 b9
  unfold rs_kv at hh
  obtain ⟨k1, k2, k3, k4⟩ := k
  subst k1
  refine pk_le (rs_add [] (rs_all n T [])).length q (fun z => ?_) (fun z => ⟨vp_in_nI (by omega) (by decide), ?_⟩)
  · rw [if_neg (by omega)] at hh
    exact hh
  · rw [if_pos z] at hh
    rw [rs_cl hq, k2 q z]
    exact hh
end
section
/-! the law -/
theorem rs_atL {post : Int32 → Prop} {p0 p1 : Int32} (h : ∀ x, 1 ≤ x → x ≤ 7 → post (nI x)) : wpL_at post () p0 p1 := by
  refine ⟨by decide, ?_⟩
  obtain ⟨j, hj, e⟩ := pk_andE (p0 >>> ((3 * p1) &&& 31)) (m := 7) 3 (by decide)
  rw [e]
  have er : nI j - nI j / 7 * 7 = nI (j % 7) := pk_rem (d := 7) (by omega) (by omega) (by omega)
  rw [er]
  have ea : (1 : Int32) + nI (j % 7) = nI (1 + j % 7) := nI_add 1 (j % 7)
  rw [ea]
  exact h _ (by omega) (by omega)
/-- codes: two words that differ in a pair -/
theorem rs_fold_lt : ∀ (l : List Nat) (c d : Nat), c < d → l.foldl (fun c x => 8 * c + x) c < l.foldl (fun c x => 8 * c + x) d := by
  intro l
  induction l with
  | nil => intro c d h; exact h
  | cons a l ih => intro c d h; exact ih (8 * c + a) (8 * d + a) (by omega)
theorem rs_code_ne : ∀ (i : Nat) (w : List Nat) (c : Nat), i + 1 < w.length → w.getD i 0 ≠ w.getD (i + 1) 0 → w.foldl (fun c x => 8 * c + x) c ≠ (rs_swap i w).foldl (fun c x => 8 * c + x) c := by
  intro i
  induction i with
  | zero =>
    intro w c h hne
    match w with
    | [] => exact absurd h (by simp)
    | [a] => exact absurd h (by simp)
    | a :: b :: l =>
      have hne' : a ≠ b := hne
      show l.foldl (fun c x => 8 * c + x) (8 * (8 * c + a) + b) ≠ l.foldl (fun c x => 8 * c + x) (8 * (8 * c + b) + a)
      intro z
      rcases Nat.lt_or_ge a b with y | y
      · have := rs_fold_lt l (8 * (8 * c + a) + b) (8 * (8 * c + b) + a) (by omega)
        omega
      · have := rs_fold_lt l (8 * (8 * c + b) + a) (8 * (8 * c + a) + b) (by omega)
        omega
  | succ i ih =>
    intro w c h hne
    match w with
    | [] => exact absurd h (by simp)
    | a :: l => exact ih l (8 * c + a) (by simpa using h) hne
/-- the state: both words and both tableaux -/
def rs_Q (a1 a2 a3 a4 : Nat → Int32) (wd : List Nat) : Prop := rs_W a1 a2 0 wd ∧ rs_W a1 a2 1 wd ∧ rs_M a3 a4 0 0 (rs_P wd) ∧ rs_M a3 a4 49 7 (rs_P wd)
theorem rs_same {a3 a4 : Nat → Int32} {T : List (List Nat)} (h0 : rs_M a3 a4 0 0 T) (h1 : rs_M a3 a4 49 7 T) : (∀ r, r < 7 → (T.getD r []).length ≤ 7 ∧ a4 r = nI (T.getD r []).length) ∧ ∀ r, r < 7 → rs_Row a3 a4 (fun r => (T.getD r []).length) r := by
  obtain ⟨g1, g2, g3, g4, g5⟩ := h0
  obtain ⟨k1, k2, k3, k4, k5⟩ := h1
  have e4 : ∀ r, r < 7 → a4 r = nI (T.getD r []).length := by
    intro r hr
    have := g4 r hr
    rw [Nat.zero_add] at this
    exact this
  refine ⟨fun r hr => ⟨g2 r hr, e4 r hr⟩, fun r hr => ⟨by rw [e4 r hr, k4 r hr], fun c hc => ?_⟩⟩
  have := g5 r c hr hc
  rw [Nat.zero_add] at this
  rw [this, k5 r c hr hc]
/-- the end: the word back in its place, its own list -/
theorem rs_L528 {post : Int32 → St0 → Prop} {mc ms kc ks : Nat} {f : Int32} {a1 a2 a3 a4 a5 a6 a7 a8 a9 : Nat → Int32} {wd : List Nat} {z : Int32} (hW : rs_W a1 a2 0 wd) (hM : rs_M a3 a4 0 0 (rs_P wd)) (hz : rs_kin (rs_sh (rs_P wd)) = z) (hp : post 1 ()) : wL_lawOf_528 post mc ms (nI wd.length) (rs_kin (rs_sh (rs_P wd))) z (rs_kin (rs_sh (rs_P wd))) kc ks f a1 a2 a3 a4 a5 a6 a7 a8 a9 := by
  have h7 := hW.2.1
  have hpt := rs_part h7
  have hsh := rs_shape (by rw [rs_sh_len]; exact hM.1) hpt.1 (by omega)
  rw [hpt.2] at hsh
  obtain ⟨s1, s2, s3, s4, s5⟩ := hsh
  have hb7 : ∀ a, a ∈ wd → a ≤ 7 := fun a ha => (hW.2.2.1 a ha).2
  have hlen : (rs_add [] (rs_all wd.length (rs_P wd) [])).length = rs_cnt wd.length (rs_sh (rs_P wd)) := by
    rw [rs_add_len, rs_all_len _ _ [] hM.1, List.length_nil, Nat.zero_add]
  have hmem : rs_code wd ∈ rs_add [] (rs_all wd.length (rs_P wd) []) := by
    have := rs_all_mem wd.length wd [] rfl h7
    rw [List.append_nil] at this
    exact (rs_add_mem _ _).mpr (Or.inr this)
  have hsrt : (rs_add [] (rs_all wd.length (rs_P wd) [])).Pairwise (fun a b => a ≤ b) := rs_add_srt _ _ List.Pairwise.nil
  have hends := rs_srt_ends hsrt hmem
  have hbd : ∀ i, (rs_add [] (rs_all wd.length (rs_P wd) [])).getD i 0 < 2097152 := by
    intro i
    rcases Nat.lt_or_ge i (rs_add [] (rs_all wd.length (rs_P wd) [])).length with y | y
    · rcases (rs_add_mem _ _).mp (rs_gmem (d := 0) y) with t | t
      · exact absurd t (by simp)
      · exact rs_all_lt _ _ [] (rs_P_B hb7) (fun a ha => absurd ha (by simp)) (by simpa using h7) _ t
    · rw [rs_gge y]; omega
  have hcode := rs_code_7 h7 hb7
  have hb0 := hbd 0
  have hb1 := hbd ((rs_add [] (rs_all wd.length (rs_P wd) [])).length - 1)
  subst hz
  rw [s1]
  refine br_t rfl ?_
  refine rs_kinAt (w := 0) (by omega) hW.1 h7 hM hpt.1 hpt.2 (by omega) (fun f' b5 b6 b7 b8 b9 => ?_)
  refine br_t (by rw [rs_kv, if_neg (by omega)]) ?_
  rw [rs_im (by omega)]
  refine rs_kinAt (w := 0) (by omega) hW.1 h7 hM hpt.1 hpt.2 (by omega) (fun f2 c5 c6 c7 c8 c9 => ?_)
  refine rs_codeW (w := 0) (by omega) hW ?_
  refine br_t ?_ ?_
  · rw [rs_kv, if_pos (by omega), ← hlen]
    exact nI_le hends.2 (by omega)
  refine rs_kinAt (w := 0) (q := 0) (by omega) hW.1 h7 hM hpt.1 hpt.2 (by omega) (fun f3 d5 d6 d7 d8 d9 => ?_)
  refine rs_codeW (w := 0) (by omega) hW ?_
  refine br_f ?_ ?_
  · rw [rs_kv, if_pos (by omega)]
    exact nI_nlt hends.1 (by omega)
  refine rs_letterN (w := 0) (by omega) hW (Nat.le_refl _) (by omega) (br_t rfl (rs_letter2 (br_t rfl (rs_movem (br_t rfl (rs_desc2 (br_t rfl hp)))))))
theorem rs_L499 {post : Int32 → St0 → Prop} {mc ms kc ks : Nat} {f : Int32} {a1 a2 a3 a4 a5 a6 a7 a8 a9 : Nat → Int32} {wd : List Nat} {kn : Int32} (hW : rs_W a1 a2 0 (rs_rc 8 wd)) (hb : ∀ a, a ∈ wd → 1 ≤ a ∧ a ≤ 7) (hk : kn = rs_kin (rs_sh (rs_P wd))) (hp : post 1 ()) : wL_lawOf_499 post mc ms (nI wd.length) kn kc ks f a1 a2 a3 a4 a5 a6 a7 a8 a9 := by
  have h7 : wd.length ≤ 7 := by
    have := hW.2.1
    rw [rs_rc_len] at this
    exact this
  have err : rs_rc 8 (rs_rc 8 wd) = wd := rs_rc_rc (fun a ha => by have := hb a ha; omega)
  subst hk
  unfold wL_lawOf_499
  refine rs_turnW (w := 0) (by omega) hW (fun b2 b3 b4 k1 k2 => ?_)
  rw [err] at k1 k2
  refine br_t (by rw [rs_rc_len]) ?_
  have hpt := rs_part h7
  have hsh := rs_shape (by rw [rs_sh_len]; exact k2.1) hpt.1 (by omega)
  rw [hpt.2] at hsh
  refine pk_le 2 wd.length (fun q => ?_) (fun q => ?_)
  · exact rs_kinW (w := 0) (by omega) (rs_M_Ls k2) (rs_L528 k1 k2 rfl hp)
  · refine rs_L528 k1 k2 ?_ hp
    rw [hsh.1, hsh.2.2.2.2 (by omega)]
    rfl
theorem rs_L433 {post : Int32 → St0 → Prop} {mc ms kc ks : Nat} {f : Int32} {a1 a2 a3 a4 a5 a6 a7 a8 a9 : Nat → Int32} {x4 kn : Int32} {wd : List Nat} (hW : rs_W a1 a2 0 wd) (hk : kn = rs_kin (rs_sh (rs_P wd))) (hp : post 1 ()) : wL_lawOf_433 post mc ms x4 (nI wd.length) kn kc ks f a1 a2 a3 a4 a5 a6 a7 a8 a9 := by
  have h7 := hW.2.1
  have hb := hW.2.2.1
  have hsh : rs_sh (rs_P (rs_rc 8 wd)) = rs_sh (rs_P wd) := rs_turn h7 (fun a ha => (hb a ha).2)
  have hpt := rs_part h7
  subst hk
  unfold wL_lawOf_433
  refine nm_e (rs_turnW (w := 0) (by omega) hW (fun b2 b3 b4 k1 k2 => br_t rfl (rs_kinW (w := 0) (by omega) (rs_M_Ls k2) (br_t (by rw [hsh]) (rs_falling (w := 0) (k := 2) (by omega) (rs_M_Ls k2) (by omega) (br_f ?_ ?_))))))
  · rw [hsh]
    have := rs_fl_le 2 (rs_sh (rs_P wd))
    rw [hpt.2] at this
    exact nI_nlt this (by omega)
  · obtain ⟨j, hj, e⟩ := pk_andE x4 (m := 7) 3 (by decide)
    rw [e]
    refine pk_le wd.length j (fun q => rs_L499 k1 hb rfl hp) (fun q => ?_)
    refine rs_letter (w := 0) (by omega) k1 (by rw [rs_rc_len]; exact q) (br_t ?_ (rs_L499 k1 hb rfl hp))
    have := rs_rc_mem hb _ (rs_gmem (d := 0) (by rw [rs_rc_len]; exact q))
    exact nI_le (a := 1) this.1 (by omega)
theorem rs_L411 {post : Int32 → St0 → Prop} {mc ms kc ks : Nat} {f : Int32} {a1 a2 a3 a4 a5 a6 a7 a8 a9 : Nat → Int32} {x4 kn : Int32} {wd : List Nat} {T T1 : List (List Nat)} (hW : rs_W a1 a2 0 wd) (hk : kn = rs_kin (rs_sh (rs_P wd))) (hM : rs_M a3 a4 0 0 T) (hT : rs_sh T = rs_sh (rs_P wd)) (hM1 : rs_M a3 a4 49 7 T1) (hp : post 1 ()) : wL_lawOf_411 post mc ms x4 (nI wd.length) kn kc ks f a1 a2 a3 a4 a5 a6 a7 a8 a9 := by
  unfold wL_lawOf_411
  have hL : ∀ r, r < 7 → (T.getD r []).length ≤ 7 ∧ a4 r = nI (T.getD r []).length := by
    intro r hr
    have := hM.2.2.2.1 r hr
    rw [Nat.zero_add] at this
    exact ⟨hM.2.1 r hr, this⟩
  refine rs_rel (L := fun r => (T.getD r []).length) hL (fun q => br_t rfl ?_) (fun q => br_f (by decide) (rs_L433 hW hk hp))
  refine rs_kinW (w := 1) (S := rs_sh T) (by omega) ⟨by rw [rs_sh_len]; exact hM.1, (rs_M_Ls (w := 0) hM).2.1, fun r hr => ?_⟩ (br_t (by rw [hk, hT]) (rs_L433 hW hk hp))
  rw [Nat.mul_one, ← (q r hr).1, (hL r hr).2, rs_sh_get]
end
section
/-! frames -/
theorem rs_W_fr {a1 a2 b1 b2 : Nat → Int32} {w : Nat} {wd : List Nat} (h : rs_W a1 a2 w wd) (h1 : b1 w = a1 w) (h2 : ∀ i, i < 7 → b2 (7 * w + i) = a2 (7 * w + i)) : rs_W b1 b2 w wd := by
  obtain ⟨g1, g2, g3, g4⟩ := h
  exact ⟨by rw [h1]; exact g1, g2, g3, fun i hi => by rw [h2 i (by omega)]; exact g4 i hi⟩
theorem rs_M_fr {e l e' l' : Nat → Int32} {E O : Nat} {T : List (List Nat)} (h : rs_M e l E O T) (he : ∀ k, k < 49 → e' (E + k) = e (E + k)) (hl : ∀ r, r < 7 → l' (O + r) = l (O + r)) : rs_M e' l' E O T := rs_M_eq h he hl
/-- behind the exchange: no such pair -/
theorem rs_L312a {post : Int32 → St0 → Prop} {mc ms kc ks : Nat} {f : Int32} {a1 a2 a3 a4 a5 a6 a7 a8 a9 : Nat → Int32} {x4 x8 kn : Int32} {wd : List Nat} (hW : rs_W a1 a2 0 wd) (hk : kn = rs_kin (rs_sh (rs_P wd))) (hM : rs_M a3 a4 0 0 (rs_P wd)) (hM1 : rs_M a3 a4 49 7 (rs_P wd)) (hp : post 1 ()) : wL_lawOf_312 post mc ms x4 (nI wd.length) x8 0 0 kn (-4) (-4) kc ks f a1 a2 a3 a4 a5 a6 a7 a8 a9 :=
  br_t rfl (br_t rfl (br_t rfl (br_t rfl (rs_L411 hW hk hM rfl hM1 hp))))
/-- behind the exchange: a legal one, both words moved -/
theorem rs_L312b {post : Int32 → St0 → Prop} {mc ms kc ks : Nat} {f : Int32} {a1 a2 a3 a4 a5 a6 a7 a8 a9 : Nat → Int32} {x4 kn : Int32} {wd : List Nat} {i : Nat} (h7 : wd.length ≤ 7) (hl : rs_leg wd i) (hW : rs_W a1 a2 0 (rs_swap i wd)) (hW1 : rs_W a1 a2 1 (rs_swap i wd)) (hk : kn = rs_kin (rs_sh (rs_P wd))) (hM : rs_M a3 a4 0 0 (rs_P wd)) (hM1 : rs_M a3 a4 49 7 (rs_P wd)) (hp : post 1 ()) : wL_lawOf_312 post mc ms x4 (nI wd.length) (nI i) 1 1 kn 1 1 kc ks f a1 a2 a3 a4 a5 a6 a7 a8 a9 := by
  have hi := hl.1
  have hsh := rs_move h7 hl
  have key : ∀ z, wL_lawOf_348 post mc ms x4 (nI wd.length) 1 1 kn z kc ks f a1 a2 a3 a4 a5 a6 a7 a8 a9 := by
    intro z
    refine br_f (by decide) (rs_codeW (w := 0) (by omega) hW (rs_codeW (w := 1) (by omega) hW1 (br_t rfl (rs_kinW (w := 1) (S := rs_sh (rs_P wd)) (by omega) (rs_M_Ls (w := 1) hM1) (br_t hk.symm ?_)))))
    have := rs_L411 (mc := mc) (ms := ms) (kc := kc) (ks := ks) (post := post) (f := f) (a5 := a5) (a6 := a6) (a7 := a7) (a8 := a8) (a9 := a9) (x4 := x4) (kn := kn) hW (by rw [hsh]; exact hk) hM hsh.symm hM1 hp
    rw [rs_swap_len] at this
    exact this
  refine br_t rfl (br_f (by decide) ?_)
  refine rs_letter (w := 1) (by omega) hW1 (by rw [rs_swap_len]; omega) ?_
  rw [nI_1 i]
  refine rs_letter (w := 1) (by omega) hW1 (by rw [rs_swap_len]; omega) ?_
  exact br_c (fun _ => key 1) (fun _ => key 0)
/-- behind the exchange: another pair, the second word has new rows -/
theorem rs_L312c {post : Int32 → St0 → Prop} {mc ms kc ks : Nat} {f : Int32} {a1 a2 a3 a4 a5 a6 a7 a8 a9 : Nat → Int32} {x4 kn : Int32} {wd : List Nat} {T1 : List (List Nat)} {i : Nat} (hi : i + 1 < wd.length) (hW : rs_W a1 a2 0 wd) (hW1 : rs_W a1 a2 1 (rs_swap i wd)) (hk : kn = rs_kin (rs_sh (rs_P wd))) (hM : rs_M a3 a4 0 0 (rs_P wd)) (hM1 : rs_M a3 a4 49 7 T1) (hp : post 1 ()) : wL_lawOf_312 post mc ms x4 (nI wd.length) (nI i) 0 1 kn 0 0 kc ks f a1 a2 a3 a4 a5 a6 a7 a8 a9 := by
  have h7 := hW.2.1
  have hb : ∀ a, a ∈ wd → a ≤ 7 := fun a ha => (hW.2.2.1 a ha).2
  have hL := rs_L411 (mc := mc) (ms := ms) (kc := kc) (ks := ks) (post := post) (f := f) (a5 := a5) (a6 := a6) (a7 := a7) (a8 := a8) (a9 := a9) (x4 := x4) (kn := kn) hW hk hM rfl hM1 hp
  have ga := rs_w7 hW.2.2.1 i
  have gb := rs_w7 hW.2.2.1 (i + 1)
  refine br_t rfl (br_f (by decide) ?_)
  refine rs_letter (w := 1) (by omega) hW1 (by rw [rs_swap_len]; omega) ?_
  rw [nI_1 i]
  refine rs_letter (w := 1) (by omega) hW1 (by rw [rs_swap_len]; omega) ?_
  rw [rs_swap_get i wd i hi, rs_swap_get i wd (i + 1) hi, if_pos rfl, if_neg (by omega : ¬ i + 1 = i), if_pos rfl]
  refine pk_eq (wd.getD (i + 1) 0) (wd.getD i 0) (fun q => ?_) (fun q => ?_)
  · exact br_t rfl (br_f (by decide) (br_f (by decide) hL))
  · refine br_t rfl (br_f (by decide) (br_t rfl (rs_codeW (w := 0) (by omega) hW (rs_codeW (w := 1) (by omega) hW1 (br_f ?_ hL)))))
    have c1 := rs_code_7 h7 hb
    have c2 := rs_code_7 (l := rs_swap i wd) (by rw [rs_swap_len]; exact h7) (fun a ha => hb a (rs_swap_mem i wd ha))
    rw [nI_eq (by omega) (by omega)]
    exact rs_code_ne i wd 0 hi (fun z => q z.symm)
/-- behind the move -/
theorem rs_L200 {post : Int32 → St0 → Prop} {mc ms kc ks : Nat} {f : Int32} {a1 a2 a3 a4 a5 a6 a7 a8 a9 : Nat → Int32} {x4 kn x11 x12 z : Int32} {wd w0 : List Nat} {i k q : Nat} (hi : i < 99) (hk3 : k ≤ 3) (hq : q < 99) (hW : rs_W a1 a2 0 w0) (hW1 : rs_W a1 a2 1 wd) (hk : kn = rs_kin (rs_sh (rs_P wd))) (hM : rs_M a3 a4 0 0 (rs_P wd)) (hM1 : rs_M a3 a4 49 7 (rs_P wd)) (h11 : (x11 = 1 ∧ rs_leg wd i ∧ w0 = rs_swap i wd) ∨ (x11 = 0 ∧ ¬ rs_leg wd i ∧ w0 = wd)) (h12 : (x12 = 1 ∧ i + 1 < wd.length) ∨ (x12 = 0 ∧ ¬ i + 1 < wd.length)) (hp : post 1 ()) : wL_lawOf_200 post mc ms x4 (nI wd.length) (nI i) (nI k) x11 x12 kn (nI q) z z kc ks f a1 a2 a3 a4 a5 a6 a7 a8 a9 := by
  have h7 := hW1.2.1
  have hpt := rs_part h7
  have hsm := rs_same hM hM1
  have hlen : w0.length = wd.length := by
    rcases h11 with ⟨_, _, e⟩ | ⟨_, _, e⟩
    · rw [e, rs_swap_len]
    · rw [e]
  have hc0 : a1 0 = nI wd.length := by rw [← hlen]; exact hW.1
  have hS0 := rs_M_Ls (w := 0) hM
  have hS1 := rs_M_Ls (w := 1) hM1
  refine br_t rfl (rs_rel hsm.1 (fun _ => br_t rfl ?_) (fun t => absurd hsm.2 t))
  refine rs_kinW (w := 0) (by omega) hS0 (br_t hk.symm ?_)
  refine rs_kinAt (w := 0) (by omega) hc0 h7 hM hpt.1 hpt.2 (by omega) (fun f1 b5 b6 b7 b8 b9 => ?_)
  refine rs_kinAt (w := 1) (by omega) hW1.1 h7 hM1 hpt.1 hpt.2 (by omega) (fun f2 c5 c6 c7 c8 c9 => br_t rfl ?_)
  refine rs_rising (w := 0) (by omega) hS0 hk3 (rs_rising (w := 1) (by omega) hS1 hk3 (br_t rfl ?_))
  refine rs_falling (w := 0) (by omega) hS0 hk3 (rs_falling (w := 1) (by omega) hS1 hk3 (br_t rfl ?_))
  refine rs_exch (w := 1) (by omega) hW1 hi (fun t => ?_) (fun t b2 k1 k2 => ?_) (fun t t2 b2 b3 b4 k1 k2 m1 m2 m3 => ?_)
  · rcases h12 with ⟨e, s⟩ | ⟨e, s⟩
    · exact absurd s t
    · rcases h11 with ⟨_, s2, _⟩ | ⟨e2, _, e3⟩
      · exact absurd s2.1 t
      · subst e e2 e3
        exact br_t rfl (rs_L312a hW hk hM hM1 hp)
  · rcases h12 with ⟨e, s⟩ | ⟨e, s⟩
    · rcases h11 with ⟨e2, _, e3⟩ | ⟨_, s2, _⟩
      · subst e e2 e3
        exact br_f (by decide) (br_f (by decide) (rs_L312b h7 t (rs_W_fr hW rfl (fun j hj => k2 _ (by omega))) k1 hk hM hM1 hp))
      · exact absurd t s2
    · exact absurd t.1 s
  · rcases h12 with ⟨e, s⟩ | ⟨e, s⟩
    · rcases h11 with ⟨_, s2, _⟩ | ⟨e2, _, e3⟩
      · exact absurd s2 t2
      · subst e e2 e3
        exact br_f (by decide) (br_t rfl (rs_L312c t (rs_W_fr hW rfl (fun j hj => k2 _ (by omega))) k1 hk (rs_M_fr hM (fun j hj => m2 _ (by omega)) (fun j hj => m3 _ (by omega))) m1 hp))
    · exact absurd t s
theorem rs_L164 {post : Int32 → St0 → Prop} {mc ms kc ks : Nat} {f : Int32} {a1 a2 a3 a4 a5 a6 a7 a8 a9 : Nat → Int32} {x4 x5 x11 x12 : Int32} {wd : List Nat} {i k : Nat} (hi : i < 99) (hk3 : k ≤ 3) (hQ : rs_Q a1 a2 a3 a4 wd) (h11 : (x11 = 1 ∧ rs_leg wd i) ∨ (x11 = 0 ∧ ¬ rs_leg wd i)) (h12 : (x12 = 1 ∧ i + 1 < wd.length) ∨ (x12 = 0 ∧ ¬ i + 1 < wd.length)) (hp : post 1 ()) : wL_lawOf_164 post mc ms x4 x5 (nI wd.length) (nI i) (nI k) x11 x12 kc ks f a1 a2 a3 a4 a5 a6 a7 a8 a9 := by
  obtain ⟨q1, q2, q3, q4⟩ := hQ
  obtain ⟨j, hj, e⟩ := pk_andE x5 (m := 7) 3 (by decide)
  unfold wL_lawOf_164
  refine rs_kinW (w := 0) (by omega) (rs_M_Ls (w := 0) q3) (nm_r e ?_)
  refine rs_moveW (w := 0) (by omega) q1 hi (fun t b2 k1 k2 => ?_) (fun t => ?_)
  · rcases h11 with ⟨e1, s⟩ | ⟨_, s⟩
    · subst e1
      exact br_f (by decide) (rs_L200 hi hk3 (by omega) k1 (rs_W_fr q2 rfl (fun j hj => k2 _ (by omega))) rfl q3 q4 (Or.inl ⟨rfl, t, rfl⟩) h12 hp)
    · exact absurd t s
  · rcases h11 with ⟨_, s⟩ | ⟨e1, s⟩
    · exact absurd s t
    · subst e1
      exact br_t rfl (rs_L200 hi hk3 (by omega) q1 q2 rfl q3 q4 (Or.inr ⟨rfl, t, rfl⟩) h12 hp)
theorem rs_L139 {post : Int32 → St0 → Prop} {mc ms kc ks : Nat} {f : Int32} {a1 a2 a3 a4 a5 a6 a7 a8 a9 : Nat → Int32} {x4 x5 : Int32} {wd : List Nat} {i k : Nat} (hi : i < 99) (hk3 : k ≤ 3) (hQ : rs_Q a1 a2 a3 a4 wd) (hp : post 1 ()) : wL_lawOf_139 post mc ms x4 x5 (nI wd.length) (nI i) (nI k) kc ks f a1 a2 a3 a4 a5 a6 a7 a8 a9 := by
  have h7 := hQ.1.2.1
  unfold wL_lawOf_139
  refine rs_fits hQ.1 hi (fun t => ?_) (fun t => ?_)
  · exact pk_le wd.length (i + 1) (fun q => rs_L164 hi hk3 hQ (Or.inl ⟨rfl, t⟩) (Or.inr ⟨rfl, by omega⟩) hp) (fun q => rs_L164 hi hk3 hQ (Or.inl ⟨rfl, t⟩) (Or.inl ⟨rfl, q⟩) hp) rfl (nI_1 i)
  · exact pk_le wd.length (i + 1) (fun q => rs_L164 hi hk3 hQ (Or.inr ⟨rfl, t⟩) (Or.inr ⟨rfl, by omega⟩) hp) (fun q => rs_L164 hi hk3 hQ (Or.inr ⟨rfl, t⟩) (Or.inl ⟨rfl, q⟩) hp) rfl (nI_1 i)
theorem rs_L35 {post : Int32 → St0 → Prop} {mc ms kc ks : Nat} {f : Int32} {a1 a2 a3 a4 a5 a6 a7 a8 a9 : Nat → Int32} {x0 x4 x5 : Int32} {n i k : Nat} (hn : n ≤ 7) (hi : i < 99) (hk3 : k ≤ 3) (hQ : rs_Q a1 a2 a3 a4 []) (hp : post 1 ()) : ∃ fu, wL_lawOf_35 post mc ms x0 x4 x5 (nI n) (nI i) (nI k) kc ks fu 0 0 f a1 a2 a3 a4 a5 a6 a7 a8 a9 := by
  refine pk_loop (σ := Int32 × (Nat → Int32) × (Nat → Int32) × (Nat → Int32) × (Nat → Int32)) (fun fu m s => wL_lawOf_35 post mc ms x0 x4 x5 (nI n) (nI i) (nI k) kc ks fu s.1 (nI m) f (s.2.1) (s.2.2.1) (s.2.2.2.1) (s.2.2.2.2) a5 a6 a7 a8 a9) (fun m s => ∃ wd : List Nat, wd.length = m ∧ s.1 = nI (rs_code wd) ∧ rs_Q s.2.1 s.2.2.1 s.2.2.2.1 s.2.2.2.2 wd) n 0 (0, a1, a2, a3, a4) (Nat.zero_le _) ⟨[], rfl, rfl, hQ⟩ (fun fu s hs => ?_) (fun fu m s hm hs hnx => ?_)
  · obtain ⟨c, b1, b2, b3, b4⟩ := s
    obtain ⟨wd, e1, e2, e3⟩ := hs
    dsimp only at e2 e3
    subst e1 e2
    have hsm := rs_same e3.2.2.1 e3.2.2.2
    refine br_t (nI_le (Nat.le_refl _) (by omega)) (rs_codeW (w := 0) (by omega) e3.1 (br_t rfl (rs_rel hsm.1 (fun _ => br_t rfl ?_) (fun t => absurd hsm.2 t))))
    exact pk_eq wd.length 7 (fun q => rs_addF (w := 0) (x := 3) (by omega) e3.1 q (by omega) (by omega) (br_t rfl (rs_L139 hi hk3 e3 hp))) (fun q => rs_L139 hi hk3 e3 hp)
  · obtain ⟨c, b1, b2, b3, b4⟩ := s
    obtain ⟨wd, e1, e2, q1, q2, q3, q4⟩ := hs
    dsimp only at e2 q1 q2 q3 q4
    subst e1 e2
    refine br_f (nI_ge hm (by omega)) (rs_atL (fun x hx1 hx => ?_))
    refine rs_addW (w := 0) (by omega) q1 (by omega) q3 hx1 hx (fun c1 c2 c3 c4 k1 k2 k3 k4 k5 k6 => br_t (nI_1 _).symm ?_)
    refine rs_addW (w := 1) (wd := wd) (by omega) (rs_W_fr q2 (k3 1 (by omega)) (fun j hj => k4 _ (by omega))) (by omega) (rs_M_fr q4 (fun j hj => k5 _ (by omega)) (fun j hj => k6 _ (by omega))) hx1 hx (fun d1 d2 d3 d4 m1 m2 m3 m4 m5 m6 => br_t (nI_1 _).symm ?_)
    refine nm_r (e' := nI (rs_code (wd ++ [x]))) ?_ (nm_r (nI_1 _) (hnx (nI (rs_code (wd ++ [x])), d1, d2, d3, d4) ⟨wd ++ [x], ?_, rfl, ?_, m1, ?_, m2⟩))
    · rw [rs_code_snoc]
      exact rs_i8 _ _
    · rw [List.length_append, List.length_singleton]
    · exact rs_W_fr k1 (m3 0 (by omega)) (fun j hj => m4 _ (by omega))
    · exact rs_M_fr k2 (fun j hj => m5 _ (by omega)) (fun j hj => m6 _ (by omega))
theorem rs_Q0 : rs_Q (fun _ => 0) (fun _ => 0) (fun _ => 0) (fun _ => 0) [] :=
  ⟨⟨rfl, by simp, fun a ha => absurd ha (by simp), fun i hi => absurd hi (by simp)⟩, ⟨rfl, by simp, fun a ha => absurd ha (by simp), fun i hi => absurd hi (by simp)⟩, rs_e7_M (fun _ _ => rfl), rs_e7_M (fun _ _ => rfl)⟩
theorem rs_lawOf {post : Int32 → St0 → Prop} {p0 p1 p2 p3 p4 p5 : Int32} (hp : post 1 ()) : wpL_lawOf post 134 2128 () p0 p1 p2 p3 p4 p5 := by
  unfold wpL_lawOf
  refine ⟨by omega, by omega, 133, 2118, by omega, by omega, ?_⟩
  obtain ⟨j1, h1, e1⟩ := pk_andE p1 (m := 127) 7 (by decide)
  obtain ⟨j2, h2, e2⟩ := pk_andE p2 (m := 7) 3 (by decide)
  obtain ⟨j3, h3, e3⟩ := pk_andE p3 (m := 3) 2 (by decide)
  have er : nI j1 - nI j1 / 8 * 8 = nI (j1 % 8) := pk_rem (d := 8) (by omega) (by omega) (by omega)
  rw [e1]
  refine ⟨by omega, by omega, by omega, by omega, by omega, by omega, by omega, by omega, by omega, by omega, by omega, by omega, by omega, by omega, by omega, by omega, by omega, by omega, ⟨by decide, nm_r er (nm_r e2 (nm_r e3 ?_))⟩⟩
  exact rs_L35 (by omega) (by omega) (by omega) rs_Q0 hp
theorem rs_cell {post : Int32 → Prop} {L : Nat} {xs : Nat → Int32} {k : Nat} (hL : L ≤ 6) (hk : k < 6) (h : ∀ v, post v) : wpL_cellAt post L xs () (nI k) :=
  pk_le L k (fun _ => h 0) (fun q => ⟨vp_in_nI q (by omega), h _⟩)
end
section
theorem i_vc (xs : Nat → Int32) (L : Nat) (hL : L ≤ 6) : wpL_law (fun r => r = 1) L xs := by
  unfold wpL_law
  refine rs_cell (k := 0) hL (by omega) (fun r1 => rs_cell (k := 1) hL (by omega) (fun r2 => rs_cell (k := 2) hL (by omega) (fun r3 => rs_cell (k := 3) hL (by omega) (fun r4 => rs_cell (k := 4) hL (by omega) (fun r5 => rs_cell (k := 5) hL (by omega) (fun r6 => ⟨134, 2128, by omega, by omega, rs_lawOf rfl⟩))))))
end
