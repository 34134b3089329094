section
/-! part 01: pure rows and rows of rows: a letter put in, a cell taken off -/
/-- a row's entry -/
def ri_g (R : List Nat) (c : Nat) : Nat := (R[c]?).getD 0
theorem ri_g_lt {R : List Nat} {c : Nat} (h : c < R.length) : ri_g R c = R[c] := by
  unfold ri_g
  rw [List.getElem?_eq_getElem h]
  rfl
theorem ri_g_ge {R : List Nat} {c : Nat} (h : R.length ≤ c) : ri_g R c = 0 := by
  unfold ri_g
  rw [List.getElem?_eq_none h]
  rfl
theorem ri_g_mem {R : List Nat} {c : Nat} (h : c < R.length) : ri_g R c ∈ R := by
  rw [ri_g_lt h]
  exact List.getElem_mem h
theorem ri_g_of {R : List Nat} {x : Nat} (h : x ∈ R) : ∃ c, c < R.length ∧ ri_g R c = x := by
  obtain ⟨c, hc, e⟩ := List.getElem_of_mem h
  exact ⟨c, hc, by rw [ri_g_lt hc, e]⟩
theorem ri_g_cons0 {a : Nat} {R : List Nat} : ri_g (a :: R) 0 = a := rfl
theorem ri_g_consS {a : Nat} {R : List Nat} {c : Nat} : ri_g (a :: R) (c + 1) = ri_g R c := rfl
theorem ri_ext {R S : List Nat} (h : R.length = S.length) (hj : ∀ j, j < R.length → ri_g R j = ri_g S j) : R = S := by
  apply List.ext_getElem h
  intro j h1 h2
  have := hj j h1
  rwa [ri_g_lt h1, ri_g_lt h2] at this
theorem ri_g_set {R : List Nat} {c x : Nat} (h : c < R.length) (j : Nat) : ri_g (R.set c x) j = if j = c then x else ri_g R j := by
  unfold ri_g
  by_cases e : j = c
  · subst e
    rw [if_pos rfl, List.getElem?_set_self h]
    rfl
  · rw [if_neg e, List.getElem?_set_ne (fun z => e z.symm)]
theorem ri_g_app (R : List Nat) (x j : Nat) : ri_g (R ++ [x]) j = if j = R.length then x else ri_g R j := by
  by_cases e : j = R.length
  · subst e
    rw [if_pos rfl, ri_g_lt (by simp)]
    simp
  · rw [if_neg e]
    by_cases h : j < R.length
    · rw [ri_g_lt h, ri_g_lt (by simp; omega), List.getElem_append_left h]
    · rw [ri_g_ge (R := R) (by omega), ri_g_ge (by rw [List.length_append]; simp only [List.length_cons, List.length_nil]; omega)]
theorem ri_g_drop {R : List Nat} {j : Nat} (h : j < R.length - 1) : ri_g R.dropLast j = ri_g R j := by
  rw [ri_g_lt (by simp; omega), ri_g_lt (by omega), List.getElem_dropLast]
theorem ri_len_set {R : List Nat} {c x : Nat} : (R.set c x).length = R.length := List.length_set

/-- the place of the first entry above x -/
def ri_fa (x : Nat) : List Nat → Nat
  | [] => 0
  | a :: l => if a ≤ x then ri_fa x l + 1 else 0
theorem ri_fa_le (x : Nat) : ∀ R : List Nat, ri_fa x R ≤ R.length
  | [] => Nat.le_refl 0
  | a :: l => by
    unfold ri_fa
    have := ri_fa_le x l
    split
    · simp; omega
    · omega
theorem ri_fa_lo (x : Nat) : ∀ (R : List Nat) (j : Nat), j < ri_fa x R → ri_g R j ≤ x
  | [], j, h => absurd h (by unfold ri_fa; omega)
  | a :: l, j, h => by
    unfold ri_fa at h
    split at h
    · cases j with
      | zero => rw [ri_g_cons0]; assumption
      | succ j => rw [ri_g_consS]; exact ri_fa_lo x l j (by omega)
    · omega
theorem ri_fa_hi (x : Nat) : ∀ (R : List Nat), ri_fa x R < R.length → x < ri_g R (ri_fa x R)
  | [], h => absurd h (by simp)
  | a :: l, h => by
    unfold ri_fa at h ⊢
    split
    · rename_i ha
      rw [if_pos ha] at h
      rw [ri_g_consS]
      exact ri_fa_hi x l (by simp at h; omega)
    · rw [ri_g_cons0]; omega
theorem ri_fa_eq {x k : Nat} {R : List Nat} (h1 : k ≤ R.length) (h2 : ∀ j, j < k → ri_g R j ≤ x) (h3 : k < R.length → x < ri_g R k) : ri_fa x R = k := by
  have a1 := ri_fa_le x R
  rcases Nat.lt_trichotomy (ri_fa x R) k with h | h | h
  · have := ri_fa_hi x R (by omega)
    have := h2 _ h
    omega
  · exact h
  · have := ri_fa_lo x R k h
    have := h3 (by omega)
    omega

/-- the place of the last entry below x, of the places up to c -/
def ri_lbF (x : Nat) (R : List Nat) : Nat → Nat
  | 0 => 0
  | c + 1 => if ri_g R (c + 1) < x then c + 1 else ri_lbF x R c
def ri_lb (x : Nat) (R : List Nat) : Nat := ri_lbF x R (R.length - 1)
theorem ri_lbF_le (x : Nat) (R : List Nat) : ∀ c, ri_lbF x R c ≤ c
  | 0 => Nat.le_refl 0
  | c + 1 => by
    unfold ri_lbF
    have := ri_lbF_le x R c
    split <;> omega
theorem ri_lbF_hi (x : Nat) (R : List Nat) : ∀ c j, ri_lbF x R c < j → j ≤ c → x ≤ ri_g R j
  | 0, j, h, h2 => by unfold ri_lbF at h; omega
  | c + 1, j, h, h2 => by
    unfold ri_lbF at h
    split at h
    · omega
    · by_cases e : j = c + 1
      · subst e; omega
      · exact ri_lbF_hi x R c j h (by omega)
theorem ri_lbF_lo (x : Nat) (R : List Nat) : ∀ c, 0 < ri_lbF x R c → ri_g R (ri_lbF x R c) < x
  | 0, h => absurd h (by unfold ri_lbF; omega)
  | c + 1, h => by
    unfold ri_lbF at h ⊢
    split
    · assumption
    · rename_i hn
      rw [if_neg hn] at h
      exact ri_lbF_lo x R c h
theorem ri_lb_lt {x : Nat} {R : List Nat} (h : 0 < R.length) : ri_lb x R < R.length := by
  have := ri_lbF_le x R (R.length - 1)
  unfold ri_lb
  omega
theorem ri_lb_hi {x : Nat} {R : List Nat} {j : Nat} (h : ri_lb x R < j) (h2 : j < R.length) : x ≤ ri_g R j := ri_lbF_hi x R _ j h (by omega)
theorem ri_lb_lo {x : Nat} {R : List Nat} (h : ri_g R 0 < x) : ri_g R (ri_lb x R) < x := by
  by_cases e : 0 < ri_lb x R
  · exact ri_lbF_lo x R _ e
  · have : ri_lb x R = 0 := by omega
    rw [this]; exact h
theorem ri_lb_eq {x k : Nat} {R : List Nat} (h1 : k < R.length) (h2 : ∀ j, k < j → j < R.length → x ≤ ri_g R j) (h3 : ri_g R k < x) : ri_lb x R = k := by
  have hl : ri_lb x R < R.length := ri_lb_lt (by omega)
  rcases Nat.lt_trichotomy (ri_lb x R) k with h | h | h
  · have := ri_lb_hi h h1
    omega
  · exact h
  · have := h2 _ h hl
    have := ri_lbF_lo x R (R.length - 1) (by unfold ri_lb at h; omega)
    unfold ri_lb at *
    omega

/-- a row rises weakly -/
def ri_srt (R : List Nat) : Prop := ∀ i j, i < j → j < R.length → ri_g R i ≤ ri_g R j
theorem ri_srt_nil : ri_srt [] := fun i j _ h => absurd h (by simp)
theorem ri_srt_app {R : List Nat} {x : Nat} (h : ri_srt R) (hx : ∀ j, j < R.length → ri_g R j ≤ x) : ri_srt (R ++ [x]) := by
  intro i j hij hj
  rw [List.length_append] at hj
  simp only [List.length_cons, List.length_nil] at hj
  rw [ri_g_app, ri_g_app]
  by_cases e : j = R.length
  · rw [if_pos e, if_neg (by omega)]
    exact hx i (by omega)
  · rw [if_neg e, if_neg (by omega)]
    exact h i j hij (by omega)
theorem ri_srt_drop {R : List Nat} (h : ri_srt R) : ri_srt R.dropLast := by
  intro i j hij hj
  rw [List.length_dropLast] at hj
  rw [ri_g_drop (by omega), ri_g_drop hj]
  exact h i j hij (by omega)
/-- an entry is changed between its neighbours -/
theorem ri_srt_set {R : List Nat} {c x : Nat} (hc : c < R.length) (h : ri_srt R) (h1 : ∀ j, j < c → ri_g R j ≤ x) (h2 : ∀ j, c < j → j < R.length → x ≤ ri_g R j) : ri_srt (R.set c x) := by
  intro i j hij hj
  rw [ri_len_set] at hj
  rw [ri_g_set hc, ri_g_set hc]
  by_cases e : i = c
  · rw [if_pos e, if_neg (by omega)]
    exact h2 j (by omega) hj
  · rw [if_neg e]
    by_cases e2 : j = c
    · rw [if_pos e2]
      exact h1 i (by omega)
    · rw [if_neg e2]
      exact h i j hij hj
theorem ri_set_set {R : List Nat} {c x : Nat} (hc : c < R.length) : (R.set c x).set c (ri_g R c) = R := by
  apply ri_ext (by rw [ri_len_set, ri_len_set])
  intro j hj
  rw [ri_g_set (by rw [ri_len_set]; exact hc), ri_g_set hc]
  by_cases e : j = c
  · rw [if_pos e, e]
  · rw [if_neg e, if_neg e]
/-- a letter pushed one out: the row rises, and the one that came out finds its place again -/
theorem ri_bump {R : List Nat} {x : Nat} (h : ri_srt R) (hc : ri_fa x R < R.length) : ri_srt (R.set (ri_fa x R) x) ∧ ri_lb (ri_g R (ri_fa x R)) (R.set (ri_fa x R) x) = ri_fa x R := by
  have hx := ri_fa_hi x R hc
  refine ⟨ri_srt_set hc h (fun j hj => ri_fa_lo x R j hj) (fun j hj hl => ?_), ri_lb_eq (by rw [ri_len_set]; exact hc) (fun j hj hl => ?_) ?_⟩
  · have := h _ j hj hl
    omega
  · rw [ri_len_set] at hl
    rw [ri_g_set hc, if_neg (by omega)]
    exact h _ j hj hl
  · rw [ri_g_set hc, if_pos rfl]
    exact hx
/-- an entry pushed the last smaller one out: the row rises, and that one finds its place again -/
theorem ri_back {R : List Nat} {y : Nat} (h : ri_srt R) (hl : 0 < R.length) (h0 : ri_g R 0 < y) : ri_srt (R.set (ri_lb y R) y) ∧ ri_fa (ri_g R (ri_lb y R)) (R.set (ri_lb y R) y) = ri_lb y R := by
  have hc := ri_lb_lt (x := y) hl
  have hx := ri_lb_lo h0
  refine ⟨ri_srt_set hc h (fun j hj => ?_) (fun j hj hl => ri_lb_hi hj hl), ri_fa_eq (by rw [ri_len_set]; omega) (fun j hj => ?_) (fun _ => ?_)⟩
  · have := h j _ hj hc
    omega
  · rw [ri_g_set hc, if_neg (by omega)]
    exact h j _ hj hc
  · rw [ri_g_set hc, if_pos rfl]
    exact hx
theorem ri_drop_app {R : List Nat} (h : 0 < R.length) : R.dropLast ++ [ri_g R (R.length - 1)] = R := by
  apply ri_ext (by simp; omega)
  intro j hj
  simp only [List.length_append, List.length_dropLast, List.length_cons, List.length_nil] at hj
  rw [ri_g_app, List.length_dropLast]
  by_cases e : j = R.length - 1
  · rw [if_pos e, e]
  · rw [if_neg e, ri_g_drop (by omega)]
theorem ri_fa_drop {R : List Nat} (h : ri_srt R) (hl : 0 < R.length) : ri_fa (ri_g R (R.length - 1)) R.dropLast = R.dropLast.length := by
  refine ri_fa_eq (Nat.le_refl _) (fun j hj => ?_) (fun z => absurd z (by omega))
  rw [List.length_dropLast] at hj
  rw [ri_g_drop hj]
  exact h j _ hj (by omega)
end
section
/-! part 02: rows of rows -/
/-- a letter is put in: the rows, and the row that became longer -/
def ri_ins : Nat → List (List Nat) → List (List Nat) × Nat
  | _, [] => ([], 0)
  | x, R :: T => if ri_fa x R = R.length then ((R ++ [x]) :: T, 0) else (R.set (ri_fa x R) x :: (ri_ins (ri_g R (ri_fa x R)) T).1, (ri_ins (ri_g R (ri_fa x R)) T).2 + 1)
/-- the last cell of row k is taken off: the rows, and what came out -/
def ri_rev : Nat → List (List Nat) → List (List Nat) × Nat
  | _, [] => ([], 0)
  | 0, R :: T => (R.dropLast :: T, ri_g R (R.length - 1))
  | k + 1, R :: T => (R.set (ri_lb (ri_rev k T).2 R) (ri_rev k T).2 :: (ri_rev k T).1, ri_g R (ri_lb (ri_rev k T).2 R))
theorem ri_ins_t {x : Nat} {R : List Nat} {T : List (List Nat)} (h : ri_fa x R = R.length) : ri_ins x (R :: T) = ((R ++ [x]) :: T, 0) := by
  rw [ri_ins, if_pos h]
theorem ri_ins_f {x : Nat} {R : List Nat} {T : List (List Nat)} (h : ¬ ri_fa x R = R.length) : ri_ins x (R :: T) = (R.set (ri_fa x R) x :: (ri_ins (ri_g R (ri_fa x R)) T).1, (ri_ins (ri_g R (ri_fa x R)) T).2 + 1) := by
  rw [ri_ins, if_neg h]
theorem ri_rev_0 {R : List Nat} {T : List (List Nat)} : ri_rev 0 (R :: T) = (R.dropLast :: T, ri_g R (R.length - 1)) := by
  rw [ri_rev]
theorem ri_rev_s {k : Nat} {R : List Nat} {T : List (List Nat)} : ri_rev (k + 1) (R :: T) = (R.set (ri_lb (ri_rev k T).2 R) (ri_rev k T).2 :: (ri_rev k T).1, ri_g R (ri_lb (ri_rev k T).2 R)) := by
  rw [ri_rev]
/-- row S lies below row R -/
def ri_ab (R S : List Nat) : Prop := S.length ≤ R.length ∧ ∀ c, c < S.length → ri_g R c < ri_g S c
def ri_hd (T : List (List Nat)) : List Nat := T.headD []
/-- rows rise, columns rise strictly, lengths fall -/
def ri_ss : List (List Nat) → Prop
  | [] => True
  | R :: T => ri_srt R ∧ ri_ab R (ri_hd T) ∧ ri_ss T
/-- the lengths of the rows -/
def ri_ln (T : List (List Nat)) : List Nat := T.map List.length
theorem ri_ln_len (T : List (List Nat)) : (ri_ln T).length = T.length := List.length_map _
theorem ri_ab_app {R S : List Nat} {x : Nat} (h : ri_ab R S) : ri_ab (R ++ [x]) S := by
  have h1 := h.1
  refine ⟨by rw [List.length_append]; omega, fun c hc => ?_⟩
  rw [ri_g_app, if_neg (by omega)]
  exact h.2 c hc
theorem ri_ab_bump {R S : List Nat} {x : Nat} (h2 : ri_ab R S) (hc : ri_fa x R < R.length) :
    ri_ab (R.set (ri_fa x R) x) (if ri_fa (ri_g R (ri_fa x R)) S = S.length then S ++ [ri_g R (ri_fa x R)] else S.set (ri_fa (ri_g R (ri_fa x R)) S) (ri_g R (ri_fa x R))) := by
  obtain ⟨l, a⟩ := h2
  have hx := ri_fa_hi x R hc
  have hfs := ri_fa_le (ri_g R (ri_fa x R)) S
  have hle : ri_fa (ri_g R (ri_fa x R)) S ≤ ri_fa x R := by
    rcases Nat.lt_or_ge (ri_fa x R) (ri_fa (ri_g R (ri_fa x R)) S) with z | z
    · have t1 := ri_fa_lo _ S _ z
      have t2 := a (ri_fa x R) (by omega)
      omega
    · exact z
  have hv : ∀ j, j ≤ ri_fa x R → ri_g (R.set (ri_fa x R) x) j < ri_g R (ri_fa x R) := by
    intro j hj
    rw [ri_g_set hc]
    by_cases e : j = ri_fa x R
    · rw [if_pos e]; exact hx
    · rw [if_neg e]
      have := ri_fa_lo x R j (by omega)
      omega
  have hw : ∀ j, j < S.length → ri_g (R.set (ri_fa x R) x) j < ri_g S j := by
    intro j hj
    have t := a j hj
    rw [ri_g_set hc]
    by_cases e : j = ri_fa x R
    · rw [if_pos e]
      rw [e] at t ⊢
      omega
    · rw [if_neg e]; exact t
  by_cases e : ri_fa (ri_g R (ri_fa x R)) S = S.length
  · rw [if_pos e]
    refine ⟨by rw [ri_len_set, List.length_append]; simp only [List.length_cons, List.length_nil]; omega, fun j hj => ?_⟩
    rw [List.length_append] at hj
    simp only [List.length_cons, List.length_nil] at hj
    rw [ri_g_app]
    by_cases e2 : j = S.length
    · rw [if_pos e2]; exact hv j (by omega)
    · rw [if_neg e2]; exact hw j (by omega)
  · rw [if_neg e]
    have hl : ri_fa (ri_g R (ri_fa x R)) S < S.length := by omega
    refine ⟨by rw [ri_len_set, ri_len_set]; exact l, fun j hj => ?_⟩
    rw [ri_len_set] at hj
    rw [ri_g_set hl]
    by_cases e2 : j = ri_fa (ri_g R (ri_fa x R)) S
    · rw [if_pos e2]; exact hv j (by omega)
    · rw [if_neg e2]; exact hw j hj
theorem ri_hd_ins {y : Nat} {S : List Nat} {U : List (List Nat)} : ri_hd (ri_ins y (S :: U)).1 = if ri_fa y S = S.length then S ++ [y] else S.set (ri_fa y S) y := by
  by_cases e : ri_fa y S = S.length
  · rw [ri_ins_t e, if_pos e]; rfl
  · rw [ri_ins_f e, if_neg e]; rfl
theorem ri_nil_tl {R : List Nat} {T : List (List Nat)} {x : Nat} (h : [] ∈ R :: T) (e : ¬ ri_fa x R = R.length) : [] ∈ T := by
  rcases List.mem_cons.mp h with z | z
  · subst z
    exact absurd rfl e
  · exact z
theorem ri_ss_ins : ∀ (T : List (List Nat)) (x : Nat), ri_ss T → [] ∈ T → ri_ss (ri_ins x T).1
  | [], x, _, h => absurd h List.not_mem_nil
  | R :: T, x, hs, he => by
    obtain ⟨h1, h2, h3⟩ := hs
    by_cases e : ri_fa x R = R.length
    · rw [ri_ins_t e]
      exact ⟨ri_srt_app h1 (fun j hj => ri_fa_lo x R j (by omega)), ri_ab_app h2, h3⟩
    · have hc : ri_fa x R < R.length := by have := ri_fa_le x R; omega
      have hT := ri_nil_tl he e
      rw [ri_ins_f e]
      refine ⟨(ri_bump h1 hc).1, ?_, ri_ss_ins T _ h3 hT⟩
      cases T with
      | nil => exact absurd hT List.not_mem_nil
      | cons S U =>
        rw [ri_hd_ins]
        exact ri_ab_bump h2 hc
theorem ri_ins_rev : ∀ (T : List (List Nat)) (x : Nat), ri_ss T → [] ∈ T → ri_rev (ri_ins x T).2 (ri_ins x T).1 = (T, x)
  | [], x, _, h => absurd h List.not_mem_nil
  | R :: T, x, hs, he => by
    obtain ⟨h1, h2, h3⟩ := hs
    by_cases e : ri_fa x R = R.length
    · rw [ri_ins_t e]
      dsimp only
      rw [ri_rev_0, List.dropLast_concat, ri_g_app, if_pos (by rw [List.length_append]; rfl)]
    · have hc : ri_fa x R < R.length := by have := ri_fa_le x R; omega
      have ih := ri_ins_rev T (ri_g R (ri_fa x R)) h3 (ri_nil_tl he e)
      rw [ri_ins_f e]
      dsimp only
      rw [ri_rev_s, ih]
      dsimp only
      rw [(ri_bump h1 hc).2, ri_set_set hc, ri_g_set hc, if_pos rfl]
theorem ri_ins_len : ∀ (T : List (List Nat)) (x : Nat), (ri_ins x T).1.length = T.length
  | [], x => rfl
  | R :: T, x => by
    by_cases e : ri_fa x R = R.length
    · rw [ri_ins_t e]; rfl
    · rw [ri_ins_f e]
      dsimp only
      rw [List.length_cons, List.length_cons, ri_ins_len T]
theorem ri_ln_ins : ∀ (T : List (List Nat)) (x : Nat), [] ∈ T → (ri_ins x T).2 < T.length ∧ ri_ln (ri_ins x T).1 = (ri_ln T).set (ri_ins x T).2 (ri_g (ri_ln T) (ri_ins x T).2 + 1)
  | [], x, h => absurd h List.not_mem_nil
  | R :: T, x, he => by
    by_cases e : ri_fa x R = R.length
    · rw [ri_ins_t e]
      refine ⟨by rw [List.length_cons]; exact Nat.succ_pos _, ?_⟩
      show (R ++ [x]).length :: ri_ln T = (R.length + 1) :: ri_ln T
      rw [List.length_append]; rfl
    · obtain ⟨i1, i2⟩ := ri_ln_ins T (ri_g R (ri_fa x R)) (ri_nil_tl he e)
      rw [ri_ins_f e]
      refine ⟨by rw [List.length_cons]; exact Nat.succ_lt_succ i1, ?_⟩
      show (R.set (ri_fa x R) x).length :: ri_ln (ri_ins (ri_g R (ri_fa x R)) T).1 = R.length :: (ri_ln T).set (ri_ins (ri_g R (ri_fa x R)) T).2 (ri_g (ri_ln T) (ri_ins (ri_g R (ri_fa x R)) T).2 + 1)
      rw [ri_len_set, i2]
theorem ri_rev_len : ∀ (T : List (List Nat)) (k : Nat), (ri_rev k T).1.length = T.length
  | [], 0 => rfl
  | [], k + 1 => rfl
  | R :: T, 0 => by rw [ri_rev_0]; rfl
  | R :: T, k + 1 => by
    rw [ri_rev_s]
    dsimp only
    rw [List.length_cons, List.length_cons, ri_rev_len T k]
theorem ri_ln_rev : ∀ (T : List (List Nat)) (k : Nat), ri_ln (ri_rev k T).1 = (ri_ln T).set k (ri_g (ri_ln T) k - 1)
  | [], 0 => rfl
  | [], k + 1 => rfl
  | R :: T, 0 => by
    rw [ri_rev_0]
    show R.dropLast.length :: ri_ln T = (R.length - 1) :: ri_ln T
    rw [List.length_dropLast]
  | R :: T, k + 1 => by
    rw [ri_rev_s]
    show (R.set (ri_lb (ri_rev k T).2 R) (ri_rev k T).2).length :: ri_ln (ri_rev k T).1 = R.length :: (ri_ln T).set k (ri_g (ri_ln T) k - 1)
    rw [ri_len_set, ri_ln_rev T k]
theorem ri_sum_set : ∀ (l : List Nat) (k v : Nat), k < l.length → (l.set k v).sum + ri_g l k = l.sum + v
  | [], k, v, h => absurd h (by simp)
  | a :: l, 0, v, h => by
    show v + l.sum + a = a + l.sum + v
    omega
  | a :: l, k + 1, v, h => by
    have := ri_sum_set l k v (by simpa using h)
    show a + (l.set k v).sum + ri_g l k = a + l.sum + v
    omega
theorem ri_empty : ∀ T : List (List Nat), (ri_ln T).sum < T.length → [] ∈ T
  | [], h => absurd h (by simp)
  | R :: T, h => by
    cases R with
    | nil => exact List.mem_cons_self
    | cons a R =>
      have h' : (R.length + 1) + (ri_ln T).sum < T.length + 1 := h
      exact List.mem_cons_of_mem _ (ri_empty T (by omega))
/-- what a row gives up when a cell below or of it is taken off -/
def ri_gv (S S' : List Nat) (y : Nat) : Prop := ∃ c, c < S.length ∧ ri_g S c = y ∧ S'.length ≤ S.length ∧ (∀ j, j < S'.length → ri_g S j ≤ ri_g S' j) ∧ ∀ j, c ≤ j → j < S'.length → y < ri_g S' j
theorem ri_gv_up {R S S' : List Nat} {y : Nat} (h1 : ri_srt R) (h2 : ri_ab R S) (h : ri_gv S S' y) :
    0 < R.length ∧ ri_g R 0 < y ∧ ri_ab (R.set (ri_lb y R) y) S' ∧ ri_gv R (R.set (ri_lb y R) y) (ri_g R (ri_lb y R)) := by
  obtain ⟨c, c1, c2, c3, c4, c5⟩ := h
  obtain ⟨l, a⟩ := h2
  have hy : ri_g R c < y := by have := a c c1; omega
  have h0 : ri_g R 0 < y := by
    rcases Nat.eq_zero_or_pos c with z | z
    · rw [z] at hy; exact hy
    · have := h1 0 c z (by omega); omega
  have hl : 0 < R.length := by omega
  have hb := ri_lb_lt (x := y) hl
  have hlo := ri_lb_lo h0
  have hcc : c ≤ ri_lb y R := by
    rcases Nat.lt_or_ge (ri_lb y R) c with z | z
    · have := ri_lb_hi z (by omega); omega
    · exact z
  refine ⟨hl, h0, ⟨by rw [ri_len_set]; omega, fun j hj => ?_⟩, ri_lb y R, hb, rfl, by rw [ri_len_set]; exact Nat.le_refl _, fun j hj => ?_, fun j hj hl2 => ?_⟩
  · rw [ri_g_set hb]
    by_cases e : j = ri_lb y R
    · rw [if_pos e]; exact c5 j (by omega) hj
    · rw [if_neg e]
      have := a j (by omega)
      have := c4 j hj
      omega
  · rw [ri_g_set hb]
    by_cases e : j = ri_lb y R
    · rw [if_pos e, e]; omega
    · rw [if_neg e]; exact Nat.le_refl _
  · rw [ri_len_set] at hl2
    rw [ri_g_set hb]
    by_cases e : j = ri_lb y R
    · rw [if_pos e]; exact hlo
    · rw [if_neg e]
      have := ri_lb_hi (x := y) (R := R) (j := j) (by omega) hl2
      omega
/-- a row whose last cell has nothing below it -/
def ri_cor (l : List Nat) (r : Nat) : Bool := decide (ri_g l (r + 1) < ri_g l r)
theorem ri_rev_ok : ∀ (T : List (List Nat)) (k : Nat), ri_ss T → ri_cor (ri_ln T) k = true → ri_ss (ri_rev k T).1 ∧ ri_ins (ri_rev k T).2 (ri_rev k T).1 = (T, k) ∧ ri_gv (ri_hd T) (ri_hd (ri_rev k T).1) (ri_rev k T).2
  | [], k, _, h => by
    have h' : ri_g [] (k + 1) < ri_g [] k := of_decide_eq_true h
    rw [ri_g_ge (Nat.zero_le _), ri_g_ge (Nat.zero_le _)] at h'
    omega
  | R :: T, 0, hs, h => by
    obtain ⟨h1, h2, h3⟩ := hs
    have h' : ri_g (ri_ln T) 0 < R.length := of_decide_eq_true h
    have hh : ri_g (ri_ln T) 0 = (ri_hd T).length := by cases T <;> rfl
    rw [hh] at h'
    rw [ri_rev_0]
    dsimp only
    refine ⟨⟨ri_srt_drop h1, ⟨by rw [List.length_dropLast]; omega, fun c hc => ?_⟩, h3⟩, ?_, R.length - 1, ?_, rfl, ?_, fun j hj => ?_, fun j hj hl => ?_⟩
    · rw [ri_g_drop (by omega)]; exact h2.2 c hc
    · rw [ri_ins_t (ri_fa_drop h1 (by omega)), ri_drop_app (by omega)]
    · show R.length - 1 < R.length
      omega
    · show R.dropLast.length ≤ R.length
      rw [List.length_dropLast]; omega
    · have hj' : j < R.dropLast.length := hj
      rw [List.length_dropLast] at hj'
      show ri_g R j ≤ ri_g R.dropLast j
      rw [ri_g_drop hj']; exact Nat.le_refl _
    · have hl' : j < R.dropLast.length := hl
      rw [List.length_dropLast] at hl'
      omega
  | R :: T, k + 1, hs, h => by
    obtain ⟨h1, h2, h3⟩ := hs
    obtain ⟨i1, i2, i3⟩ := ri_rev_ok T k h3 h
    obtain ⟨g1, g2, g3, g4⟩ := ri_gv_up h1 h2 i3
    have hb := ri_back h1 g1 g2
    have hl := ri_lb_lt (x := (ri_rev k T).2) g1
    rw [ri_rev_s]
    dsimp only
    refine ⟨⟨hb.1, g3, i1⟩, ?_, g4⟩
    rw [ri_ins_f (by rw [hb.2, ri_len_set]; omega), hb.2, ri_set_set hl, ri_g_set hl, if_pos rfl, i2]
/-- all entries are below 8 -/
def ri_sm : List (List Nat) → Prop
  | [] => True
  | R :: T => (∀ j, ri_g R j < 8) ∧ ri_sm T
theorem ri_b_set {R : List Nat} {c x : Nat} (h : ∀ j, ri_g R j < 8) (hx : x < 8) (j : Nat) : ri_g (R.set c x) j < 8 := by
  by_cases hc : c < R.length
  · rw [ri_g_set hc]
    split
    · exact hx
    · exact h j
  · rw [List.set_eq_of_length_le (by omega)]
    exact h j
theorem ri_sm_ins : ∀ (T : List (List Nat)) (x : Nat), ri_sm T → x < 8 → ri_sm (ri_ins x T).1
  | [], x, _, _ => trivial
  | R :: T, x, hs, hx => by
    obtain ⟨h1, h2⟩ := hs
    by_cases e : ri_fa x R = R.length
    · rw [ri_ins_t e]
      refine ⟨fun j => ?_, h2⟩
      rw [ri_g_app]
      split
      · exact hx
      · exact h1 j
    · rw [ri_ins_f e]
      exact ⟨ri_b_set h1 hx, ri_sm_ins T _ h2 (h1 _)⟩
theorem ri_sm_rev : ∀ (T : List (List Nat)) (k : Nat), ri_sm T → ri_sm (ri_rev k T).1 ∧ (ri_rev k T).2 < 8
  | [], 0, _ => ⟨trivial, by decide⟩
  | [], k + 1, _ => ⟨trivial, show 0 < 8 by decide⟩
  | R :: T, 0, hs => by
    obtain ⟨h1, h2⟩ := hs
    rw [ri_rev_0]
    refine ⟨⟨fun j => ?_, h2⟩, h1 _⟩
    by_cases h : j < R.length - 1
    · rw [ri_g_drop h]; exact h1 j
    · rw [ri_g_ge (by rw [List.length_dropLast]; omega)]; decide
  | R :: T, k + 1, hs => by
    obtain ⟨h1, h2⟩ := hs
    obtain ⟨i1, i2⟩ := ri_sm_rev T k h2
    rw [ri_rev_s]
    exact ⟨⟨ri_b_set h1 i2, i1⟩, h1 _⟩
end
section
/-! part 03: the words with given rows; codes; a sorted list of codes -/
def ri_tab (ws : List Nat) : List (List Nat) := ws.foldl (fun T x => (ri_ins x T).1) (List.replicate 7 [])
theorem ri_tab_snoc (ws : List Nat) (x : Nat) : ri_tab (ws ++ [x]) = (ri_ins x (ri_tab ws)).1 := by
  unfold ri_tab
  rw [List.foldl_append]
  rfl
/-- seven good rows of n letters -/
def ri_ok (T : List (List Nat)) (n : Nat) : Prop := ri_ss T ∧ ri_sm T ∧ T.length = 7 ∧ (ri_ln T).sum = n
theorem ri_cor_lt {l : List Nat} {k : Nat} (h : ri_cor l k = true) : k < l.length ∧ 0 < ri_g l k ∧ ri_g l (k + 1) < ri_g l k := by
  have h' : ri_g l (k + 1) < ri_g l k := of_decide_eq_true h
  refine ⟨?_, by omega, h'⟩
  rcases Nat.lt_or_ge k l.length with z | z
  · exact z
  · rw [ri_g_ge z] at h'
    omega
theorem ri_ok_ins {T : List (List Nat)} {n x : Nat} (h : ri_ok T n) (hn : n < 7) (hx : x < 8) : ri_ok (ri_ins x T).1 (n + 1) ∧ [] ∈ T := by
  obtain ⟨h1, h2, h3, h4⟩ := h
  have he := ri_empty T (by omega)
  obtain ⟨i1, i2⟩ := ri_ln_ins T x he
  refine ⟨⟨ri_ss_ins T x h1 he, ri_sm_ins T x h2 hx, by rw [ri_ins_len]; exact h3, ?_⟩, he⟩
  have := ri_sum_set (ri_ln T) (ri_ins x T).2 (ri_g (ri_ln T) (ri_ins x T).2 + 1) (by rw [ri_ln_len]; exact i1)
  rw [i2]
  omega
theorem ri_ok_rev {T : List (List Nat)} {n k : Nat} (h : ri_ok T (n + 1)) (hc : ri_cor (ri_ln T) k = true) : ri_ok (ri_rev k T).1 n := by
  obtain ⟨h1, h2, h3, h4⟩ := h
  obtain ⟨c1, c2, _⟩ := ri_cor_lt hc
  refine ⟨(ri_rev_ok T k h1 hc).1, (ri_sm_rev T k h2).1, by rw [ri_rev_len]; exact h3, ?_⟩
  have := ri_sum_set (ri_ln T) k (ri_g (ri_ln T) k - 1) c1
  rw [ri_ln_rev]
  omega
theorem ri_ss_rep : ∀ n, ri_ss (List.replicate n [])
  | 0 => trivial
  | n + 1 => ⟨ri_srt_nil, by cases n <;> exact ⟨Nat.le_refl 0, fun c hc => absurd hc (Nat.not_lt_zero c)⟩, ri_ss_rep n⟩
theorem ri_sm_rep : ∀ n, ri_sm (List.replicate n [])
  | 0 => trivial
  | n + 1 => ⟨fun j => by rw [ri_g_ge (Nat.zero_le _)]; decide, ri_sm_rep n⟩
theorem ri_ok_0 : ri_ok (List.replicate 7 []) 0 := ⟨ri_ss_rep 7, ri_sm_rep 7, rfl, rfl⟩
theorem ri_snoc {ws : List Nat} {n : Nat} (h : ws.length = n + 1) : ∃ u x, ws = u ++ [x] ∧ u.length = n ∧ x = ri_g ws n := by
  refine ⟨ws.dropLast, ri_g ws (ws.length - 1), (ri_drop_app (by omega)).symm, by rw [List.length_dropLast]; omega, by rw [h]; rfl⟩
/-- letters below 8 -/
def ri_let (ws : List Nat) : Prop := ∀ j, ri_g ws j < 8
theorem ri_let_l {u : List Nat} {x : Nat} (h : ri_let (u ++ [x])) : ri_let u ∧ x < 8 := by
  refine ⟨fun j => ?_, ?_⟩
  · by_cases e : j = u.length
    · rw [ri_g_ge (by omega)]; decide
    · have := h j
      rwa [ri_g_app, if_neg e] at this
  · have := h u.length
    rwa [ri_g_app, if_pos rfl] at this
theorem ri_let_snoc {u : List Nat} {x : Nat} (h : ri_let u) (hx : x < 8) : ri_let (u ++ [x]) := by
  intro j
  rw [ri_g_app]
  split
  · exact hx
  · exact h j
theorem ri_ok_tab : ∀ (n : Nat) (ws : List Nat), ws.length = n → n ≤ 7 → ri_let ws → ri_ok (ri_tab ws) n
  | 0, ws, h, _, _ => by
    have : ws = [] := List.eq_nil_of_length_eq_zero h
    subst this
    exact ri_ok_0
  | n + 1, ws, h, hn, hl => by
    obtain ⟨u, x, e, hu, _⟩ := ri_snoc h
    subst e
    obtain ⟨l1, l2⟩ := ri_let_l hl
    rw [ri_tab_snoc]
    exact (ri_ok_ins (ri_ok_tab n u hu (by omega) l1) (by omega) l2).1
theorem ri_dec : ∀ (T : List (List Nat)) (k : Nat), ri_ss T → ri_g (ri_ln T) (k + 1) ≤ ri_g (ri_ln T) k
  | [], k, _ => by
    show ri_g [] (k + 1) ≤ _
    rw [ri_g_ge (Nat.zero_le _)]; exact Nat.zero_le _
  | R :: T, 0, h => by
    have hh : ri_g (ri_ln T) 0 = (ri_hd T).length := by cases T <;> rfl
    show ri_g (ri_ln T) 0 ≤ R.length
    rw [hh]
    exact h.2.1.1
  | R :: T, k + 1, h => ri_dec T k h.2.2
/-- all words of n letters with rows T -/
def ri_words : Nat → List (List Nat) → List (List Nat)
  | 0, _ => [[]]
  | n + 1, T => (List.range' 0 7).flatMap (fun r => if ri_cor (ri_ln T) r = true then (ri_words n (ri_rev r T).1).map (fun u => u ++ [(ri_rev r T).2]) else [])
theorem ri_words_in {n : Nat} {T : List (List Nat)} {w : List Nat} : w ∈ ri_words (n + 1) T ↔ ∃ r, ri_cor (ri_ln T) r = true ∧ r < 7 ∧ ∃ u, u ∈ ri_words n (ri_rev r T).1 ∧ w = u ++ [(ri_rev r T).2] := by
  rw [ri_words, List.mem_flatMap]
  constructor
  · rintro ⟨r, hr, h⟩
    rw [List.mem_range'_1] at hr
    split at h
    · rename_i hc
      obtain ⟨u, hu, e⟩ := List.mem_map.mp h
      exact ⟨r, hc, by omega, u, hu, e.symm⟩
    · exact absurd h List.not_mem_nil
  · rintro ⟨r, hc, hr, u, hu, e⟩
    refine ⟨r, List.mem_range'_1.mpr (by omega), ?_⟩
    rw [if_pos hc]
    exact List.mem_map.mpr ⟨u, hu, e.symm⟩
theorem ri_mem_words : ∀ (n : Nat) (ws : List Nat), ws.length = n → n ≤ 7 → ri_let ws → ws ∈ ri_words n (ri_tab ws)
  | 0, ws, h, _, _ => by
    have : ws = [] := List.eq_nil_of_length_eq_zero h
    subst this
    exact List.mem_singleton.mpr rfl
  | n + 1, ws, h, hn, hl => by
    obtain ⟨u, x, e, hu, _⟩ := ri_snoc h
    subst e
    obtain ⟨l1, l2⟩ := ri_let_l hl
    have ok := ri_ok_tab n u hu (by omega) l1
    have ih := ri_mem_words n u hu (by omega) l1
    obtain ⟨_, he⟩ := ri_ok_ins ok (by omega) l2
    obtain ⟨i1, i2⟩ := ri_ln_ins (ri_tab u) x he
    have hr := ri_ins_rev (ri_tab u) x ok.1 he
    rw [ri_tab_snoc]
    refine ri_words_in.mpr ⟨(ri_ins x (ri_tab u)).2, ?_, by have := ok.2.2.1; omega, u, ?_, ?_⟩
    · have hd := ri_dec (ri_tab u) (ri_ins x (ri_tab u)).2 ok.1
      rw [i2]
      refine decide_eq_true ?_
      rw [ri_g_set (by rw [ri_ln_len]; exact i1), ri_g_set (by rw [ri_ln_len]; exact i1), if_pos rfl, if_neg (by omega)]
      omega
    · rw [hr]; exact ih
    · rw [hr]
theorem ri_words_ok : ∀ (n : Nat) (T : List (List Nat)), ri_ok T n → ∀ u, u ∈ ri_words n T → ri_tab u = T ∧ u.length = n ∧ ri_let u
  | 0, T, h, u, hu => by
    have : u = [] := List.mem_singleton.mp hu
    subst this
    obtain ⟨_, _, h3, h4⟩ := h
    refine ⟨?_, rfl, fun j => by rw [ri_g_ge (Nat.zero_le _)]; decide⟩
    have key : ∀ T : List (List Nat), (ri_ln T).sum = 0 → List.replicate T.length [] = T := by
      intro T
      induction T with
      | nil => intro _; rfl
      | cons R T ih =>
        intro h
        have h' : R.length + (ri_ln T).sum = 0 := h
        have hR : R = [] := List.eq_nil_of_length_eq_zero (by omega)
        rw [List.length_cons, List.replicate_succ, ih (by omega), hR]
    have k := key T h4
    rw [h3] at k
    exact k
  | n + 1, T, h, w, hw => by
    obtain ⟨r, hc, hr, u, hu, e⟩ := ri_words_in.mp hw
    obtain ⟨i1, i2, i3⟩ := ri_words_ok n _ (ri_ok_rev h hc) u hu
    subst e
    refine ⟨?_, by rw [List.length_append, i2]; rfl, ri_let_snoc i3 (ri_sm_rev T r h.2.1).2⟩
    rw [ri_tab_snoc, i1, (ri_rev_ok T r h.1 hc).2.1]
theorem ri_words_nodup : ∀ (n : Nat) (T : List (List Nat)), ri_ok T n → (ri_words n T).Nodup
  | 0, T, h => by
    show List.Nodup [[]]
    exact List.nodup_cons.mpr ⟨List.not_mem_nil, List.nodup_nil⟩
  | n + 1, T, h => by
    rw [ri_words, List.nodup_iff_pairwise_ne, List.pairwise_flatMap]
    constructor
    · intro r _
      split
      · rename_i hc
        rw [List.pairwise_map]
        exact List.Pairwise.imp (fun hn z => hn (List.append_cancel_right z)) (ri_words_nodup n _ (ri_ok_rev h hc))
      · exact List.Pairwise.nil
    · refine List.Pairwise.imp ?_ (List.nodup_iff_pairwise_ne.mp (List.nodup_range' (s := 0) (n := 7)))
      intro r s hrs x hx y hy e
      split at hx
      · rename_i hc
        split at hy
        · rename_i hd
          obtain ⟨u, hu, eu⟩ := List.mem_map.mp hx
          obtain ⟨v, hv, ev⟩ := List.mem_map.mp hy
          have t : u = v := (List.append_inj' (eu.trans (e.trans ev.symm)) rfl).1
          obtain ⟨i1, _, _⟩ := ri_words_ok n _ (ri_ok_rev h hc) u hu
          obtain ⟨j1, _, _⟩ := ri_words_ok n _ (ri_ok_rev h hd) v hv
          rw [t] at i1
          have q := congrArg (fun T => ri_g (ri_ln T) r) (i1.symm.trans j1)
          obtain ⟨c1, c2, _⟩ := ri_cor_lt hc
          obtain ⟨d1, d2, _⟩ := ri_cor_lt hd
          rw [ri_ln_rev, ri_ln_rev, ri_g_set c1, ri_g_set d1, if_pos rfl, if_neg hrs] at q
          omega
        · exact absurd hy List.not_mem_nil
      · exact absurd hx List.not_mem_nil
/-- how many words, by the lengths alone -/
def ri_paths : Nat → List Nat → Nat
  | 0, _ => 1
  | n + 1, l => ((List.range' 0 7).map (fun r => if ri_cor l r = true then ri_paths n (l.set r (ri_g l r - 1)) else 0)).sum
theorem ri_words_len : ∀ (n : Nat) (T : List (List Nat)), (ri_words n T).length = ri_paths n (ri_ln T)
  | 0, T => rfl
  | n + 1, T => by
    rw [ri_words, ri_paths, List.length_flatMap]
    refine congrArg List.sum (List.map_congr_left (fun r _ => ?_))
    by_cases hc : ri_cor (ri_ln T) r = true
    · rw [if_pos hc, if_pos hc, List.length_map, ri_words_len n, ri_ln_rev]
    · rw [if_neg hc, if_neg hc]; rfl
def ri_code (u : List Nat) : Nat := u.foldl (fun a x => 8 * a + x) 0
theorem ri_code_snoc (u : List Nat) (x : Nat) : ri_code (u ++ [x]) = 8 * ri_code u + x := by
  unfold ri_code
  rw [List.foldl_append]
  rfl
theorem ri_code_inj : ∀ (n : Nat) (u v : List Nat), u.length = n → v.length = n → ri_let u → ri_let v → ri_code u = ri_code v → u = v
  | 0, u, v, hu, hv, _, _, _ => by rw [List.eq_nil_of_length_eq_zero hu, List.eq_nil_of_length_eq_zero hv]
  | n + 1, u, v, hu, hv, bu, bv, e => by
    obtain ⟨u', x, eu, lu, _⟩ := ri_snoc hu
    obtain ⟨v', y, ev, lv, _⟩ := ri_snoc hv
    subst eu ev
    obtain ⟨b1, b2⟩ := ri_let_l bu
    obtain ⟨d1, d2⟩ := ri_let_l bv
    rw [ri_code_snoc, ri_code_snoc] at e
    rw [ri_code_inj n u' v' lu lv b1 d1 (by omega), show x = y by omega]
theorem ri_code_lt : ∀ (n : Nat) (u : List Nat), u.length = n → ri_let u → ri_code u < 8 ^ n
  | 0, u, h, _ => by rw [List.eq_nil_of_length_eq_zero h]; decide
  | n + 1, u, h, b => by
    obtain ⟨u', x, eu, lu, _⟩ := ri_snoc h
    subst eu
    obtain ⟨b1, b2⟩ := ri_let_l b
    have := ri_code_lt n u' lu b1
    rw [ri_code_snoc, Nat.pow_succ]
    omega
/-- the place where a code goes, of the places up to k -/
def ri_pos (c : Nat) (a : List Nat) : Nat → Nat
  | 0 => 0
  | k + 1 => if ri_g a k ≤ c then k + 1 else ri_pos c a k
def ri_put (c : Nat) (a : List Nat) : List Nat := a.take (ri_pos c a a.length) ++ c :: a.drop (ri_pos c a a.length)
theorem ri_pos_le (c : Nat) (a : List Nat) : ∀ k, ri_pos c a k ≤ k
  | 0 => Nat.le_refl 0
  | k + 1 => by
    have := ri_pos_le c a k
    unfold ri_pos
    split <;> omega
theorem ri_pos_hi (c : Nat) (a : List Nat) : ∀ k j, ri_pos c a k ≤ j → j < k → c < ri_g a j
  | 0, j, _, h => absurd h (Nat.not_lt_zero j)
  | k + 1, j, h, h2 => by
    unfold ri_pos at h
    split at h
    · omega
    · by_cases e : j = k
      · subst e; omega
      · exact ri_pos_hi c a k j h (by omega)
theorem ri_pos_lo (c : Nat) (a : List Nat) : ∀ k, 0 < ri_pos c a k → ri_g a (ri_pos c a k - 1) ≤ c
  | 0, h => absurd h (by unfold ri_pos; omega)
  | k + 1, h => by
    unfold ri_pos at h ⊢
    split
    · simpa using by assumption
    · rename_i hn
      rw [if_neg hn] at h
      exact ri_pos_lo c a k h
theorem ri_put_len (c : Nat) (a : List Nat) : (ri_put c a).length = a.length + 1 := by
  have := ri_pos_le c a a.length
  unfold ri_put
  rw [List.length_append, List.length_take, List.length_cons, List.length_drop]
  omega
theorem ri_g_put (c : Nat) (a : List Nat) (j : Nat) (hj : j < a.length + 1) : ri_g (ri_put c a) j = if j < ri_pos c a a.length then ri_g a j else if j = ri_pos c a a.length then c else ri_g a (j - 1) := by
  have hp := ri_pos_le c a a.length
  have hl : (a.take (ri_pos c a a.length)).length = ri_pos c a a.length := by rw [List.length_take]; omega
  unfold ri_put ri_g
  by_cases h : j < ri_pos c a a.length
  · rw [if_pos h, List.getElem?_append_left (by omega), List.getElem?_take_of_lt h]
  · rw [if_neg h, List.getElem?_append_right (by omega), hl]
    by_cases e : j = ri_pos c a a.length
    · rw [if_pos e, e, Nat.sub_self]; rfl
    · rw [if_neg e, show j - ri_pos c a a.length = (j - 1 - ri_pos c a a.length) + 1 by omega, List.getElem?_cons_succ, List.getElem?_drop, show ri_pos c a a.length + (j - 1 - ri_pos c a a.length) = j - 1 by omega]
theorem ri_put_mem (c : Nat) (a : List Nat) (z : Nat) : z ∈ ri_put c a ↔ z = c ∨ z ∈ a := by
  unfold ri_put
  rw [List.mem_append, List.mem_cons]
  conv => rhs; rw [← List.take_append_drop (ri_pos c a a.length) a, List.mem_append]
  constructor
  · rintro (h | h | h)
    · exact Or.inr (Or.inl h)
    · exact Or.inl h
    · exact Or.inr (Or.inr h)
  · rintro (h | h | h)
    · exact Or.inr (Or.inl h)
    · exact Or.inl h
    · exact Or.inr (Or.inr h)
/-- rising strictly -/
def ri_si (a : List Nat) : Prop := ∀ i j, i < j → j < a.length → ri_g a i < ri_g a j
theorem ri_si_put {c : Nat} {a : List Nat} (h : ri_si a) (hc : c ∉ a) : ri_si (ri_put c a) := by
  have hp := ri_pos_le c a a.length
  have lo : ∀ i, i < ri_pos c a a.length → ri_g a i < c := by
    intro i hi
    have h1 := ri_pos_lo c a a.length (by omega)
    have h2 : ri_g a i ≠ c := fun z => hc (z ▸ ri_g_mem (by omega))
    by_cases e : i = ri_pos c a a.length - 1
    · rw [← e] at h1; omega
    · have := h i _ (show i < ri_pos c a a.length - 1 by omega) (by omega)
      omega
  have hi : ∀ j, ri_pos c a a.length ≤ j → j < a.length → c < ri_g a j := ri_pos_hi c a a.length
  intro i j hij hj
  rw [ri_put_len] at hj
  rw [ri_g_put c a i (by omega), ri_g_put c a j hj]
  by_cases e1 : i < ri_pos c a a.length
  · rw [if_pos e1]
    by_cases e2 : j < ri_pos c a a.length
    · rw [if_pos e2]; exact h i j hij (by omega)
    · rw [if_neg e2]
      by_cases e3 : j = ri_pos c a a.length
      · rw [if_pos e3]; exact lo i e1
      · rw [if_neg e3]
        have := lo i e1
        have := hi (j - 1) (by omega) (by omega)
        omega
  · rw [if_neg e1, if_neg (show ¬ j < ri_pos c a a.length by omega), if_neg (show ¬ j = ri_pos c a a.length by omega)]
    by_cases e3 : i = ri_pos c a a.length
    · rw [if_pos e3]; exact hi (j - 1) (by omega) (by omega)
    · rw [if_neg e3]; exact h (i - 1) (j - 1) (by omega) (by omega)
theorem ri_puts : ∀ (cs a : List Nat), ri_si a → cs.Nodup → (∀ c, c ∈ cs → c ∉ a) → ri_si (cs.foldl (fun a c => ri_put c a) a) ∧ (cs.foldl (fun a c => ri_put c a) a).length = a.length + cs.length ∧ ∀ z, z ∈ cs.foldl (fun a c => ri_put c a) a ↔ z ∈ a ∨ z ∈ cs
  | [], a, h, _, _ => ⟨h, rfl, fun z => ⟨fun t => Or.inl t, fun t => t.elim id (fun q => absurd q List.not_mem_nil)⟩⟩
  | c :: cs, a, h, hn, hd => by
    obtain ⟨n1, n2⟩ := List.nodup_cons.mp hn
    obtain ⟨i1, i2, i3⟩ := ri_puts cs (ri_put c a) (ri_si_put h (hd c List.mem_cons_self)) n2 (fun d hd' z => by
      rcases (ri_put_mem c a d).mp z with q | q
      · subst q; exact n1 hd'
      · exact hd d (List.mem_cons_of_mem _ hd') q)
    refine ⟨i1, by rw [List.foldl_cons, i2, ri_put_len, List.length_cons]; omega, fun z => ?_⟩
    rw [List.foldl_cons, i3, ri_put_mem, List.mem_cons]
    constructor
    · rintro ((q | q) | q)
      · exact Or.inr (Or.inl q)
      · exact Or.inl q
      · exact Or.inr (Or.inr q)
    · rintro (q | q | q)
      · exact Or.inl (Or.inr q)
      · exact Or.inl (Or.inl q)
      · exact Or.inr q
/-- the codes of all words with the rows of ws, in order -/
def ri_K (ws : List Nat) : List Nat := (ri_words ws.length (ri_tab ws)).foldl (fun a u => ri_put (ri_code u) a) []
theorem ri_K_ok {ws : List Nat} (hn : ws.length ≤ 7) (hl : ri_let ws) : ri_si (ri_K ws) ∧ (ri_K ws).length = ri_paths ws.length (ri_ln (ri_tab ws)) ∧ ri_code ws ∈ ri_K ws ∧ ∀ z, z ∈ ri_K ws → z < 2 ^ 21 := by
  have ok := ri_ok_tab ws.length ws rfl hn hl
  have hw := ri_words_ok ws.length (ri_tab ws) ok
  have e : ri_K ws = ((ri_words ws.length (ri_tab ws)).map ri_code).foldl (fun a c => ri_put c a) [] := by
    unfold ri_K
    rw [List.foldl_map]
  have nd : ((ri_words ws.length (ri_tab ws)).map ri_code).Nodup := by
    rw [List.nodup_iff_pairwise_ne, List.pairwise_map]
    refine List.Pairwise.imp_of_mem ?_ (List.nodup_iff_pairwise_ne.mp (ri_words_nodup ws.length _ ok))
    intro u v hu hv hne z
    obtain ⟨_, u1, u2⟩ := hw u hu
    obtain ⟨_, v1, v2⟩ := hw v hv
    exact hne (ri_code_inj ws.length u v u1 v1 u2 v2 z)
  obtain ⟨p1, p2, p3⟩ := ri_puts _ [] (fun i j _ h => absurd h (Nat.not_lt_zero j)) nd (fun c _ => List.not_mem_nil)
  rw [← e] at p1 p2 p3
  refine ⟨p1, ?_, ?_, fun z hz => ?_⟩
  · rw [p2, List.length_map, ri_words_len]
    simp
  · exact (p3 _).mpr (Or.inr (List.mem_map.mpr ⟨ws, ri_mem_words ws.length ws rfl hn hl, rfl⟩))
  · rcases (p3 z).mp hz with q | q
    · exact absurd q List.not_mem_nil
    · obtain ⟨u, hu, eu⟩ := List.mem_map.mp q
      obtain ⟨_, u1, u2⟩ := hw u hu
      have := ri_code_lt ws.length u u1 u2
      have h8 : 8 ^ ws.length ≤ 8 ^ 7 := Nat.pow_le_pow_right (by decide) hn
      rw [← eu]
      exact Nat.lt_of_lt_of_le this h8
end
section
/-! part 04: the lengths alone: 45 shapes; the loops over them, as the code runs them -/
def ri_parts : Nat → Nat → Nat → List (List Nat)
  | 0, _, _ => [[]]
  | k + 1, m, s => (List.range' 0 (min m s + 1)).flatMap (fun a => (ri_parts k a (s - a)).map (fun l => a :: l))
theorem ri_mem_parts : ∀ (T : List (List Nat)) (m s : Nat), ri_ss T → (ri_hd T).length ≤ m → (ri_ln T).sum ≤ s → ri_ln T ∈ ri_parts T.length m s
  | [], m, s, _, _, _ => List.mem_singleton.mpr rfl
  | R :: T, m, s, h, hm, hs => by
    have hs' : R.length + (ri_ln T).sum ≤ s := hs
    have hm' : R.length ≤ m := hm
    rw [List.length_cons, ri_parts, List.mem_flatMap]
    exact ⟨R.length, List.mem_range'_1.mpr (by omega), List.mem_map.mpr ⟨ri_ln T, ri_mem_parts T R.length (s - R.length) h.2.2 h.2.1.1 (by omega), rfl⟩⟩
theorem ri_shape {T : List (List Nat)} {n : Nat} (h : ri_ok T n) (hn : n ≤ 7) : ri_ln T ∈ ri_parts 7 7 7 := by
  obtain ⟨h1, _, h3, h4⟩ := h
  have hh : (ri_hd T).length ≤ (ri_ln T).sum := by
    cases T with
    | nil => exact Nat.zero_le _
    | cons R T => exact Nat.le_add_right R.length (ri_ln T).sum
  have := ri_mem_parts T 7 7 h1 (by omega) (by omega)
  rwa [h3] at this
def ri_risF (l : List Nat) : Nat → Nat → Nat → Nat
  | 0, _, acc => acc
  | k + 1, q, acc => ri_risF l k (q + 1) (acc + ri_g l q)
def ri_ris (l : List Nat) (k : Nat) : Nat := ri_risF l k 0 0
def ri_falF (l : List Nat) (m : Nat) : Nat → Nat → Nat → Nat
  | 0, _, acc => acc
  | k + 1, q, acc => ri_falF l m k (q + 1) (if m ≤ ri_g l q then acc + m else acc + ri_g l q)
def ri_fal (l : List Nat) (m : Nat) : Nat := ri_falF l m 7 0 0
def ri_hkF (l : List Nat) (c : Nat) : Nat → Nat → Nat → Nat
  | 0, _, acc => acc
  | k + 1, q, acc => ri_hkF l c k (q + 1) (if ri_g l q ≤ c then acc else acc + 1)
def ri_hk (l : List Nat) (r c : Nat) : Nat := ri_hkF l c (6 - r) (r + 1) (ri_g l r - c)
def ri_knF (l : List Nat) : Nat → Nat → Nat → Nat → Nat → Nat × Nat
  | 0, _, w, h, _ => (w, h)
  | k + 1, i, w, h, t => if ri_g l (i / 7) ≤ i % 7 then ri_knF l k (i + 1) w h t else ri_knF l k (i + 1) (w * (t + 1)) (h * ri_hk l (i / 7) (i % 7)) (t + 1)
def ri_kn (l : List Nat) : Nat × Nat := ri_knF l 49 0 1 1 0
def ri_kin (l : List Nat) : Nat := (ri_kn l).1 / (ri_kn l).2
/-- the law's own count -/
def ri_ro (l : List Nat) (i : Nat) : Nat := if i = 0 then ri_g l 0 else if i = 1 then ri_g l 1 else if i = 2 then ri_g l 2 else 1
def ri_hcF (l : List Nat) (j : Nat) : Nat → Nat → Nat → Nat
  | 0, _, acc => acc
  | k + 1, q, acc => ri_hcF l j k (q + 1) (if ri_ro l q ≤ j then acc else acc + 1)
def ri_hL (l : List Nat) (rows i j : Nat) : Int32 := (((nI (ri_ro l i) - nI j) + nI (ri_hcF l j rows 0 0)) - nI i) - 1
def ri_pjF (l : List Nat) (rows i : Nat) : Nat → Nat → Int32 → Int32
  | 0, _, p => p
  | k + 1, j, p => ri_pjF l rows i k (j + 1) (p * ri_hL l rows i j)
def ri_piF (l : List Nat) (rows : Nat) : Nat → Nat → Int32 → Int32
  | 0, _, p => p
  | k + 1, i, p => ri_piF l rows k (i + 1) (ri_pjF l rows i (ri_ro l i) 0 p)
def ri_allF : Nat → Nat → Nat → Nat
  | 0, _, acc => acc
  | k + 1, i, acc => ri_allF k (i + 1) (acc * i)
/-- the steps of the search -/
def ri_cost : Nat → List Nat → Nat
  | 0, _ => 1
  | n + 1, l => ((List.range' 0 7).map (fun r => if ri_cor l r = true then ri_cost n (l.set r (ri_g l r - 1)) + 1 else 1)).sum + 1
theorem ri_s_len : ∀ l, l ∈ ri_parts 7 7 7 → l.length = 7 ∧ l.sum ≤ 7 ∧ ri_g l 0 ≤ 7 ∧ ri_g l 1 ≤ ri_g l 0 ∧ ri_g l 2 ≤ ri_g l 1 ∧ ri_g l 3 ≤ ri_g l 2 ∧ ri_g l 4 ≤ ri_g l 3 ∧ ri_g l 5 ≤ ri_g l 4 ∧ ri_g l 6 ≤ ri_g l 5 := by decide +kernel
theorem ri_s_kn : ∀ l, l ∈ ri_parts 7 7 7 → (ri_kn l).1 < 2 ^ 31 ∧ 0 < (ri_kn l).2 ∧ (ri_kn l).2 < 2 ^ 31 := by decide +kernel
theorem ri_s_sum : ∀ l, l ∈ ri_parts 7 7 7 → ri_g l 0 + ri_g l 1 + ri_g l 2 + (if ri_fal l 1 ≤ 3 then 0 else ri_fal l 1 - 3) = l.sum ∧ ri_fal l 1 ≤ 7 := by decide +kernel
theorem ri_s_pos : ∀ l, l ∈ ri_parts 7 7 7 → (ri_fal l 1 ≤ 0 ↔ ri_g l 0 ≤ 0) ∧ (ri_fal l 1 ≤ 1 ↔ ri_g l 1 ≤ 0) ∧ (ri_fal l 1 ≤ 2 ↔ ri_g l 2 ≤ 0) := by decide +kernel
theorem ri_s_cnt : ∀ l, l ∈ ri_parts 7 7 7 → ¬ ri_piF l (ri_fal l 1) (ri_fal l 1) 0 1 = 0 ∧ nI (ri_allF (l.sum - 1) 2 1) / ri_piF l (ri_fal l 1) (ri_fal l 1) 0 1 = nI (ri_kin l) := by decide +kernel
theorem ri_s_col : ∀ l, l ∈ ri_parts 7 7 7 → ri_fal l 2 = ri_fal l 1 + ((if ri_g l 0 ≤ 1 then 0 else 1) + (if ri_g l 1 ≤ 1 then 0 else 1) + (if ri_g l 2 ≤ 1 then 0 else 1)) ∧ ri_fal l 3 = ri_fal l 2 + ((if ri_g l 0 ≤ 2 then 0 else 1) + (if ri_g l 1 ≤ 2 then 0 else 1) + (if ri_g l 2 ≤ 2 then 0 else 1)) ∧ ri_fal l 0 = 0 := by decide +kernel
theorem ri_s_paths : ∀ l, l ∈ ri_parts 7 7 7 → ri_paths l.sum l = ri_kin l ∧ ri_kin l < 64 := by decide +kernel
theorem ri_s_cost : ∀ l, l ∈ ri_parts 7 7 7 → ri_cost l.sum l < 2000 := by decide +kernel
theorem ri_s_step : ∀ l, l ∈ ri_parts 7 7 7 → ∀ k, k < 7 → ri_fal l 1 ≤ ri_fal (l.set k (ri_g l k + 1)) 1 ∧ ri_fal (l.set k (ri_g l k + 1)) 1 ≤ ri_fal l 1 + 1 := by decide +kernel
theorem ri_s_g {l : List Nat} (h : l ∈ ri_parts 7 7 7) (r : Nat) : ri_g l r ≤ 7 := by
  obtain ⟨h0, _, h2, h3, h4, h5, h6, h7, h8⟩ := ri_s_len l h
  rcases Nat.lt_or_ge r 7 with z | z
  · have : r = 0 ∨ r = 1 ∨ r = 2 ∨ r = 3 ∨ r = 4 ∨ r = 5 ∨ r = 6 := by omega
    rcases this with e | e | e | e | e | e | e <;> subst e <;> omega
  · rw [ri_g_ge (by omega)]; omega
end
section
/-! part 05: the methods that only read; the law's own methods -/
theorem ri_i7 (w q : Nat) : 7 * nI w + nI q = nI (7 * w + q) := by
  rw [show (7 : Int32) = nI 7 from rfl, pk_mul, nI_add]
theorem ri_i49 (w r c : Nat) : 49 * nI w + 7 * nI r + nI c = nI (49 * w + 7 * r + c) := by
  rw [show (7 : Int32) = nI 7 from rfl, show (49 : Int32) = nI 49 from rfl, pk_mul, pk_mul, nI_add, nI_add]
theorem ri_j49 (w c : Nat) : 49 * nI w + nI c = nI (49 * w + c) := by
  rw [show (49 : Int32) = nI 49 from rfl, pk_mul, nI_add]
/-- the lengths of word w -/
def ri_lm (a4 : Nat → Int32) (w : Nat) (l : List Nat) : Prop := ∀ r, r < 7 → a4 (7 * w + r) = nI (ri_g l r)
theorem ri_bad {post : Int32 → Prop} {u : St2} {w : Nat} (hw : w < 2) (h : post 0) : wpX_badWord post u (nI w) := by
  obtain ⟨f, a1, a2, a3, a4, a5, a6, a7, a8, a9⟩ := u
  exact pk_lt w 0 (fun z => absurd z (by omega)) (fun _ => pk_le w 1 (fun _ => h) (fun z => absurd z (by omega)))
section
variable {post : Int32 → Prop} {f : Int32} {a1 a2 a3 a4 a5 a6 a7 a8 a9 : Nat → Int32} {w : Nat} {l : List Nat}
theorem ri_rising_24 {m : Nat} (hw : w < 2) (hm : m ≤ 3) (hl : ri_lm a4 w l) : ∀ (k q acc : Nat), q + k = m → post (nI (ri_risF l k q acc)) → wX_rising_24 post (nI w) (nI m) f a1 a2 a3 a4 a5 a6 a7 a8 a9 (k + 1) (nI acc) (nI q)
  | 0, q, acc, h, hp => pk_le m q (fun _ => hp) (fun z => absurd z (by omega))
  | k + 1, q, acc, h, hp => pk_le m q (fun z => absurd z (by omega)) (fun _ => ⟨pk_in (7 * w + q) 14 (by omega) (ri_i7 w q), nm_r (by rw [pk_cl (7 * w + q) (ri_i7 w q), hl q (by omega), nI_add]) (nm_r (nI_1 q) (ri_rising_24 hw hm hl k (q + 1) (acc + ri_g l q) (by omega) hp))⟩)
theorem ri_rising {m : Nat} (hw : w < 2) (hm : m ≤ 3) (hl : ri_lm a4 w l) (hp : post (nI (ri_ris l m))) : wpX_rising post (f, a1, a2, a3, a4, a5, a6, a7, a8, a9) (nI w) (nI m) := by
  unfold wpX_rising
  exact ri_bad hw (br_t rfl (pk_lt m 0 (fun z => absurd z (by omega)) (fun _ => pk_le m 3 (fun _ => ⟨m + 1, ri_rising_24 hw hm hl m 0 0 (by omega) hp⟩) (fun z => absurd z (by omega)))))
theorem ri_falling_24 {m : Nat} (hw : w < 2) (hm : m ≤ 3) (hb : ∀ r, ri_g l r ≤ 7) (hl : ri_lm a4 w l) : ∀ (k q acc : Nat), q + k = 7 → post (nI (ri_falF l m k q acc)) → wX_falling_24 post (nI w) (nI m) f a1 a2 a3 a4 a5 a6 a7 a8 a9 (k + 1) (nI acc) (nI q)
  | 0, q, acc, h, hp => pk_le 7 q (fun _ => hp) (fun z => absurd z (by omega))
  | k + 1, q, acc, h, hp => pk_le 7 q (fun z => absurd z (by omega)) (fun _ => ⟨pk_in (7 * w + q) 14 (by omega) (ri_i7 w q), nm_r (by rw [pk_cl (7 * w + q) (ri_i7 w q), hl q (by omega)]) (by
      have hb' := hb q
      rw [ri_falF] at hp
      exact pk_le m (ri_g l q) (fun z => nm_r (nI_add acc m) (nm_r (nI_1 q) (ri_falling_24 hw hm hb hl k (q + 1) _ (by omega) (by rw [if_pos z] at hp; exact hp)))) (fun z => nm_r (nI_add acc _) (nm_r (nI_1 q) (ri_falling_24 hw hm hb hl k (q + 1) _ (by omega) (by rw [if_neg (by omega)] at hp; exact hp)))))⟩)
theorem ri_falling {m : Nat} (hw : w < 2) (hm : m ≤ 3) (hb : ∀ r, ri_g l r ≤ 7) (hl : ri_lm a4 w l) (hp : post (nI (ri_fal l m))) : wpX_falling post (f, a1, a2, a3, a4, a5, a6, a7, a8, a9) (nI w) (nI m) := by
  unfold wpX_falling
  exact ri_bad hw (br_t rfl (pk_lt m 0 (fun z => absurd z (by omega)) (fun _ => pk_le m 3 (fun _ => ⟨8, ri_falling_24 hw hm hb hl 7 0 0 (by omega) hp⟩) (fun z => absurd z (by omega)))))
theorem ri_hook_20 {c : Nat} (hw : w < 2) (hc : c ≤ 7) (hb : ∀ r, ri_g l r ≤ 7) (hl : ri_lm a4 w l) : ∀ (k q acc : Nat), q + k = 7 → post (nI (ri_hkF l c k q acc)) → wX_hook_20 post (nI w) (nI c) f a1 a2 a3 a4 a5 a6 a7 a8 a9 (k + 1) (nI acc) (nI q)
  | 0, q, acc, h, hp => pk_le 7 q (fun _ => hp) (fun z => absurd z (by omega))
  | k + 1, q, acc, h, hp => pk_le 7 q (fun z => absurd z (by omega)) (fun _ => ⟨pk_in (7 * w + q) 14 (by omega) (ri_i7 w q), by
      have hb' := hb q
      have e : a4 (7 * nI w + nI q).toNatClampNeg = nI (ri_g l q) := by rw [pk_cl (7 * w + q) (ri_i7 w q), hl q (by omega)]
      rw [ri_hkF] at hp
      exact pk_le (ri_g l q) c (fun z => nm_r (nI_1 q) (ri_hook_20 hw hc hb hl k (q + 1) _ (by omega) (by rw [if_pos z] at hp; exact hp))) (fun z => nm_r (nI_1 acc) (nm_r (nI_1 q) (ri_hook_20 hw hc hb hl k (q + 1) _ (by omega) (by rw [if_neg (by omega)] at hp; exact hp)))) e⟩)
theorem ri_hook {r c : Nat} (hw : w < 2) (hr : r < 7) (hc : c ≤ ri_g l r) (hb : ∀ r, ri_g l r ≤ 7) (hl : ri_lm a4 w l) (hp : post (nI (ri_hk l r c))) : wpX_hook post (f, a1, a2, a3, a4, a5, a6, a7, a8, a9) (nI w) (nI r) (nI c) := by
  have hb' := hb r
  refine ⟨pk_in (7 * w + r) 14 (by omega) (ri_i7 w r), nm_r ?_ (nm_r (nI_1 r) ⟨6 - r + 1, ri_hook_20 hw (by omega) hb hl (6 - r) (r + 1) (ri_g l r - c) (by omega) hp⟩)⟩
  rw [pk_cl (7 * w + r) (ri_i7 w r), hl r hr, pk_sub hc]
theorem ri_kin_20 (hw : w < 2) (hb : ∀ r, ri_g l r ≤ 7) (hl : ri_lm a4 w l) : ∀ (k i v h t : Nat), i + k = 49 → (∀ p, p = ri_knF l k i v h t → (p.1 < 2 ^ 31 ∧ 0 < p.2 ∧ p.2 < 2 ^ 31) ∧ post (nI (p.1 / p.2))) → wX_kin_20 post (nI w) f a1 a2 a3 a4 a5 a6 a7 a8 a9 (k + 1) (nI v) (nI h) (nI t) (nI i)
  | 0, i, v, h, t, hi, hp => by
    obtain ⟨⟨b1, b2, b3⟩, hp⟩ := hp _ rfl
    rw [ri_knF] at b1 b2 b3 hp
    refine pk_le 49 i (fun _ => ?_) (fun z => absurd z (by omega))
    refine pk_le h 0 (fun z => absurd z (by dsimp only at b2; omega)) (fun _ => ⟨nI_ne0 b2 b3, ?_⟩) rfl rfl b3 (by decide)
    rw [pk_div b1 b2 b3]
    exact hp
  | k + 1, i, v, h, t, hi, hp => by
    refine pk_le 49 i (fun z => absurd z (by omega)) (fun _ => ⟨by decide, nm_r (pk_div (a := i) (d := 7) (by omega) (by decide) (by decide)) ⟨by decide, nm_r (pk_rem (a := i) (d := 7) (by omega) (by decide) (by decide)) ⟨pk_in (7 * w + i / 7) 14 (by omega) (ri_i7 w (i / 7)), ?_⟩⟩⟩)
    have hb' := hb (i / 7)
    have e : a4 (7 * nI w + nI (i / 7)).toNatClampNeg = nI (ri_g l (i / 7)) := by rw [pk_cl (7 * w + i / 7) (ri_i7 w (i / 7)), hl (i / 7) (by omega)]
    rw [ri_knF] at hp
    refine pk_le (ri_g l (i / 7)) (i % 7) (fun z => nm_r (nI_1 i) (ri_kin_20 hw hb hl k (i + 1) v h t (by omega) (by rw [if_pos z] at hp; exact hp))) (fun z => nm_r (nI_1 t) (nm_r (pk_mul v (t + 1)) (ri_hook (r := i / 7) (c := i % 7) hw (by omega) (by omega) hb hl ?_))) e
    rw [if_neg (by omega)] at hp
    exact nm_r (pk_mul h _) (nm_r (nI_1 i) (ri_kin_20 hw hb hl k (i + 1) _ _ (t + 1) (by omega) hp))
theorem ri_wkin (hw : w < 2) (hs : l ∈ ri_parts 7 7 7) (hl : ri_lm a4 w l) (hp : post (nI (ri_kin l))) : wpX_kin post (f, a1, a2, a3, a4, a5, a6, a7, a8, a9) (nI w) := by
  unfold wpX_kin
  exact ri_bad hw (br_t rfl ⟨50, ri_kin_20 hw (ri_s_g hs) hl 49 0 1 1 0 (by omega) (fun p hpe => by subst hpe; exact ⟨ri_s_kn l hs, hp⟩)⟩)
theorem ri_take_s {ws : List Nat} {q : Nat} (h : q < ws.length) : ws.take (q + 1) = ws.take q ++ [ri_g ws q] := by
  rw [ri_g_lt h]
  exact List.take_succ_eq_append_getElem h
theorem ri_code_14 {ws : List Nat} (hw : w < 2) (hn : ws.length ≤ 7) (h1 : a1 w = nI ws.length) (h2 : ∀ i, i < ws.length → a2 (7 * w + i) = nI (ri_g ws i)) (hp : post (nI (ri_code ws))) : ∀ (k q : Nat), q + k = ws.length → wX_code_14 post (nI w) f a1 a2 a3 a4 a5 a6 a7 a8 a9 (k + 1) (nI (ri_code (ws.take q))) (nI q)
  | 0, q, h => by
    refine ⟨pk_in w 2 hw, ?_⟩
    have e : a1 (nI w).toNatClampNeg = nI ws.length := by rw [nI_clamp (by omega), h1]
    exact pk_le ws.length q (fun _ => by rw [List.take_of_length_le (by omega)]; exact hp) (fun z => absurd z (by omega)) e
  | k + 1, q, h => by
    refine ⟨pk_in w 2 hw, ?_⟩
    have e : a1 (nI w).toNatClampNeg = nI ws.length := by rw [nI_clamp (by omega), h1]
    refine pk_le ws.length q (fun z => absurd z (by omega)) (fun _ => ⟨pk_in (7 * w + q) 14 (by omega) (ri_i7 w q), nm_r ?_ (nm_r (nI_1 q) (ri_code_14 hw hn h1 h2 hp k (q + 1) (by omega)))⟩) e
    rw [pk_cl (7 * w + q) (ri_i7 w q), h2 q (by omega), ri_take_s (by omega), ri_code_snoc, show (8 : Int32) = nI 8 from rfl, pk_mul, nI_add]
theorem ri_wcode {ws : List Nat} (hw : w < 2) (hn : ws.length ≤ 7) (h1 : a1 w = nI ws.length) (h2 : ∀ i, i < ws.length → a2 (7 * w + i) = nI (ri_g ws i)) (hp : post (nI (ri_code ws))) : wpX_code post (f, a1, a2, a3, a4, a5, a6, a7, a8, a9) (nI w) := by
  unfold wpX_code
  exact ri_bad hw (br_t rfl ⟨ws.length + 1, ri_code_14 hw hn h1 h2 hp ws.length 0 (by omega)⟩)
theorem ri_at {x k : Int32} (h : ∀ j, 1 ≤ j → j ≤ 7 → post (nI j)) : wpL_at post () x k := by
  obtain ⟨j, hj, e⟩ := pk_andE (x >>> ((3 * k) &&& 31)) (m := 7) 3 (by decide)
  unfold wpL_at
  rw [e]
  refine ⟨by decide, ?_⟩
  have e2 : nI j - nI j / 7 * 7 = nI (j % 7) := pk_rem (by omega) (by decide) (by decide)
  rw [e2, show (1 : Int32) = nI 1 from rfl, nI_add]
  exact h _ (by omega) (by omega)
theorem ri_cell {L : Nat} {xs : Nat → Int32} {k : Nat} (hL : L ≤ 6) (hk : k < 6) (h : ∀ x, post x) : wpL_cellAt post L xs () (nI k) :=
  pk_le L k (fun _ => h _) (fun z => ⟨pk_in k L z, h _⟩)
end
/-! the law's count -/
section
variable {post : Int32 → Prop} {l : List Nat}
theorem ri_h74 {J : Int32 → Int32 → Prop} {x0 x1 x2 x3 x4 x6 : Int32} {j c q z : Nat} (hj : j ≤ 7) (hz : z ≤ 7) (h1 : z ≤ j → J (nI c) (nI (q + 1))) (h2 : j < z → J (nI (c + 1)) (nI (q + 1))) : wL_hook_74 post J x0 x1 x2 x3 x4 (nI j) x6 (nI c) (nI q) (nI z) :=
  pk_le z j (fun h => nm_r (nI_1 q) (h1 h)) (fun h => nm_r (nI_1 c) (nm_r (nI_1 q) (h2 h)))
theorem ri_ro_le (hb : ∀ r, ri_g l r ≤ 7) (i : Nat) : ri_ro l i ≤ 7 := by
  unfold ri_ro
  split
  · exact hb 0
  · split
    · exact hb 1
    · split
      · exact hb 2
      · omega
theorem ri_h38 {rows i j : Nat} {row : Int32} (hr : rows ≤ 7) (hj : j ≤ 7) (hb : ∀ r, ri_g l r ≤ 7) : ∀ (k q c : Nat), q + k = rows → post ((((row - nI j) + nI (ri_hcF l j k q c)) - nI i) - 1) → wL_hook_38 post (nI (ri_g l 0)) (nI (ri_g l 1)) (nI (ri_g l 2)) (nI rows) (nI i) (nI j) row (k + 1) (nI c) (nI q)
  | 0, q, c, h, hp => pk_le rows q (fun _ => hp) (fun z => absurd z (by omega))
  | k + 1, q, c, h, hp => by
    have b0 := hb 0
    have b1 := hb 1
    have b2 := hb 2
    rw [ri_hcF] at hp
    have key : ∀ z, z ≤ 7 → z = ri_ro l q → wL_hook_74 post (wL_hook_38 post (nI (ri_g l 0)) (nI (ri_g l 1)) (nI (ri_g l 2)) (nI rows) (nI i) (nI j) row (k + 1)) (nI (ri_g l 0)) (nI (ri_g l 1)) (nI (ri_g l 2)) (nI rows) (nI i) (nI j) row (nI c) (nI q) (nI z) := by
      intro z hz e
      refine ri_h74 hj hz (fun t => ri_h38 hr hj hb k (q + 1) c (by omega) ?_) (fun t => ri_h38 hr hj hb k (q + 1) (c + 1) (by omega) ?_)
      · rw [← e, if_pos t] at hp; exact hp
      · rw [← e, if_neg (by omega)] at hp; exact hp
    refine pk_le rows q (fun z => absurd z (by omega)) (fun _ => pk_eq q 0 (fun z => key _ b0 ?_) (fun z0 => pk_eq q 1 (fun z => key _ b1 ?_) (fun z1 => pk_eq q 2 (fun z => key _ b2 ?_) (fun z2 => key 1 (by omega) ?_))))
    · unfold ri_ro; rw [if_pos z]
    · unfold ri_ro; rw [if_neg z0, if_pos z]
    · unfold ri_ro; rw [if_neg z0, if_neg z1, if_pos z]
    · unfold ri_ro; rw [if_neg z0, if_neg z1, if_neg z2]
theorem ri_hookL {rows i j : Nat} (hr : rows ≤ 7) (hi : i ≤ 7) (hj : j ≤ 7) (hb : ∀ r, ri_g l r ≤ 7) (hp : post (ri_hL l rows i j)) : wpL_hook post () (nI (ri_g l 0)) (nI (ri_g l 1)) (nI (ri_g l 2)) (nI rows) (nI i) (nI j) := by
  have key : ∀ z : Int32, z = nI (ri_ro l i) → ∃ n, wL_hook_38 post (nI (ri_g l 0)) (nI (ri_g l 1)) (nI (ri_g l 2)) (nI rows) (nI i) (nI j) z n 0 0 := by
    intro z e
    subst e
    exact ⟨rows + 1, ri_h38 hr hj hb rows 0 0 (by omega) hp⟩
  refine pk_eq i 0 (fun z => key _ ?_) (fun z0 => pk_eq i 1 (fun z => key _ ?_) (fun z1 => pk_eq i 2 (fun z => key _ ?_) (fun z2 => key _ ?_)))
  · unfold ri_ro; rw [if_pos z]
  · unfold ri_ro; rw [if_neg z0, if_pos z]
  · unfold ri_ro; rw [if_neg z0, if_neg z1, if_pos z]
  · unfold ri_ro; rw [if_neg z0, if_neg z1, if_neg z2]; rfl
theorem ri_c73 {J : Int32 → Int32 → Prop} {x6 : Int32} {rows i : Nat} (hr : rows ≤ 7) (hi : i ≤ 7) (hb : ∀ r, ri_g l r ≤ 7) : ∀ (k j : Nat) (p : Int32), j + k = ri_ro l i → J (ri_pjF l rows i k j p) (nI (i + 1)) → wL_count_73 post J (nI (ri_g l 0)) (nI (ri_g l 1)) (nI (ri_g l 2)) (nI rows) x6 (nI i) (nI (ri_ro l i)) (k + 1) p (nI j)
  | 0, j, p, h, hp => by
    have := ri_ro_le hb i
    exact pk_le (ri_ro l i) j (fun _ => nm_r (nI_1 i) hp) (fun z => absurd z (by omega))
  | k + 1, j, p, h, hp => by
    have := ri_ro_le hb i
    rw [ri_pjF] at hp
    exact pk_le (ri_ro l i) j (fun z => absurd z (by omega)) (fun _ => ri_hookL hr hi (by omega) hb (nm_e (nm_r (nI_1 j) (ri_c73 hr hi hb k (j + 1) _ (by omega) hp))))
theorem ri_c32 {x6 : Int32} {rows : Nat} (hr : rows ≤ 7) (hb : ∀ r, ri_g l r ≤ 7) : ∀ (k i : Nat) (p : Int32), i + k = rows → (¬ ri_piF l rows k i p = 0 ∧ post (x6 / ri_piF l rows k i p)) → wL_count_32 post (nI (ri_g l 0)) (nI (ri_g l 1)) (nI (ri_g l 2)) (nI rows) x6 (k + 1) p (nI i)
  | 0, i, p, h, hp => pk_le rows i (fun _ => hp) (fun z => absurd z (by omega))
  | k + 1, i, p, h, hp => by
    rw [ri_piF] at hp
    have key : ∀ z : Int32, z = nI (ri_ro l i) → ∃ n, wL_count_73 post (wL_count_32 post (nI (ri_g l 0)) (nI (ri_g l 1)) (nI (ri_g l 2)) (nI rows) x6 (k + 1)) (nI (ri_g l 0)) (nI (ri_g l 1)) (nI (ri_g l 2)) (nI rows) x6 (nI i) z n p 0 := by
      intro z e
      subst e
      exact ⟨ri_ro l i + 1, ri_c73 hr (by omega) hb (ri_ro l i) 0 p (by omega) (ri_c32 hr hb k (i + 1) _ (by omega) hp)⟩
    refine pk_le rows i (fun z => absurd z (by omega)) (fun _ => pk_eq i 0 (fun z => key _ ?_) (fun z0 => pk_eq i 1 (fun z => key _ ?_) (fun z1 => pk_eq i 2 (fun z => key _ ?_) (fun z2 => key _ ?_))))
    · unfold ri_ro; rw [if_pos z]
    · unfold ri_ro; rw [if_neg z0, if_pos z]
    · unfold ri_ro; rw [if_neg z0, if_neg z1, if_pos z]
    · unfold ri_ro; rw [if_neg z0, if_neg z1, if_neg z2]; rfl
theorem ri_c9 {rows n : Nat} (hr : rows ≤ 7) (hn : n ≤ 7) (hb : ∀ r, ri_g l r ≤ 7) : ∀ (k i acc : Nat), i + k = n + 1 → (¬ ri_piF l rows rows 0 1 = 0 ∧ post (nI (ri_allF k i acc) / ri_piF l rows rows 0 1)) → wL_count_9 post (nI (ri_g l 0)) (nI (ri_g l 1)) (nI (ri_g l 2)) (nI rows) (nI n) 1 (k + 1) (nI acc) (nI i)
  | 0, i, acc, h, hp => pk_lt n i (fun _ => ⟨rows + 1, ri_c32 hr hb rows 0 1 (by omega) hp⟩) (fun z => absurd z (by omega))
  | k + 1, i, acc, h, hp => pk_lt n i (fun z => absurd z (by omega)) (fun _ => nm_r (pk_mul acc i) (nm_r (nI_1 i) (ri_c9 hr hn hb k (i + 1) _ (by omega) hp)))
theorem ri_count {n : Nat} (hs : l ∈ ri_parts 7 7 7) (hn : l.sum = n + 1) (hp : post (nI (ri_kin l))) : wpL_count post () (nI (ri_g l 0)) (nI (ri_g l 1)) (nI (ri_g l 2)) (nI (ri_fal l 1)) (nI (n + 1)) := by
  have h7 := (ri_s_len l hs).2.1
  obtain ⟨c1, c2⟩ := ri_s_cnt l hs
  rw [hn] at c2
  refine ⟨n + 1, ri_c9 (ri_s_sum l hs).2 (by omega) (ri_s_g hs) n 2 1 (by omega) ⟨c1, ?_⟩⟩
  rw [show n = n + 1 - 1 by omega, c2]
  exact hp
end
end
section
/-! part 06: rows in the arrays; insert, rebuild, add, risingOf -/
theorem ri_b8 : ∀ x, x < 128 → (nI x).toInt8.toInt32 = nI x := by decide +kernel
theorem ri_k7 (w : Nat) : 7 * nI w = nI (7 * w) := by
  rw [show (7 : Int32) = nI 7 from rfl, pk_mul]
/-- row r of block k holds R -/
def ri_rm (e l : Nat → Int32) (k r : Nat) (R : List Nat) : Prop := R.length ≤ 7 ∧ l (7 * k + r) = nI R.length ∧ ∀ c, c < R.length → e (49 * k + 7 * r + c) = nI (ri_g R c)
def ri_rs (e l : Nat → Int32) (k : Nat) : Nat → List (List Nat) → Prop
  | _, [] => True
  | r, R :: T => ri_rm e l k r R ∧ ri_rs e l k (r + 1) T
theorem ri_rs_fr {e e' l l' : Nat → Int32} {k : Nat} : ∀ (T : List (List Nat)) (r : Nat), ri_rs e l k r T → (∀ j, 49 * k + 7 * r ≤ j → j < 49 * k + 7 * (r + T.length) → e' j = e j) → (∀ j, 7 * k + r ≤ j → j < 7 * k + (r + T.length) → l' j = l j) → ri_rs e' l' k r T
  | [], r, _, _, _ => trivial
  | R :: T, r, h, he, hl => by
    obtain ⟨⟨h1, h2, h3⟩, h4⟩ := h
    rw [List.length_cons] at he hl
    refine ⟨⟨h1, by rw [hl _ (by omega) (by omega)]; exact h2, fun c hc => by rw [he _ (by omega) (by omega)]; exact h3 c hc⟩, ri_rs_fr T (r + 1) h4 (fun j a b => he j (by omega) (by omega)) (fun j a b => hl j (by omega) (by omega))⟩
theorem ri_rs_len {e l : Nat → Int32} {k : Nat} : ∀ (T : List (List Nat)) (r : Nat), ri_rs e l k r T → ∀ i, i < T.length → l (7 * k + (r + i)) = nI (ri_g (ri_ln T) i)
  | [], r, _, i, hi => absurd hi (Nat.not_lt_zero i)
  | R :: T, r, h, 0, _ => h.1.2.1
  | R :: T, r, h, i + 1, hi => by
    have := ri_rs_len T (r + 1) h.2 i (Nat.lt_of_succ_lt_succ hi)
    rw [show r + 1 + i = r + (i + 1) by omega] at this
    exact this
theorem ri_rs_lm {e l : Nat → Int32} {k : Nat} {T : List (List Nat)} (h : ri_rs e l k 0 T) (h7 : T.length = 7) : ri_lm l k (ri_ln T) := fun r hr => by
  have := ri_rs_len T 0 h r (by omega)
  rwa [Nat.zero_add] at this
theorem ri_rs_0 {e l : Nat → Int32} {k : Nat} : ∀ (n r : Nat), (∀ j, r ≤ j → j < r + n → l (7 * k + j) = nI 0) → ri_rs e l k r (List.replicate n [])
  | 0, r, _ => trivial
  | n + 1, r, h => ⟨⟨Nat.zero_le _, h r (by omega) (by omega), fun c hc => absurd hc (Nat.not_lt_zero c)⟩, ri_rs_0 n (r + 1) (fun j a b => h j (by omega) (by omega))⟩
section
variable {f : Int32} {a1 a2 a3 a4 a5 a6 a7 a8 a9 : Nat → Int32} {w : Nat}
theorem ri_firstAbove_3 {post : Int32 → Prop} {r x : Nat} {R : List Nat} (hw : w < 2) (hr : r < 7) (hm : ri_rm a3 a4 w r R) (hb : ∀ j, ri_g R j < 8) (hx : x < 8) (hp : post (nI (ri_fa x R))) : ∀ (k c : Nat), c + k = ri_fa x R → wX_firstAbove_3 post (nI w) (nI r) (nI x) f a1 a2 a3 a4 a5 a6 a7 a8 a9 (k + 1) (nI c)
  | 0, c, h => by
    obtain ⟨m1, m2, m3⟩ := hm
    have hle := ri_fa_le x R
    have hc : c = ri_fa x R := by omega
    have e4 : a4 (7 * nI w + nI r).toNatClampNeg = nI R.length := by rw [pk_cl (7 * w + r) (ri_i7 w r), m2]
    rw [← hc] at hp
    refine ⟨pk_in (7 * w + r) 14 (by omega) (ri_i7 w r), pk_le R.length c (fun _ => hp) (fun z => ⟨pk_in (49 * w + 7 * r + c) 98 (by omega) (ri_i49 w r c), ?_⟩) e4⟩
    have e3 : a3 (49 * nI w + 7 * nI r + nI c).toNatClampNeg = nI (ri_g R c) := by rw [pk_cl (49 * w + 7 * r + c) (ri_i49 w r c), m3 c z]
    have hc2 := ri_fa_hi x R (by omega)
    rw [← hc] at hc2
    have hbc := hb c
    exact pk_lt x (ri_g R c) (fun _ => hp) (fun y => absurd y (by omega)) rfl e3
  | k + 1, c, h => by
    have ih := ri_firstAbove_3 hw hr hm hb hx hp k (c + 1) (by omega)
    obtain ⟨m1, m2, m3⟩ := hm
    have hle := ri_fa_le x R
    have e4 : a4 (7 * nI w + nI r).toNatClampNeg = nI R.length := by rw [pk_cl (7 * w + r) (ri_i7 w r), m2]
    refine ⟨pk_in (7 * w + r) 14 (by omega) (ri_i7 w r), pk_le R.length c (fun z => absurd z (by omega)) (fun z => ⟨pk_in (49 * w + 7 * r + c) 98 (by omega) (ri_i49 w r c), ?_⟩) e4⟩
    have e3 : a3 (49 * nI w + 7 * nI r + nI c).toNatClampNeg = nI (ri_g R c) := by rw [pk_cl (49 * w + 7 * r + c) (ri_i49 w r c), m3 c z]
    have hc2 := ri_fa_lo x R c (by omega)
    have hbc := hb c
    exact pk_lt x (ri_g R c) (fun y => absurd y (by omega)) (fun _ => nm_r (nI_1 c) ih) rfl e3
theorem ri_firstAbove {post : Int32 → Prop} {r x : Nat} {R : List Nat} (hw : w < 2) (hr : r < 7) (hm : ri_rm a3 a4 w r R) (hb : ∀ j, ri_g R j < 8) (hx : x < 8) (hp : post (nI (ri_fa x R))) : wpX_firstAbove post (f, a1, a2, a3, a4, a5, a6, a7, a8, a9) (nI w) (nI r) (nI x) :=
  ⟨ri_fa x R + 1, ri_firstAbove_3 hw hr hm hb hx hp (ri_fa x R) 0 (by omega)⟩
theorem ri_insert_8 {post : Int32 → St2 → Prop} (hw : w < 2) : ∀ (T : List (List Nat)) (x r : Nat) (a3 a4 : Nat → Int32), r + T.length = 7 → [] ∈ T → (ri_ln T).sum ≤ 6 → ri_rs a3 a4 w r T → x < 8 → ri_sm T →
    (∀ (b3 b4 : Nat → Int32) (row : Nat), ri_rs b3 b4 w r (ri_ins x T).1 → (∀ j, j < 49 * w + 7 * r → b3 j = a3 j) → (∀ j, j < 7 * w + r → b4 j = a4 j) → post (nI row) (f, a1, a2, b3, b4, a5, a6, a7, a8, a9)) →
    wX_insert_8 post (nI w) f (T.length + 1) (nI x) (nI r) 1 a1 a2 a3 a4 a5 a6 a7 a8 a9
  | [], x, r, a3, a4, _, he, _, _, _, _, _ => absurd he List.not_mem_nil
  | R :: T, x, r, a3, a4, hr, he, hs, hm, hx, hsm, H => by
    obtain ⟨⟨p1, p2, p3⟩, m2⟩ := hm
    obtain ⟨s1, s2⟩ := hsm
    have hs' : R.length + (ri_ln T).sum ≤ 6 := hs
    have hfa := ri_fa_le x R
    rw [List.length_cons] at hr ⊢
    have e4 : a4 (7 * nI w + nI r).toNatClampNeg = nI R.length := by rw [pk_cl (7 * w + r) (ri_i7 w r), p2]
    refine br_f (by decide) (pk_le 7 r (fun z => absurd z (by omega)) (fun _ => ri_firstAbove hw (by omega) ⟨p1, p2, p3⟩ s1 hx (nm_r (ri_i49 w r (ri_fa x R)) ⟨pk_in (7 * w + r) 14 (by omega) (ri_i7 w r), ?_⟩)))
    refine pk_eq (ri_fa x R) R.length (fun z => ⟨pk_in (49 * w + 7 * r + ri_fa x R) 98 (by omega), nm_r (e' := upd a3 (49 * w + 7 * r + ri_fa x R) (nI x)) (by rw [nI_clamp (by omega), ri_b8 x (by omega)]) ⟨pk_in (7 * w + r) 14 (by omega) (ri_i7 w r), pk_in (7 * w + r) 14 (by omega) (ri_i7 w r), nm_r (e' := upd a4 (7 * w + r) (nI (R.length + 1))) (by rw [e4, pk_cl (7 * w + r) (ri_i7 w r), nI_1, ri_b8 _ (by omega)]) (br_t rfl ?_)⟩⟩)
      (fun z => ⟨pk_in (49 * w + 7 * r + ri_fa x R) 98 (by omega), nm_r (e' := nI (ri_g R (ri_fa x R))) (by rw [nI_clamp (by omega), p3 _ (by omega)]) ⟨pk_in (49 * w + 7 * r + ri_fa x R) 98 (by omega), nm_r (e' := upd a3 (49 * w + 7 * r + ri_fa x R) (nI x)) (by rw [nI_clamp (by omega), ri_b8 x (by omega)]) (nm_r (nI_1 r) ?_)⟩⟩) rfl e4
    · rw [ri_ins_t z] at H
      refine H _ _ r ⟨⟨by rw [List.length_append]; simp only [List.length_cons, List.length_nil]; omega, by rw [pk_us, List.length_append]; rfl, fun c hc => ?_⟩, ri_rs_fr T (r + 1) m2 (fun j h1 h2 => pk_un (by omega)) (fun j h1 h2 => pk_un (by omega))⟩ (fun j hj => pk_un (by omega)) (fun j hj => pk_un (by omega))
      rw [List.length_append] at hc
      simp only [List.length_cons, List.length_nil] at hc
      rw [ri_g_app]
      by_cases e : c = R.length
      · rw [if_pos e, z, e, pk_us]
      · rw [if_neg e, pk_un (by omega)]
        exact p3 c (by omega)
    · rw [ri_ins_f z] at H
      refine ri_insert_8 hw T (ri_g R (ri_fa x R)) (r + 1) _ a4 (by omega) (ri_nil_tl he z) (by omega) (ri_rs_fr T (r + 1) m2 (fun j h1 h2 => pk_un (by omega)) (fun j h1 h2 => rfl)) (s1 _) s2 ?_
      intro b3 b4 row hb h3 h4
      refine H b3 b4 row ⟨⟨by rw [ri_len_set]; exact p1, by rw [h4 _ (by omega), ri_len_set]; exact p2, fun c hc => ?_⟩, hb⟩ (fun j hj => by rw [h3 j (by omega), pk_un (by omega)]) (fun j hj => h4 j (by omega))
      rw [ri_len_set] at hc
      rw [h3 _ (by omega), ri_g_set (by omega)]
      by_cases e : c = ri_fa x R
      · rw [if_pos e, e, pk_us]
      · rw [if_neg e, pk_un (by omega)]
        exact p3 c hc
theorem ri_insert {post : Int32 → St2 → Prop} {T : List (List Nat)} {n x : Nat} (hw : w < 2) (hT : ri_ok T n) (hn : n < 7) (hx : x < 8) (hm : ri_rs a3 a4 w 0 T)
    (H : ∀ (b3 b4 : Nat → Int32) (row : Nat), ri_rs b3 b4 w 0 (ri_ins x T).1 → post (nI row) (f, a1, a2, b3, b4, a5, a6, a7, a8, a9)) :
    wpX_insert post (f, a1, a2, a3, a4, a5, a6, a7, a8, a9) (nI w) (nI x) := by
  obtain ⟨h1, h2, h3, h4⟩ := hT
  exact ⟨T.length + 1, ri_insert_8 hw T x 0 a3 a4 (by omega) (ri_empty T (by omega)) (by omega) hm hx h2 (fun b3 b4 row hb _ _ => H b3 b4 row hb)⟩
/-- word w is ws -/
def ri_wm (a1 a2 : Nat → Int32) (w : Nat) (ws : List Nat) : Prop := a1 w = nI ws.length ∧ ∀ i, i < ws.length → a2 (7 * w + i) = nI (ri_g ws i)
theorem ri_add {post : Int32 → St2 → Prop} {ws : List Nat} {x : Nat} (hw : w < 2) (hn : ws.length < 7) (hl : ri_let ws) (hx : 1 ≤ x) (hx7 : x ≤ 7) (hm : ri_wm a1 a2 w ws) (hr : ri_rs a3 a4 w 0 (ri_tab ws))
    (H : ∀ b1 b2 b3 b4 : Nat → Int32, ri_wm b1 b2 w (ws ++ [x]) → ri_rs b3 b4 w 0 (ri_tab (ws ++ [x])) → post (nI (ws.length + 1)) (f, b1, b2, b3, b4, a5, a6, a7, a8, a9)) :
    wpX_add post (f, a1, a2, a3, a4, a5, a6, a7, a8, a9) (nI w) (nI x) := by
  obtain ⟨m1, m2⟩ := hm
  have e1 : a1 (nI w).toNatClampNeg = nI ws.length := by rw [nI_clamp (by omega), m1]
  have ok := ri_ok_tab ws.length ws rfl (by omega) hl
  unfold wpX_add
  refine ri_bad hw (br_t rfl (pk_lt x 1 (fun z => absurd z (by omega)) (fun _ => pk_le x 7 (fun _ => ⟨pk_in w 2 hw, ?_⟩) (fun z => absurd z (by omega)))))
  refine pk_eq ws.length 7 (fun z => absurd z (by omega)) (fun _ => ⟨pk_in w 2 hw, ?_⟩) e1
  have ei : 7 * nI w + a1 (nI w).toNatClampNeg = nI (7 * w + ws.length) := by rw [e1, ri_i7]
  refine ⟨pk_in (7 * w + ws.length) 14 (by omega) ei, nm_r (e' := upd a2 (7 * w + ws.length) (nI x)) (by rw [pk_cl _ ei, ri_b8 x (by omega)]) ⟨pk_in w 2 hw, pk_in w 2 hw, nm_r (e' := upd a1 w (nI (ws.length + 1))) (by rw [e1, nI_clamp (by omega), nI_1, ri_b8 _ (by omega)]) ?_⟩⟩
  refine ri_insert hw ok hn (by omega) hr (fun b3 b4 row hb => ⟨pk_in w 2 hw, ?_⟩)
  rw [nI_clamp (by omega), pk_us]
  rw [← ri_tab_snoc] at hb
  refine H _ _ b3 b4 ⟨by rw [pk_us, List.length_append]; rfl, fun i hi => ?_⟩ hb
  rw [List.length_append] at hi
  simp only [List.length_cons, List.length_nil] at hi
  rw [ri_g_app]
  by_cases e : i = ws.length
  · rw [if_pos e, e, pk_us]
  · rw [if_neg e, pk_un (by omega)]
    exact m2 i (by omega)
theorem ri_let_take {ws : List Nat} (h : ri_let ws) (n : Nat) : ri_let (ws.take n) := by
  intro j
  unfold ri_g
  rcases Nat.lt_or_ge j n with z | z
  · rw [List.getElem?_take_of_lt z]; exact h j
  · rw [List.getElem?_eq_none (by rw [List.length_take]; omega)]; decide
theorem ri_reb28 {post : St2 → Prop} {ws : List Nat} {n : Nat} (hw : w < 2) (hn : n ≤ ws.length) (h7 : ws.length ≤ 7) (hl : ri_let ws) (hm : ri_wm a1 a2 w ws)
    (H : ∀ b3 b4 : Nat → Int32, ri_rs b3 b4 w 0 (ri_tab (ws.take n)) → post (f, a1, a2, b3, b4, a5, a6, a7, a8, a9)) : ∀ (k i : Nat) (a3 a4 : Nat → Int32), i + k = n → ri_rs a3 a4 w 0 (ri_tab (ws.take i)) → wX_rebuild_28 post (nI w) (nI n) (k + 1) (nI i) f a1 a2 a3 a4 a5 a6 a7 a8 a9
  | 0, i, a3, a4, h, hr => pk_le n i (fun _ => H a3 a4 (by rw [show n = i by omega]; exact hr)) (fun z => absurd z (by omega))
  | k + 1, i, a3, a4, h, hr => by
    have e2 : a2 (7 * nI w + nI i).toNatClampNeg = nI (ri_g ws i) := by rw [pk_cl (7 * w + i) (ri_i7 w i), hm.2 i (by omega)]
    refine pk_le n i (fun z => absurd z (by omega)) (fun _ => ⟨pk_in (7 * w + i) 14 (by omega) (ri_i7 w i), ?_⟩)
    rw [e2]
    refine ri_insert hw (ri_ok_tab i (ws.take i) (by rw [List.length_take]; omega) (by omega) (ri_let_take hl i)) (by omega) (hl i) hr (fun b3 b4 row hb => nm_r (nI_1 i) (ri_reb28 hw hn h7 hl hm H k (i + 1) b3 b4 (by omega) ?_))
    rw [ri_take_s (by omega), ri_tab_snoc]
    exact hb
theorem ri_reb2 {post : St2 → Prop} {n : Nat} (hw : w < 2) (H : ∀ b4 : Nat → Int32, (∀ j, j < 7 → b4 (7 * w + j) = nI 0) → ∃ fu, wX_rebuild_28 post (nI w) (nI n) fu 0 f a1 a2 a3 b4 a5 a6 a7 a8 a9) : ∀ (k q : Nat) (a4 : Nat → Int32), q + k = 7 → (∀ j, j < q → a4 (7 * w + j) = nI 0) → wX_rebuild_2 post (nI w) (nI n) f (k + 1) (nI q) a1 a2 a3 a4 a5 a6 a7 a8 a9
  | 0, q, a4, h, hz => pk_le 7 q (fun _ => H a4 (fun j hj => hz j (by omega))) (fun z => absurd z (by omega))
  | k + 1, q, a4, h, hz => by
    refine pk_le 7 q (fun z => absurd z (by omega)) (fun _ => ⟨pk_in (7 * w + q) 14 (by omega) (ri_i7 w q), nm_r (e' := upd a4 (7 * w + q) (nI 0)) (by rw [pk_cl (7 * w + q) (ri_i7 w q)]; rfl) (nm_r (nI_1 q) (ri_reb2 hw H k (q + 1) _ (by omega) (fun j hj => ?_)))⟩)
    by_cases e : j = q
    · rw [e, pk_us]
    · rw [pk_un (by omega)]
      exact hz j (by omega)
theorem ri_rebuild {post : St2 → Prop} {ws : List Nat} {n : Nat} (hw : w < 2) (hn : n ≤ ws.length) (h7 : ws.length ≤ 7) (hl : ri_let ws) (hm : ri_wm a1 a2 w ws)
    (H : ∀ b3 b4 : Nat → Int32, ri_rs b3 b4 w 0 (ri_tab (ws.take n)) → post (f, a1, a2, b3, b4, a5, a6, a7, a8, a9)) : wpX_rebuild post (f, a1, a2, a3, a4, a5, a6, a7, a8, a9) (nI w) (nI n) :=
  ⟨8, ri_reb2 hw (fun b4 hz => ⟨n + 1, ri_reb28 hw hn h7 hl hm H n 0 a3 b4 (by omega) (ri_rs_0 7 0 (fun j _ hj => hz j (by omega)))⟩) 7 0 a4 (by omega) (fun j hj => absurd hj (Nat.not_lt_zero j))⟩
theorem ri_risingOf {post : Int32 → St2 → Prop} {ws : List Nat} {n : Nat} (hw : w < 2) (hn : n ≤ ws.length) (h7 : ws.length ≤ 7) (hl : ri_let ws) (hm : ri_wm a1 a2 w ws)
    (H : ∀ b3 b4 : Nat → Int32, ri_rs b3 b4 w 0 (ri_tab ws) → post (nI (ri_g (ri_ln (ri_tab (ws.take n))) 0)) (f, a1, a2, b3, b4, a5, a6, a7, a8, a9)) : wpX_risingOf post (f, a1, a2, a3, a4, a5, a6, a7, a8, a9) (nI w) (nI n) := by
  have e1 : a1 (nI w).toNatClampNeg = nI ws.length := by rw [nI_clamp (by omega), hm.1]
  unfold wpX_risingOf
  refine ri_bad hw (br_t rfl (pk_lt n 0 (fun z => absurd z (by omega)) (fun _ => ⟨pk_in w 2 hw, pk_le n ws.length (fun _ => ?_) (fun z => absurd z (by omega)) rfl e1⟩)))
  refine ri_rebuild hw hn h7 hl hm (fun b3 b4 hb => ⟨pk_in (7 * w) 14 (by omega) (ri_k7 w), nm_r (e' := nI (ri_g (ri_ln (ri_tab (ws.take n))) 0)) ?_ ⟨pk_in w 2 hw, ?_⟩⟩)
  · have ok := ri_ok_tab n (ws.take n) (by rw [List.length_take]; omega) (by omega) (ri_let_take hl n)
    rw [pk_cl (7 * w) (ri_k7 w)]
    exact ri_rs_lm hb ok.2.2.1 0 (by omega)
  · rw [e1]
    refine ri_rebuild hw (Nat.le_refl _) h7 hl hm (fun c3 c4 hc => H c3 c4 ?_)
    rwa [List.take_length] at hc
end
end
section
/-! part 07: levels: startLevels, isCorner, lastBelow, takeOff, keepCode -/
theorem ri_fill {b F : Nat → Int32} {base q : Nat} {v : Int32} (h : ∀ j, j < q → b (base + j) = F j) (hv : v = F q) : ∀ j, j < q + 1 → upd b (base + q) v (base + j) = F j := by
  intro j hj
  by_cases e : j = q
  · rw [e, pk_us, hv]
  · rw [pk_un (by omega)]
    exact h j (by omega)
theorem ri_rs_cp {e l e' l' : Nat → Int32} {k k' : Nat} : ∀ (T : List (List Nat)) (r : Nat), ri_sm T → ri_rs e l k r T → (∀ j, 7 * r ≤ j → j < 7 * (r + T.length) → e' (49 * k' + j) = vp_nar .byte (e (49 * k + j))) → (∀ j, r ≤ j → j < r + T.length → l' (7 * k' + j) = vp_nar .byte (l (7 * k + j))) → ri_rs e' l' k' r T
  | [], r, _, _, _, _ => trivial
  | R :: T, r, hs, h, he, hl => by
    obtain ⟨⟨h1, h2, h3⟩, h4⟩ := h
    obtain ⟨s1, s2⟩ := hs
    rw [List.length_cons] at he hl
    refine ⟨⟨h1, ?_, fun c hc => ?_⟩, ri_rs_cp T (r + 1) s2 h4 (fun j a b => he j (by omega) (by omega)) (fun j a b => hl j (by omega) (by omega))⟩
    · rw [hl r (by omega) (by omega), h2, vp_nar_byte, ri_b8 _ (by omega)]
    · have := s1 c
      rw [Nat.add_assoc, he (7 * r + c) (by omega) (by omega), ← Nat.add_assoc, h3 c hc, vp_nar_byte, ri_b8 _ (by omega)]
theorem ri_rs_app {e l : Nat → Int32} {k : Nat} : ∀ (A B : List (List Nat)) (r : Nat), ri_rs e l k r (A ++ B) ↔ ri_rs e l k r A ∧ ri_rs e l k (r + A.length) B
  | [], B, r => ⟨fun h => ⟨trivial, h⟩, fun h => h.2⟩
  | R :: A, B, r => by
    have ih := ri_rs_app (e := e) (l := l) (k := k) A B (r + 1)
    rw [show r + 1 + A.length = r + (R :: A).length by rw [List.length_cons]; omega] at ih
    exact ⟨fun h => ⟨⟨h.1, (ih.mp h.2).1⟩, (ih.mp h.2).2⟩, fun h => ⟨h.1.1, ih.mpr ⟨h.1.2, h.2⟩⟩⟩
theorem ri_sm_app : ∀ (A B : List (List Nat)), ri_sm (A ++ B) ↔ ri_sm A ∧ ri_sm B
  | [], B => ⟨fun h => ⟨trivial, h⟩, fun h => h.2⟩
  | R :: A, B => by
    have ih := ri_sm_app A B
    exact ⟨fun h => ⟨⟨h.1, (ih.mp h.2).1⟩, (ih.mp h.2).2⟩, fun h => ⟨h.1.1, ih.mpr ⟨h.1.2, h.2⟩⟩⟩
/-- the rows above, from the lowest up -/
def ri_up : Nat → List (List Nat) → List (List Nat) × Nat
  | x, [] => ([], x)
  | x, R :: T => (R.set (ri_lb (ri_up x T).2 R) (ri_up x T).2 :: (ri_up x T).1, ri_g R (ri_lb (ri_up x T).2 R))
theorem ri_up_snoc : ∀ (T : List (List Nat)) (R : List Nat) (x : Nat), ri_up x (T ++ [R]) = ((ri_up (ri_g R (ri_lb x R)) T).1 ++ [R.set (ri_lb x R) x], (ri_up (ri_g R (ri_lb x R)) T).2)
  | [], R, x => rfl
  | S :: T, R, x => by
    have ih := ri_up_snoc T R x
    rw [List.cons_append, ri_up, ih, ri_up]
    rfl
theorem ri_rev_up : ∀ (A B : List (List Nat)) (R : List Nat), ri_rev A.length (A ++ R :: B) = ((ri_up (ri_g R (R.length - 1)) A).1 ++ R.dropLast :: B, (ri_up (ri_g R (R.length - 1)) A).2)
  | [], B, R => by
    show ri_rev 0 (R :: B) = _
    rw [ri_rev_0]
    rfl
  | S :: A, B, R => by
    have ih := ri_rev_up A B R
    rw [List.cons_append, List.length_cons, ri_rev_s, ih, ri_up]
    rfl
theorem ri_up_len : ∀ (A : List (List Nat)) (x : Nat), (ri_up x A).1.length = A.length
  | [], x => rfl
  | S :: A, x => by
    rw [ri_up, List.length_cons, List.length_cons, ri_up_len A x]
theorem ri_split : ∀ (T : List (List Nat)) (r : Nat), r < T.length → ∃ A R B, T = A ++ R :: B ∧ A.length = r
  | [], r, h => absurd h (Nat.not_lt_zero r)
  | R :: T, 0, _ => ⟨[], R, T, rfl, rfl⟩
  | S :: T, r + 1, h => by
    obtain ⟨A, R, B, e, hl⟩ := ri_split T r (Nat.lt_of_succ_lt_succ h)
    exact ⟨S :: A, R, B, by rw [e]; rfl, by rw [List.length_cons, hl]⟩
theorem ri_ln_at : ∀ (A B : List (List Nat)) (R : List Nat), ri_g (ri_ln (A ++ R :: B)) A.length = R.length
  | [], B, R => rfl
  | S :: A, B, R => ri_ln_at A B R
theorem ri_ss_top : ∀ (A B : List (List Nat)) (R : List Nat), ri_ss (A ++ R :: B) → 0 < R.length → (∀ S, S ∈ A → 0 < S.length) ∧ 0 < (ri_hd (A ++ R :: B)).length
  | [], B, R, _, h => ⟨fun S hS => absurd hS List.not_mem_nil, h⟩
  | S :: A, B, R, hs, h => by
    obtain ⟨h1, h2, h3⟩ := hs
    obtain ⟨i1, i2⟩ := ri_ss_top A B R h3 h
    have hS : 0 < S.length := Nat.lt_of_lt_of_le i2 h2.1
    refine ⟨fun Q hQ => ?_, hS⟩
    rcases List.mem_cons.mp hQ with z | z
    · rw [z]; exact hS
    · exact i1 Q z
theorem ri_snocT : ∀ (A : List (List Nat)) (n : Nat), A.length = n + 1 → ∃ B R, A = B ++ [R] ∧ B.length = n
  | [], n, h => absurd h (by simp)
  | [R], n, h => ⟨[], R, rfl, by simp at h; exact h.symm⟩
  | S :: R :: A, n, h => by
    cases n with
    | zero => simp at h
    | succ n =>
      obtain ⟨B, Q, e, hl⟩ := ri_snocT (R :: A) n (by simpa using h)
      exact ⟨S :: B, Q, by rw [e]; rfl, by rw [List.length_cons, hl]⟩
section
variable {f : Int32} {a1 a2 a3 a4 a5 a6 a7 a8 a9 : Nat → Int32} {w : Nat}
theorem ri_start45 {post : St2 → Prop} {n : Nat} (hw : w < 2) (hn : n ≤ 7) (H : ∀ b6 : Nat → Int32, (∀ j, j < 7 → b6 (7 * n + j) = vp_nar .byte (a4 (7 * w + j))) → post (0, a1, a2, a3, a4, a5, b6, upd a7 n 0, a8, a9)) : ∀ (k q : Nat) (a6 : Nat → Int32), q + k = 7 → (∀ j, j < q → a6 (7 * n + j) = vp_nar .byte (a4 (7 * w + j))) → wX_startLevels_45 post (nI w) (nI n) f (k + 1) (nI q) a1 a2 a3 a4 a5 a6 a7 a8 a9
  | 0, q, a6, h, hz => pk_le 7 q (fun _ => ⟨pk_in n 8 (by omega), nm_r (e' := upd a7 n 0) (by rw [nI_clamp (by omega)]) (H a6 (fun j hj => hz j (by omega)))⟩) (fun z => absurd z (by omega))
  | k + 1, q, a6, h, hz => pk_le 7 q (fun z => absurd z (by omega)) (fun _ => ⟨pk_in (7 * w + q) 14 (by omega) (ri_i7 w q), pk_in (7 * n + q) 56 (by omega) (ri_i7 n q), nm_r (e' := upd a6 (7 * n + q) (vp_nar .byte (a4 (7 * w + q)))) (by rw [pk_cl _ (ri_i7 w q), pk_cl _ (ri_i7 n q)]) (nm_r (nI_1 q) (ri_start45 hw hn H k (q + 1) _ (by omega) (ri_fill (F := fun j => vp_nar .byte (a4 (7 * w + j))) hz rfl)))⟩)
theorem ri_start9 {post : St2 → Prop} {n : Nat} (hw : w < 2) (hn : n ≤ 7) (H : ∀ b5 : Nat → Int32, (∀ j, j < 49 → b5 (49 * n + j) = vp_nar .byte (a3 (49 * w + j))) → ∃ fu, wX_startLevels_45 post (nI w) (nI n) f fu 0 a1 a2 a3 a4 b5 a6 a7 a8 a9) : ∀ (k q : Nat) (a5 : Nat → Int32), q + k = 49 → (∀ j, j < q → a5 (49 * n + j) = vp_nar .byte (a3 (49 * w + j))) → wX_startLevels_9 post (nI w) (nI n) f (k + 1) (nI q) a1 a2 a3 a4 a5 a6 a7 a8 a9
  | 0, q, a5, h, hz => pk_le 49 q (fun _ => H a5 (fun j hj => hz j (by omega))) (fun z => absurd z (by omega))
  | k + 1, q, a5, h, hz => pk_le 49 q (fun z => absurd z (by omega)) (fun _ => ⟨pk_in (49 * w + q) 98 (by omega) (ri_j49 w q), pk_in (49 * n + q) 392 (by omega) (ri_j49 n q), nm_r (e' := upd a5 (49 * n + q) (vp_nar .byte (a3 (49 * w + q)))) (by rw [pk_cl _ (ri_j49 w q), pk_cl _ (ri_j49 n q)]) (nm_r (nI_1 q) (ri_start9 hw hn H k (q + 1) _ (by omega) (ri_fill (F := fun j => vp_nar .byte (a3 (49 * w + j))) hz rfl)))⟩)
theorem ri_start {post : St2 → Prop} {n : Nat} {T : List (List Nat)} (hw : w < 2) (hn : n ≤ 7) (h1 : a1 w = nI n) (hT : ri_ok T n) (hm : ri_rs a3 a4 w 0 T) (H : ∀ b5 b6 : Nat → Int32, ri_rs b5 b6 n 0 T → post (0, a1, a2, a3, a4, b5, b6, upd a7 n 0, a8, a9)) : wpX_startLevels post (f, a1, a2, a3, a4, a5, a6, a7, a8, a9) (nI w) := by
  refine ⟨pk_in w 2 hw, nm_r (e' := nI n) (by rw [nI_clamp (by omega), h1]) ⟨50, ri_start9 hw hn (fun b5 h5 => ⟨8, ri_start45 hw hn (fun b6 h6 => H b5 b6 ?_) 7 0 a6 (by omega) (fun j hj => absurd hj (Nat.not_lt_zero j))⟩) 49 0 a5 (by omega) (fun j hj => absurd hj (Nat.not_lt_zero j))⟩⟩
  have h7 := hT.2.2.1
  exact ri_rs_cp T 0 hT.2.1 hm (fun j _ hj => h5 j (by omega)) (fun j _ hj => h6 j (by omega))
theorem ri_isCorner {post : Int32 → Prop} {L r : Nat} {l : List Nat} (hL : L ≤ 7) (hr : r < 7) (hl : ri_lm a6 L l) (hb : ∀ r, ri_g l r ≤ 7) (h7 : l.length = 7) (h1 : ri_cor l r = true → post 1) (h0 : ¬ ri_cor l r = true → post 0) : wpX_isCorner post (f, a1, a2, a3, a4, a5, a6, a7, a8, a9) (nI L) (nI r) := by
  have b1 := hb r
  have b2 := hb (r + 1)
  have key : wX_isCorner_37 post (nI (ri_g l r)) (nI (ri_g l (r + 1))) f a1 a2 a3 a4 a5 a6 a7 a8 a9 :=
    pk_le (ri_g l r) (ri_g l (r + 1)) (fun z => h0 (fun t => absurd (of_decide_eq_true t) (by omega))) (fun z => h1 (decide_eq_true z))
  refine ⟨pk_in (7 * L + r) 56 (by omega) (ri_i7 L r), nm_r (e' := nI (ri_g l r)) (by rw [pk_cl _ (ri_i7 L r), hl r hr]) (pk_le 7 (r + 1) (fun z => ?_) (fun z => ⟨pk_in (7 * L + r + 1) 56 (by omega) (by rw [ri_i7, nI_1]), ?_⟩) rfl (nI_1 r))⟩
  · rw [ri_g_ge (c := r + 1) (by omega)] at key
    exact key
  · rw [pk_cl (7 * L + r + 1) (by rw [ri_i7, nI_1]), Nat.add_assoc, hl (r + 1) (by omega)]
    exact key
theorem ri_lastBelow_15 {post : Int32 → Prop} {L r x : Nat} {R : List Nat} (hL : L < 7) (hr : r < 7) (hm : ri_rm a5 a6 L r R) (hb : ∀ j, ri_g R j < 8) (hx : x < 8) : ∀ (c : Nat), c < R.length → post (nI (ri_lbF x R c)) → wX_lastBelow_15 post (nI L) (nI r) (nI x) f a1 a2 a3 a4 a5 a6 a7 a8 a9 (c + 1) (nI c)
  | 0, hc, hp => pk_le 0 0 (fun _ => hp) (fun z => absurd z (by omega))
  | c + 1, hc, hp => by
    have m1 := hm.1
    have e5 : a5 (49 * nI L + 7 * nI r + nI (c + 1)).toNatClampNeg = nI (ri_g R (c + 1)) := by rw [pk_cl _ (ri_i49 L r (c + 1)), hm.2.2 _ hc]
    have hbc := hb (c + 1)
    rw [ri_lbF] at hp
    exact pk_le (c + 1) 0 (fun z => absurd z (by omega)) (fun _ => ⟨pk_in (49 * L + 7 * r + (c + 1)) 392 (by omega) (ri_i49 L r (c + 1)), pk_lt (ri_g R (c + 1)) x (fun z => by rw [if_pos z] at hp; exact hp) (fun z => nm_r (pk_m1 c) (ri_lastBelow_15 hL hr hm hb hx c (by omega) (by rw [if_neg (by omega)] at hp; exact hp))) e5⟩)
theorem ri_lastBelow {post : Int32 → Prop} {L r x : Nat} {R : List Nat} (hL : L < 7) (hr : r < 7) (h0 : 0 < R.length) (hm : ri_rm a5 a6 L r R) (hb : ∀ j, ri_g R j < 8) (hx : x < 8) (hp : post (nI (ri_lb x R))) : wpX_lastBelow post (f, a1, a2, a3, a4, a5, a6, a7, a8, a9) (nI L) (nI r) (nI x) := by
  refine ⟨pk_in (7 * L + r) 56 (by omega) (ri_i7 L r), nm_r (e' := nI (R.length - 1)) ?_ ⟨R.length - 1 + 1, ri_lastBelow_15 hL hr hm hb hx (R.length - 1) (by omega) hp⟩⟩
  rw [pk_cl _ (ri_i7 L r), hm.2.1]
  exact pk_sub h0
theorem ri_take133 {post : St2 → Prop} {L : Nat} (hL : L < 7) : ∀ (k : Nat) (A : List (List Nat)) (x : Nat) (a5 : Nat → Int32), A.length = k → k ≤ 7 → ri_rs a5 a6 L 0 A → (∀ S, S ∈ A → 0 < S.length) → ri_sm A → x < 8 →
    (∀ b5 : Nat → Int32, ri_rs b5 a6 L 0 (ri_up x A).1 → (∀ j, 49 * L + 7 * k ≤ j → b5 j = a5 j) → post (f, a1, a2, a3, a4, b5, a6, upd a7 L 0, upd a8 L (nI (ri_up x A).2), a9)) →
    wX_takeOff_133 post (nI L) f (k + 1) (nI x) (nI k - 1) a1 a2 a3 a4 a5 a6 a7 a8 a9
  | 0, A, x, a5, hA, _, hm, _, _, hx, H => by
    have : A = [] := List.eq_nil_of_length_eq_zero hA
    subst this
    refine br_t (by decide) ⟨pk_in L 8 (by omega), nm_r (e' := upd a8 L (nI x)) (by rw [nI_clamp (by omega), ri_b8 x (by omega)]) ⟨pk_in L 8 (by omega), nm_r (e' := upd a7 L 0) (by rw [nI_clamp (by omega)]) ?_⟩⟩
    exact H a5 trivial (fun j _ => rfl)
  | k + 1, A, x, a5, hA, hk, hm, hne, hsm, hx, H => by
    obtain ⟨B, R, e, hB⟩ := ri_snocT A k hA
    subst e
    obtain ⟨m1, m2⟩ := (ri_rs_app B [R] 0).mp hm
    obtain ⟨s1, s2⟩ := (ri_sm_app B [R]).mp hsm
    rw [Nat.zero_add, hB] at m2
    have hR : ri_rm a5 a6 L k R := m2.1
    have hb : ∀ j, ri_g R j < 8 := s2.1
    have h0 : 0 < R.length := hne R (List.mem_append_right _ (List.mem_singleton.mpr rfl))
    have hlb := ri_lb_lt (x := x) h0
    have h7 := hR.1
    rw [ri_up_snoc] at H
    rw [nI_pred]
    refine pk_lt k 0 (fun z => absurd z (by omega)) (fun _ => ri_lastBelow hL (by omega) h0 hR hb hx (nm_r (ri_i49 L k (ri_lb x R)) ⟨pk_in (49 * L + 7 * k + ri_lb x R) 392 (by omega), nm_r (e' := nI (ri_g R (ri_lb x R))) (by rw [nI_clamp (by omega), hR.2.2 _ hlb]) ⟨pk_in (49 * L + 7 * k + ri_lb x R) 392 (by omega), nm_r (e' := upd a5 (49 * L + 7 * k + ri_lb x R) (nI x)) (by rw [nI_clamp (by omega), ri_b8 x (by omega)]) (nm_r (e' := nI k - 1) (Int32.sub_eq_add_neg _ _).symm ?_)⟩⟩))
    refine ri_take133 hL k B (ri_g R (ri_lb x R)) _ hB (by omega) (ri_rs_fr B 0 m1 (fun j _ hj => pk_un (by omega)) (fun j _ _ => rfl)) (fun S hS => hne S (List.mem_append_left _ hS)) s1 (hb _) ?_
    intro b5 hb5 hf
    refine H b5 ((ri_rs_app _ _ 0).mpr ⟨hb5, ?_⟩) (fun j hj => by rw [hf j (by omega), pk_un (by omega)])
    rw [ri_up_len, Nat.zero_add, hB]
    refine ⟨⟨by rw [ri_len_set]; exact h7, by rw [ri_len_set]; exact hR.2.1, fun c hc => ?_⟩, trivial⟩
    rw [ri_len_set] at hc
    rw [hf _ (by omega), ri_g_set hlb]
    by_cases e : c = ri_lb x R
    · rw [if_pos e, e, pk_us]
    · rw [if_neg e, pk_un (by omega)]
      exact hR.2.2 c hc
theorem ri_take47 {post : St2 → Prop} {L r m x : Nat} {o6 : Nat → Int32} (hL : L < 7) (hr : r < 7) (hm : m < 7) (ho : o6 (7 * (L + 1) + r) = nI (m + 1)) (hx : a5 (49 * (L + 1) + 7 * r + m) = nI x)
    (H : ∀ b6 : Nat → Int32, (∀ j, j < 7 → j ≠ r → b6 (7 * L + j) = vp_nar .byte (o6 (7 * (L + 1) + j))) → b6 (7 * L + r) = nI m → (∀ j, 7 * (L + 1) ≤ j → b6 j = o6 j) → ∃ fu, wX_takeOff_133 post (nI L) f fu (nI x) (nI r - 1) a1 a2 a3 a4 a5 b6 a7 a8 a9) : ∀ (k q : Nat) (a6 : Nat → Int32), q + k = 7 → (∀ j, j < q → a6 (7 * L + j) = vp_nar .byte (o6 (7 * (L + 1) + j))) → (∀ j, 7 * (L + 1) ≤ j → a6 j = o6 j) → wX_takeOff_47 post (nI (L + 1)) (nI r) (nI L) f (k + 1) (nI q) a1 a2 a3 a4 a5 a6 a7 a8 a9
  | 0, q, a6, h, hz, hf => by
    have e6 : a6 (7 * nI L + nI r).toNatClampNeg = nI (m + 1) := by rw [pk_cl _ (ri_i7 L r), hz r (by omega), ho, vp_nar_byte, ri_b8 _ (by omega)]
    have ei : (upd a6 (7 * L + r) (nI m)) (7 * nI L + nI r).toNatClampNeg = nI m := by rw [pk_cl _ (ri_i7 L r), pk_us]
    have ej : 49 * nI (L + 1) + 7 * nI r + (upd a6 (7 * L + r) (nI m)) (7 * nI L + nI r).toNatClampNeg = nI (49 * (L + 1) + 7 * r + m) := by rw [ei, ri_i49]
    refine pk_le 7 q (fun _ => ⟨pk_in (7 * L + r) 56 (by omega) (ri_i7 L r), pk_in (7 * L + r) 56 (by omega) (ri_i7 L r), nm_r (e' := upd a6 (7 * L + r) (nI m)) (by rw [e6, nI_pred, ri_b8 _ (by omega), pk_cl _ (ri_i7 L r)]) ⟨pk_in (7 * L + r) 56 (by omega) (ri_i7 L r), pk_in (49 * (L + 1) + 7 * r + m) 392 (by omega) ej, nm_r (e' := nI x) (by rw [pk_cl _ ej, hx]) (nm_e ?_)⟩⟩) (fun z => absurd z (by omega))
    exact H _ (fun j hj hne => by rw [pk_un (by omega)]; exact hz j (by omega)) pk_us (fun j hj => by rw [pk_un (by omega)]; exact hf j hj)
  | k + 1, q, a6, h, hz, hf => by
    refine pk_le 7 q (fun z => absurd z (by omega)) (fun _ => ⟨pk_in (7 * (L + 1) + q) 56 (by omega) (ri_i7 (L + 1) q), pk_in (7 * L + q) 56 (by omega) (ri_i7 L q), nm_r (e' := upd a6 (7 * L + q) (vp_nar .byte (a6 (7 * (L + 1) + q)))) (by rw [pk_cl _ (ri_i7 (L + 1) q), pk_cl _ (ri_i7 L q)]) (nm_r (nI_1 q) (ri_take47 hL hr hm ho hx H k (q + 1) _ (by omega) (ri_fill (F := fun j => vp_nar .byte (o6 (7 * (L + 1) + j))) hz ?_) (fun j hj => ?_)))⟩)
    · rw [hf _ (by omega)]
    · rw [pk_un (by omega)]; exact hf j hj
theorem ri_take7 {post : St2 → Prop} {L r : Nat} {o5 : Nat → Int32} (hL : L < 7)
    (H : ∀ b5 : Nat → Int32, (∀ j, j < 49 → b5 (49 * L + j) = vp_nar .byte (o5 (49 * (L + 1) + j))) → (∀ j, 49 * (L + 1) ≤ j → b5 j = o5 j) → ∃ fu, wX_takeOff_47 post (nI (L + 1)) (nI r) (nI L) f fu 0 a1 a2 a3 a4 b5 a6 a7 a8 a9) : ∀ (k q : Nat) (a5 : Nat → Int32), q + k = 49 → (∀ j, j < q → a5 (49 * L + j) = vp_nar .byte (o5 (49 * (L + 1) + j))) → (∀ j, 49 * (L + 1) ≤ j → a5 j = o5 j) → wX_takeOff_7 post (nI (L + 1)) (nI r) (nI L) f (k + 1) (nI q) a1 a2 a3 a4 a5 a6 a7 a8 a9
  | 0, q, a5, h, hz, hf => pk_le 49 q (fun _ => H a5 (fun j hj => hz j (by omega)) hf) (fun z => absurd z (by omega))
  | k + 1, q, a5, h, hz, hf => by
    refine pk_le 49 q (fun z => absurd z (by omega)) (fun _ => ⟨pk_in (49 * (L + 1) + q) 392 (by omega) (ri_j49 (L + 1) q), pk_in (49 * L + q) 392 (by omega) (ri_j49 L q), nm_r (e' := upd a5 (49 * L + q) (vp_nar .byte (a5 (49 * (L + 1) + q)))) (by rw [pk_cl _ (ri_j49 (L + 1) q), pk_cl _ (ri_j49 L q)]) (nm_r (nI_1 q) (ri_take7 hL H k (q + 1) _ (by omega) (ri_fill (F := fun j => vp_nar .byte (o5 (49 * (L + 1) + j))) hz ?_) (fun j hj => ?_)))⟩)
    · rw [hf _ (by omega)]
    · rw [pk_un (by omega)]; exact hf j hj
theorem ri_takeOff {post : St2 → Prop} {L r : Nat} {T : List (List Nat)} (hL : L < 7) (hT : ri_ok T (L + 1)) (hc : ri_cor (ri_ln T) r = true) (hm : ri_rs a5 a6 (L + 1) 0 T)
    (H : ∀ b5 b6 : Nat → Int32, ri_rs b5 b6 L 0 (ri_rev r T).1 → (∀ j, 49 * (L + 1) ≤ j → b5 j = a5 j) → (∀ j, 7 * (L + 1) ≤ j → b6 j = a6 j) → post (f, a1, a2, a3, a4, b5, b6, upd a7 L 0, upd a8 L (nI (ri_rev r T).2), a9)) :
    wpX_takeOff post (f, a1, a2, a3, a4, a5, a6, a7, a8, a9) (nI (L + 1)) (nI r) := by
  obtain ⟨t1, t2, t3, t4⟩ := hT
  obtain ⟨c1, c2, _⟩ := ri_cor_lt hc
  rw [ri_ln_len] at c1
  obtain ⟨A, R, B, e, hA⟩ := ri_split T r c1
  subst e
  subst hA
  rw [ri_ln_at] at c2
  rw [List.length_append, List.length_cons] at t3
  obtain ⟨m1, m2⟩ := (ri_rs_app A (R :: B) 0).mp hm
  rw [Nat.zero_add] at m2
  obtain ⟨mR, mB⟩ := m2
  obtain ⟨s1, s2⟩ := (ri_sm_app A (R :: B)).mp t2
  obtain ⟨sR, sB⟩ := s2
  have htop := (ri_ss_top A B R t1 c2).1
  obtain ⟨mR1, mR2, mR3⟩ := mR
  rw [ri_rev_up] at H
  refine nm_r (nI_pred L) ⟨50, ri_take7 (o5 := a5) hL (fun b5 h5 f5 => ⟨8, ri_take47 (o6 := a6) (m := R.length - 1) (x := ri_g R (R.length - 1)) hL (by omega) (by omega) (by rw [mR2]; congr 1; omega) (by rw [f5 _ (by omega)]; exact mR3 _ (by omega)) (fun b6 h6 h6r f6 => ⟨A.length + 1, ?_⟩) 7 0 a6 (by omega) (fun j hj => absurd hj (Nat.not_lt_zero j)) (fun j _ => rfl)⟩) 49 0 a5 (by omega) (fun j hj => absurd hj (Nat.not_lt_zero j)) (fun j _ => rfl)⟩
  have cA : ri_rs b5 b6 L 0 A := ri_rs_cp A 0 s1 m1 (fun j _ hj => h5 j (by omega)) (fun j _ hj => h6 j (by omega) (by omega))
  have cB : ri_rs b5 b6 L (A.length + 1) B := ri_rs_cp B (A.length + 1) sB mB (fun j _ hj => h5 j (by omega)) (fun j h1 hj => h6 j (by omega) (by omega))
  refine ri_take133 hL A.length A (ri_g R (R.length - 1)) b5 rfl (by omega) cA htop s1 (sR _) ?_
  intro d5 hd hf
  refine H d5 b6 ((ri_rs_app _ _ 0).mpr ⟨hd, ?_⟩) (fun j hj => by rw [hf j (by omega)]; exact f5 j hj) f6
  rw [ri_up_len, Nat.zero_add]
  refine ⟨⟨by rw [List.length_dropLast]; omega, by rw [List.length_dropLast]; exact h6r, fun c hc => ?_⟩, ri_rs_fr B (A.length + 1) cB (fun j h1 h2 => hf j (by omega)) (fun j _ _ => rfl)⟩
  rw [List.length_dropLast] at hc
  have := sR c
  rw [ri_g_drop hc, hf _ (by omega), Nat.add_assoc, h5 _ (by omega), ← Nat.add_assoc, mR3 c (by omega), vp_nar_byte, ri_b8 _ (by omega)]
/-- the first codes are acc -/
def ri_cm (a9 : Nat → Int32) (acc : List Nat) : Prop := ∀ j, j < acc.length → a9 j = nI (ri_g acc j)
theorem ri_keep68 {post : St2 → Prop} {acc : List Nat} {c k : Nat} {b9 : Nat → Int32} (hn : acc.length < 64) (hp : ri_pos c acc acc.length = k) (hk : k ≤ acc.length) (h1 : ∀ j, j < k → b9 j = nI (ri_g acc j)) (h2 : ∀ j, k ≤ j → j < acc.length → b9 (j + 1) = nI (ri_g acc j))
    (H : ∀ b9 : Nat → Int32, ri_cm b9 (ri_put c acc) → post (nI (acc.length + 1), a1, a2, a3, a4, a5, a6, a7, a8, b9)) : wX_keepCode_68 post (nI c) (nI k) (nI acc.length) a1 a2 a3 a4 a5 a6 a7 a8 b9 := by
  refine ⟨pk_in k 64 (by omega), nm_r (e' := upd b9 k (nI c)) (by rw [nI_clamp (by omega)]) (nm_r (nI_1 _) (H _ (fun j hj => ?_)))⟩
  rw [ri_put_len] at hj
  rw [ri_g_put c acc j hj, hp]
  by_cases e1 : j < k
  · rw [if_pos e1, pk_un (by omega)]
    exact h1 j e1
  · rw [if_neg e1]
    by_cases e2 : j = k
    · rw [if_pos e2, e2, pk_us]
    · rw [if_neg e2, pk_un e2]
      have := h2 (j - 1) (by omega) (by omega)
      rwa [show j - 1 + 1 = j by omega] at this
theorem ri_keep32 {post : St2 → Prop} {acc : List Nat} {c : Nat} (hn : acc.length < 64) (hb : ∀ j, ri_g acc j < 2 ^ 31) (hc : c < 2 ^ 31)
    (H : ∀ b9 : Nat → Int32, ri_cm b9 (ri_put c acc) → post (nI (acc.length + 1), a1, a2, a3, a4, a5, a6, a7, a8, b9)) : ∀ (k : Nat) (b9 : Nat → Int32), k ≤ acc.length → ri_pos c acc acc.length = ri_pos c acc k → (∀ j, j < k → b9 j = nI (ri_g acc j)) → (∀ j, k ≤ j → j < acc.length → b9 (j + 1) = nI (ri_g acc j)) → wX_keepCode_32 post (nI c) (nI acc.length) (k + 1) (nI k) a1 a2 a3 a4 a5 a6 a7 a8 b9
  | 0, b9, hk, hp, h1, h2 => pk_le 0 0 (fun _ => ri_keep68 hn (k := 0) hp hk h1 h2 H) (fun z => absurd z (by omega))
  | k + 1, b9, hk, hp, h1, h2 => by
    have hbk := hb k
    have e9 : b9 (nI (k + 1) - 1).toNatClampNeg = nI (ri_g acc k) := by rw [nI_pred, nI_clamp (by omega), h1 k (by omega)]
    rw [ri_pos] at hp
    refine pk_le (k + 1) 0 (fun z => absurd z (by omega)) (fun _ => ⟨pk_in k 64 (by omega) (nI_pred k), pk_le (ri_g acc k) c (fun z => ?_) (fun z => ⟨pk_in k 64 (by omega) (nI_pred k), pk_in (k + 1) 64 (by omega), nm_r (e' := upd b9 (k + 1) (nI (ri_g acc k))) (by rw [e9, nI_clamp (by omega)]) (nm_r (pk_m1 k) ?_)⟩) e9⟩)
    · rw [if_pos z] at hp
      exact ri_keep68 hn hp hk h1 h2 H
    · rw [if_neg (by omega)] at hp
      refine ri_keep32 hn hb hc H k _ (by omega) hp (fun j hj => by rw [pk_un (by omega)]; exact h1 j (by omega)) (fun j hj hl => ?_)
      by_cases e : j = k
      · rw [e, pk_us]
      · rw [pk_un (by omega)]
        exact h2 j (by omega) hl
theorem ri_keep4 {post : St2 → Prop} {u : List Nat} {x1 : Nat} (hu : u.length = x1) (h7 : x1 ≤ 7) (h8 : ∀ i, i < u.length → a8 i = nI (ri_g u i)) (H : ∃ fu, wX_keepCode_32 post (nI (ri_code u)) f fu f a1 a2 a3 a4 a5 a6 a7 a8 a9) : ∀ (k q : Nat), q + k = u.length → wX_keepCode_4 post (nI x1) f a1 a2 a3 a4 a5 a6 a7 a8 a9 (k + 1) (nI (ri_code (u.take q))) (nI q)
  | 0, q, h => pk_le x1 q (fun _ => by rw [List.take_of_length_le (by omega)]; exact H) (fun z => absurd z (by omega))
  | k + 1, q, h => by
    refine pk_le x1 q (fun z => absurd z (by omega)) (fun _ => ⟨pk_in q 8 (by omega), nm_r ?_ (nm_r (nI_1 q) (ri_keep4 hu h7 h8 H k (q + 1) (by omega)))⟩)
    rw [nI_clamp (by omega), h8 q (by omega), ri_take_s (by omega), ri_code_snoc, show (8 : Int32) = nI 8 from rfl, pk_mul, nI_add]
theorem ri_keepCode {post : St2 → Prop} {u acc : List Nat} {x1 : Nat} (hu : u.length = x1) (h7 : x1 ≤ 7) (hl : ri_let u) (h8 : ∀ i, i < x1 → a8 i = nI (ri_g u i)) (hn : acc.length < 64) (hb : ∀ j, ri_g acc j < 2 ^ 31) (h9 : ri_cm a9 acc)
    (H : ∀ b9 : Nat → Int32, ri_cm b9 (ri_put (ri_code u) acc) → post (nI (acc.length + 1), a1, a2, a3, a4, a5, a6, a7, a8, b9)) : wpX_keepCode post (nI acc.length, a1, a2, a3, a4, a5, a6, a7, a8, a9) (nI x1) := by
  have hc := ri_code_lt x1 u hu hl
  have h8' : 8 ^ x1 ≤ 8 ^ 7 := Nat.pow_le_pow_right (by decide) h7
  exact ⟨u.length + 1, ri_keep4 hu h7 (fun i hi => h8 i (by omega)) ⟨acc.length + 1, ri_keep32 hn hb (by omega) H acc.length a9 (Nat.le_refl _) rfl h9 (fun j h1 h2 => absurd h1 (by omega))⟩ u.length 0 (by omega)⟩
end
end
section
/-! part 08: the search: listKin, kinAt -/
def ri_fold (us : List (List Nat)) (suf acc : List Nat) : List Nat := us.foldl (fun a u => ri_put (ri_code (u ++ suf)) a) acc
theorem ri_fold_len : ∀ (us : List (List Nat)) (suf acc : List Nat), (ri_fold us suf acc).length = acc.length + us.length
  | [], suf, acc => rfl
  | u :: us, suf, acc => by
    have := ri_fold_len us suf (ri_put (ri_code (u ++ suf)) acc)
    rw [ri_put_len] at this
    show (ri_fold us suf (ri_put (ri_code (u ++ suf)) acc)).length = acc.length + (us.length + 1)
    omega
theorem ri_fold_app (us vs : List (List Nat)) (suf acc : List Nat) : ri_fold (us ++ vs) suf acc = ri_fold vs suf (ri_fold us suf acc) := by
  unfold ri_fold
  rw [List.foldl_append]
theorem ri_fold_map (us : List (List Nat)) (x : Nat) (suf acc : List Nat) : ri_fold (us.map (fun u => u ++ [x])) suf acc = ri_fold us (x :: suf) acc := by
  unfold ri_fold
  rw [List.foldl_map]
  congr 1
  funext a u
  rw [List.append_assoc]
  rfl
theorem ri_put_b {c : Nat} {acc : List Nat} (hc : c < 2 ^ 31) (h : ∀ j, ri_g acc j < 2 ^ 31) (j : Nat) : ri_g (ri_put c acc) j < 2 ^ 31 := by
  rcases Nat.lt_or_ge j (acc.length + 1) with z | z
  · rw [ri_g_put c acc j z]
    split
    · exact h j
    · split
      · exact hc
      · exact h _
  · rw [ri_g_ge (by rw [ri_put_len]; exact z)]
    decide
def ri_after (post : St2 → Prop) (N L : Nat) (a1 a2 a3 a4 a5 a6 a7 a8 : Nat → Int32) (acc : List Nat) (s : Nat) : Prop :=
  ∀ b5 b6 b7 b8 b9 : Nat → Int32, ri_cm b9 acc → (∀ j, ri_g acc j < 2 ^ 31) → (∀ j, 49 * (L + 1) ≤ j → b5 j = a5 j) → (∀ j, 7 * (L + 1) ≤ j → b6 j = a6 j) → (∀ j, L + 1 ≤ j → b7 j = a7 j) → (∀ j, L ≤ j → b8 j = a8 j) →
    ∀ n, n + s = 100001 → wX_listKin_17 post (nI N) n (nI (L + 1)) (nI s) (nI acc.length) a1 a2 a3 a4 b5 b6 b7 b8 b9
def ri_dfsL (post : St2 → Prop) (N : Nat) (a1 a2 a3 a4 : Nat → Int32) (L : Nat) : Prop :=
  ∀ (T : List (List Nat)) (suf acc : List Nat) (s : Nat) (a5 a6 a7 a8 a9 : Nat → Int32), ri_ok T L → ri_rs a5 a6 L 0 T → a7 L = nI 0 → suf.length + L = N → ri_let suf → (∀ i, i < suf.length → a8 (L + i) = nI (ri_g suf i)) →
    acc.length + (ri_words L T).length ≤ 64 → (∀ j, ri_g acc j < 2 ^ 31) → ri_cm a9 acc → s + ri_cost L (ri_ln T) ≤ 100000 →
    ri_after post N L a1 a2 a3 a4 a5 a6 a7 a8 (ri_fold (ri_words L T) suf acc) (s + ri_cost L (ri_ln T)) →
    ∀ n, n + s = 100001 → wX_listKin_17 post (nI N) n (nI L) (nI s) (nI acc.length) a1 a2 a3 a4 a5 a6 a7 a8 a9
def ri_fr (L : Nat) (T : List (List Nat)) (r : Nat) : List (List Nat) := if ri_cor (ri_ln T) r = true then (ri_words L (ri_rev r T).1).map (fun u => u ++ [(ri_rev r T).2]) else []
def ri_cr (L : Nat) (l : List Nat) (r : Nat) : Nat := if ri_cor l r = true then ri_cost L (l.set r (ri_g l r - 1)) + 1 else 1
section
variable {post : St2 → Prop} {N : Nat} {a1 a2 a3 a4 : Nat → Int32}
theorem ri_dfs0 (hN : N ≤ 7) : ri_dfsL post N a1 a2 a3 a4 0 := by
  intro T suf acc s a5 a6 a7 a8 a9 hT hm h7 hsuf hl h8 hw hb h9 hs H n hn
  have hs' : s + 1 ≤ 100000 := hs
  have hw' : acc.length + 1 ≤ 64 := hw
  have hH : ri_after post N 0 a1 a2 a3 a4 a5 a6 a7 a8 (ri_put (ri_code suf) acc) (s + 1) := H
  have hc := ri_code_lt N suf (by omega) hl
  have h8' : 8 ^ N ≤ 8 ^ 7 := Nat.pow_le_pow_right (by decide) hN
  obtain ⟨m, rfl⟩ : ∃ m, n = m + 1 := ⟨n - 1, by omega⟩
  refine pk_le 100000 s (fun z => absurd z (by omega)) (fun _ => pk_lt N 0 (fun z => absurd z (by omega)) (fun _ => br_t rfl (pk_le 64 acc.length (fun z => absurd z (by omega)) (fun _ => ri_keepCode (u := suf) (by omega) hN hl (fun i hi => by have := h8 i (by omega); rwa [Nat.zero_add] at this) (by omega) hb h9 (fun b9 hb9 => nm_r (nI_1 0) (nm_r (nI_1 s) ?_))))))
  have t := hH a5 a6 a7 a8 b9 hb9 (ri_put_b (by omega) hb) (fun j _ => rfl) (fun j _ => rfl) (fun j _ => rfl) (fun j _ => rfl) m (by omega)
  rw [ri_put_len] at t
  exact t
theorem ri_inner {L : Nat} {T : List (List Nat)} {suf : List Nat} (hN : N ≤ 7) (hL : L + 1 ≤ N) (ih : ri_dfsL post N a1 a2 a3 a4 L) (hT : ri_ok T (L + 1)) (hsuf : suf.length + (L + 1) = N) (hl : ri_let suf) : ∀ (k t : Nat) (acc : List Nat) (s : Nat) (a5 a6 a7 a8 a9 : Nat → Int32), t + k = 7 →
    ri_rs a5 a6 (L + 1) 0 T → a7 (L + 1) = nI t → (∀ i, i < suf.length → a8 (L + 1 + i) = nI (ri_g suf i)) →
    acc.length + ((List.range' t k).flatMap (ri_fr L T)).length ≤ 64 → (∀ j, ri_g acc j < 2 ^ 31) → ri_cm a9 acc → s + (((List.range' t k).map (ri_cr L (ri_ln T))).sum + 1) ≤ 100000 →
    ri_after post N (L + 1) a1 a2 a3 a4 a5 a6 a7 a8 (ri_fold ((List.range' t k).flatMap (ri_fr L T)) suf acc) (s + (((List.range' t k).map (ri_cr L (ri_ln T))).sum + 1)) →
    ∀ n, n + s = 100001 → wX_listKin_17 post (nI N) n (nI (L + 1)) (nI s) (nI acc.length) a1 a2 a3 a4 a5 a6 a7 a8 a9
  | 0, t, acc, s, a5, a6, a7, a8, a9, ht, hm, h7, h8, hw, hb, h9, hs, H, n, hn => by
    have hs' : s + 1 ≤ 100000 := by simpa using hs
    have hH : ri_after post N (L + 1) a1 a2 a3 a4 a5 a6 a7 a8 acc (s + 1) := H
    obtain ⟨m, rfl⟩ : ∃ m, n = m + 1 := ⟨n - 1, by omega⟩
    have e7 : a7 (nI (L + 1)).toNatClampNeg = nI 7 := by rw [nI_clamp (by omega), h7, show t = 7 by omega]
    refine pk_le 100000 s (fun z => absurd z (by omega)) (fun _ => pk_lt N (L + 1) (fun z => absurd z (by omega)) (fun _ => br_f (nI_ne0 (by omega) (by omega)) ⟨pk_in (L + 1) 8 (by omega), br_t e7 (nm_r (nI_1 (L + 1)) (nm_r (nI_1 s) ?_))⟩))
    exact hH a5 a6 a7 a8 a9 h9 hb (fun j _ => rfl) (fun j _ => rfl) (fun j _ => rfl) (fun j _ => rfl) m (by omega)
  | k + 1, t, acc, s, a5, a6, a7, a8, a9, ht, hm, h7, h8, hw, hb, h9, hs, H, n, hn => by
    rw [List.range'_succ, List.flatMap_cons, List.length_append] at hw
    rw [List.range'_succ, List.map_cons, List.sum_cons] at hs
    rw [List.range'_succ, List.flatMap_cons, ri_fold_app, List.map_cons, List.sum_cons] at H
    obtain ⟨m, rfl⟩ : ∃ m, n = m + 1 := ⟨n - 1, by omega⟩
    have e7 : a7 (nI (L + 1)).toNatClampNeg = nI t := by rw [nI_clamp (by omega), h7]
    have hsh := ri_shape hT (by omega)
    have hT7 := hT.2.2.1
    refine pk_le 100000 s (fun z => absurd z (by omega)) (fun _ => pk_lt N (L + 1) (fun z => absurd z (by omega)) (fun _ => br_f (nI_ne0 (by omega) (by omega)) ⟨pk_in (L + 1) 8 (by omega), pk_eq t 7 (fun z => absurd z (by omega)) (fun _ => ⟨pk_in (L + 1) 8 (by omega), nm_r (e' := nI t) e7 ⟨pk_in (L + 1) 8 (by omega), pk_in (L + 1) 8 (by omega), nm_r (e' := upd a7 (L + 1) (nI (t + 1))) (by rw [e7, nI_1, nI_clamp (by omega), ri_b8 _ (by omega)]) ?_⟩⟩) e7⟩))
    refine ri_isCorner (by omega) (by omega) (ri_rs_lm hm hT7) (ri_s_g hsh) (by rw [ri_ln_len]; exact hT7) (fun hc => br_f (by decide) ?_) (fun hc => br_t rfl (nm_r (nI_1 s) ?_))
    · have ef : ri_fr L T t = (ri_words L (ri_rev t T).1).map (fun u => u ++ [(ri_rev t T).2]) := by unfold ri_fr; rw [if_pos hc]
      have ec : ri_cr L (ri_ln T) t = ri_cost L (ri_ln (ri_rev t T).1) + 1 := by unfold ri_cr; rw [if_pos hc, ri_ln_rev]
      rw [ef, List.length_map] at hw
      rw [ec] at hs
      rw [ef, ec, ri_fold_map] at H
      have hx := (ri_sm_rev T t hT.2.1).2
      refine ri_takeOff (by omega) hT hc hm (fun b5 b6 hbm f5 f6 => nm_r (pk_m1 L) (nm_r (nI_1 s) ?_))
      refine ih (ri_rev t T).1 ((ri_rev t T).2 :: suf) acc (s + 1) b5 b6 _ _ a9 (ri_ok_rev hT hc) hbm pk_us (by rw [List.length_cons]; omega) ?_ ?_ (by omega) hb h9 (by omega) ?_ m (by omega)
      · intro j
        cases j with
        | zero => exact hx
        | succ j => exact hl j
      · intro i hi
        cases i with
        | zero => rw [Nat.add_zero, pk_us]; rfl
        | succ i =>
          rw [pk_un (by omega), show L + (i + 1) = L + 1 + i by omega]
          exact h8 i (by rw [List.length_cons] at hi; omega)
      · intro c5 c6 c7 c8 c9 h9' hb' g5 g6 g7 g8 n' hn'
        have hlen := ri_fold_len (ri_words L (ri_rev t T).1) ((ri_rev t T).2 :: suf) acc
        refine ri_inner hN hL ih hT hsuf hl k (t + 1) _ _ c5 c6 c7 c8 c9 (by omega) (ri_rs_fr T 0 hm (fun j h1 _ => by rw [g5 j (by omega), f5 j (by omega)]) (fun j h1 _ => by rw [g6 j (by omega), f6 j (by omega)])) ?_ ?_ (by omega) hb' h9' (by omega) ?_ n' hn'
        · rw [g7 _ (by omega), pk_un (by omega), pk_us]
        · intro i hi
          rw [g8 _ (by omega), pk_un (by omega)]
          exact h8 i hi
        · intro d5 d6 d7 d8 d9 k9 kb k5 k6 k7 k8 p hp
          have t2 := H d5 d6 d7 d8 d9 k9 kb (fun j hj => by rw [k5 j hj, g5 j (by omega), f5 j (by omega)]) (fun j hj => by rw [k6 j hj, g6 j (by omega), f6 j (by omega)]) (fun j hj => by rw [k7 j hj, g7 j (by omega), pk_un (by omega), pk_un (by omega)]) (fun j hj => by rw [k8 j hj, g8 j (by omega), pk_un (by omega)]) p (by omega)
          rw [show s + (ri_cost L (ri_ln (ri_rev t T).1) + 1 + ((List.range' (t + 1) k).map (ri_cr L (ri_ln T))).sum + 1) = s + 1 + ri_cost L (ri_ln (ri_rev t T).1) + (((List.range' (t + 1) k).map (ri_cr L (ri_ln T))).sum + 1) by omega] at t2
          exact t2
    · have ef : ri_fr L T t = [] := by unfold ri_fr; rw [if_neg hc]
      have ec : ri_cr L (ri_ln T) t = 1 := by unfold ri_cr; rw [if_neg hc]
      rw [ef] at hw
      rw [ec] at hs
      rw [ef, ec] at H
      refine ri_inner hN hL ih hT hsuf hl k (t + 1) acc (s + 1) a5 a6 _ a8 a9 (by omega) hm pk_us h8 (by simpa using hw) hb h9 (by omega) ?_ m (by omega)
      intro d5 d6 d7 d8 d9 k9 kb k5 k6 k7 k8 p hp
      have t2 := H d5 d6 d7 d8 d9 k9 kb k5 k6 (fun j hj => by rw [k7 j hj, pk_un (by omega)]) k8 p (by omega)
      rw [show s + (1 + ((List.range' (t + 1) k).map (ri_cr L (ri_ln T))).sum + 1) = s + 1 + (((List.range' (t + 1) k).map (ri_cr L (ri_ln T))).sum + 1) by omega] at t2
      exact t2
theorem ri_dfs (hN : N ≤ 7) : ∀ L, L ≤ N → ri_dfsL post N a1 a2 a3 a4 L
  | 0, _ => ri_dfs0 hN
  | L + 1, hL => by
    intro T suf acc s a5 a6 a7 a8 a9 hT hm h7 hsuf hl h8 hw hb h9 hs H n hn
    exact ri_inner hN hL (ri_dfs hN L (by omega)) hT hsuf hl 7 0 acc s a5 a6 a7 a8 a9 (by omega) hm h7 h8 hw hb h9 hs H n hn
end
section
variable {f : Int32} {a1 a2 a3 a4 a5 a6 a7 a8 a9 : Nat → Int32} {w : Nat}
theorem ri_listKin {post : St2 → Prop} {ws : List Nat} (hw : w < 2) (h7 : ws.length ≤ 7) (hl : ri_let ws) (h1 : a1 w = nI ws.length) (hm : ri_rs a3 a4 w 0 (ri_tab ws))
    (H : ∀ b5 b6 b7 b8 b9 : Nat → Int32, ri_cm b9 (ri_K ws) → post (nI (ri_K ws).length, a1, a2, a3, a4, b5, b6, b7, b8, b9)) : wpX_listKin post (f, a1, a2, a3, a4, a5, a6, a7, a8, a9) (nI w) := by
  have ok := ri_ok_tab ws.length ws rfl h7 hl
  have hsh := ri_shape ok h7
  have hsum := ok.2.2.2
  have hc := ri_s_cost _ hsh
  have hp := ri_s_paths _ hsh
  have hwl := ri_words_len ws.length (ri_tab ws)
  rw [hsum] at hc hp
  refine ⟨pk_in w 2 hw, nm_r (e' := nI ws.length) (by rw [nI_clamp (by omega), h1]) ?_⟩
  refine ri_start hw h7 h1 ok hm (fun b5 b6 hb => ⟨100001, ?_⟩)
  have eK : ri_fold (ri_words ws.length (ri_tab ws)) [] [] = ri_K ws := by
    unfold ri_fold ri_K
    simp only [List.append_nil]
  refine ri_dfs h7 ws.length (Nat.le_refl _) (ri_tab ws) [] [] 0 b5 b6 _ a8 a9 ok hb pk_us (Nat.zero_add _) (fun j => by rw [ri_g_ge (Nat.zero_le _)]; decide) (fun i hi => absurd hi (Nat.not_lt_zero i)) ?_ (fun j => by rw [ri_g_ge (Nat.zero_le _)]; decide) (fun j hj => absurd hj (Nat.not_lt_zero j)) (by omega) ?_ 100001 (by omega)
  · show 0 + (ri_words ws.length (ri_tab ws)).length ≤ 64
    omega
  · intro c5 c6 c7 c8 c9 k9 _ _ _ _ _ n hn
    rw [eK] at k9 ⊢
    obtain ⟨m, rfl⟩ : ∃ m, n = m + 1 := ⟨n - 1, by omega⟩
    exact pk_le 100000 (0 + ri_cost ws.length (ri_ln (ri_tab ws))) (fun z => absurd z (by omega)) (fun _ => pk_lt ws.length (ws.length + 1) (fun _ => H c5 c6 c7 c8 c9 k9) (fun z => absurd z (by omega)))
theorem ri_kinAt {post : Int32 → St2 → Prop} {ws : List Nat} {i : Nat} (hw : w < 2) (h7 : ws.length ≤ 7) (hl : ri_let ws) (h1 : a1 w = nI ws.length) (hm : ri_rs a3 a4 w 0 (ri_tab ws)) (hi : i ≤ (ri_K ws).length)
    (H1 : ∀ (g : Int32) (b5 b6 b7 b8 b9 : Nat → Int32), i < (ri_K ws).length → post (nI (ri_g (ri_K ws) i)) (g, a1, a2, a3, a4, b5, b6, b7, b8, b9))
    (H2 : ∀ (g : Int32) (b5 b6 b7 b8 b9 : Nat → Int32), i = (ri_K ws).length → post (-4) (g, a1, a2, a3, a4, b5, b6, b7, b8, b9)) : wpX_kinAt post (f, a1, a2, a3, a4, a5, a6, a7, a8, a9) (nI w) (nI i) := by
  have ok := ri_ok_tab ws.length ws rfl h7 hl
  have hp := ri_s_paths _ (ri_shape ok h7)
  rw [ok.2.2.2] at hp
  have hK := (ri_K_ok h7 hl).2.1
  unfold wpX_kinAt
  refine ri_bad hw (br_t rfl (pk_le 0 i (fun _ => ?_) (fun z => absurd z (by omega))))
  refine ri_listKin hw h7 hl h1 hm (fun b5 b6 b7 b8 b9 h9 => pk_le (ri_K ws).length i (fun z => H2 _ b5 b6 b7 b8 b9 (by omega)) (fun z => ⟨pk_in i 64 (by omega), ?_⟩))
  rw [nI_clamp (by omega), h9 i z]
  exact H1 _ b5 b6 b7 b8 b9 z
end
end
section
/-! part 09: the law's loops -/
theorem ri_ris1 (l : List Nat) : ri_ris l 1 = ri_g l 0 := by
  show 0 + ri_g l 0 = _
  omega
theorem ri_ris2 (l : List Nat) : ri_ris l 2 = ri_g l 0 + ri_g l 1 := by
  show 0 + ri_g l 0 + ri_g l 1 = _
  omega
theorem ri_ris3 (l : List Nat) : ri_ris l 3 = ri_g l 0 + ri_g l 1 + ri_g l 2 := by
  show 0 + ri_g l 0 + ri_g l 1 + ri_g l 2 = _
  omega
section
variable {post : Int32 → St0 → Prop} {mc ms kc ks : Nat} {f : Int32} {a1 a2 a3 a4 a5 a6 a7 a8 a9 : Nat → Int32} {w : Nat}
/-- the second loop: all kin in order -/
theorem ri_523 {ws : List Nat} {p : Nat} (hw : w < 2) (h7 : ws.length ≤ 7) (hl : ri_let ws) (hm : ri_wm a1 a2 w ws) (hr : ri_rs a3 a4 w 0 (ri_tab ws)) (hp : p < (ri_K ws).length) (hpc : ri_g (ri_K ws) p = ri_code ws) (H : post 1 ()) : ∀ (k i : Nat) (x19 f : Int32) (a5 a6 a7 a8 a9 : Nat → Int32), i + k = (ri_K ws).length → (i < (ri_K ws).length → x19 < nI (ri_g (ri_K ws) i)) → wL_lawOf_523 post mc ms (nI w) (nI (ri_K ws).length) kc ks (k + 1) (nI (if p < i then 1 else 0)) x19 (nI i) f a1 a2 a3 a4 a5 a6 a7 a8 a9
  | 0, i, x19, f, a5, a6, a7, a8, a9, hi, hx => by
    have ok := ri_ok_tab ws.length ws rfl h7 hl
    have hsh := ri_shape ok h7
    have hps := ri_s_paths _ hsh
    rw [ok.2.2.2] at hps
    have hK := (ri_K_ok h7 hl).2.1
    have hlm := ri_rs_lm hr ok.2.2.1
    rw [if_pos (by omega)]
    refine pk_le (ri_K ws).length i (fun _ => br_t rfl ?_) (fun z => absurd z (by omega))
    refine ri_kinAt hw h7 hl hm.1 hr (Nat.le_refl _) (fun g b5 b6 b7 b8 b9 z => absurd z (by omega)) (fun g b5 b6 b7 b8 b9 _ => br_t rfl (ri_rising (m := 0) hw (by omega) hlm (br_t rfl (ri_falling (m := 0) hw (by omega) (ri_s_g hsh) hlm (br_t ?_ H)))))
    rw [(ri_s_col _ hsh).2.2]
    rfl
  | k + 1, i, x19, f, a5, a6, a7, a8, a9, hi, hx => by
    have ok := ri_ok_tab ws.length ws rfl h7 hl
    have hps := ri_s_paths _ (ri_shape ok h7)
    rw [ok.2.2.2] at hps
    obtain ⟨k1, k2, _, k4⟩ := ri_K_ok h7 hl
    have b31 : ∀ j, j < (ri_K ws).length → ri_g (ri_K ws) j < 2 ^ 31 := fun j hj => Nat.lt_trans (k4 _ (ri_g_mem hj)) (by decide)
    have bi := b31 i (by omega)
    have bp := b31 p hp
    have hnx : i + 1 < (ri_K ws).length → nI (ri_g (ri_K ws) i) < nI (ri_g (ri_K ws) (i + 1)) := fun z => nI_lt (k1 i (i + 1) (by omega) z) (b31 _ z)
    refine pk_le (ri_K ws).length i (fun z => absurd z (by omega)) (fun _ => ri_kinAt hw h7 hl hm.1 hr (by omega) (fun g b5 b6 b7 b8 b9 _ => br_t (hx (by omega)) (ri_wcode hw h7 hm.1 hm.2 ?_)) (fun g b5 b6 b7 b8 b9 z => absurd z (by omega)))
    refine pk_eq (ri_g (ri_K ws) i) (ri_code ws) (fun z => ?_) (fun z => ?_) rfl rfl bi (by omega)
    · have e : i = p := by
        rcases Nat.lt_trichotomy i p with q | q | q
        · have := k1 i p q hp; omega
        · exact q
        · have := k1 p i q (by omega); omega
      have ih := ri_523 hw h7 hl hm hr hp hpc H k (i + 1) (nI (ri_g (ri_K ws) i)) g b5 b6 b7 b8 b9 (by omega) hnx
      rw [if_pos (by omega)] at ih
      rw [if_neg (by omega)]
      exact nm_r (nI_1 0) (nm_r (nI_1 i) ih)
    · have e : i ≠ p := fun q => z (by rw [q]; exact hpc)
      have ih := ri_523 hw h7 hl hm hr hp hpc H k (i + 1) (nI (ri_g (ri_K ws) i)) g b5 b6 b7 b8 b9 (by omega) hnx
      have ei : (if p < i + 1 then 1 else 0) = (if p < i then 1 else 0 : Nat) := by
        by_cases q : p < i
        · rw [if_pos q, if_pos (by omega)]
        · rw [if_neg q, if_neg (by omega)]
      rw [ei] at ih
      exact nm_r (nI_1 i) ih
/-- the columns -/
theorem ri_412 {l : List Nat} (hs : l ∈ ri_parts 7 7 7) (d0 : Nat) (h0 : d0 = if ri_g l 0 ≤ 1 then 0 else 1)
    (H : wpX_kin (fun r_55 => (∃ fu523 : Nat, wL_lawOf_523 post mc ms (nI w) r_55 kc ks fu523 0 (-1) 0 f a1 a2 a3 a4 a5 a6 a7 a8 a9)) (f, a1, a2, a3, a4, a5, a6, a7, a8, a9) (nI w)) :
    wL_lawOf_412 post mc ms (nI w) (nI (ri_fal l 1)) (nI (ri_fal l 2)) (nI (ri_fal l 3)) (nI (ri_ris l 1)) (nI (ri_ris l 2)) (nI (ri_ris l 3)) (nI d0) kc ks f a1 a2 a3 a4 a5 a6 a7 a8 a9 := by
  have hb := ri_s_g hs
  have b0 := hb 0
  have b1 := hb 1
  have b2 := hb 2
  obtain ⟨c1, c2, _⟩ := ri_s_col l hs
  have e21 : nI (ri_ris l 2) - nI (ri_ris l 1) = nI (ri_g l 1) := by
    rw [ri_ris2, ri_ris1, pk_sub (by omega)]; congr 1; omega
  have e32 : nI (ri_ris l 3) - nI (ri_ris l 2) = nI (ri_g l 2) := by
    rw [ri_ris3, ri_ris2, pk_sub (by omega)]; congr 1; omega
  have k499 : ∀ t0 t1 t2 : Nat, t0 = (if ri_g l 0 ≤ 2 then 0 else 1) → t1 = (if ri_g l 1 ≤ 2 then 0 else 1) → t2 = (if ri_g l 2 ≤ 2 then 0 else 1) → wL_lawOf_499 post mc ms (nI w) (nI t2) (nI t0 + nI t1) (nI (ri_fal l 3) - nI (ri_fal l 2)) kc ks f a1 a2 a3 a4 a5 a6 a7 a8 a9 := by
    intro t0 t1 t2 e0 e1 e2
    refine br_t ?_ H
    rw [nI_add, nI_add, pk_sub (by omega)]
    congr 1
    omega
  have k470 : ∀ t0 : Nat, t0 = (if ri_g l 0 ≤ 2 then 0 else 1) → wL_lawOf_470 post mc ms (nI w) (nI (ri_ris l 1)) (nI (ri_ris l 2)) (nI (ri_ris l 3)) (nI t0) (nI (ri_fal l 3) - nI (ri_fal l 2)) kc ks f a1 a2 a3 a4 a5 a6 a7 a8 a9 := by
    intro t0 e0
    have k484 : ∀ t1 : Nat, t1 = (if ri_g l 1 ≤ 2 then 0 else 1) → wL_lawOf_484 post mc ms (nI w) (nI (ri_ris l 2)) (nI (ri_ris l 3)) (nI t1) (nI t0) (nI (ri_fal l 3) - nI (ri_fal l 2)) kc ks f a1 a2 a3 a4 a5 a6 a7 a8 a9 := by
      intro t1 e1
      exact pk_le (ri_g l 2) 2 (fun z => k499 t0 t1 0 e0 e1 (by rw [if_pos z])) (fun z => k499 t0 t1 1 e0 e1 (by rw [if_neg (by omega)])) e32
    exact pk_le (ri_g l 1) 2 (fun z => k484 0 (by rw [if_pos z])) (fun z => k484 1 (by rw [if_neg (by omega)])) e21
  have k441 : ∀ d1 d2 : Nat, d1 = (if ri_g l 1 ≤ 1 then 0 else 1) → d2 = (if ri_g l 2 ≤ 1 then 0 else 1) → wL_lawOf_441 post mc ms (nI w) (nI (ri_fal l 1)) (nI (ri_fal l 2)) (nI (ri_fal l 3)) (nI (ri_ris l 1)) (nI (ri_ris l 2)) (nI (ri_ris l 3)) (nI d2) (nI d0 + nI d1) kc ks f a1 a2 a3 a4 a5 a6 a7 a8 a9 := by
    intro d1 d2 e1 e2
    refine nm_e (br_t ?_ (pk_le (ri_g l 0) 2 (fun z => k470 0 (by rw [if_pos z])) (fun z => k470 1 (by rw [if_neg (by omega)])) (by rw [ri_ris1])))
    rw [nI_add, nI_add, pk_sub (by omega)]
    congr 1
    omega
  have k426 : ∀ d1 : Nat, d1 = (if ri_g l 1 ≤ 1 then 0 else 1) → wL_lawOf_426 post mc ms (nI w) (nI (ri_fal l 1)) (nI (ri_fal l 2)) (nI (ri_fal l 3)) (nI (ri_ris l 1)) (nI (ri_ris l 2)) (nI (ri_ris l 3)) (nI d1) (nI d0) kc ks f a1 a2 a3 a4 a5 a6 a7 a8 a9 := by
    intro d1 e1
    exact pk_le (ri_g l 2) 1 (fun z => k441 d1 0 e1 (by rw [if_pos z])) (fun z => k441 d1 1 e1 (by rw [if_neg (by omega)])) e32
  exact pk_le (ri_g l 1) 1 (fun z => k426 0 (by rw [if_pos z])) (fun z => k426 1 (by rw [if_neg (by omega)])) e21
/-- behind the checks of a letter: kin, count, the two rebuilds -/
theorem ri_275 {J : Int32 → Int32 → Int32 → Int32 → (Nat → Int32) → (Nat → Int32) → (Nat → Int32) → (Nat → Int32) → (Nat → Int32) → (Nat → Int32) → (Nat → Int32) → (Nat → Int32) → (Nat → Int32) → Prop} {x0 x7 : Int32} {ws : List Nat} {x : Nat} {l : List Nat} (hw : w < 2) (hn : ws.length < 7) (hl : ri_let (ws ++ [x])) (hm : ri_wm a1 a2 w (ws ++ [x])) (hr : ri_rs a3 a4 w 0 (ri_tab (ws ++ [x]))) (el : l = ri_ln (ri_tab (ws ++ [x])))
    (H : ∀ b3 b4 : Nat → Int32, ri_rs b3 b4 w 0 (ri_tab (ws ++ [x])) → J (nI (ri_g l 0)) (nI (ri_fal l 1)) (nI (ws.length + 1)) f a1 a2 b3 b4 a5 a6 a7 a8 a9) (z : Int32) :
    wL_lawOf_275 post mc ms J x0 x7 (nI w) (nI (ri_g (ri_ln (ri_tab ws)) 0)) (nI ws.length) (nI (ri_g l 0)) (nI (ri_g l 1)) (nI (ri_g l 2)) (nI (ri_fal l 1)) z z kc ks f a1 a2 a3 a4 a5 a6 a7 a8 a9 := by
  have hlen : (ws ++ [x]).length = ws.length + 1 := by rw [List.length_append]; rfl
  have ok := ri_ok_tab (ws.length + 1) (ws ++ [x]) hlen (by omega) hl
  have hsh := ri_shape ok (by omega)
  have hsum := ok.2.2.2
  have hlm := ri_rs_lm hr ok.2.2.1
  rw [← el] at hsh hsum hlm
  have t1 : (ws ++ [x]).take (ws.length + 1) = ws ++ [x] := List.take_of_length_le (by omega)
  have t0 : (ws ++ [x]).take ws.length = ws := List.take_left
  unfold wL_lawOf_275
  rw [nI_1 ws.length]
  refine br_t rfl (ri_wkin hw hsh hlm (ri_count hsh hsum (br_t rfl (ri_risingOf (n := ws.length + 1) hw (by omega) (by omega) hl hm (fun b3 b4 hb => br_t ?_ (ri_risingOf (n := ws.length) hw (by omega) (by omega) hl hm (fun c3 c4 hc => br_t ?_ (nm_e (H c3 c4 hc)))))))))
  · rw [t1, el]
  · rw [t0]
theorem ri_187 {J : Int32 → Int32 → Int32 → Int32 → (Nat → Int32) → (Nat → Int32) → (Nat → Int32) → (Nat → Int32) → (Nat → Int32) → (Nat → Int32) → (Nat → Int32) → (Nat → Int32) → (Nat → Int32) → Prop} {x0 x7 x8 x9 : Int32} {m t : Nat} {l : List Nat} (hs : l ∈ ri_parts 7 7 7) (hsum : l.sum = m + 1) (ht : t = if ri_fal l 1 ≤ 3 then 0 else ri_fal l 1 - 3)
    (H : ∀ z : Int32, wL_lawOf_275 post mc ms J x0 x7 x8 x9 (nI m) (nI (ri_g l 0)) (nI (ri_g l 1)) (nI (ri_g l 2)) (nI (ri_fal l 1)) z z kc ks f a1 a2 a3 a4 a5 a6 a7 a8 a9) :
    wL_lawOf_187 post mc ms J x0 x7 x8 x9 (nI m) (nI (ri_g l 0)) (nI (ri_g l 1)) (nI (ri_g l 2)) (nI (ri_fal l 1)) (nI t) kc ks f a1 a2 a3 a4 a5 a6 a7 a8 a9 := by
  have hb := ri_s_g hs
  have b0 := hb 0
  have b1 := hb 1
  have b2 := hb 2
  obtain ⟨q0, q1, q2⟩ := ri_s_pos l hs
  obtain ⟨s1, s2⟩ := ri_s_sum l hs
  have k251 : ∀ z : Int32, wL_lawOf_251 post mc ms J x0 x7 x8 x9 (nI m) (nI (ri_g l 0)) (nI (ri_g l 1)) (nI (ri_g l 2)) (nI (ri_fal l 1)) z z kc ks f a1 a2 a3 a4 a5 a6 a7 a8 a9 := by
    intro z
    exact br_t rfl (pk_le (ri_fal l 1) 2 (fun y => pk_le (ri_g l 2) 0 (fun _ => H 0) (fun q => absurd (q2.mp y) (by omega))) (fun y => pk_le (ri_g l 2) 0 (fun q => absurd (q2.mpr q) (by omega)) (fun _ => H 1)))
  have k227 : ∀ z : Int32, wL_lawOf_227 post mc ms J x0 x7 x8 x9 (nI m) (nI (ri_g l 0)) (nI (ri_g l 1)) (nI (ri_g l 2)) (nI (ri_fal l 1)) z z kc ks f a1 a2 a3 a4 a5 a6 a7 a8 a9 := by
    intro z
    exact br_t rfl (pk_le (ri_fal l 1) 1 (fun y => pk_le (ri_g l 1) 0 (fun _ => k251 0) (fun q => absurd (q1.mp y) (by omega))) (fun y => pk_le (ri_g l 1) 0 (fun q => absurd (q1.mpr q) (by omega)) (fun _ => k251 1)))
  refine br_t ?_ (pk_le (ri_fal l 1) 0 (fun y => pk_le (ri_g l 0) 0 (fun _ => k227 0) (fun q => absurd (q0.mp y) (by omega))) (fun y => pk_le (ri_g l 0) 0 (fun q => absurd (q0.mpr q) (by omega)) (fun _ => k227 1)))
  rw [nI_add, nI_add, nI_add, nI_1, ht, s1, hsum]
/-- the first loop: a letter a turn -/
theorem ri_33 {x0 : Int32} {n : Nat} (hw : w < 2) (hn : n ≤ 7) (H : post 1 ()) : ∀ (k : Nat) (ws : List Nat) (f : Int32) (a1 a2 a3 a4 a5 a6 a7 a8 a9 : Nat → Int32), ws.length + k = n → ri_let ws → ri_wm a1 a2 w ws → ri_rs a3 a4 w 0 (ri_tab ws) →
    wL_lawOf_33 post mc ms x0 (nI n) (nI w) kc ks (k + 1) (nI (ri_g (ri_ln (ri_tab ws)) 0)) (nI (ri_fal (ri_ln (ri_tab ws)) 1)) (nI ws.length) f a1 a2 a3 a4 a5 a6 a7 a8 a9
  | 0, ws, f, a1, a2, a3, a4, a5, a6, a7, a8, a9, hk, hl, hm, hr => by
    have ok := ri_ok_tab ws.length ws rfl (by omega) hl
    have hsh := ri_shape ok (by omega)
    have hlm := ri_rs_lm hr ok.2.2.1
    have hb := ri_s_g hsh
    have b0 := hb 0
    have hps := ri_s_paths _ hsh
    rw [ok.2.2.2] at hps
    obtain ⟨_, k2, k3, _⟩ := ri_K_ok (ws := ws) (by omega) hl
    obtain ⟨p, hp, hpc⟩ := ri_g_of k3
    have HK : wpX_kin (fun r_55 => (∃ fu523 : Nat, wL_lawOf_523 post mc ms (nI w) r_55 kc ks fu523 0 (-1) 0 f a1 a2 a3 a4 a5 a6 a7 a8 a9)) (f, a1, a2, a3, a4, a5, a6, a7, a8, a9) (nI w) := by
      refine ri_wkin hw hsh hlm ⟨(ri_K ws).length + 1, ?_⟩
      have t := ri_523 (post := post) (mc := mc) (ms := ms) (kc := kc) (ks := ks) hw (by omega) hl hm hr hp hpc H (ri_K ws).length 0 (-1) f a5 a6 a7 a8 a9 (by omega) (fun z => ?_)
      · rw [if_neg (by omega)] at t
        rw [← hps.1, ← k2]
        exact t
      · have h31 : ri_g (ri_K ws) 0 < 2 ^ 31 := Nat.lt_trans ((ri_K_ok (ws := ws) (by omega) hl).2.2.2 _ (ri_g_mem z)) (by decide)
        apply Int32.lt_iff_toInt_lt.mpr
        rw [nI_toInt h31]
        have : (-1 : Int32).toInt = -1 := by decide
        omega
    refine pk_le n ws.length (fun _ => ri_falling (m := 2) hw (by omega) hb hlm (ri_falling (m := 3) hw (by omega) hb hlm (ri_rising (m := 1) hw (by omega) hlm (ri_rising (m := 2) hw (by omega) hlm (ri_rising (m := 3) hw (by omega) hlm ?_))))) (fun z => absurd z (by omega))
    exact pk_le (ri_g (ri_ln (ri_tab ws)) 0) 1 (fun z => ri_412 hsh 0 (by rw [if_pos z]) HK) (fun z => ri_412 hsh 1 (by rw [if_neg (by omega)]) HK) (by rw [ri_ris1])
  | k + 1, ws, f, a1, a2, a3, a4, a5, a6, a7, a8, a9, hk, hl, hm, hr => by
    refine pk_le n ws.length (fun z => absurd z (by omega)) (fun _ => ri_at (fun x hx1 hx7 => ri_add hw (by omega) hl hx1 hx7 hm hr (fun b1 b2 b3 b4 hbm hbr => br_t (nI_1 _).symm ?_)))
    have ok := ri_ok_tab ws.length ws rfl (by omega) hl
    have hsh := ri_shape ok (by omega)
    have hl' : ri_let (ws ++ [x]) := ri_let_snoc hl (by omega)
    have hlen : (ws ++ [x]).length = ws.length + 1 := by rw [List.length_append]; rfl
    have ok' := ri_ok_tab (ws.length + 1) (ws ++ [x]) hlen (by omega) hl'
    have hsh' := ri_shape ok' (by omega)
    have hsum' := ok'.2.2.2
    have hlm := ri_rs_lm hbr ok'.2.2.1
    have hb := ri_s_g hsh'
    obtain ⟨_, _, _, o1, o2, _⟩ := ri_s_len _ hsh'
    obtain ⟨i1, i2⟩ := ri_ln_ins (ri_tab ws) x (ri_ok_ins (x := x) ok (by omega) (by omega)).2
    rw [← ri_tab_snoc] at i2
    have hstep := ri_s_step _ hsh _ (show (ri_ins x (ri_tab ws)).2 < 7 by have := ok.2.2.1; omega)
    rw [← i2] at hstep
    have hone : ri_g (ri_ln (ri_tab ws)) 0 ≤ ri_g (ri_ln (ri_tab (ws ++ [x]))) 0 ∧ ri_g (ri_ln (ri_tab (ws ++ [x]))) 0 ≤ ri_g (ri_ln (ri_tab ws)) 0 + 1 := by
      rw [i2, ri_g_set (by rw [ri_ln_len]; exact i1)]
      split
      · rename_i e
        rw [← e]
        omega
      · omega
    have ih := fun (c3 c4 : Nat → Int32) (hc : ri_rs c3 c4 w 0 (ri_tab (ws ++ [x]))) => ri_33 (x0 := x0) hw hn H k (ws ++ [x]) f b1 b2 c3 c4 a5 a6 a7 a8 a9 (by omega) hl' hbm hc
    rw [hlen] at ih
    have h75 := ri_275 (post := post) (mc := mc) (ms := ms) (kc := kc) (ks := ks) (x0 := x0) (x7 := nI n) hw (show ws.length < 7 by omega) hl' hbm hbr rfl ih
    clear ih
    have bs := ri_s_g hsh 0
    have bsf := (ri_s_sum _ hsh).2
    have bsf' := (ri_s_sum _ hsh').2
    generalize ri_ln (ri_tab (ws ++ [x])) = l at *
    have b0 := hb 0
    have b1' := hb 1
    have b2' := hb 2
    refine ri_rising (m := 1) hw (by omega) hlm (ri_rising (m := 2) hw (by omega) hlm (nm_r (e' := nI (ri_g l 1)) (by rw [ri_ris2, ri_ris1, pk_sub (by omega)]; congr 1; omega) (ri_rising (m := 3) hw (by omega) hlm (nm_r (e' := nI (ri_g l 2)) (by rw [ri_ris3, ri_ris1, pk_sub (by omega), pk_sub (by omega)]; congr 1; omega) (ri_falling (m := 1) hw (by omega) hb hlm ?_)))))
    rw [ri_ris1]
    refine pk_lt (ri_g l 0) (ri_g (ri_ln (ri_tab ws)) 0) (fun z => absurd z (by omega)) (fun _ => ?_)
    refine pk_lt (ri_g (ri_ln (ri_tab ws)) 0 + 1) (ri_g l 0) (fun z => absurd z (by omega)) (fun _ => ?_) (nI_1 _)
    refine pk_lt (ri_fal l 1) (ri_fal (ri_ln (ri_tab ws)) 1) (fun z => absurd z (by omega)) (fun _ => ?_)
    refine pk_lt (ri_fal (ri_ln (ri_tab ws)) 1 + 1) (ri_fal l 1) (fun z => absurd z (by omega)) (fun _ => ?_) (nI_1 _)
    refine pk_lt (ri_g l 1) 0 (fun z => absurd z (by omega)) (fun _ => ?_)
    refine pk_lt (ri_g l 0) (ri_g l 1) (fun z => absurd z (by omega)) (fun _ => ?_)
    refine pk_lt (ri_g l 2) 0 (fun z => absurd z (by omega)) (fun _ => ?_)
    refine pk_le (ri_g l 2) (ri_g l 1) (fun _ => ?_) (fun z => absurd z (by omega))
    refine pk_le (ri_fal l 1) 3 (fun z => ?_) (fun z => ?_)
    · exact ri_187 (t := 0) hsh' hsum' (by rw [if_pos z]) h75
    · have e3 : nI (ri_fal l 1) - 3 = nI (ri_fal l 1 - 3) := pk_sub (b := 3) (by omega)
      rw [e3]
      exact ri_187 hsh' hsum' (by rw [if_neg (by omega)]) h75
end
end
section
/-! part 10: the top -/
theorem ri_lawOf {post : Int32 → St0 → Prop} (H : post 1 ()) (p0 p1 p2 p3 p4 p5 : Int32) : wpL_lawOf post 10 666 () p0 p1 p2 p3 p4 p5 := by
  obtain ⟨j, hj, ej⟩ := pk_andE p1 (m := 127) 7 (by decide)
  obtain ⟨w, hw, ew⟩ := pk_andE p4 (m := 1) 1 (by decide)
  refine ⟨by decide, by decide, 9, 656, by decide, by decide, by decide, by decide, by decide, by decide, by decide, by decide, by decide, by decide, by decide, by decide, by decide, by decide, by decide, by decide, by decide, by decide, by decide, by decide, ?_⟩
  refine ⟨by decide, nm_r (e' := nI (j % 8)) (by rw [ej]; exact pk_rem (a := j) (d := 8) (by omega) (by decide) (by decide)) (nm_r (e' := nI w) ew ⟨j % 8 + 1, ?_⟩)⟩
  have h := ri_33 (post := post) (mc := 10) (ms := 666) (kc := 1 + 9) (ks := 10 + 656) (x0 := p0) (w := w) (n := j % 8) (by omega) (by omega) H (j % 8) [] 0 (fun _ => 0) (fun _ => 0) (fun _ => 0) (fun _ => 0) (fun _ => 0) (fun _ => 0) (fun _ => 0) (fun _ => 0) (fun _ => 0) (Nat.zero_add _) (fun i => by rw [ri_g_ge (Nat.zero_le _)]; decide) ⟨rfl, fun i hi => absurd hi (Nat.not_lt_zero i)⟩ (ri_rs_0 7 0 (fun _ _ _ => rfl))
  exact h
theorem i_vc (xs : Nat → Int32) (L : Nat) (hL : L ≤ 6) : wpL_law (fun r => r = 1) L xs := by
  unfold wpL_law
  exact ri_cell (k := 0) hL (by omega) (fun x1 => ri_cell (k := 1) hL (by omega) (fun x2 => ri_cell (k := 2) hL (by omega) (fun x3 => ri_cell (k := 3) hL (by omega) (fun x4 => ri_cell (k := 4) hL (by omega) (fun x5 => ri_cell (k := 5) hL (by omega) (fun x6 => ⟨10, 666, by decide, by decide, ri_lawOf rfl x1 x2 x3 x4 x5 x6⟩))))))
end
