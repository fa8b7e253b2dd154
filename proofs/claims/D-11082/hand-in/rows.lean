section
/-! ===== numbers ===== -/
theorem lz_i4 (p l : Nat) : nI p * 4 + nI l = nI (p * 4 + l) := by
  rw [show (4 : Int32) = nI 4 from rfl, pk_mul, nI_add]
theorem lz_i11 (p q : Nat) : nI p * 11 + nI q = nI (p * 11 + q) := by
  rw [show (11 : Int32) = nI 11 from rfl, pk_mul, nI_add]
theorem lz_c4 {p l : Nat} (h : p * 4 + l < 2 ^ 31) : (nI p * 4 + nI l).toNatClampNeg = p * 4 + l := by
  rw [lz_i4, nI_clamp h]
theorem lz_c11 {p q : Nat} (h : p * 11 + q < 2 ^ 31) : (nI p * 11 + nI q).toNatClampNeg = p * 11 + q := by
  rw [lz_i11, nI_clamp h]
theorem lz_b8 : ∀ n, n < 128 → (nI n).toInt8.toInt32 = nI n := by decide +kernel
/-- a flag -/
def lz_fl (c : Prop) [Decidable c] : Int32 := if c then 1 else 0
theorem lz_flB {c A B : Prop} [Decidable c] (f : ¬ c → A) (g : c → B) : (lz_fl c = 0 → A) ∧ (¬ lz_fl c = 0 → B) := by
  unfold lz_fl
  by_cases h : c
  · rw [if_pos h]
    exact ⟨fun z => absurd z (by decide), fun _ => g h⟩
  · rw [if_neg h]
    exact ⟨fun _ => f h, fun z => absurd rfl z⟩
theorem lz_fl1 {c : Prop} [Decidable c] (h : c) : lz_fl c = 1 := if_pos h
theorem lz_fl0 {c : Prop} [Decidable c] (h : ¬ c) : lz_fl c = 0 := if_neg h
/-! ===== runs of an automaton over words ===== -/
def lz_run (d : Nat → Nat → Nat) : Nat → List Nat → Nat
  | q, [] => q
  | q, l :: w => lz_run d (d q l) w
def lz_cnt (d : Nat → Nat → Nat) : Nat → List Nat → Nat
  | _, [] => 0
  | q, l :: w => (if d q l = 2 then 1 else 0) + lz_cnt d (d q l) w
theorem lz_run_app (d : Nat → Nat → Nat) (u v : List Nat) : ∀ q, lz_run d q (u ++ v) = lz_run d (lz_run d q u) v := by
  induction u with
  | nil => intro q; rfl
  | cons l u ih => intro q; exact ih (d q l)
theorem lz_cnt_app (d : Nat → Nat → Nat) (u v : List Nat) : ∀ q, lz_cnt d q (u ++ v) = lz_cnt d q u + lz_cnt d (lz_run d q u) v := by
  induction u with
  | nil => intro q; exact (Nat.zero_add _).symm
  | cons l u ih =>
    intro q
    show (if d q l = 2 then 1 else 0) + lz_cnt d (d q l) (u ++ v) = (if d q l = 2 then 1 else 0) + lz_cnt d (d q l) u + lz_cnt d (lz_run d (d q l) u) v
    rw [ih (d q l), Nat.add_assoc]
theorem lz_run_1 (d : Nat → Nat → Nat) (q : Nat) (u : List Nat) (l : Nat) : lz_run d q (u ++ [l]) = d (lz_run d q u) l := by
  rw [lz_run_app]; rfl
theorem lz_cnt_1 (d : Nat → Nat → Nat) (q : Nat) (u : List Nat) (l : Nat) : lz_cnt d q (u ++ [l]) = lz_cnt d q u + (if d (lz_run d q u) l = 2 then 1 else 0) := by
  rw [lz_cnt_app]; rfl
theorem lz_cnt_le (d : Nat → Nat → Nat) (w : List Nat) : ∀ q, lz_cnt d q w ≤ w.length := by
  induction w with
  | nil => intro q; exact Nat.le_refl 0
  | cons l w ih =>
    intro q
    have h := ih (d q l)
    show (if d q l = 2 then 1 else 0) + lz_cnt d (d q l) w ≤ w.length + 1
    split <;> omega
theorem lz_run_le {d : Nat → Nat → Nat} (hd : ∀ s l, d s l ≤ 2) (w : List Nat) : ∀ q, q ≤ 2 → lz_run d q w ≤ 2 := by
  induction w with
  | nil => intro q hq; exact hq
  | cons l w ih => intro q _; exact ih (d q l) (hd q l)
/-! ===== the automaton of the pattern p q ===== -/
def lz_d0 (p l : Nat) : Nat := if l = p then 1 else 0
def lz_d1 (p q l : Nat) : Nat := if l = q then 2 else lz_d0 p l
def lz_d (p q s l : Nat) : Nat := if s = 0 then lz_d0 p l else if s = 1 then lz_d1 p q l else if q = p then lz_d1 p q l else lz_d0 p l
theorem lz_d0_le (p l : Nat) : lz_d0 p l ≤ 1 := by
  unfold lz_d0; split <;> omega
theorem lz_d1_le (p q l : Nat) : lz_d1 p q l ≤ 2 := by
  have h := lz_d0_le p l
  unfold lz_d1; split <;> omega
theorem lz_d_le (p q s l : Nat) : lz_d p q s l ≤ 2 := by
  have h := lz_d0_le p l
  have h1 := lz_d1_le p q l
  unfold lz_d
  split
  · omega
  · split
    · omega
    · split <;> omega
/-! ===== the plain law ===== -/
theorem lz_run_rep (a p q k : Nat) : lz_run (lz_d p q) 0 (List.replicate k a) = if k = 0 then 0 else if p = a then (if q = a ∧ 2 ≤ k then 2 else 1) else 0 := by
  induction k with
  | zero => rfl
  | succ k ih =>
    rw [List.replicate_succ', lz_run_1, ih]
    grind [lz_d, lz_d1, lz_d0]
theorem lz_cnt_rep (a p q k : Nat) : lz_cnt (lz_d p q) 0 (List.replicate k a) = if p = a ∧ q = a then k - 1 else 0 := by
  induction k with
  | zero => simp [lz_cnt]
  | succ k ih =>
    rw [List.replicate_succ', lz_cnt_1, ih, lz_run_rep]
    grind [lz_d, lz_d1, lz_d0]
/-- the law's text -/
def lz_txt (k a b : Nat) : List Nat := if k < 120 then List.replicate k a ++ [b] else List.replicate k a
theorem lz_txt_len (k a b : Nat) : (lz_txt k a b).length = if k < 120 then k + 1 else k := by
  unfold lz_txt
  split <;> simp
theorem lz_txt_run (k a b p q : Nat) (hk : 1 ≤ k) : lz_run (lz_d p q) 0 (lz_txt k a b) = if (k < 120 ∧ p = a ∧ q = b) ∨ (¬ k < 120 ∧ p = a ∧ q = a) then 2 else if p = (if k < 120 then b else a) then 1 else 0 := by
  unfold lz_txt
  split
  · rw [lz_run_1, lz_run_rep]
    grind [lz_d, lz_d1, lz_d0]
  · rw [lz_run_rep]
    grind
theorem lz_txt_cnt (k a b p q : Nat) (hk : 1 ≤ k) : lz_cnt (lz_d p q) 0 (lz_txt k a b) = (if p = a ∧ q = a then k - 1 else 0) + (if k < 120 ∧ p = a ∧ q = b then 1 else 0) := by
  unfold lz_txt
  split
  · rw [lz_cnt_1, lz_run_rep, lz_cnt_rep]
    grind [lz_d, lz_d1, lz_d0]
  · rw [lz_cnt_rep]
    grind
theorem lz_txt_in (k a b p q w : Nat) (hk : 1 ≤ k) (hw : w ≤ (lz_txt k a b).length) : lz_cnt (lz_d p q) 0 ((lz_txt k a b).take w) = (if p = a ∧ q = a then (if k < w then k - 1 else if 0 < w then w - 1 else 0) else 0) + (if (k < 120 ∧ p = a ∧ q = b) ∧ w = k + 1 then 1 else 0) := by
  by_cases h : w ≤ k
  · have e : (lz_txt k a b).take w = List.replicate w a := by
      unfold lz_txt
      split
      · rw [List.take_append_of_le_length (by simp; exact h), List.take_replicate, Nat.min_eq_left h]
      · rw [List.take_replicate, Nat.min_eq_left h]
    rw [e, lz_cnt_rep]
    grind
  · rw [lz_txt_len] at hw
    have hk2 : k < 120 := by
      split at hw <;> omega
    rw [if_pos hk2] at hw
    have e : (lz_txt k a b).take w = lz_txt k a b := List.take_of_length_le (by rw [lz_txt_len, if_pos hk2]; omega)
    rw [e, lz_txt_cnt k a b p q hk]
    grind
theorem lz_txt_pos (k a b p q e : Nat) (hk : 1 ≤ k) (h1 : 1 ≤ e) (h2 : e ≤ (lz_txt k a b).length) (h3 : lz_cnt (lz_d p q) 0 ((lz_txt k a b).take (e - 1)) = 0) (h4 : 1 ≤ lz_cnt (lz_d p q) 0 ((lz_txt k a b).take e)) : ((p = a ∧ q = a) ∧ 2 ≤ k ∧ e = 2) ∨ (¬ ((p = a ∧ q = a) ∧ 2 ≤ k) ∧ (k < 120 ∧ p = a ∧ q = b) ∧ e = k + 1) := by
  rw [lz_txt_in k a b p q (e - 1) hk (by omega)] at h3
  rw [lz_txt_in k a b p q e hk h2] at h4
  grind
end
section
/-! ===== the picture ===== -/
/-- W p: the word of phrase p; parents, last letters and sizes match it -/
def lz_D (W : Nat → List Nat) (P : Nat) (a1 a2 a3 : Nat → Int32) : Prop :=
  ∀ p, p < P → a3 p = nI (W p).length ∧ ((p < 4 ∧ W p = [p] ∧ a1 p = -1 ∧ a2 p = nI p) ∨ (4 ≤ p ∧ ∃ r l, r < p ∧ l < 4 ∧ W p = W r ++ [l] ∧ a1 p = nI r ∧ a2 p = nI l))
/-- children match the words -/
def lz_K (W : Nat → List Nat) (P : Nat) (a4 : Nat → Int32) : Prop :=
  ∀ p l, p < P → l < 4 → a4 (p * 4 + l) = -1 ∨ ∃ c, c < P ∧ a4 (p * 4 + l) = nI c ∧ W c = W p ++ [l]
/-- the text T of N letters: X i lies ahead of its phrase number i, which is ph i; C whole codes, o is under way -/
def lz_T (W X : Nat → List Nat) (ph : Nat → Nat) (C o N : Nat) (T : List Nat) (a1 a2 a3 a4 a6 a7 : Nat → Int32) : Prop :=
  T.length = N ∧ N ≤ 120 ∧ ph C = o ∧ lz_D W (C + 4) a1 a2 a3 ∧ lz_K W (C + 4) a4 ∧ X 0 = [] ∧ X (C + 1) = T ∧
  (∀ i, i ≤ C → X (i + 1) = X i ++ W (ph i)) ∧ (∀ i, i ≤ C → ph i < C + 4) ∧ (∀ i, i ≤ C → a7 i = nI (X i).length) ∧ (∀ i, i < C → a6 i = nI (ph i))
theorem lz_len {W : Nat → List Nat} {P : Nat} {a1 a2 a3 : Nat → Int32} (h : lz_D W P a1 a2 a3) : ∀ n p, p ≤ n → p < P → 1 ≤ (W p).length ∧ (W p).length ≤ p + 1 := by
  intro n
  induction n with
  | zero =>
    intro p hn hp
    rcases (h p hp).2 with ⟨_, e, _⟩ | ⟨h4, _⟩
    · rw [e]; simp
    · omega
  | succ n ih =>
    intro p hn hp
    rcases (h p hp).2 with ⟨_, e, _⟩ | ⟨_, r, l, hr, _, e, _⟩
    · rw [e]; simp
    · have hh := ih r (by omega) (by omega)
      rw [e, List.length_append]
      show 1 ≤ (W r).length + 1 ∧ (W r).length + 1 ≤ p + 1
      omega
theorem lz_Xlen {W X : Nat → List Nat} {ph : Nat → Nat} {C P : Nat} {a1 a2 a3 : Nat → Int32} (hD : lz_D W P a1 a2 a3) (hX : ∀ i, i ≤ C → X (i + 1) = X i ++ W (ph i)) (hp : ∀ i, i ≤ C → ph i < P) : ∀ i, i ≤ C + 1 → i ≤ (X i).length := by
  intro i
  induction i with
  | zero => intro _; omega
  | succ i ih =>
    intro hi
    have h1 := ih (by omega)
    have h2 := lz_len hD _ (ph i) (Nat.le_refl _) (hp i (by omega))
    rw [hX i (by omega), List.length_append]
    omega
theorem lz_Xpre {W X : Nat → List Nat} {ph : Nat → Nat} {C : Nat} (hX : ∀ i, i ≤ C → X (i + 1) = X i ++ W (ph i)) (i : Nat) : ∀ c, i + c ≤ C + 1 → ∃ R, X (i + c) = X i ++ R := by
  intro c
  induction c with
  | zero => intro _; exact ⟨[], by simp⟩
  | succ c ih =>
    intro hi
    obtain ⟨R, hR⟩ := ih (by omega)
    refine ⟨R ++ W (ph (i + c)), ?_⟩
    rw [← Nat.add_assoc, hX (i + c) (by omega), hR, List.append_assoc]
/-- the text from any phrase on -/
theorem lz_Xtxt {W X : Nat → List Nat} {ph : Nat → Nat} {C o N : Nat} {T : List Nat} {a1 a2 a3 a4 a6 a7 : Nat → Int32} (h : lz_T W X ph C o N T a1 a2 a3 a4 a6 a7) {i : Nat} (hi : i ≤ C + 1) : ∃ R, T = X i ++ R := by
  obtain ⟨_, _, _, _, _, _, hT, hX, _⟩ := h
  obtain ⟨R, hR⟩ := lz_Xpre hX i (C + 1 - i) (by omega)
  rw [show i + (C + 1 - i) = C + 1 by omega, hT] at hR
  exact ⟨R, hR⟩
theorem lz_Xle {W X : Nat → List Nat} {ph : Nat → Nat} {C o N : Nat} {T : List Nat} {a1 a2 a3 a4 a6 a7 : Nat → Int32} (h : lz_T W X ph C o N T a1 a2 a3 a4 a6 a7) {i : Nat} (hi : i ≤ C + 1) : (X i).length ≤ N := by
  obtain ⟨R, hR⟩ := lz_Xtxt h hi
  have e := congrArg List.length hR
  rw [List.length_append, h.1] at e
  omega
theorem lz_CN {W X : Nat → List Nat} {ph : Nat → Nat} {C o N : Nat} {T : List Nat} {a1 a2 a3 a4 a6 a7 : Nat → Int32} (h : lz_T W X ph C o N T a1 a2 a3 a4 a6 a7) : C + 1 ≤ N := by
  obtain ⟨hN, _, _, hD, _, _, hT, hX, hp, _⟩ := h
  have e := lz_Xlen hD hX hp (C + 1) (Nat.le_refl _)
  rw [hT, hN] at e
  exact e
/-! ===== a phrase more ===== -/
theorem lz_Dnew {W W' : Nat → List Nat} {P o l : Nat} {a1 a2 a3 : Nat → Int32} (h : lz_D W P a1 a2 a3) (hP : 4 ≤ P) (ho : o < P) (hl : l < 4) (hW1 : W' P = W o ++ [l]) (hW2 : ∀ p, p < P → W' p = W p) : lz_D W' (P + 1) (upd a1 P (nI o)) (upd a2 P (nI l)) (upd a3 P (a3 o + 1)) := by
  intro p hp
  by_cases e : p = P
  · subst e
    rw [pk_us, pk_us, pk_us, hW1]
    refine ⟨?_, Or.inr ⟨hP, o, l, ho, hl, by rw [hW2 o ho], rfl, rfl⟩⟩
    rw [(h o ho).1, nI_1, List.length_append]
    rfl
  · have hp' : p < P := by omega
    rw [pk_un e, pk_un e, pk_un e, hW2 p hp']
    refine ⟨(h p hp').1, ?_⟩
    rcases (h p hp').2 with g | ⟨h4, r, l', hr, hl', e1, e2, e3⟩
    · exact Or.inl g
    · exact Or.inr ⟨h4, r, l', hr, hl', by rw [hW2 r (by omega)]; exact e1, e2, e3⟩
theorem lz_Knew {W W' : Nat → List Nat} {P o l : Nat} {a4 a4' : Nat → Int32} (h : lz_K W P a4) (ho : o < P) (hl : l < 4) (hW1 : W' P = W o ++ [l]) (hW2 : ∀ p, p < P → W' p = W p) (h1 : ∀ i, i < 4 → a4' (P * 4 + i) = -1) (h2 : ∀ i, i < P * 4 ∨ P * 4 + 4 ≤ i → a4' i = upd a4 (o * 4 + l) (nI P) i) : lz_K W' (P + 1) a4' := by
  intro p j hp hj
  by_cases e : p = P
  · subst e
    exact Or.inl (h1 j hj)
  · have hp' : p < P := by omega
    rw [h2 _ (by omega)]
    by_cases g : p * 4 + j = o * 4 + l
    · have e1 : p = o := by omega
      have e2 : j = l := by omega
      subst e1 e2
      exact Or.inr ⟨P, by omega, pk_us, by rw [hW1, hW2 p ho]⟩
    · rw [pk_un g]
      rcases h p j hp' hj with z | ⟨c, hc, e1, e2⟩
      · exact Or.inl z
      · exact Or.inr ⟨c, by omega, e1, by rw [hW2 c hc, hW2 p hp']; exact e2⟩
theorem lz_Tnew {W X : Nat → List Nat} {ph : Nat → Nat} {C o N l : Nat} {T : List Nat} {a1 a2 a3 a4 a4' a6 a7 : Nat → Int32} (h : lz_T W X ph C o N T a1 a2 a3 a4 a6 a7) (hN : N < 120) (hl : l < 4) (h1 : ∀ i, i < 4 → a4' ((C + 4) * 4 + i) = -1) (h2 : ∀ i, i < (C + 4) * 4 ∨ (C + 4) * 4 + 4 ≤ i → a4' i = upd a4 (o * 4 + l) (nI (C + 4)) i) :
    ∃ W' X' ph', lz_T W' X' ph' (C + 1) l (N + 1) (T ++ [l]) (upd a1 (C + 4) (nI o)) (upd a2 (C + 4) (nI l)) (upd a3 (C + 4) (a3 o + 1)) a4' (upd a6 C (nI o)) (upd a7 (C + 1) (nI N)) := by
  obtain ⟨q1, q2, q3, q4, q5, q6, q7, q8, q9, q10, q11⟩ := h
  have ho : o < C + 4 := by rw [← q3]; exact q9 C (Nat.le_refl C)
  have hW1 : (fun p => if p = C + 4 then W o ++ [l] else W p) (C + 4) = W o ++ [l] := if_pos rfl
  have hW2 : ∀ p, p < C + 4 → (fun p => if p = C + 4 then W o ++ [l] else W p) p = W p := fun p hp => if_neg (by omega)
  have hX1 : (fun i => if i = C + 1 + 1 then T ++ [l] else X i) (C + 1 + 1) = T ++ [l] := if_pos rfl
  have hX2 : ∀ i, i ≤ C + 1 → (fun i => if i = C + 1 + 1 then T ++ [l] else X i) i = X i := fun i hi => if_neg (by omega)
  have hp1 : (fun i => if i = C + 1 then l else ph i) (C + 1) = l := if_pos rfl
  have hp2 : ∀ i, i ≤ C → (fun i => if i = C + 1 then l else ph i) i = ph i := fun i hi => if_neg (by omega)
  revert hW1 hW2 hX1 hX2 hp1 hp2
  generalize (fun p => if p = C + 4 then W o ++ [l] else W p) = W'
  generalize (fun i => if i = C + 1 + 1 then T ++ [l] else X i) = X'
  generalize (fun i => if i = C + 1 then l else ph i) = ph'
  intro hW1 hW2 hX1 hX2 hp1 hp2
  refine ⟨W', X', ph', ?_, by omega, hp1, lz_Dnew q4 (by omega) ho hl hW1 hW2, lz_Knew q5 ho hl hW1 hW2 h1 h2, ?_, hX1, ?_, ?_, ?_, ?_⟩
  · rw [List.length_append, q1]; rfl
  · rw [hX2 0 (by omega)]; exact q6
  · intro i hi
    by_cases e : i = C + 1
    · subst e
      have hWl : W' l = [l] := by
        rw [hW2 l (by omega)]
        rcases (q4 l (by omega)).2 with g | g
        · exact g.2.1
        · omega
      rw [hX1, hX2 (C + 1) (by omega), hp1, hWl, q7]
    · rw [hX2 (i + 1) (by omega), hX2 i (by omega), hp2 i (by omega), hW2 _ (q9 i (by omega))]
      exact q8 i (by omega)
  · intro i hi
    by_cases e : i = C + 1
    · subst e
      rw [hp1]; omega
    · rw [hp2 i (by omega)]
      have := q9 i (by omega)
      omega
  · intro i hi
    by_cases e : i = C + 1
    · subst e
      rw [pk_us, hX2 (C + 1) (by omega), q7, q1]
    · rw [pk_un e, hX2 i (by omega)]
      exact q10 i (by omega)
  · intro i hi
    rw [hp2 i (by omega)]
    by_cases e : i = C
    · subst e
      rw [pk_us, q3]
    · rw [pk_un e]
      exact q11 i (by omega)
theorem lz_Told {W X : Nat → List Nat} {ph : Nat → Nat} {C o N l c : Nat} {T : List Nat} {a1 a2 a3 a4 a6 a7 : Nat → Int32} (h : lz_T W X ph C o N T a1 a2 a3 a4 a6 a7) (hN : N < 120) (hc : c < C + 4) (hw : W c = W o ++ [l]) :
    ∃ X' ph', lz_T W X' ph' C c (N + 1) (T ++ [l]) a1 a2 a3 a4 a6 a7 := by
  obtain ⟨q1, q2, q3, q4, q5, q6, q7, q8, q9, q10, q11⟩ := h
  have hX1 : (fun i => if i = C + 1 then T ++ [l] else X i) (C + 1) = T ++ [l] := if_pos rfl
  have hX2 : ∀ i, i ≤ C → (fun i => if i = C + 1 then T ++ [l] else X i) i = X i := fun i hi => if_neg (by omega)
  have hp1 : (fun i => if i = C then c else ph i) C = c := if_pos rfl
  have hp2 : ∀ i, i < C → (fun i => if i = C then c else ph i) i = ph i := fun i hi => if_neg (by omega)
  revert hX1 hX2 hp1 hp2
  generalize (fun i => if i = C + 1 then T ++ [l] else X i) = X'
  generalize (fun i => if i = C then c else ph i) = ph'
  intro hX1 hX2 hp1 hp2
  refine ⟨X', ph', ?_, by omega, hp1, q4, q5, ?_, hX1, ?_, ?_, ?_, ?_⟩
  · rw [List.length_append, q1]; rfl
  · rw [hX2 0 (by omega)]; exact q6
  · intro i hi
    by_cases e : i = C
    · subst e
      rw [hX1, hX2 i (by omega), hp1, hw, ← List.append_assoc, ← q7, q8 i (by omega), q3]
    · rw [hX2 (i + 1) (by omega), hX2 i (by omega), hp2 i (by omega)]
      exact q8 i (by omega)
  · intro i hi
    by_cases e : i = C
    · subst e
      rw [hp1]; exact hc
    · rw [hp2 i (by omega)]
      exact q9 i (by omega)
  · intro i hi
    rw [hX2 i hi]
    exact q10 i hi
  · intro i hi
    rw [hp2 i hi]
    exact q11 i hi
/-! ===== makePhrase ===== -/
section
variable {f0 f1 f2 f3 f4 f5 : Int32} {a1 a2 a3 a4 a5 a6 a7 a8 a9 a10 a11 b4 : Nat → Int32}
theorem lz_mp39 {post : St2 → Prop} {x2 : Int32} {p l : Nat} (hp : p < 128) (hl : l < 4) (hx : ¬ 0 ≤ x2 ∨ ∃ u, u < 128 ∧ x2 = nI u)
    (H : ∀ a4' a5' : Nat → Int32, (∀ i, i < 4 → a4' (p * 4 + i) = -1) → (∀ i, i < p * 4 ∨ p * 4 + 4 ≤ i → a4' i = b4 i) → post (f0, f1, f2, f3, f4, f5, a1, a2, a3, a4', a5', a6, a7, a8, a9, a10, a11)) :
    ∀ (c j : Nat) (a4 a5 : Nat → Int32), j + c = 4 → (∀ i, i < j → a4 (p * 4 + i) = -1) → (∀ i, i < p * 4 ∨ p * 4 + 4 ≤ i → a4 i = b4 i) → wX_makePhrase_39 post (nI p) x2 (nI l) f0 f1 f2 f3 f4 f5 (c + 1) (nI j) a1 a2 a3 a4 a5 a6 a7 a8 a9 a10 a11 := by
  intro c
  induction c with
  | zero =>
    intro j a4 a5 hj h1 h2
    have ej : j = 4 := by omega
    subst ej
    exact br_t (by decide) ⟨pk_in (p * 4 + l) 512 (by omega) (lz_i4 p l), pk_in (p * 4 + l) 512 (by omega) (lz_i4 p l), nm_e (H _ _ h1 h2)⟩
  | succ c ih =>
    intro j a4 a5 hj h1 h2
    have h1' : ∀ i, i < j + 1 → upd a4 (p * 4 + j) (-1) (p * 4 + i) = -1 := by
      intro i hi
      by_cases e : i = j
      · subst e
        rw [pk_us]
      · rw [pk_un (by omega)]
        exact h1 i (by omega)
    have h2' : ∀ i, i < p * 4 ∨ p * 4 + 4 ≤ i → upd a4 (p * 4 + j) (-1) i = b4 i := by
      intro i hi
      rw [pk_un (by omega)]
      exact h2 i hi
    refine pk_le 4 j (fun z => absurd z (by omega)) (fun _ => ⟨pk_in (p * 4 + j) 512 (by omega) (lz_i4 p j), nm_r (e' := upd a4 (p * 4 + j) (-1)) (by rw [lz_c4 (by omega)]) ?_⟩)
    rcases hx with hx | ⟨u, hu, hx2⟩
    · exact br_f hx ⟨pk_in (p * 4 + j) 512 (by omega) (lz_i4 p j), nm_e (nm_r (nI_1 j) (ih (j + 1) _ _ (by omega) h1' h2'))⟩
    · exact br_t (by rw [hx2]; exact nI_pos' (by omega)) ⟨pk_in (u * 4 + j) 512 (by omega) (by rw [hx2, lz_i4]), pk_in (p * 4 + j) 512 (by omega) (lz_i4 p j), nm_e (nm_r (nI_1 j) (ih (j + 1) _ _ (by omega) h1' h2'))⟩
theorem lz_mp {post : St2 → Prop} {x2 v3 : Int32} {p l : Nat} (hp : p < 128) (hl : l < 4) (hx : (¬ 0 ≤ x2 ∧ v3 = 1) ∨ ∃ u, u < 128 ∧ x2 = nI u ∧ v3 = a3 u + 1)
    (H : ∀ a4' a5' : Nat → Int32, (∀ i, i < 4 → a4' (p * 4 + i) = -1) → (∀ i, i < p * 4 ∨ p * 4 + 4 ≤ i → a4' i = a4 i) → post (f0, f1, f2, f3, f4, f5, upd a1 p x2, upd a2 p (nI l), upd a3 p v3, a4', a5', a6, a7, a8, a9, a10, a11)) :
    wpX_makePhrase post (f0, f1, f2, f3, f4, f5, a1, a2, a3, a4, a5, a6, a7, a8, a9, a10, a11) (nI p) x2 (nI l) := by
  have e : (nI p).toNatClampNeg = p := nI_clamp (by omega)
  refine ⟨pk_in p 128 hp, nm_r (e' := upd a1 p x2) (by rw [e]) ⟨pk_in p 128 hp, nm_r (e' := upd a2 p (nI l)) (by rw [e]) ?_⟩⟩
  rcases hx with ⟨hx, hv⟩ | ⟨u, hu, hx2, hv⟩
  · exact br_f hx ⟨pk_in p 128 hp, nm_r (e' := upd a3 p v3) (by rw [e, hv]) ⟨5, lz_mp39 hp hl (Or.inl hx) H 4 0 a4 a5 (by omega) (fun i hi => absurd hi (by omega)) (fun i _ => rfl)⟩⟩
  · exact br_t (by rw [hx2]; exact nI_pos' (by omega)) ⟨pk_in u 128 hu hx2, pk_in p 128 hp, nm_r (e' := upd a3 p v3) (by rw [e, hv, hx2, nI_clamp (by omega)]) ⟨5, lz_mp39 hp hl (Or.inr ⟨u, hu, hx2⟩) H 4 0 a4 a5 (by omega) (fun i hi => absurd hi (by omega)) (fun i _ => rfl)⟩⟩
/-! ===== start and the constructor ===== -/
def lz_I (j : Nat) (a1 a2 a3 a4 : Nat → Int32) : Prop := ∀ p, p < j → a1 p = -1 ∧ a2 p = nI p ∧ a3 p = nI 1 ∧ ∀ l, l < 4 → a4 (p * 4 + l) = -1
theorem lz_st {post : St2 → Prop} (H : ∀ a1 a2 a3 a4 a5 : Nat → Int32, lz_I 4 a1 a2 a3 a4 → post (f0, f1, f2, f3, f4, f5, a1, a2, a3, a4, a5, a6, a7, a8, a9, a10, a11)) :
    ∀ (c j : Nat) (a1 a2 a3 a4 a5 : Nat → Int32), j + c = 4 → lz_I j a1 a2 a3 a4 → wX_start_27 post (c + 1) (nI j) f0 f1 f2 f3 f4 f5 a1 a2 a3 a4 a5 a6 a7 a8 a9 a10 a11 := by
  intro c
  induction c with
  | zero =>
    intro j a1 a2 a3 a4 a5 hj hI
    have ej : j = 4 := by omega
    subst ej
    exact br_t (by decide) (H _ _ _ _ _ hI)
  | succ c ih =>
    intro j a1 a2 a3 a4 a5 hj hI
    refine pk_le 4 j (fun z => absurd z (by omega)) (fun _ => lz_mp (v3 := 1) (by omega) (by omega) (Or.inl ⟨by decide, rfl⟩) (fun a4' a5' h1 h2 => nm_r (nI_1 j) (ih (j + 1) _ _ _ a4' a5' (by omega) ?_)))
    intro p hp
    by_cases e : p = j
    · subst e
      exact ⟨pk_us, pk_us, pk_us, h1⟩
    · obtain ⟨g1, g2, g3, g4⟩ := hI p (by omega)
      refine ⟨by rw [pk_un e]; exact g1, by rw [pk_un e]; exact g2, by rw [pk_un e]; exact g3, fun l hl => ?_⟩
      rw [h2 _ (by omega)]
      exact g4 l hl
theorem lz_init {post : St2 → Prop} (H : ∀ a1 a2 a3 a4 a5 : Nat → Int32, lz_I 4 a1 a2 a3 a4 → post (4, 0, 0, -1, 0, 0, a1, a2, a3, a4, a5, (fun _ => 0), (fun _ => 0), (fun _ => 0), (fun _ => 0), (fun _ => 0), (fun _ => 0))) : wpX_init post 11 4519 (0, 0, 0, 0, 0, 0) :=
  ⟨by decide, by decide, by decide, by decide, by decide, by decide, by decide, by decide, by decide, by decide, by decide, by decide, by decide, by decide, by decide, by decide, by decide, by decide, by decide, by decide, by decide, by decide, 5, lz_st (fun a1 a2 a3 a4 a5 h => H a1 a2 a3 a4 a5 h) 4 0 _ _ _ _ _ (by omega) (fun p hp => absurd hp (by omega))⟩
/-! ===== append ===== -/
theorem lz_ap0 {post : Int32 → St2 → Prop} {a : Nat} (ha : a < 4) (hI : lz_I 4 a1 a2 a3 a4)
    (H : ∀ (W X : Nat → List Nat) (ph : Nat → Nat) (a7' : Nat → Int32), lz_T W X ph 0 a 1 [a] a1 a2 a3 a4 a6 a7' → post (nI 1) (nI 4, nI 1, nI 0, nI a, f4, 0, a1, a2, a3, a4, a5, a6, a7', a8, a9, a10, a11)) :
    wpX_append post (4, 0, 0, -1, f4, f5, a1, a2, a3, a4, a5, a6, a7, a8, a9, a10, a11) (nI a) := by
  refine br_f (nI_pos (by omega)) (br_t (nI_le (b := 3) (by omega) (by decide)) (br_t (by decide) (br_f (by decide) ⟨pk_in 0 121 (by decide), nm_r (e' := upd a7 0 0) rfl (nm_r (e' := nI 1) rfl ?_)⟩)))
  refine H (fun p => [p]) (fun i => if i = 0 then [] else [a]) (fun _ => a) (upd a7 0 0) ⟨rfl, by omega, rfl, ?_, ?_, rfl, rfl, ?_, fun i hi => by omega, ?_, fun i hi => absurd hi (by omega)⟩
  · intro p hp
    obtain ⟨g1, g2, g3, g4⟩ := hI p (by omega)
    exact ⟨g3, Or.inl ⟨by omega, rfl, g1, g2⟩⟩
  · intro p l hp hl
    exact Or.inl ((hI p (by omega)).2.2.2 l hl)
  · intro i hi
    have e : i = 0 := by omega
    subst e
    rfl
  · intro i hi
    have e : i = 0 := by omega
    subst e
    rfl
theorem lz_ap {post : Int32 → St2 → Prop} {W X : Nat → List Nat} {ph : Nat → Nat} {C o N l : Nat} {T : List Nat} (hT : lz_T W X ph C o N T a1 a2 a3 a4 a6 a7) (hN : N < 120) (hl : l < 4)
    (H : ∀ (W' X' : Nat → List Nat) (ph' : Nat → Nat) (C' o' : Nat) (a1' a2' a3' a4' a5' a6' a7' : Nat → Int32), lz_T W' X' ph' C' o' (N + 1) (T ++ [l]) a1' a2' a3' a4' a6' a7' → post (nI (N + 1)) (nI (C' + 4), nI (N + 1), nI C', nI o', f4, 0, a1', a2', a3', a4', a5', a6', a7', a8, a9, a10, a11)) :
    wpX_append post (nI (C + 4), nI N, nI C, nI o, f4, f5, a1, a2, a3, a4, a5, a6, a7, a8, a9, a10, a11) (nI l) := by
  have hCN := lz_CN hT
  have ho : o < C + 4 := by rw [← hT.2.2.1]; exact hT.2.2.2.2.2.2.2.2.1 C (Nat.le_refl C)
  have hc : (nI o * 4 + nI l).toNatClampNeg = o * 4 + l := lz_c4 (by omega)
  have hi : vp_in (nI o * 4 + nI l) 512 := pk_in (o * 4 + l) 512 (by omega) (lz_i4 o l)
  refine br_f (nI_pos (by omega)) (br_t (nI_le (b := 3) (by omega) (by decide)) (br_t (nI_lt (b := 120) hN (by decide)) (br_t (nI_pos' (by omega)) ⟨hi, ?_⟩)))
  rw [hc]
  rcases hT.2.2.2.2.1 o l ho hl with e | ⟨c, hcC, e, hw⟩
  · refine br_t (by rw [e]; decide) ⟨hi, nm_e ?_⟩
    refine lz_mp (v3 := a3 o + 1) (by omega) hl (Or.inr ⟨o, by omega, rfl, rfl⟩) (fun a4' a5' h1 h2 => ?_)
    obtain ⟨W', X', ph', hT'⟩ := lz_Tnew hT hN hl h1 h2
    have hcc : (nI C).toNatClampNeg = C := nI_clamp (by omega)
    have hc1 : (nI (C + 1)).toNatClampNeg = C + 1 := nI_clamp (by omega)
    refine nm_r (e' := nI (C + 1 + 4)) (by rw [nI_1, show C + 4 + 1 = C + 1 + 4 by omega]) ⟨pk_in C 120 (by omega), nm_r (e' := upd a6 C (nI o)) (by rw [hcc]) (nm_r (nI_1 C) ⟨pk_in (C + 1) 121 (by omega), nm_r (e' := upd a7 (C + 1) (nI N)) (by rw [hc1]) (nm_r (nI_1 N) ?_)⟩)⟩
    exact H W' X' ph' (C + 1) l _ _ _ _ _ _ _ hT'
  · obtain ⟨X', ph', hT'⟩ := lz_Told hT hN hcC hw
    refine br_f (by rw [e]; exact nI_pos (by omega)) ⟨hi, nm_r e (nm_r (nI_1 N) ?_)⟩
    exact H W X' ph' C c _ _ _ _ _ _ _ hT'
end
end
section
/-! ===== letters of the text ===== -/
/-- the last letter of a word -/
theorem lz_last {W : Nat → List Nat} {P p : Nat} {a1 a2 a3 : Nat → Int32} (h : lz_D W P a1 a2 a3) (hp : p < P) : ∃ u l, l < 4 ∧ W p = u ++ [l] ∧ a2 p = nI l := by
  rcases (h p hp).2 with ⟨h4, e, _, e2⟩ | ⟨_, r, l, _, hl, e, _, e2⟩
  · exact ⟨[], p, h4, e, e2⟩
  · exact ⟨W r, l, hl, e, e2⟩
section
variable {f0 f1 f2 f3 f4 f5 : Int32} {a1 a2 a3 a4 a5 a6 a7 a8 a9 a10 a11 : Nat → Int32} {W X : Nat → List Nat} {ph : Nat → Nat} {C o N : Nat} {T : List Nat}
theorem lz_ph7 {post : Int32 → Prop} {S : Nat → Nat} {x : Nat} (hC : C ≤ 119) (hx : x < 2 ^ 31) (h7 : ∀ i, i ≤ C → a7 i = nI (S i) ∧ S i < 2 ^ 31)
    (H : ∀ i, i ≤ C → S i ≤ x → (i = C ∨ x < S (i + 1)) → post (nI i)) :
    ∀ c lo hi, hi - lo ≤ c → lo ≤ hi → hi ≤ C → S lo ≤ x → (hi = C ∨ x < S (hi + 1)) → wX_phraseHolding_7 post (nI x) f0 f1 f2 f3 f4 f5 a1 a2 a3 a4 a5 a6 a7 a8 a9 a10 a11 (c + 1) (nI lo) (nI hi) := by
  intro c
  induction c with
  | zero =>
    intro lo hi hc h1 h2 h3 h4
    have e : lo = hi := by omega
    subst e
    exact br_t (nI_le (Nat.le_refl _) (by omega)) (H lo h2 h3 h4)
  | succ c ih =>
    intro lo hi hc h1 h2 h3 h4
    refine pk_le hi lo (fun z => ?_) (fun z => ⟨by decide, nm_r (e' := nI ((lo + hi + 1) / 2)) ?_ ?_⟩)
    · have e : lo = hi := by omega
      subst e
      exact H lo h2 h3 h4
    · rw [nI_add, nI_1]
      exact pk_div (d := 2) (by omega) (by decide) (by decide)
    · have m1 : lo < (lo + hi + 1) / 2 ∧ (lo + hi + 1) / 2 ≤ hi := by omega
      revert m1
      generalize (lo + hi + 1) / 2 = m
      intro m1
      obtain ⟨e7, s7⟩ := h7 m (by omega)
      refine ⟨pk_in m 121 (by omega), ?_⟩
      rw [nI_clamp (show m < 2 ^ 31 by omega)]
      refine pk_lt x (S m) (fun z => nm_r (e' := nI (m - 1)) (pk_sub (b := 1) (by omega)) (ih lo (m - 1) (by omega) (by omega) (by omega) h3 (Or.inr ?_))) (fun z => ih m hi (by omega) (by omega) h2 z h4) rfl e7 hx s7
      rw [show m - 1 + 1 = m by omega]
      exact z
theorem lz_pa {post : Int32 → Prop} (hT : lz_T W X ph C o N T a1 a2 a3 a4 a6 a7) {i : Nat} (hi : i ≤ C) (h : post (nI (ph i))) : wpX_phraseAt post (f0, f1, nI C, nI o, f4, f5, a1, a2, a3, a4, a5, a6, a7, a8, a9, a10, a11) (nI i) := by
  have hCN := lz_CN hT
  obtain ⟨q1, q2, q3, q4, q5, q6, q7, q8, q9, q10, q11⟩ := hT
  refine pk_le C i (fun z => ?_) (fun z => ⟨pk_in i 120 (by omega), ?_⟩)
  · have e : i = C := by omega
    subst e
    rw [← q3]
    exact h
  · rw [nI_clamp (by omega), q11 i z]
    exact h
theorem lz_bg2 {post : Int32 → Prop} {P L : Nat} (hD : lz_D W P a1 a2 a3) (hP : P ≤ 128) (hL : 1 ≤ L) (hL2 : L < 2 ^ 31) :
    ∀ n p, p ≤ n → p < P → (∀ p', p' < P → W p' = (W p).take L → post (nI p')) → wX_beginning_2 post (nI L) f0 f1 f2 f3 f4 f5 a1 a2 a3 a4 a5 a6 a7 a8 a9 a10 a11 (n + 1) (nI p) := by
  intro n
  induction n with
  | zero =>
    intro p hn hp H
    have hl := lz_len hD p p (Nat.le_refl p) hp
    refine ⟨pk_in p 128 (by omega), ?_⟩
    rw [nI_clamp (show p < 2 ^ 31 by omega)]
    exact pk_le (W p).length L (fun z => H p hp (List.take_of_length_le z).symm) (fun z => absurd z (by omega)) (hD p hp).1 rfl (by omega) hL2
  | succ n ih =>
    intro p hn hp H
    have hl := lz_len hD p p (Nat.le_refl p) hp
    refine ⟨pk_in p 128 (by omega), ?_⟩
    rw [nI_clamp (show p < 2 ^ 31 by omega)]
    refine pk_le (W p).length L (fun z => H p hp (List.take_of_length_le z).symm) (fun z => ?_) (hD p hp).1 rfl (by omega) hL2
    rcases (hD p hp).2 with ⟨_, e, _⟩ | ⟨h4, r, l, hr, _, e, e1, _⟩
    · rw [e] at z
      have z' : L < 1 := z
      omega
    · refine ⟨pk_in p 128 (by omega), nm_r (e' := nI r) e1 (ih r (by omega) (by omega) (fun p' hp' hw => H p' hp' ?_))⟩
      rw [e, List.length_append] at z
      have z' : L < (W r).length + 1 := z
      rw [hw, e, List.take_append_of_le_length (by omega)]
theorem lz_bg {post : Int32 → Prop} {P L p : Nat} (hD : lz_D W P a1 a2 a3) (hP : P ≤ 128) (hL : 1 ≤ L) (hL2 : L < 2 ^ 31) (hp : p < P) (H : ∀ p', p' < P → W p' = (W p).take L → post (nI p')) :
    wpX_beginning post (f0, f1, f2, f3, f4, f5, a1, a2, a3, a4, a5, a6, a7, a8, a9, a10, a11) (nI p) (nI L) :=
  ⟨p + 1, lz_bg2 hD hP hL hL2 p p (Nat.le_refl p) hp H⟩
theorem lz_la {post : Int32 → Prop} {x : Nat} (hT : lz_T W X ph C o N T a1 a2 a3 a4 a6 a7) (hx : x < N) (H : ∀ l, T[x]? = some l → post (nI l)) :
    wpX_letterAt post (f0, nI N, nI C, nI o, f4, f5, a1, a2, a3, a4, a5, a6, a7, a8, a9, a10, a11) (nI x) := by
  have hCN := lz_CN hT
  have hXle : ∀ i, i ≤ C + 1 → (X i).length ≤ N := fun i hi => lz_Xle hT hi
  have hT0 := hT
  obtain ⟨q1, q2, q3, q4, q5, q6, q7, q8, q9, q10, q11⟩ := hT0
  refine br_f (nI_pos (by omega)) (br_t (nI_lt hx (by omega)) ⟨C + 1, lz_ph7 (S := fun i => (X i).length) (C := C) (by omega) (by omega) (fun i hi => ⟨q10 i hi, Nat.lt_of_le_of_lt (hXle i (by omega)) (by omega)⟩) (fun i hi s1 s2 => ?_) C 0 C (by omega) (by omega) (by omega) (by rw [q6]; exact Nat.zero_le x) (Or.inl rfl)⟩)
  have s1' : (X i).length ≤ x := s1
  have s2' : x < (X (i + 1)).length := by
    rcases s2 with e | e
    · rw [e, q7, q1]; exact hx
    · exact e
  refine lz_pa hT hi ⟨pk_in i 121 (by omega), ?_⟩
  rw [nI_clamp (show i < 2 ^ 31 by omega), q10 i hi, pk_sub s1', nI_1]
  refine lz_bg q4 (by omega) (by omega) (by omega) (q9 i hi) (fun p' hp' hw => ⟨pk_in p' 128 (by omega), ?_⟩)
  rw [nI_clamp (show p' < 2 ^ 31 by omega)]
  obtain ⟨u, l, _, hu, e2⟩ := lz_last q4 hp'
  rw [e2]
  refine H l ?_
  obtain ⟨R, hR⟩ := lz_Xtxt hT (i := i + 1) (by omega)
  rw [hR, List.getElem?_append_left s2', q8 i hi, List.getElem?_append_right s1', ← List.getElem?_take_of_succ, ← hw, hu]
  have e3 : u.length = x - (X i).length := by
    have g := congrArg List.length hw
    rw [hu, List.length_append, List.length_take] at g
    rw [q8 i hi, List.length_append] at s2'
    have g' : u.length + 1 = min (x - (X i).length + 1) (W (ph i)).length := g
    omega
  rw [← e3]
  exact List.getElem?_concat_length
/-! ===== repeat ===== -/
theorem lz_rp {post : Int32 → St2 → Prop} {a j : Nat} (ha : a < 4) (hj : j ≤ 119)
    (H : ∀ (W X : Nat → List Nat) (ph : Nat → Nat) (C o : Nat) (f5 : Int32) (a1 a2 a3 a4 a5 a6 a7 : Nat → Int32), lz_T W X ph C o (j + 1) (List.replicate (j + 1) a) a1 a2 a3 a4 a6 a7 → post (nI (j + 1)) (nI (C + 4), nI (j + 1), nI C, nI o, f4, f5, a1, a2, a3, a4, a5, a6, a7, a8, a9, a10, a11)) :
    ∀ (c i : Nat) (W X : Nat → List Nat) (ph : Nat → Nat) (C o : Nat) (f5 : Int32) (a1 a2 a3 a4 a5 a6 a7 : Nat → Int32), i + c = j → lz_T W X ph C o (i + 1) (List.replicate (i + 1) a) a1 a2 a3 a4 a6 a7 → wX_repeat_42 post 0 (nI j) (c + 1) (nI i) (nI (C + 4)) (nI (i + 1)) (nI C) (nI o) f4 f5 a1 a2 a3 a4 a5 a6 a7 a8 a9 a10 a11 := by
  intro c
  induction c with
  | zero =>
    intro i W X ph C o f5 a1 a2 a3 a4 a5 a6 a7 hi hT
    have e : i = j := by omega
    subst e
    exact br_t (nI_le (Nat.le_refl _) (by omega)) (H _ _ _ _ _ _ _ _ _ _ _ _ _ hT)
  | succ c ih =>
    intro i W X ph C o f5 a1 a2 a3 a4 a5 a6 a7 hi hT
    refine pk_le j i (fun z => absurd z (by omega)) (fun _ => ?_)
    rw [Int32.zero_add]
    refine lz_la hT (by omega) (fun l hl => ?_)
    have e : l = a := by
      rw [List.getElem?_replicate, if_pos (by omega)] at hl
      exact (Option.some.inj hl).symm
    subst e
    refine lz_ap hT (by omega) ha (fun W' X' ph' C' o' a1' a2' a3' a4' a5' a6' a7' hT' => nm_r (nI_1 i) ?_)
    rw [← List.replicate_succ'] at hT'
    exact ih (i + 1) W' X' ph' C' o' 0 a1' a2' a3' a4' a5' a6' a7' (by omega) hT'
/-- what n asks for, and how long the run of a's is then -/
def lz_RK (n : Int32) (k : Nat) : Prop := (0 ≤ n ∧ n ≤ 119 ∧ ∃ j, j ≤ 119 ∧ n = nI j ∧ k = j + 1) ∨ (0 ≤ n ∧ ¬ n ≤ 119 ∧ k = 1) ∨ (¬ 0 ≤ n ∧ k = 1)
theorem lz_rep {post : Int32 → St2 → Prop} {a k : Nat} {n : Int32} (ha : a < 4) (hk : lz_RK n k) (hT : lz_T W X ph 0 a 1 [a] a1 a2 a3 a4 a6 a7)
    (H : ∀ (r : Int32) (W X : Nat → List Nat) (ph : Nat → Nat) (C o : Nat) (f5 : Int32) (a1 a2 a3 a4 a5 a6 a7 : Nat → Int32), lz_T W X ph C o k (List.replicate k a) a1 a2 a3 a4 a6 a7 → post r (nI (C + 4), nI k, nI C, nI o, f4, f5, a1, a2, a3, a4, a5, a6, a7, a8, a9, a10, a11)) :
    wpX_repeat post (nI 4, nI 1, nI 0, nI a, f4, f5, a1, a2, a3, a4, a5, a6, a7, a8, a9, a10, a11) 0 n := by
  rcases hk with ⟨h0, h1, j, hj, e, ek⟩ | ⟨h0, h1, ek⟩ | ⟨h0, ek⟩
  · subst ek e
    exact br_t h0 (br_f (by decide) (br_t (by decide) (br_t h1 ⟨j + 1, lz_rp ha hj (fun W X ph C o f5 a1 a2 a3 a4 a5 a6 a7 h => H _ W X ph C o f5 a1 a2 a3 a4 a5 a6 a7 h) j 0 W X ph 0 a f5 a1 a2 a3 a4 a5 a6 a7 (by omega) hT⟩)))
  · subst ek
    exact br_t h0 (br_f (by decide) (br_t (by decide) (br_f h1 (H _ W X ph 0 a f5 a1 a2 a3 a4 a5 a6 a7 hT))))
  · subst ek
    exact br_f h0 (br_f (by decide) (br_t (by decide) (br_t (by decide) ⟨1, lz_rp (j := 0) ha (by omega) (fun W X ph C o f5 a1 a2 a3 a4 a5 a6 a7 h => H _ W X ph C o f5 a1 a2 a3 a4 a5 a6 a7 h) 0 0 W X ph 0 a f5 a1 a2 a3 a4 a5 a6 a7 (by omega) hT⟩)))
end
end
section
/-! ===== the automaton is built ===== -/
section
variable {f0 f1 f2 f3 f4 f5 : Int32} {a1 a2 a3 a4 a5 a6 a7 a8 a9 a10 a11 b9 : Nat → Int32}
theorem lz_ba7 {post : St2 → Prop} {p : Nat} (h8 : a8 0 = nI p) (hp : p < 4)
    (H : ∀ a9' : Nat → Int32, (∀ i, i < 4 → a9' i = nI (lz_d0 p i)) → ∃ fu, wX_buildAutomaton_43 post f0 f1 f2 f3 f4 f5 fu 0 1 a1 a2 a3 a4 a5 a6 a7 a8 a9' a10 a11) :
    ∀ (c j : Nat) (a9 : Nat → Int32), j + c = 4 → (∀ i, i < j → a9 i = nI (lz_d0 p i)) → wX_buildAutomaton_7 post f0 f1 f2 f3 f4 f5 (c + 1) (nI j) a1 a2 a3 a4 a5 a6 a7 a8 a9 a10 a11 := by
  intro c
  induction c with
  | zero =>
    intro j a9 hj h
    have e : j = 4 := by omega
    subst e
    exact br_t (by decide) (H a9 h)
  | succ c ih =>
    intro j a9 hj h
    have step : ∀ v, v = nI (lz_d0 p j) → ∀ i, i < j + 1 → upd a9 j v i = nI (lz_d0 p i) := by
      intro v hv i hi
      by_cases e : i = j
      · subst e
        rw [pk_us, hv]
      · rw [pk_un e]
        exact h i (by omega)
    have ej : (nI j).toNatClampNeg = j := nI_clamp (by omega)
    refine pk_le 4 j (fun z => absurd z (by omega)) (fun _ => pk_eq p j (fun e => ?_) (fun e => ?_) h8 rfl)
    · exact ⟨pk_in j 44 (by omega), nm_r (e' := upd a9 j 1) (by rw [ej]) (nm_r (nI_1 j) (ih (j + 1) _ (by omega) (step 1 (by unfold lz_d0; rw [if_pos e.symm]; rfl))))⟩
    · exact ⟨pk_in j 44 (by omega), nm_r (e' := upd a9 j 0) (by rw [ej]) (nm_r (nI_1 j) (ih (j + 1) _ (by omega) (step 0 (by unfold lz_d0; rw [if_neg (fun g => e g.symm)]; rfl))))⟩
theorem lz_ba80 {post : St2 → Prop} {J : Int32 → Int32 → (Nat → Int32) → (Nat → Int32) → (Nat → Int32) → (Nat → Int32) → (Nat → Int32) → (Nat → Int32) → (Nat → Int32) → (Nat → Int32) → (Nat → Int32) → (Nat → Int32) → (Nat → Int32) → Prop} {K : Int32 → (Nat → Int32) → (Nat → Int32) → (Nat → Int32) → (Nat → Int32) → (Nat → Int32) → (Nat → Int32) → (Nat → Int32) → (Nat → Int32) → (Nat → Int32) → (Nat → Int32) → (Nat → Int32) → Prop} {back q j : Nat} (hb : back ≤ 10) (hq : q ≤ 10) (hj : j < 4)
    (H : K (nI (j + 1)) a1 a2 a3 a4 a5 a6 a7 a8 (upd a9 (q * 4 + j) (a9 (back * 4 + j))) a10 a11) :
    wX_buildAutomaton_80 post J K (nI back) (nI q) (nI j) f0 f1 f2 f3 f4 f5 a1 a2 a3 a4 a5 a6 a7 a8 a9 a10 a11 :=
  br_t rfl ⟨pk_in (back * 4 + j) 44 (by omega) (lz_i4 back j), pk_in (q * 4 + j) 44 (by omega) (lz_i4 q j), nm_r (e' := upd a9 (q * 4 + j) (a9 (back * 4 + j))) (by rw [lz_c4 (by omega), lz_c4 (by omega)]) (nm_r (nI_1 j) H)⟩
theorem lz_ba81 {post : St2 → Prop} {J : Int32 → Int32 → (Nat → Int32) → (Nat → Int32) → (Nat → Int32) → (Nat → Int32) → (Nat → Int32) → (Nat → Int32) → (Nat → Int32) → (Nat → Int32) → (Nat → Int32) → (Nat → Int32) → (Nat → Int32) → Prop} {K : Int32 → (Nat → Int32) → (Nat → Int32) → (Nat → Int32) → (Nat → Int32) → (Nat → Int32) → (Nat → Int32) → (Nat → Int32) → (Nat → Int32) → (Nat → Int32) → (Nat → Int32) → (Nat → Int32) → Prop} {x1 : Int32} {q j : Nat} (hq : q ≤ 10) (hj : j < 4)
    (H : K (nI (j + 1)) a1 a2 a3 a4 a5 a6 a7 a8 (upd a9 (q * 4 + j) (nI (q + 1))) a10 a11) :
    wX_buildAutomaton_81 post J K x1 (nI q) (nI j) 1 f0 f1 f2 f3 f4 f5 a1 a2 a3 a4 a5 a6 a7 a8 a9 a10 a11 :=
  br_f (by decide) ⟨pk_in (q * 4 + j) 44 (by omega) (lz_i4 q j), nm_r (e' := upd a9 (q * 4 + j) (nI (q + 1))) (by rw [lz_c4 (by omega), nI_1]) (nm_r (nI_1 j) H)⟩
theorem lz_ba53 {post : St2 → Prop} {J : Int32 → Int32 → (Nat → Int32) → (Nat → Int32) → (Nat → Int32) → (Nat → Int32) → (Nat → Int32) → (Nat → Int32) → (Nat → Int32) → (Nat → Int32) → (Nat → Int32) → (Nat → Int32) → (Nat → Int32) → Prop} {m q back w : Nat} (hb : back < q) (hq : q ≤ 9) (hm : m ≤ 10) (hw : w < 4) (h8 : q < m → a8 q = nI w)
    (H : ∀ (x : Int32) (a9' : Nat → Int32), (∀ i, i < q * 4 → a9' i = b9 i) → (∀ i, i < 4 → a9' (q * 4 + i) = if q < m ∧ w = i then nI (q + 1) else b9 (back * 4 + i)) → (q < m → x = b9 (back * 4 + w)) → J x (nI (q + 1)) a1 a2 a3 a4 a5 a6 a7 a8 a9' a10 a11) :
    ∀ (c j : Nat) (a9 : Nat → Int32), j + c = 4 → (∀ i, i < q * 4 → a9 i = b9 i) → (∀ i, i < j → a9 (q * 4 + i) = if q < m ∧ w = i then nI (q + 1) else b9 (back * 4 + i)) → wX_buildAutomaton_53 post J (nI back) (nI q) f0 f1 f2 f3 (nI m) f5 (c + 1) (nI j) a1 a2 a3 a4 a5 a6 a7 a8 a9 a10 a11 := by
  have eq : (nI q).toNatClampNeg = q := nI_clamp (by omega)
  intro c
  induction c with
  | zero =>
    intro j a9 hj h1 h2
    have e : j = 4 := by omega
    subst e
    refine br_t (by decide) (pk_le m q (fun z => nm_r (nI_1 q) (H _ a9 h1 h2 (fun g => absurd g (by omega)))) (fun z => ?_))
    rw [eq, h8 z]
    exact ⟨pk_in q 10 (by omega), pk_in (back * 4 + w) 44 (by omega) (lz_i4 back w), nm_e (nm_r (nI_1 q) (H _ a9 h1 h2 (fun _ => by rw [lz_c4 (by omega)]; exact h1 _ (by omega))))⟩
  | succ c ih =>
    intro j a9 hj h1 h2
    have k1 : ∀ v i, i < q * 4 → upd a9 (q * 4 + j) v i = b9 i := fun v i hi => by rw [pk_un (by omega)]; exact h1 i hi
    have k2 : ∀ v, v = (if q < m ∧ w = j then nI (q + 1) else b9 (back * 4 + j)) → ∀ i, i < j + 1 → upd a9 (q * 4 + j) v (q * 4 + i) = if q < m ∧ w = i then nI (q + 1) else b9 (back * 4 + i) := by
      intro v hv i hi
      by_cases e : i = j
      · subst e
        rw [pk_us, hv]
      · rw [pk_un (by omega)]
        exact h2 i (by omega)
    refine pk_le 4 j (fun z => absurd z (by omega)) (fun _ => pk_le m q (fun z => ?_) (fun z => ⟨pk_in q 10 (by omega), ?_⟩))
    · exact lz_ba80 (by omega) (by omega) (by omega) (ih (j + 1) _ (by omega) (k1 _) (k2 _ (by rw [if_neg (by omega), h1 _ (by omega)])))
    · rw [eq]
      refine pk_eq w j (fun e => ?_) (fun e => ?_) (h8 z) rfl
      · exact lz_ba81 (by omega) (by omega) (ih (j + 1) _ (by omega) (k1 _) (k2 _ (by rw [if_pos ⟨z, e⟩])))
      · exact lz_ba80 (by omega) (by omega) (by omega) (ih (j + 1) _ (by omega) (k1 _) (k2 _ (by rw [if_neg (fun g => e g.2), h1 _ (by omega)])))
theorem lz_bA1 {post : St2 → Prop} {p : Nat} (hp : p < 4) (h8 : a8 0 = nI p)
    (H : ∀ a9' : Nat → Int32, post (f0, f1, f2, f3, nI 1, 0, a1, a2, a3, a4, a5, a6, a7, a8, a9', a10, a11)) :
    wpX_buildAutomaton post (f0, f1, f2, f3, nI 1, f5, a1, a2, a3, a4, a5, a6, a7, a8, a9, a10, a11) :=
  ⟨5, lz_ba7 h8 hp (fun b9 _ => ⟨2, br_f (by decide) ⟨5, lz_ba53 (b9 := b9) (m := 1) (q := 1) (back := 0) (w := 0) (by omega) (by omega) (by omega) (by omega) (fun g => absurd g (by omega)) (fun _ a9' _ _ _ => br_t (by decide) (H a9')) 4 0 b9 (by omega) (fun i _ => rfl) (fun i hi => absurd hi (by omega))⟩⟩) 4 0 a9 (by omega) (fun i hi => absurd hi (by omega))⟩
theorem lz_bA2 {post : St2 → Prop} {p q : Nat} (hp : p < 4) (hq : q < 4) (h8 : a8 0 = nI p) (h81 : a8 1 = nI q)
    (H : ∀ a9' : Nat → Int32, (∀ s l, s ≤ 2 → l < 4 → a9' (s * 4 + l) = nI (lz_d p q s l)) → post (f0, f1, f2, f3, nI 2, 0, a1, a2, a3, a4, a5, a6, a7, a8, a9', a10, a11)) :
    wpX_buildAutomaton post (f0, f1, f2, f3, nI 2, f5, a1, a2, a3, a4, a5, a6, a7, a8, a9, a10, a11) := by
  refine ⟨5, lz_ba7 h8 hp (fun b9 hb => ⟨3, br_f (by decide) ⟨5, lz_ba53 (b9 := b9) (m := 2) (q := 1) (back := 0) (w := q) (by omega) (by omega) (by omega) hq (fun _ => h81) (fun x c9 g1 g2 g3 => ?_) 4 0 b9 (by omega) (fun i _ => rfl) (fun i hi => absurd hi (by omega))⟩⟩) 4 0 a9 (by omega) (fun i hi => absurd hi (by omega))⟩
  have ex : x = nI (lz_d0 p q) := by
    rw [g3 (by omega), Nat.zero_mul, Nat.zero_add]
    exact hb q hq
  have hd := lz_d0_le p q
  have c0 : ∀ l, l < 4 → c9 l = nI (lz_d0 p l) := fun l hl => by rw [g1 l (by omega), hb l hl]
  have c1 : ∀ l, l < 4 → c9 (4 + l) = nI (lz_d1 p q l) := by
    intro l hl
    have g := g2 l hl
    rw [Nat.one_mul] at g
    rw [g]
    unfold lz_d1
    by_cases e : q = l
    · rw [if_pos ⟨by omega, e⟩, if_pos e.symm]
    · rw [if_neg (fun z => e z.2), if_neg (fun z => e z.symm), Nat.zero_mul, Nat.zero_add]
      exact hb l hl
  subst ex
  refine br_f (by decide) ⟨5, lz_ba53 (b9 := c9) (m := 2) (q := 2) (back := lz_d0 p q) (w := 0) (by omega) (by omega) (by omega) (by omega) (fun g => absurd g (by omega)) (fun x e9 k1 k2 _ => br_t (by decide) (H e9 ?_)) 4 0 c9 (by omega) (fun i _ => rfl) (fun i hi => absurd hi (by omega))⟩
  intro s l hs hl
  have hs3 : s = 0 ∨ s = 1 ∨ s = 2 := by omega
  rcases hs3 with e | e | e
  · subst e
    rw [Nat.zero_mul, Nat.zero_add, k1 l (by omega), c0 l hl]
    rfl
  · subst e
    rw [Nat.one_mul, k1 _ (by omega), c1 l hl]
    rfl
  · subst e
    rw [k2 l hl, if_neg (fun g => absurd g.1 (by omega))]
    unfold lz_d
    rw [if_neg (by omega), if_neg (by omega)]
    by_cases e : q = p
    · rw [if_pos e, show lz_d0 p q = 1 from if_pos e, Nat.one_mul]
      exact c1 l hl
    · rw [if_neg e, show lz_d0 p q = 0 from if_neg e, Nat.zero_mul, Nat.zero_add]
      exact c0 l hl
theorem lz_pt1 {post : Int32 → St2 → Prop} {p : Nat} (hp : p < 4)
    (H : ∀ a8' a9' : Nat → Int32, a8' 0 = nI p → post (nI 1) (f0, f1, f2, f3, nI 1, 0, a1, a2, a3, a4, a5, a6, a7, a8', a9', a10, a11)) :
    wpX_pattern post (f0, f1, f2, f3, 0, f5, a1, a2, a3, a4, a5, a6, a7, a8, a9, a10, a11) (nI p) :=
  br_f (nI_pos (by omega)) (br_t (nI_le (b := 3) (by omega) (by decide)) (br_t (by decide) ⟨pk_in 0 10 (by decide), nm_r (e' := upd a8 0 (nI p)) rfl (nm_r (e' := nI 1) rfl (lz_bA1 hp pk_us (fun a9' => H _ a9' pk_us)))⟩))
theorem lz_pt2 {post : Int32 → St2 → Prop} {p q : Nat} (hp : p < 4) (hq : q < 4) (h8 : a8 0 = nI p)
    (H : ∀ a8' a9' : Nat → Int32, (∀ s l, s ≤ 2 → l < 4 → a9' (s * 4 + l) = nI (lz_d p q s l)) → post (nI 2) (f0, f1, f2, f3, nI 2, 0, a1, a2, a3, a4, a5, a6, a7, a8', a9', a10, a11)) :
    wpX_pattern post (f0, f1, f2, f3, nI 1, f5, a1, a2, a3, a4, a5, a6, a7, a8, a9, a10, a11) (nI q) :=
  br_f (nI_pos (by omega)) (br_t (nI_le (b := 3) (by omega) (by decide)) (br_t (by decide) ⟨pk_in 1 10 (by decide), nm_r (e' := upd a8 1 (nI q)) rfl (nm_r (e' := nI 2) rfl (lz_bA2 hp hq (by rw [pk_un (by decide)]; exact h8) pk_us (fun a9' h => H _ a9' h)))⟩))
end
/-! ===== the tables are filled ===== -/
def lz_tab (d : Nat → Nat → Nat) (W : Nat → List Nat) (P : Nat) (a10 a11 : Nat → Int32) : Prop := ∀ p q, p < P → q ≤ 2 → a10 (p * 11 + q) = nI (lz_run d q (W p)) ∧ a11 (p * 11 + q) = nI (lz_cnt d q (W p))
section
variable {f0 f1 f2 f3 f4 f5 : Int32} {a1 a2 a3 a4 a5 a6 a7 a8 a9 a10 a11 : Nat → Int32} {W : Nat → List Nat} {d : Nat → Nat → Nat} {P : Nat}
theorem lz_fill67 {post : St2 → Prop} {p t s b l : Nat} (hd : ∀ s l, d s l ≤ 2) (hp : p < 128) (ht : t < 1408) (hs : s ≤ 2) (hb : b < 127) (hl : l < 4) (h2 : a2 p = nI l) (h9 : ∀ s l, s ≤ 2 → l < 4 → a9 (s * 4 + l) = nI (d s l))
    (H : post (f0, f1, f2, f3, nI 2, f5, a1, a2, a3, a4, a5, a6, a7, a8, a9, upd a10 t (nI (d s l)), upd a11 t (nI (b + if d s l = 2 then 1 else 0)))) :
    wX_fill_67 post (nI p) (nI t) (nI s) (nI b) f0 f1 f2 f3 (nI 2) f5 a1 a2 a3 a4 a5 a6 a7 a8 a9 a10 a11 := by
  unfold wX_fill_67
  have hdl := hd s l
  have et : (nI t).toNatClampNeg = t := nI_clamp (by omega)
  rw [nI_clamp (show p < 2 ^ 31 by omega), h2]
  refine ⟨pk_in p 128 hp, pk_in (s * 4 + l) 44 (by omega) (lz_i4 s l), nm_r (e' := nI (d s l)) (by rw [lz_c4 (by omega)]; exact h9 s l hs hl) ⟨pk_in t 1408 ht, nm_r (e' := upd a10 t (nI (d s l))) (by rw [et, lz_b8 _ (by omega)]) (pk_eq (d s l) 2 (fun e => ⟨pk_in t 1408 ht, nm_r (e' := upd a11 t (nI (b + 1))) (by rw [et, nI_1, lz_b8 _ (by omega)]) ?_⟩) (fun e => ⟨pk_in t 1408 ht, nm_r (e' := upd a11 t (nI b)) (by rw [et, lz_b8 _ (by omega)]) ?_⟩))⟩⟩
  · rw [if_pos e] at H
    exact H
  · rw [if_neg e] at H
    exact H
theorem lz_fill {post : St2 → Prop} {p q : Nat} (hd : ∀ s l, d s l ≤ 2) (hD : lz_D W P a1 a2 a3) (hP : P ≤ 124) (h9 : ∀ s l, s ≤ 2 → l < 4 → a9 (s * 4 + l) = nI (d s l)) (hp : p < P) (hq : q ≤ 2) (ht : lz_tab d W p a10 a11)
    (H : post (f0, f1, f2, f3, nI 2, f5, a1, a2, a3, a4, a5, a6, a7, a8, a9, upd a10 (p * 11 + q) (nI (lz_run d q (W p))), upd a11 (p * 11 + q) (nI (lz_cnt d q (W p))))) :
    wpX_fill post (f0, f1, f2, f3, nI 2, f5, a1, a2, a3, a4, a5, a6, a7, a8, a9, a10, a11) (nI p) (nI q) := by
  have ep : (nI p).toNatClampNeg = p := nI_clamp (by omega)
  refine nm_r (e' := nI (p * 11 + q)) (lz_i11 p q) ⟨pk_in p 128 (by omega), ?_⟩
  rw [ep]
  rcases (hD p hp).2 with ⟨h4, e, e1, e2⟩ | ⟨h4, r, l, hr, hl, e, e1, e2⟩
  · refine br_f (by rw [e1]; decide) ⟨pk_in p 128 (by omega), br_f (by rw [ep, e1]; decide) ?_⟩
    refine lz_fill67 (b := 0) hd (by omega) (by omega) hq (by omega) h4 e2 h9 ?_
    rw [e] at H
    have c : lz_cnt d q [p] = 0 + (if d q p = 2 then 1 else 0) := lz_cnt_1 d q [] p
    rw [c] at H
    exact H
  · have hl2 := lz_len hD r r (Nat.le_refl r) (by omega)
    have hc := lz_cnt_le d (W r) q
    have hri : vp_in (nI r * 11 + nI q) 1408 := pk_in (r * 11 + q) 1408 (by omega) (lz_i11 r q)
    have hrc : (nI r * 11 + nI q).toNatClampNeg = r * 11 + q := lz_c11 (by omega)
    rw [e1]
    refine br_t (nI_pos' (by omega)) ⟨pk_in p 128 (by omega), hri, pk_in p 128 (by omega), ?_⟩
    rw [ep, e1, hrc, (ht r q hr hq).1, (ht r q hr hq).2]
    refine br_t (nI_pos' (by omega)) ⟨pk_in p 128 (by omega), hri, lz_fill67 hd (by omega) (by omega) (lz_run_le hd (W r) q hq) (by omega) hl e2 h9 ?_⟩
    rw [e, lz_run_1, lz_cnt_1] at H
    exact H
theorem lz_pr25 {post : St2 → Prop} {J : Int32 → Int32 → Int32 → Int32 → Int32 → Int32 → Int32 → (Nat → Int32) → (Nat → Int32) → (Nat → Int32) → (Nat → Int32) → (Nat → Int32) → (Nat → Int32) → (Nat → Int32) → (Nat → Int32) → (Nat → Int32) → (Nat → Int32) → (Nat → Int32) → Prop} {p : Nat} (hd : ∀ s l, d s l ≤ 2) (hD : lz_D W P a1 a2 a3) (hP : P ≤ 124) (h9 : ∀ s l, s ≤ 2 → l < 4 → a9 (s * 4 + l) = nI (d s l)) (hp : p < P)
    (H : ∀ a10' a11' : Nat → Int32, lz_tab d W (p + 1) a10' a11' → J (nI (p + 1)) f0 f1 f2 f3 (nI 2) f5 a1 a2 a3 a4 a5 a6 a7 a8 a9 a10' a11') :
    ∀ (c q : Nat) (a10 a11 : Nat → Int32), q + c = 3 → lz_tab d W p a10 a11 → (∀ q', q' < q → a10 (p * 11 + q') = nI (lz_run d q' (W p)) ∧ a11 (p * 11 + q') = nI (lz_cnt d q' (W p))) → wX_prepare_25 post J (nI p) (c + 1) (nI q) f0 f1 f2 f3 (nI 2) f5 a1 a2 a3 a4 a5 a6 a7 a8 a9 a10 a11 := by
  intro c
  induction c with
  | zero =>
    intro q a10 a11 hq ht hr
    have e : q = 3 := by omega
    subst e
    refine br_t (by decide) (nm_r (nI_1 p) (H a10 a11 (fun p' q' hp' hq' => ?_)))
    by_cases e : p' = p
    · subst e
      exact hr q' (by omega)
    · exact ht p' q' (by omega) hq'
  | succ c ih =>
    intro q a10 a11 hq ht hr
    refine pk_lt 2 q (fun z => absurd z (by omega)) (fun _ => lz_fill hd hD hP h9 hp (by omega) ht (nm_r (nI_1 q) (ih (q + 1) _ _ (by omega) ?_ ?_)))
    · intro p' q' hp' hq'
      rw [pk_un (by omega), pk_un (by omega)]
      exact ht p' q' hp' hq'
    · intro q' hq'
      by_cases e : q' = q
      · subst e
        exact ⟨pk_us, pk_us⟩
      · rw [pk_un (by omega), pk_un (by omega)]
        exact hr q' (by omega)
theorem lz_pr15 {post : St2 → Prop} (hd : ∀ s l, d s l ≤ 2) (hD : lz_D W P a1 a2 a3) (hP : P ≤ 124) (h9 : ∀ s l, s ≤ 2 → l < 4 → a9 (s * 4 + l) = nI (d s l))
    (H : ∀ a10' a11' : Nat → Int32, lz_tab d W P a10' a11' → post (nI P, f1, f2, f3, nI 2, f5, a1, a2, a3, a4, a5, a6, a7, a8, a9, a10', a11')) :
    ∀ (c p : Nat) (a10 a11 : Nat → Int32), p + c = P → lz_tab d W p a10 a11 → wX_prepare_15 post (c + 1) (nI p) (nI P) f1 f2 f3 (nI 2) f5 a1 a2 a3 a4 a5 a6 a7 a8 a9 a10 a11 := by
  intro c
  induction c with
  | zero =>
    intro p a10 a11 hp ht
    have e : p = P := by omega
    subst e
    exact br_t (nI_le (Nat.le_refl _) (by omega)) (H a10 a11 ht)
  | succ c ih =>
    intro p a10 a11 hp ht
    exact pk_le P p (fun z => absurd z (by omega)) (fun _ => ⟨4, lz_pr25 hd hD hP h9 (by omega) (fun a10' a11' h => ih (p + 1) a10' a11' (by omega) h) 3 0 a10 a11 (by omega) ht (fun q' hq' => absurd hq' (by omega))⟩)
theorem lz_prep {post : St2 → Prop} (hd : ∀ s l, d s l ≤ 2) (hD : lz_D W P a1 a2 a3) (hP : P ≤ 124) (h9 : ∀ s l, s ≤ 2 → l < 4 → a9 (s * 4 + l) = nI (d s l)) (hr : f5 = 0 ∨ (¬ f5 = 0 ∧ lz_tab d W P a10 a11))
    (H : ∀ (r' : Int32) (a10' a11' : Nat → Int32), ¬ r' = 0 → lz_tab d W P a10' a11' → post (nI P, f1, f2, f3, nI 2, r', a1, a2, a3, a4, a5, a6, a7, a8, a9, a10', a11')) :
    wpX_prepare post (nI P, f1, f2, f3, nI 2, f5, a1, a2, a3, a4, a5, a6, a7, a8, a9, a10, a11) := by
  rcases hr with e | ⟨e, ht⟩
  · exact br_t e ⟨P + 1, lz_pr15 hd hD hP h9 (fun a10' a11' h => H 1 a10' a11' (by decide) h) P 0 a10 a11 (by omega) (fun p q hp _ => absurd hp (by omega))⟩
  · exact br_f e (H f5 a10 a11 e ht)
end
end
section
/-! ===== the questions ===== -/
/-- n held to the text's length N is k -/
def lz_CK (n : Int32) (N k : Nat) : Prop := (0 ≤ n ∧ n ≤ nI N ∧ n = nI k) ∨ (0 ≤ n ∧ ¬ n ≤ nI N ∧ k = N) ∨ (¬ 0 ≤ n ∧ k = 0)
section
variable {f0 f1 f2 f3 f4 f5 : Int32} {a1 a2 a3 a4 a5 a6 a7 a8 a9 a10 a11 : Nat → Int32} {W X : Nat → List Nat} {ph : Nat → Nat} {C o N P : Nat} {T : List Nat} {d : Nat → Nat → Nat}
theorem lz_cl {post : Int32 → Prop} {n : Int32} {k : Nat} (h : lz_CK n N k) (H : post (nI k)) : wpX_clampLength post (f0, nI N, f2, f3, f4, f5, a1, a2, a3, a4, a5, a6, a7, a8, a9, a10, a11) n := by
  rcases h with ⟨h0, h1, e⟩ | ⟨h0, h1, e⟩ | ⟨h0, e⟩
  · rw [← e] at H
    exact br_t h0 (br_t h1 H)
  · subst e
    exact br_t h0 (br_f h1 H)
  · subst e
    exact br_f h0 H
theorem lz_cw31 {post : Int32 → St2 → Prop} {k : Nat} (hT : lz_T W X ph C o N T a1 a2 a3 a4 a6 a7) (hd : ∀ s l, d s l ≤ 2) (ht : lz_tab d W (C + 4) a10 a11) (hk1 : 1 ≤ k) (hk : k ≤ N)
    (H : post (nI (lz_cnt d 0 (T.take k))) (f0, f1, nI C, nI o, f4, f5, a1, a2, a3, a4, a5, a6, a7, a8, a9, a10, a11)) :
    ∀ c i, i + c = C + 1 → wX_countWithin_31 post (nI k) f0 f1 (nI C) (nI o) f4 f5 a1 a2 a3 a4 a5 a6 a7 a8 a9 a10 a11 (c + 1) (nI (lz_run d 0 ((X i).take k))) (nI (lz_cnt d 0 ((X i).take k))) (nI i) := by
  have hCN := lz_CN hT
  have hXle : ∀ i, i ≤ C + 1 → (X i).length ≤ N := fun i hi => lz_Xle hT hi
  have hXt : ∀ i, i ≤ C + 1 → ∃ R, T = X i ++ R := fun i hi => lz_Xtxt hT hi
  have hT0 := hT
  obtain ⟨q1, q2, q3, q4, q5, q6, q7, q8, q9, q10, q11⟩ := hT0
  intro c
  induction c with
  | zero =>
    intro i hi
    have e : i = C + 1 := by omega
    subst e
    rw [q7]
    exact br_t (nI_lt (by omega) (by omega)) H
  | succ c ih =>
    intro i hi
    have ei : (nI i).toNatClampNeg = i := nI_clamp (by omega)
    have hs := lz_run_le hd ((X i).take k) 0 (by omega)
    have hx := hXle i (by omega)
    have ihi := ih (i + 1) (by omega)
    have hXi : ∀ p', W p' = (W (ph i)).take (k - (X i).length) → (X (i + 1)).take k = (X i).take k ++ W p' := by
      intro p' hw
      rw [q8 i (by omega), List.take_append, hw]
    have hXT : k ≤ (X i).length → (X i).take k = T.take k := by
      intro z
      obtain ⟨R, hR⟩ := hXt i (by omega)
      rw [hR, List.take_append_of_le_length z]
    revert ihi hXi hXT hs
    generalize (X i).take k = V
    intro hs ihi hXi hXT
    refine pk_lt C i (fun z => absurd z (by omega)) (fun _ => ⟨pk_in i 121 (by omega), ?_⟩)
    rw [ei, q10 i (by omega)]
    refine pk_le k (X i).length (fun z => ?_) (fun z => lz_pa hT (by omega) ⟨pk_in i 121 (by omega), ?_⟩)
    · rw [hXT z]
      exact H
    · rw [pk_sub (by omega)]
      refine lz_bg q4 (by omega) (by omega) (by omega) (q9 i (by omega)) (fun p' hp' hw => ?_)
      have hin : vp_in (nI p' * 11 + nI (lz_run d 0 V)) 1408 := pk_in (p' * 11 + lz_run d 0 V) 1408 (by omega) (lz_i11 _ _)
      have hcl : (nI p' * 11 + nI (lz_run d 0 V)).toNatClampNeg = p' * 11 + lz_run d 0 V := lz_c11 (by omega)
      obtain ⟨t1, t2⟩ := ht p' (lz_run d 0 V) hp' hs
      rw [hXi p' hw, lz_run_app, lz_cnt_app] at ihi
      exact ⟨hin, nm_r (by rw [hcl, t2, nI_add]) ⟨hin, nm_r (by rw [hcl, t1]) (nm_r (nI_1 i) ihi)⟩⟩
theorem lz_cw {post : Int32 → St2 → Prop} {n : Int32} {k : Nat} (hT : lz_T W X ph C o N T a1 a2 a3 a4 a6 a7) (hd : ∀ s l, d s l ≤ 2) (h9 : ∀ s l, s ≤ 2 → l < 4 → a9 (s * 4 + l) = nI (d s l)) (hr : f5 = 0 ∨ (¬ f5 = 0 ∧ lz_tab d W (C + 4) a10 a11)) (hk : lz_CK n N k) (hkN : k ≤ N)
    (H0 : k = 0 → post 0 (nI (C + 4), nI N, nI C, nI o, nI 2, f5, a1, a2, a3, a4, a5, a6, a7, a8, a9, a10, a11))
    (H : ∀ (r' : Int32) (a10' a11' : Nat → Int32), ¬ r' = 0 → lz_tab d W (C + 4) a10' a11' → post (nI (lz_cnt d 0 (T.take k))) (nI (C + 4), nI N, nI C, nI o, nI 2, r', a1, a2, a3, a4, a5, a6, a7, a8, a9, a10', a11')) :
    wpX_countWithin post (nI (C + 4), nI N, nI C, nI o, nI 2, f5, a1, a2, a3, a4, a5, a6, a7, a8, a9, a10, a11) n := by
  have hCN := lz_CN hT
  have hN := hT.2.1
  unfold wpX_countWithin
  refine lz_cl hk ?_
  refine (br_f (by decide) (pk_eq k 0 H0 (fun z => lz_prep hd hT.2.2.2.1 (by omega) h9 hr (fun r' a10' a11' hr' ht => ⟨C + 2, ?_⟩))))
  have h := lz_cw31 (post := post) (f0 := nI (C + 4)) (f1 := nI N) (f4 := nI 2) (f5 := r') (a5 := a5) (a8 := a8) (a9 := a9) hT hd ht (by omega) hkN (H r' a10' a11' hr' ht) (C + 1) 0 (by omega)
  rw [hT.2.2.2.2.2.1, List.take_nil] at h
  exact h
theorem lz_co {post : Int32 → St2 → Prop} (hT : lz_T W X ph C o N T a1 a2 a3 a4 a6 a7) (hd : ∀ s l, d s l ≤ 2) (h9 : ∀ s l, s ≤ 2 → l < 4 → a9 (s * 4 + l) = nI (d s l)) (hr : f5 = 0 ∨ (¬ f5 = 0 ∧ lz_tab d W (C + 4) a10 a11))
    (H : ∀ (r' : Int32) (a10' a11' : Nat → Int32), ¬ r' = 0 → lz_tab d W (C + 4) a10' a11' → post (nI (lz_cnt d 0 T)) (nI (C + 4), nI N, nI C, nI o, nI 2, r', a1, a2, a3, a4, a5, a6, a7, a8, a9, a10', a11')) :
    wpX_count post (nI (C + 4), nI N, nI C, nI o, nI 2, f5, a1, a2, a3, a4, a5, a6, a7, a8, a9, a10, a11) := by
  have hCN := lz_CN hT
  have hN := hT.2.1
  unfold wpX_count
  refine lz_cw (k := N) hT hd h9 hr (Or.inl ⟨nI_pos' (by omega), nI_le (Nat.le_refl N) (by omega), rfl⟩) (Nat.le_refl N) (fun z => absurd z (by omega)) (fun r' a10' a11' h1 h2 => ?_)
  have e : T.take N = T := List.take_of_length_le (by rw [hT.1]; exact Nat.le_refl N)
  rw [e]
  exact H r' a10' a11' h1 h2
theorem lz_ei3 {post : Int32 → Prop} {q : Nat} (hD : lz_D W P a1 a2 a3) (hP : P ≤ 124) (ht : lz_tab d W P a10 a11) (hq : q ≤ 2) :
    ∀ n p, p ≤ n → p < P → 1 ≤ lz_cnt d q (W p) → (∀ u l v, W p = u ++ [l] ++ v → lz_cnt d q u = 0 → 1 ≤ lz_cnt d q (u ++ [l]) → post (nI (u.length + 1))) → wX_endInside_3 post (nI q) 0 f0 f1 f2 f3 f4 f5 a1 a2 a3 a4 a5 a6 a7 a8 a9 a10 a11 (n + 1) (nI p) := by
  intro n
  induction n with
  | zero =>
    intro p hn hp hc H
    have ep : (nI p).toNatClampNeg = p := nI_clamp (by omega)
    refine ⟨pk_in p 128 (by omega), ?_⟩
    rw [ep]
    rcases (hD p hp).2 with ⟨h4, e, e1, _⟩ | ⟨h4, _⟩
    · refine br_t (by rw [e1]; decide) ⟨pk_in p 128 (by omega), ?_⟩
      rw [(hD p hp).1, e]
      refine H [] p [] e rfl ?_
      rw [e] at hc
      exact hc
    · omega
  | succ n ih =>
    intro p hn hp hc H
    have ep : (nI p).toNatClampNeg = p := nI_clamp (by omega)
    refine ⟨pk_in p 128 (by omega), ?_⟩
    rw [ep]
    rcases (hD p hp).2 with ⟨h4, e, e1, _⟩ | ⟨h4, r, l, hr, hl, e, e1, _⟩
    · refine br_t (by rw [e1]; decide) ⟨pk_in p 128 (by omega), ?_⟩
      rw [(hD p hp).1, e]
      refine H [] p [] e rfl ?_
      rw [e] at hc
      exact hc
    · have hlr := lz_len hD r r (Nat.le_refl r) (by omega)
      have hcr := lz_cnt_le d (W r) q
      rw [e1]
      refine br_f (nI_pos (by omega)) ⟨pk_in p 128 (by omega), pk_in (r * 11 + q) 1408 (by omega) (lz_i11 r q), ?_⟩
      rw [lz_c11 (by omega), (ht r q (by omega) hq).2]
      refine pk_le (lz_cnt d q (W r)) 0 (fun z => ⟨pk_in p 128 (by omega), ?_⟩) (fun z => ⟨pk_in p 128 (by omega), nm_e (ih r (by omega) (by omega) z (fun u l' v e' h1 h2 => H u l' (v ++ [l]) ?_ h1 h2))⟩)
      · rw [(hD p hp).1, e, List.length_append]
        refine H (W r) l [] (by rw [e, List.append_nil]) (by omega) ?_
        rw [← e]
        exact hc
      · rw [e, e', List.append_assoc]
theorem lz_ps32 {post : Int32 → St2 → Prop} (hT : lz_T W X ph C o N T a1 a2 a3 a4 a6 a7) (hd : ∀ s l, d s l ≤ 2) (ht : lz_tab d W (C + 4) a10 a11)
    (H1 : lz_cnt d 0 T = 0 → post (-4) (f0, f1, nI C, nI o, nI 2, f5, a1, a2, a3, a4, a5, a6, a7, a8, a9, a10, a11))
    (H2 : ∀ e, 1 ≤ e → e ≤ N → lz_cnt d 0 (T.take (e - 1)) = 0 → 1 ≤ lz_cnt d 0 (T.take e) → post (nI e - nI 2) (f0, f1, nI C, nI o, nI 2, f5, a1, a2, a3, a4, a5, a6, a7, a8, a9, a10, a11)) :
    ∀ c i, i + c = C + 1 → lz_cnt d 0 (X i) = 0 → wX_position_32 post f0 f1 (nI C) (nI o) (nI 2) f5 a1 a2 a3 a4 a5 a6 a7 a8 a9 a10 a11 (c + 1) (nI (lz_run d 0 (X i))) 0 (nI i) := by
  have hCN := lz_CN hT
  have hXle : ∀ i, i ≤ C + 1 → (X i).length ≤ N := fun i hi => lz_Xle hT hi
  have hXt : ∀ i, i ≤ C + 1 → ∃ R, T = X i ++ R := fun i hi => lz_Xtxt hT hi
  have hT0 := hT
  obtain ⟨q1, q2, q3, q4, q5, q6, q7, q8, q9, q10, q11⟩ := hT0
  intro c
  induction c with
  | zero =>
    intro i hi h0
    have e : i = C + 1 := by omega
    subst e
    rw [q7] at h0
    exact br_t (nI_lt (by omega) (by omega)) (H1 h0)
  | succ c ih =>
    intro i hi h0
    have hs := lz_run_le hd (X i) 0 (by omega)
    have hp := q9 i (by omega)
    have hin : vp_in (nI (ph i) * 11 + nI (lz_run d 0 (X i))) 1408 := pk_in (ph i * 11 + lz_run d 0 (X i)) 1408 (by omega) (lz_i11 _ _)
    have hcl : (nI (ph i) * 11 + nI (lz_run d 0 (X i))).toNatClampNeg = ph i * 11 + lz_run d 0 (X i) := lz_c11 (by omega)
    obtain ⟨t1, t2⟩ := ht (ph i) (lz_run d 0 (X i)) hp hs
    have hcn := lz_cnt_le d (W (ph i)) (lz_run d 0 (X i))
    have hln := lz_len q4 (ph i) (ph i) (Nat.le_refl _) hp
    refine pk_lt C i (fun z => absurd z (by omega)) (fun _ => lz_pa hT (by omega) ⟨hin, nm_r (e' := nI (lz_cnt d (lz_run d 0 (X i)) (W (ph i)))) (by rw [hcl, t2]) (pk_le (lz_cnt d (lz_run d 0 (X i)) (W (ph i))) 0 (fun z => ?_) (fun z => ?_))⟩)
    · have z0 : lz_cnt d (lz_run d 0 (X i)) (W (ph i)) = 0 := by omega
      refine nm_r (e' := 0) (by rw [z0]; rfl) ⟨hin, nm_r (e' := nI (lz_run d 0 (X (i + 1)))) (by rw [hcl, t1, q8 i (by omega), lz_run_app]) (nm_r (nI_1 i) (ih (i + 1) (by omega) ?_))⟩
      rw [q8 i (by omega), lz_cnt_app, h0, z0]
    · refine ⟨pk_in i 121 (by omega), ph i + 1, lz_ei3 q4 (by omega) ht hs (ph i) (ph i) (Nat.le_refl _) hp z (fun u l v e h1 h2 => ?_)⟩
      rw [nI_clamp (show i < 2 ^ 31 by omega), q10 i (by omega), nI_add]
      obtain ⟨R, hR⟩ := hXt (i + 1) (by omega)
      rw [q8 i (by omega), e] at hR
      have g1 : T = (X i ++ u) ++ ([l] ++ (v ++ R)) := by rw [hR]; simp
      have g2 : T = (X i ++ (u ++ [l])) ++ (v ++ R) := by rw [hR]; simp
      have l1 : (X i ++ u).length = (X i).length + (u.length + 1) - 1 := by rw [List.length_append]; omega
      have l2 : (X i ++ (u ++ [l])).length = (X i).length + (u.length + 1) := by rw [List.length_append, List.length_append]; rfl
      have k1 : T.take ((X i).length + (u.length + 1) - 1) = X i ++ u := by rw [← l1, g1]; exact List.take_append_length
      have k2 : T.take ((X i).length + (u.length + 1)) = X i ++ (u ++ [l]) := by rw [← l2, g2]; exact List.take_append_length
      have l3 : (X i).length + (u.length + 1) ≤ N := by
        have g := congrArg List.length g2
        rw [List.length_append, l2, q1] at g
        omega
      refine H2 _ (by omega) l3 ?_ ?_
      · rw [k1, lz_cnt_app, h0, h1]
      · rw [k2, lz_cnt_app]
        omega
theorem lz_ps {post : Int32 → St2 → Prop} (hT : lz_T W X ph C o N T a1 a2 a3 a4 a6 a7) (hd : ∀ s l, d s l ≤ 2) (h9 : ∀ s l, s ≤ 2 → l < 4 → a9 (s * 4 + l) = nI (d s l)) (hr : f5 = 0 ∨ (¬ f5 = 0 ∧ lz_tab d W (C + 4) a10 a11))
    (H : ∀ (r' : Int32) (a10' a11' : Nat → Int32), ¬ r' = 0 → lz_tab d W (C + 4) a10' a11' → (lz_cnt d 0 T = 0 → post (-4) (nI (C + 4), nI N, nI C, nI o, nI 2, r', a1, a2, a3, a4, a5, a6, a7, a8, a9, a10', a11')) ∧ (∀ e, 1 ≤ e → e ≤ N → lz_cnt d 0 (T.take (e - 1)) = 0 → 1 ≤ lz_cnt d 0 (T.take e) → post (nI e - nI 2) (nI (C + 4), nI N, nI C, nI o, nI 2, r', a1, a2, a3, a4, a5, a6, a7, a8, a9, a10', a11'))) :
    wpX_position post (nI (C + 4), nI N, nI C, nI o, nI 2, f5, a1, a2, a3, a4, a5, a6, a7, a8, a9, a10, a11) 0 := by
  have hCN := lz_CN hT
  have hN := hT.2.1
  refine br_f (by decide) (br_f (by decide) (br_f (nI_ne0 (by omega) (by omega)) (lz_prep hd hT.2.2.2.1 (by omega) h9 hr (fun r' a10' a11' hr' ht => ⟨C + 2, ?_⟩))))
  obtain ⟨H1, H2⟩ := H r' a10' a11' hr' ht
  have h := lz_ps32 (post := post) (f0 := nI (C + 4)) (f1 := nI N) (f5 := r') (a5 := a5) (a8 := a8) (a9 := a9) hT hd ht H1 H2 (C + 1) 0 (by omega) (by rw [hT.2.2.2.2.2.1]; rfl)
  rw [hT.2.2.2.2.2.1] at h
  exact h
theorem lz_ov24 {post : Int32 → St2 → Prop} (hT : lz_T W X ph C o N T a1 a2 a3 a4 a6 a7) (hd : ∀ s l, d s l ≤ 2) (ht : lz_tab d W (C + 4) a10 a11)
    (H : post (nI (lz_run d 0 T)) (f0, f1, nI C, nI o, f4, f5, a1, a2, a3, a4, a5, a6, a7, a8, a9, a10, a11)) :
    ∀ c i, i + c = C + 1 → wX_overlap_24 post f0 f1 (nI C) (nI o) f4 f5 a1 a2 a3 a4 a5 a6 a7 a8 a9 a10 a11 (c + 1) (nI (lz_run d 0 (X i))) (nI i) := by
  have hCN := lz_CN hT
  have hT0 := hT
  obtain ⟨q1, q2, q3, q4, q5, q6, q7, q8, q9, q10, q11⟩ := hT0
  intro c
  induction c with
  | zero =>
    intro i hi
    have e : i = C + 1 := by omega
    subst e
    rw [q7]
    exact br_t (nI_lt (by omega) (by omega)) H
  | succ c ih =>
    intro i hi
    have hs := lz_run_le hd (X i) 0 (by omega)
    have hp := q9 i (by omega)
    have hin : vp_in (nI (ph i) * 11 + nI (lz_run d 0 (X i))) 1408 := pk_in (ph i * 11 + lz_run d 0 (X i)) 1408 (by omega) (lz_i11 _ _)
    have hcl : (nI (ph i) * 11 + nI (lz_run d 0 (X i))).toNatClampNeg = ph i * 11 + lz_run d 0 (X i) := lz_c11 (by omega)
    obtain ⟨t1, t2⟩ := ht (ph i) (lz_run d 0 (X i)) hp hs
    have ihi := ih (i + 1) (by omega)
    rw [q8 i (by omega), lz_run_app] at ihi
    exact pk_lt C i (fun z => absurd z (by omega)) (fun _ => lz_pa hT (by omega) ⟨hin, nm_r (by rw [hcl, t1]) (nm_r (nI_1 i) ihi)⟩)
theorem lz_ov {post : Int32 → St2 → Prop} (hT : lz_T W X ph C o N T a1 a2 a3 a4 a6 a7) (hd : ∀ s l, d s l ≤ 2) (h9 : ∀ s l, s ≤ 2 → l < 4 → a9 (s * 4 + l) = nI (d s l)) (hr : f5 = 0 ∨ (¬ f5 = 0 ∧ lz_tab d W (C + 4) a10 a11))
    (H : ∀ (r' : Int32) (a10' a11' : Nat → Int32), ¬ r' = 0 → lz_tab d W (C + 4) a10' a11' → post (nI (lz_run d 0 T)) (nI (C + 4), nI N, nI C, nI o, nI 2, r', a1, a2, a3, a4, a5, a6, a7, a8, a9, a10', a11')) :
    wpX_overlap post (nI (C + 4), nI N, nI C, nI o, nI 2, f5, a1, a2, a3, a4, a5, a6, a7, a8, a9, a10, a11) := by
  have hCN := lz_CN hT
  have hN := hT.2.1
  refine br_f (by decide) (br_f (nI_ne0 (by omega) (by omega)) (lz_prep hd hT.2.2.2.1 (by omega) h9 hr (fun r' a10' a11' hr' ht => ⟨C + 2, ?_⟩)))
  have h := lz_ov24 (post := post) (f0 := nI (C + 4)) (f1 := nI N) (f4 := nI 2) (f5 := r') (a5 := a5) (a8 := a8) (a9 := a9) hT hd ht (H r' a10' a11' hr' ht) (C + 1) 0 (by omega)
  rw [hT.2.2.2.2.2.1] at h
  exact h
end
end
section
/-! ===== the law ===== -/
def lz_Q (W X : Nat → List Nat) (ph : Nat → Nat) (C o N a b p q k : Nat) (f5 : Int32) (a1 a2 a3 a4 a6 a7 a9 a10 a11 : Nat → Int32) : Prop :=
  lz_T W X ph C o N (lz_txt k a b) a1 a2 a3 a4 a6 a7 ∧ (∀ s l, s ≤ 2 → l < 4 → a9 (s * 4 + l) = nI (lz_d p q s l)) ∧ (f5 = 0 ∨ (¬ f5 = 0 ∧ lz_tab (lz_d p q) W (C + 4) a10 a11)) ∧ 1 ≤ k ∧ k ≤ 120
section
variable {post : Int32 → St0 → Prop} {mc ms kc ks : Nat} {f0 f1 f2 f3 f4 f5 : Int32} {a1 a2 a3 a4 a5 a6 a7 a8 a9 a10 a11 : Nat → Int32} {W X : Nat → List Nat} {ph : Nat → Nat} {C o N a b p q k : Nat} {m : Int32}
theorem lz_L423 (hp : post 1 ()) {r s w : Nat} (hk2 : k ≤ 120) (hw : w ≤ 120) (hr : r = s + (if (k < 120 ∧ p = a ∧ q = b) ∧ w = k + 1 then 1 else 0)) :
    wL_lawOf_423 post mc ms (nI k) (lz_fl (k < 120 ∧ p = a ∧ q = b)) (nI w) (nI s) (nI r) kc ks := by
  refine lz_flB (fun h => br_t ?_ hp) (fun h => pk_eq w (k + 1) (fun e => br_t ?_ hp) (fun e => br_t ?_ hp) rfl (nI_1 k))
  · rw [hr, if_neg (fun g => h g.1), Nat.add_zero]
    exact (Int32.add_zero _).symm
  · rw [hr, if_pos ⟨h, e⟩]
    exact (nI_1 s).symm
  · rw [hr, if_neg (fun g => e g.2), Nat.add_zero]
    exact (Int32.add_zero _).symm
theorem lz_L404 (hp : post 1 ()) (hQ : lz_Q W X ph C o N a b p q k f5 a1 a2 a3 a4 a6 a7 a9 a10 a11) {w : Nat} {z : Int32} (hm : lz_CK m N w) (hw : w ≤ N) (hz : z = nI (if k < w then k - 1 else if 0 < w then w - 1 else 0)) :
    wL_lawOf_404 post mc ms m (nI k) (lz_fl (p = a ∧ q = a)) (lz_fl (k < 120 ∧ p = a ∧ q = b)) (nI w) z kc ks (nI (C + 4)) (nI N) (nI C) (nI o) (nI 2) f5 a1 a2 a3 a4 a5 a6 a7 a8 a9 a10 a11 := by
  obtain ⟨hT, h9, hr, hk, hk2⟩ := hQ
  have hN := hT.2.1
  have key : ∀ x : Int32, x = nI (lz_cnt (lz_d p q) 0 ((lz_txt k a b).take w)) → ((lz_fl (p = a ∧ q = a)) = 0 → wL_lawOf_423 post mc ms (nI k) (lz_fl (k < 120 ∧ p = a ∧ q = b)) (nI w) 0 x kc ks) ∧ (¬ (lz_fl (p = a ∧ q = a)) = 0 → wL_lawOf_423 post mc ms (nI k) (lz_fl (k < 120 ∧ p = a ∧ q = b)) (nI w) z x kc ks) := by
    intro x hx
    subst hx hz
    have e := lz_txt_in k a b p q w hk (by rw [hT.1]; exact hw)
    refine lz_flB (fun h => lz_L423 (s := 0) hp hk2 (by omega) ?_) (fun h => lz_L423 hp hk2 (by omega) ?_)
    · rw [e, if_neg h]
    · rw [e, if_pos h]
  unfold wL_lawOf_404
  exact lz_cw hT (lz_d_le p q) h9 hr hm hw (fun e => key 0 (by subst e; rfl)) (fun r' a10' a11' _ _ => key _ rfl)
theorem lz_L375 (hp : post 1 ()) (hQ : lz_Q W X ph C o N a b p q k f5 a1 a2 a3 a4 a6 a7 a9 a10 a11) {w : Nat} (hm : lz_CK m N w) (hw : w ≤ N) : wL_lawOf_375 post mc ms m (nI k) (lz_fl (p = a ∧ q = a)) (lz_fl (k < 120 ∧ p = a ∧ q = b)) (nI w) kc ks (nI (C + 4)) (nI N) (nI C) (nI o) (nI 2) f5 a1 a2 a3 a4 a5 a6 a7 a8 a9 a10 a11 := by
  have hk := hQ.2.2.2.1
  have hk2 := hQ.2.2.2.2
  have hN := hQ.1.2.1
  refine pk_le w k (fun z => pk_le w 0 (fun z0 => lz_L404 hp hQ hm hw ?_) (fun z0 => lz_L404 hp hQ hm hw ?_)) (fun z => lz_L404 hp hQ hm hw ?_)
  · rw [if_neg (by omega), if_neg (by omega)]
    rfl
  · rw [if_neg (by omega), if_pos z0]
    exact pk_sub (b := 1) z0
  · rw [if_pos z]
    exact pk_sub (b := 1) hk
theorem lz_L353 (hp : post 1 ()) (hQ : lz_Q W X ph C o N a b p q k f5 a1 a2 a3 a4 a6 a7 a9 a10 a11) : wL_lawOf_353 post mc ms m (nI k) (lz_fl (p = a ∧ q = a)) (lz_fl (k < 120 ∧ p = a ∧ q = b)) (nI N) kc ks (nI (C + 4)) (nI N) (nI C) (nI o) (nI 2) f5 a1 a2 a3 a4 a5 a6 a7 a8 a9 a10 a11 := by
  have hN := hQ.1.2.1
  refine br_c (fun h0 => br_c (fun h1 => ?_) (fun h1 => ?_)) (fun h0 => ?_)
  · obtain ⟨w, hw, e⟩ := nI_of (x := m) (Int32.not_lt.mpr h0)
    subst e
    exact lz_L375 hp hQ (Or.inl ⟨h0, h1, rfl⟩) ((nI_leI hw (by omega)).mp h1)
  · exact lz_L375 hp hQ (Or.inr (Or.inl ⟨h0, h1, rfl⟩)) (Nat.le_refl N)
  · exact lz_L375 (w := 0) hp hQ (Or.inr (Or.inr ⟨h0, rfl⟩)) (Nat.zero_le N)
theorem lz_L334 (hp : post 1 ()) (hQ : lz_Q W X ph C o N a b p q k f5 a1 a2 a3 a4 a6 a7 a9 a10 a11) {z0 z1 : Int32} (hz : z1 = z0) : wL_lawOf_334 post mc ms m (nI k) (lz_fl (k < 120)) (lz_fl (p = a ∧ q = a)) (lz_fl (k < 120 ∧ p = a ∧ q = b)) z0 z1 kc ks (nI (C + 4)) (nI N) (nI C) (nI o) (nI 2) f5 a1 a2 a3 a4 a5 a6 a7 a8 a9 a10 a11 := by
  have hl := hQ.1.1
  rw [lz_txt_len] at hl
  refine br_t hz (lz_flB (fun h => ?_) (fun h => ?_))
  · rw [if_neg h] at hl
    have g := lz_L353 (m := m) (mc := mc) (ms := ms) (kc := kc) (ks := ks) (a5 := a5) (a8 := a8) hp hQ
    rw [← hl] at g ⊢
    exact g
  · rw [if_pos h] at hl
    rw [nI_1, hl]
    exact lz_L353 hp hQ
theorem lz_L308 (hp : post 1 ()) (hQ : lz_Q W X ph C o N a b p q k f5 a1 a2 a3 a4 a6 a7 a9 a10 a11) {z : Int32} (hz : z = (lz_fl (p = (if k < 120 then b else a)))) : wL_lawOf_308 post mc ms m (nI k) (lz_fl (k < 120)) (lz_fl (p = a ∧ q = a)) (lz_fl (k < 120 ∧ p = a ∧ q = b)) (lz_fl ((k < 120 ∧ p = a ∧ q = b) ∨ (¬ k < 120 ∧ p = a ∧ q = a))) z kc ks (nI (C + 4)) (nI N) (nI C) (nI o) (nI 2) f5 a1 a2 a3 a4 a5 a6 a7 a8 a9 a10 a11 := by
  obtain ⟨hT, h9, hr, hk, hk2⟩ := hQ
  have e := lz_txt_run k a b p q hk
  rw [hz]
  unfold wL_lawOf_308
  refine lz_ov hT (lz_d_le p q) h9 hr (fun r' a10' a11' hr' ht => ?_)
  have hQ' : lz_Q W X ph C o N a b p q k r' a1 a2 a3 a4 a6 a7 a9 a10' a11' := ⟨hT, h9, Or.inr ⟨hr', ht⟩, hk, hk2⟩
  refine lz_flB (fun h => lz_flB (fun h2 => lz_L334 hp hQ' ?_) (fun h2 => lz_L334 hp hQ' ?_)) (fun h => lz_L334 hp hQ' ?_)
  · rw [e, if_neg h, if_neg h2]
    rfl
  · rw [e, if_neg h, if_pos h2]
    rfl
  · rw [e, if_pos h]
    rfl
theorem lz_L279 (hp : post 1 ()) (hQ : lz_Q W X ph C o N a b p q k f5 a1 a2 a3 a4 a6 a7 a9 a10 a11) (ha4 : a < 4) (hb4 : b < 4) (hp4 : p < 4) (hq4 : q < 4) {z : Int32} (hz : z = (lz_fl ((k < 120 ∧ p = a ∧ q = b) ∨ (¬ k < 120 ∧ p = a ∧ q = a)))) : wL_lawOf_279 post mc ms m (nI a) (nI b) (nI p) (nI q) (nI k) (lz_fl (k < 120)) (lz_fl (p = a ∧ q = a)) (lz_fl (k < 120 ∧ p = a ∧ q = b)) z kc ks (nI (C + 4)) (nI N) (nI C) (nI o) (nI 2) f5 a1 a2 a3 a4 a5 a6 a7 a8 a9 a10 a11 := by
  rw [hz]
  refine br_f (nI_pos (by omega)) (lz_flB (fun h => pk_eq p a (fun e => lz_L308 hp hQ ?_) (fun e => lz_L308 hp hQ ?_)) (fun h => pk_eq p b (fun e => lz_L308 hp hQ ?_) (fun e => lz_L308 hp hQ ?_)))
  · exact (lz_fl1 (by rw [if_neg h]; exact e)).symm
  · exact (lz_fl0 (by rw [if_neg h]; exact e)).symm
  · exact (lz_fl1 (by rw [if_pos h]; exact e)).symm
  · exact (lz_fl0 (by rw [if_pos h]; exact e)).symm
theorem lz_L254 (hp : post 1 ()) (hQ : lz_Q W X ph C o N a b p q k f5 a1 a2 a3 a4 a6 a7 a9 a10 a11) (ha4 : a < 4) (hb4 : b < 4) (hp4 : p < 4) (hq4 : q < 4) {z0 z1 : Int32} (hz : z1 = z0) : wL_lawOf_254 post mc ms m (nI a) (nI b) (nI p) (nI q) (nI k) (lz_fl (k < 120)) (lz_fl (p = a ∧ q = a)) (lz_fl (k < 120 ∧ p = a ∧ q = b)) z0 z1 kc ks (nI (C + 4)) (nI N) (nI C) (nI o) (nI 2) f5 a1 a2 a3 a4 a5 a6 a7 a8 a9 a10 a11 := by
  refine br_t hz (lz_flB (fun h => lz_flB (fun h1 => lz_flB (fun h2 => lz_L279 hp hQ ha4 hb4 hp4 hq4 ?_) (fun h2 => lz_L279 hp hQ ha4 hb4 hp4 hq4 ?_)) (fun h1 => lz_L279 hp hQ ha4 hb4 hp4 hq4 ?_)) (fun h => lz_L279 hp hQ ha4 hb4 hp4 hq4 ?_))
  · exact (lz_fl0 (fun g => g.elim h (fun g => h2 g.2))).symm
  · exact (lz_fl1 (Or.inr ⟨h1, h2⟩)).symm
  · exact (lz_fl0 (fun g => g.elim h (fun g => g.1 h1))).symm
  · exact (lz_fl1 (Or.inl h)).symm
theorem lz_L240 (hp : post 1 ()) (hQ : lz_Q W X ph C o N a b p q k f5 a1 a2 a3 a4 a6 a7 a9 a10 a11) (ha4 : a < 4) (hb4 : b < 4) (hp4 : p < 4) (hq4 : q < 4) {r : Int32} (h1 : ¬ (k < 120 ∧ p = a ∧ q = b) → r = -4) (h2 : (k < 120 ∧ p = a ∧ q = b) → r = nI k - 1) : wL_lawOf_240 post mc ms m (nI a) (nI b) (nI p) (nI q) (nI k) (lz_fl (k < 120)) (lz_fl (p = a ∧ q = a)) (lz_fl (k < 120 ∧ p = a ∧ q = b)) r kc ks (nI (C + 4)) (nI N) (nI C) (nI o) (nI 2) f5 a1 a2 a3 a4 a5 a6 a7 a8 a9 a10 a11 :=
  lz_flB (fun h => lz_L254 hp hQ ha4 hb4 hp4 hq4 (h1 h)) (fun h => lz_L254 hp hQ ha4 hb4 hp4 hq4 (h2 h))
theorem lz_L213 (hp : post 1 ()) (hQ : lz_Q W X ph C o N a b p q k f5 a1 a2 a3 a4 a6 a7 a9 a10 a11) (ha4 : a < 4) (hb4 : b < 4) (hp4 : p < 4) (hq4 : q < 4) {z0 z1 z2 : Int32} (hz : z2 = z1 + z0) : wL_lawOf_213 post mc ms m (nI a) (nI b) (nI p) (nI q) (nI k) (lz_fl (k < 120)) (lz_fl (p = a ∧ q = a)) (lz_fl (k < 120 ∧ p = a ∧ q = b)) z0 z1 z2 kc ks (nI (C + 4)) (nI N) (nI C) (nI o) (nI 2) f5 a1 a2 a3 a4 a5 a6 a7 a8 a9 a10 a11 := by
  obtain ⟨hT, h9, hr, hk, hk2⟩ := hQ
  refine br_t hz (lz_ps hT (lz_d_le p q) h9 hr (fun r' a10' a11' hr' ht => ?_))
  have hQ' : lz_Q W X ph C o N a b p q k r' a1 a2 a3 a4 a6 a7 a9 a10' a11' := ⟨hT, h9, Or.inr ⟨hr', ht⟩, hk, hk2⟩
  refine ⟨fun h0 => ?_, fun e h1 h2 h3 h4 => ?_⟩
  · rw [lz_txt_cnt k a b p q hk] at h0
    have n1 : ¬ (k < 120 ∧ p = a ∧ q = b) := fun g => by
      rw [if_pos g] at h0
      omega
    have n2 : (p = a ∧ q = a) → ¬ 2 ≤ k := fun g g2 => by
      rw [if_pos g] at h0
      omega
    exact lz_flB (fun _ => lz_L240 hp hQ' ha4 hb4 hp4 hq4 (fun _ => rfl) (fun g => absurd g n1)) (fun h => pk_lt k 2 (fun _ => lz_L240 hp hQ' ha4 hb4 hp4 hq4 (fun _ => rfl) (fun g => absurd g n1)) (fun g => absurd g (n2 h)))
  · have hl := hT.1
    rcases lz_txt_pos k a b p q e hk h1 (by rw [hl]; exact h2) h3 h4 with ⟨s1, s2, s3⟩ | ⟨s1, s2, s3⟩
    · subst s3
      exact lz_flB (fun h => absurd s1 h) (fun _ => pk_lt k 2 (fun z => absurd z (by omega)) (fun _ => lz_L254 hp hQ' ha4 hb4 hp4 hq4 rfl))
    · subst s3
      have ex : nI (k + 1) - nI 2 = nI k - 1 := by
        rw [pk_sub (by omega)]
        exact (pk_sub (b := 1) hk).symm
      exact lz_flB (fun _ => lz_L240 hp hQ' ha4 hb4 hp4 hq4 (fun g => absurd s2 g) (fun _ => ex)) (fun h => pk_lt k 2 (fun _ => lz_L240 hp hQ' ha4 hb4 hp4 hq4 (fun g => absurd s2 g) (fun _ => ex)) (fun g => absurd ⟨h, g⟩ s1))
theorem lz_L203 (hp : post 1 ()) (hQ : lz_Q W X ph C o N a b p q k f5 a1 a2 a3 a4 a6 a7 a9 a10 a11) (ha4 : a < 4) (hb4 : b < 4) (hp4 : p < 4) (hq4 : q < 4) {s r : Nat} (hr : r = s + (if k < 120 ∧ p = a ∧ q = b then 1 else 0)) : wL_lawOf_203 post mc ms m (nI a) (nI b) (nI p) (nI q) (nI k) (lz_fl (k < 120)) (lz_fl (p = a ∧ q = a)) (lz_fl (k < 120 ∧ p = a ∧ q = b)) (nI s) (nI r) kc ks (nI (C + 4)) (nI N) (nI C) (nI o) (nI 2) f5 a1 a2 a3 a4 a5 a6 a7 a8 a9 a10 a11 := by
  refine lz_flB (fun h => lz_L213 hp hQ ha4 hb4 hp4 hq4 ?_) (fun h => lz_L213 hp hQ ha4 hb4 hp4 hq4 ?_)
  · rw [hr, if_neg h, Nat.add_zero]
    exact (Int32.add_zero _).symm
  · rw [hr, if_pos h]
    exact (nI_1 s).symm
theorem lz_L183 (hp : post 1 ()) (hQ : lz_Q W X ph C o N a b p q k f5 a1 a2 a3 a4 a6 a7 a9 a10 a11) (ha4 : a < 4) (hb4 : b < 4) (hp4 : p < 4) (hq4 : q < 4) {z : Int32} (hz : z = (lz_fl (k < 120 ∧ p = a ∧ q = b))) : wL_lawOf_183 post mc ms m (nI a) (nI b) (nI p) (nI q) (nI k) (lz_fl (k < 120)) (lz_fl (p = a ∧ q = a)) z kc ks (nI (C + 4)) (nI N) (nI C) (nI o) (nI 2) f5 a1 a2 a3 a4 a5 a6 a7 a8 a9 a10 a11 := by
  obtain ⟨hT, h9, hr, hk, hk2⟩ := hQ
  have e := lz_txt_cnt k a b p q hk
  rw [hz]
  unfold wL_lawOf_183
  refine lz_co hT (lz_d_le p q) h9 hr (fun r' a10' a11' hr' ht => ?_)
  have hQ' : lz_Q W X ph C o N a b p q k r' a1 a2 a3 a4 a6 a7 a9 a10' a11' := ⟨hT, h9, Or.inr ⟨hr', ht⟩, hk, hk2⟩
  refine lz_flB (fun h => ?_) (fun h => ?_)
  · refine lz_L203 (s := 0) hp hQ' ha4 hb4 hp4 hq4 ?_
    rw [e, if_neg h]
  · rw [show nI k - 1 = nI (k - 1) from pk_sub (b := 1) hk]
    refine lz_L203 hp hQ' ha4 hb4 hp4 hq4 ?_
    rw [e, if_pos h]
theorem lz_L157 (hp : post 1 ()) (hQ : lz_Q W X ph C o N a b p q k f5 a1 a2 a3 a4 a6 a7 a9 a10 a11) (ha4 : a < 4) (hb4 : b < 4) (hp4 : p < 4) (hq4 : q < 4) {z : Int32} (hz : z = (lz_fl (p = a ∧ q = a))) : wL_lawOf_157 post mc ms m (nI a) (nI b) (nI p) (nI q) (nI k) (lz_fl (k < 120)) z kc ks (nI (C + 4)) (nI N) (nI C) (nI o) (nI 2) f5 a1 a2 a3 a4 a5 a6 a7 a8 a9 a10 a11 := by
  rw [hz]
  refine lz_flB (fun h => lz_L183 hp hQ ha4 hb4 hp4 hq4 ?_) (fun h => pk_eq p a (fun e => pk_eq q b (fun e2 => lz_L183 hp hQ ha4 hb4 hp4 hq4 ?_) (fun e2 => lz_L183 hp hQ ha4 hb4 hp4 hq4 ?_)) (fun e => lz_L183 hp hQ ha4 hb4 hp4 hq4 ?_))
  · exact (lz_fl0 (fun g => h g.1)).symm
  · exact (lz_fl1 ⟨h, e, e2⟩).symm
  · exact (lz_fl0 (fun g => e2 g.2.2)).symm
  · exact (lz_fl0 (fun g => e g.2.1)).symm
theorem lz_L112 (hp : post 1 ()) (hT : lz_T W X ph C o N (lz_txt k a b) a1 a2 a3 a4 a6 a7) (hk : 1 ≤ k) (hk2 : k ≤ 120) (ha4 : a < 4) (hb4 : b < 4) (hp4 : p < 4) (hq4 : q < 4) {z0 z1 : Int32} (hz : z1 = z0) :
    wL_lawOf_112 post mc ms m (nI a) (nI b) (nI p) (nI q) (nI k) (lz_fl (k < 120)) z0 z1 kc ks (nI (C + 4)) (nI N) (nI C) (nI o) 0 f5 a1 a2 a3 a4 a5 a6 a7 a8 a9 a10 a11 := by
  refine br_t hz (lz_pt1 hp4 (fun a8' a9' h8 => lz_pt2 hp4 hq4 h8 (fun a8'' a9'' h9 => br_t rfl ?_)))
  have hQ : lz_Q W X ph C o N a b p q k 0 a1 a2 a3 a4 a6 a7 a9'' a10 a11 := ⟨hT, h9, Or.inl rfl, hk, hk2⟩
  refine pk_eq p a (fun e => pk_eq q a (fun e2 => lz_L157 hp hQ ha4 hb4 hp4 hq4 ?_) (fun e2 => lz_L157 hp hQ ha4 hb4 hp4 hq4 ?_)) (fun e => lz_L157 hp hQ ha4 hb4 hp4 hq4 ?_)
  · exact (lz_fl1 ⟨e, e2⟩).symm
  · exact (lz_fl0 (fun g => e2 g.2)).symm
  · exact (lz_fl0 (fun g => e g.1)).symm
theorem lz_apF {post : Int32 → St2 → Prop} {l : Nat} (hl : l < 4) (H : post (-2) (f0, nI 120, f2, f3, f4, f5, a1, a2, a3, a4, a5, a6, a7, a8, a9, a10, a11)) : wpX_append post (f0, nI 120, f2, f3, f4, f5, a1, a2, a3, a4, a5, a6, a7, a8, a9, a10, a11) (nI l) :=
  br_f (nI_pos (by omega)) (br_t (nI_le (b := 3) (by omega) (by decide)) (br_f (by decide) H))
theorem lz_L89 (hp : post 1 ()) (hT : lz_T W X ph C o k (List.replicate k a) a1 a2 a3 a4 a6 a7) (hk : 1 ≤ k) (ha4 : a < 4) (hb4 : b < 4) (hp4 : p < 4) (hq4 : q < 4) {z : Int32} (hz : z = (lz_fl (k < 120))) :
    wL_lawOf_89 post mc ms m (nI a) (nI b) (nI p) (nI q) (nI k) z kc ks (nI (C + 4)) (nI k) (nI C) (nI o) 0 f5 a1 a2 a3 a4 a5 a6 a7 a8 a9 a10 a11 := by
  have hk2 := hT.2.1
  rw [hz]
  unfold wL_lawOf_89
  by_cases h : k < 120
  · refine lz_ap hT h hb4 (fun W' X' ph' C' o' a1' a2' a3' a4' a5' a6' a7' hT' => lz_flB (fun g => absurd h g) (fun _ => ?_))
    have e : lz_txt k a b = List.replicate k a ++ [b] := if_pos h
    rw [← e] at hT'
    exact lz_L112 hp hT' hk hk2 ha4 hb4 hp4 hq4 (nI_1 k).symm
  · have e : lz_txt k a b = List.replicate k a := if_neg h
    rw [← e] at hT
    have ek : k = 120 := by omega
    have G : ∀ x : Int32, x = -2 → ((lz_fl (k < 120)) = 0 → wL_lawOf_112 post mc ms m (nI a) (nI b) (nI p) (nI q) (nI k) (lz_fl (k < 120)) (-2) x kc ks (nI (C + 4)) (nI k) (nI C) (nI o) 0 f5 a1 a2 a3 a4 a5 a6 a7 a8 a9 a10 a11) ∧ (¬ (lz_fl (k < 120)) = 0 → wL_lawOf_112 post mc ms m (nI a) (nI b) (nI p) (nI q) (nI k) (lz_fl (k < 120)) (nI k + 1) x kc ks (nI (C + 4)) (nI k) (nI C) (nI o) 0 f5 a1 a2 a3 a4 a5 a6 a7 a8 a9 a10 a11) := fun x hx => lz_flB (fun _ => lz_L112 hp hT hk hk2 ha4 hb4 hp4 hq4 hx) (fun g => absurd g h)
    subst ek
    exact lz_apF hb4 (G (-2) rfl)
theorem lz_L59 (hp : post 1 ()) (hI : lz_I 4 a1 a2 a3 a4) {n : Int32} (hk : lz_RK n k) (hk1 : 1 ≤ k) (ha4 : a < 4) (hb4 : b < 4) (hp4 : p < 4) (hq4 : q < 4) :
    wL_lawOf_59 post mc ms n m (nI a) (nI b) (nI p) (nI q) (nI k) kc ks 4 0 0 (-1) 0 f5 a1 a2 a3 a4 a5 a6 a7 a8 a9 a10 a11 := by
  unfold wL_lawOf_59
  refine lz_ap0 ha4 hI (fun W X ph a7' hT => lz_rep ha4 hk hT (fun r W X ph C o f5 a1 a2 a3 a4 a5 a6 a7 hT' => ?_))
  have hk2 := hT'.2.1
  exact pk_le 120 k (fun z => lz_L89 hp hT' hk1 ha4 hb4 hp4 hq4 (lz_fl0 (by omega)).symm) (fun z => lz_L89 hp hT' hk1 ha4 hb4 hp4 hq4 (lz_fl1 z).symm)
theorem lz_L42 (hp : post 1 ()) (hI : lz_I 4 a1 a2 a3 a4) {n : Int32} (ha4 : a < 4) (hb4 : b < 4) (hp4 : p < 4) (hq4 : q < 4) :
    (0 ≤ n → wL_lawOf_42 post mc ms n m (nI a) (nI b) (nI p) (nI q) n kc ks 4 0 0 (-1) 0 f5 a1 a2 a3 a4 a5 a6 a7 a8 a9 a10 a11) ∧ (¬ 0 ≤ n → wL_lawOf_42 post mc ms n m (nI a) (nI b) (nI p) (nI q) 0 kc ks 4 0 0 (-1) 0 f5 a1 a2 a3 a4 a5 a6 a7 a8 a9 a10 a11) := by
  refine br_c (fun h0 => br_c (fun h1 => ?_) (fun h1 => ?_)) (fun h0 => br_t (by decide) ?_)
  · obtain ⟨j, hj, e⟩ := nI_of (x := n) (Int32.not_lt.mpr h0)
    have hj2 : j ≤ 119 := by
      rw [e] at h1
      exact (nI_leI (b := 119) hj (by decide)).mp h1
    have ek : (1 : Int32) + n = nI (j + 1) := by
      rw [e, Nat.add_comm]
      exact nI_add 1 j
    rw [ek]
    exact lz_L59 hp hI (Or.inl ⟨h0, h1, j, hj2, e, rfl⟩) (by omega) ha4 hb4 hp4 hq4
  · exact lz_L59 (k := 1) hp hI (Or.inr (Or.inl ⟨h0, h1, rfl⟩)) (by omega) ha4 hb4 hp4 hq4
  · exact lz_L59 (k := 1) hp hI (Or.inr (Or.inr ⟨h0, rfl⟩)) (by omega) ha4 hb4 hp4 hq4
theorem lz_lawOf (hp : post 1 ()) (u n v m : Int32) : wpL_lawOf post 12 4536 () u n v m := by
  refine ⟨by decide, by decide, 11, 4519, by decide, by decide, lz_init (fun a1 a2 a3 a4 a5 hI => ?_)⟩
  obtain ⟨a, ha, ea⟩ := pk_andE u (m := 3) 2 (by decide)
  obtain ⟨b, hb, eb⟩ := pk_andE (u >>> ((2 : Int32) &&& 31)) (m := 3) 2 (by decide)
  obtain ⟨p, hp4, ep⟩ := pk_andE v (m := 3) 2 (by decide)
  obtain ⟨q, hq, eq⟩ := pk_andE (v >>> ((2 : Int32) &&& 31)) (m := 3) 2 (by decide)
  exact nm_r ea (nm_r eb (nm_r ep (nm_r eq (lz_L42 hp hI ha hb hp4 hq))))
end
theorem lz_cell {post : Int32 → Prop} {L i : Nat} {xs : Nat → Int32} (hL : L ≤ 4) (hi : i < 4) (H : ∀ r, post r) : wpL_cellAt post L xs () (nI i) :=
  pk_le L i (fun _ => H _) (fun z => ⟨pk_in i L z, H _⟩)
theorem i_vc (xs : Nat → Int32) (L : Nat) (hL : L ≤ 4) : wpL_law (fun r => r = 1) L xs :=
  lz_cell (i := 0) hL (by omega) (fun r1 => lz_cell (i := 1) hL (by omega) (fun r2 => lz_cell (i := 2) hL (by omega) (fun r3 => lz_cell (i := 3) hL (by omega) (fun r4 => ⟨12, 4536, by omega, by omega, lz_lawOf rfl r1 r2 r3 r4⟩))))
end
